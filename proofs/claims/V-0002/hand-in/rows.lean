section
/-! pure rows to paste: stores, nI and lN arithmetic, masks, shifts, narrowing, branches by naturals (pk_le, pk_lt, pk_eq), loops (lp1 .. lp16: the measure of the state; rp1 ..: recursion), negatives. Take what you need -/
theorem pk_us {f : Nat → Int32} {k : Nat} {x : Int32} : upd f k x k = x := if_pos rfl
theorem pk_un {f : Nat → Int32} {k j : Nat} {x : Int32} (h : j ≠ k) : upd f k x j = f j := if_neg h
theorem pk_uLs {f : Nat → Int64} {k : Nat} {x : Int64} : vp_updL f k x k = x := if_pos rfl
theorem pk_uLn {f : Nat → Int64} {k j : Nat} {x : Int64} (h : j ≠ k) : vp_updL f k x j = f j := if_neg h
theorem pk_sub {a b : Nat} (h : b ≤ a) : nI a - nI b = nI (a - b) := by
  obtain ⟨c, rfl⟩ : ∃ c, a = c + b := ⟨a - b, by omega⟩
  rw [← nI_add, Int32.add_sub_cancel, Nat.add_sub_cancel]
theorem pk_m1 (n : Nat) : nI (n + 1) + (-1) = nI n := by
  rw [← nI_1, Int32.add_assoc, show (1 : Int32) + (-1) = 0 from rfl, Int32.add_zero]
theorem pk_mul (a b : Nat) : nI a * nI b = nI (a * b) := (Int32.ofNat_mul a b).symm
theorem pk_div {a d : Nat} (ha : a < 2 ^ 31) (h0 : 0 < d) (hd : d < 2 ^ 31) : nI a / nI d = nI (a / d) := by
  apply Int32.toInt_inj.mp
  rw [lg_idiv_nonneg (by rw [nI_toInt ha]; omega) (by rw [nI_toInt hd]; omega), nI_toInt ha, nI_toInt hd, nI_toInt (Nat.lt_of_le_of_lt (Nat.div_le_self a d) ha)]
  first | rfl | exact (Int.natCast_ediv _ _).symm
theorem pk_rem {a d : Nat} (ha : a < 2 ^ 31) (h0 : 0 < d) (hd : d < 2 ^ 31) : nI a - nI a / nI d * nI d = nI (a % d) := by
  rw [pk_div ha h0 hd, pk_mul, pk_sub (Nat.div_mul_le_self a d)]
  exact congrArg nI (by have := Nat.div_add_mod' a d; omega)
theorem pk_sub_toInt {a b : Nat} (ha : a < 2 ^ 30) (hb : b < 2 ^ 30) : (nI a - nI b).toInt = (a : Int) - b := by
  rw [Int32.toInt_sub, nI_toInt (by omega), nI_toInt (by omega)]
  exact Int.bmod_eq_of_le (by omega) (by omega)
theorem pk_sneg {a b : Nat} (hb : b < 2 ^ 30) (h : a < b) : nI a - nI b < 0 := by
  rw [Int32.lt_iff_toInt_lt, pk_sub_toInt (by omega) hb, show (0 : Int32).toInt = 0 from by decide]
  omega
theorem pk_ix (x : Int32) {n : Nat} (hn : n < 2 ^ 31) : x < 0 ∨ nI n ≤ x ∨ ∃ j : Nat, j < n ∧ x = nI j := by
  by_cases h : x < 0
  · exact Or.inl h
  · obtain ⟨j, hj, rfl⟩ := nI_of h
    by_cases h2 : j < n
    · exact Or.inr (Or.inr ⟨j, h2, rfl⟩)
    · exact Or.inr (Or.inl (nI_le (by omega) hj))
theorem pk_le {x y : Int32} {A B : Prop} (a b : Nat) (f : a ≤ b → A) (g : b < a → B) (hx : x = nI a := by rfl) (hy : y = nI b := by rfl) (ha : a < 2 ^ 31 := by omega) (hb : b < 2 ^ 31 := by omega) : (x ≤ y → A) ∧ (¬ x ≤ y → B) := by
  subst hx hy
  rw [nI_leI ha hb]
  exact ⟨f, fun z => g (by omega)⟩
theorem pk_lt {x y : Int32} {A B : Prop} (a b : Nat) (f : a < b → A) (g : b ≤ a → B) (hx : x = nI a := by rfl) (hy : y = nI b := by rfl) (ha : a < 2 ^ 31 := by omega) (hb : b < 2 ^ 31 := by omega) : (x < y → A) ∧ (¬ x < y → B) := by
  subst hx hy
  rw [nI_ltI ha hb]
  exact ⟨f, fun z => g (by omega)⟩
theorem pk_eq {x y : Int32} {A B : Prop} (a b : Nat) (f : a = b → A) (g : a ≠ b → B) (hx : x = nI a := by rfl) (hy : y = nI b := by rfl) (ha : a < 2 ^ 31 := by omega) (hb : b < 2 ^ 31 := by omega) : (x = y → A) ∧ (¬ x = y → B) := by
  subst hx hy
  rw [nI_eq ha hb]
  exact ⟨f, g⟩
theorem pk_in {x : Int32} (n N : Nat) (h : n < N) (hx : x = nI n := by rfl) (hN : N < 2 ^ 31 := by omega) : vp_in x N := by
  subst hx
  exact vp_in_nI h hN
theorem pk_cl {x : Int32} (n : Nat) (hx : x = nI n := by rfl) (h : n < 2 ^ 31 := by omega) : x.toNatClampNeg = n := by
  subst hx
  exact nI_clamp h
theorem pk_tn {n : Nat} (h : n < 2 ^ 32) : (nI n).toBitVec.toNat = n := Nat.mod_eq_of_lt h
theorem pk_and (x : Int32) {m : Int32} (k : Nat) (hm : m.toBitVec.toNat = 2 ^ k - 1) : x &&& m = nI (x.toBitVec.toNat % 2 ^ k) := by
  apply Int32.toBitVec_inj.mp
  apply BitVec.eq_of_toNat_eq
  rw [Int32.toBitVec_and, BitVec.toNat_and, hm, Nat.and_two_pow_sub_one_eq_mod]
  show _ = (BitVec.ofNat 32 _).toNat
  rw [BitVec.toNat_ofNat]
  exact (Nat.mod_eq_of_lt (Nat.lt_of_le_of_lt (Nat.mod_le _ _) x.toBitVec.isLt)).symm
theorem pk_andN {n : Nat} (h : n < 2 ^ 32) {m : Int32} (k : Nat) (hm : m.toBitVec.toNat = 2 ^ k - 1) : nI n &&& m = nI (n % 2 ^ k) := by
  rw [pk_and _ k hm, pk_tn h]
theorem pk_andE (x : Int32) {m : Int32} (k : Nat) (hm : m.toBitVec.toNat = 2 ^ k - 1) : ∃ j : Nat, j < 2 ^ k ∧ x &&& m = nI j := ⟨_, Nat.mod_lt _ (Nat.two_pow_pos k), pk_and x k hm⟩
theorem pk_andIn (x : Int32) {m : Int32} (k : Nat) (hm : m.toBitVec.toNat = 2 ^ k - 1) (hk : k ≤ 30) : vp_in (x &&& m) (2 ^ k) := by
  obtain ⟨j, hj, e⟩ := pk_andE x k hm
  rw [e]
  exact vp_in_nI hj (Nat.lt_of_le_of_lt (Nat.pow_le_pow_right (by decide) hk) (by decide))
theorem pk_shl (a s : Int32) (k : Nat) (hs : (s.toBitVec.smod 32).toNat = k) : (a <<< s).toBitVec.toNat = a.toBitVec.toNat * 2 ^ k % 2 ^ 32 := by
  show (a.toBitVec <<< (s.toBitVec.smod 32).toNat).toNat = _
  rw [hs, BitVec.toNat_shiftLeft, Nat.shiftLeft_eq]
theorem pk_shlN {n : Nat} (s : Int32) (k : Nat) (hs : (s.toBitVec.smod 32).toNat = k) (h : n * 2 ^ k < 2 ^ 32) : nI n <<< s = nI (n * 2 ^ k) := by
  apply Int32.toBitVec_inj.mp
  apply BitVec.eq_of_toNat_eq
  have hn : n < 2 ^ 32 := Nat.lt_of_le_of_lt (Nat.le_mul_of_pos_right n (Nat.two_pow_pos k)) h
  rw [pk_shl _ _ k hs, pk_tn hn, pk_tn h, Nat.mod_eq_of_lt h]
theorem pk_shr (a s : Int32) (k : Nat) (hs : (s.toBitVec.smod 32).toNat = k) : (a >>> s).toInt = a.toInt >>> k := by
  show (a.toBitVec.sshiftRight (s.toBitVec.smod 32).toNat).toInt = _
  rw [hs, BitVec.toInt_sshiftRight]
  rfl
theorem pk_shrN {n : Nat} (h : n < 2 ^ 31) (s : Int32) (k : Nat) (hs : (s.toBitVec.smod 32).toNat = k) : nI n >>> s = nI (n / 2 ^ k) := by
  apply Int32.toInt_inj.mp
  have h2 : n / 2 ^ k ≤ n := Nat.div_le_self _ _
  rw [pk_shr _ _ k hs, nI_toInt h, nI_toInt (by omega), Int.shiftRight_eq_div_pow]
  rfl
theorem pk_ushr (x s : Int32) (k : Nat) (hs : ((s.toUInt32 &&& Int32.toUInt32 31).toBitVec % 32).toNat = k) : (x.toUInt32 >>> (s.toUInt32 &&& Int32.toUInt32 31)).toInt32.toBitVec.toNat = x.toBitVec.toNat / 2 ^ k := by
  have e : (x.toUInt32 >>> (s.toUInt32 &&& Int32.toUInt32 31)).toInt32.toBitVec = x.toBitVec >>> k := by
    rw [← hs]
    exact UInt32.toBitVec_shiftRight _ _
  rw [e, BitVec.toNat_ushiftRight, Nat.shiftRight_eq_div_pow]
theorem pk_ushrN {n : Nat} (hn : n < 2 ^ 32) (s : Int32) (k : Nat) (hs : ((s.toUInt32 &&& Int32.toUInt32 31).toBitVec % 32).toNat = k) : ((nI n).toUInt32 >>> (s.toUInt32 &&& Int32.toUInt32 31)).toInt32 = nI (n / 2 ^ k) := by
  apply Int32.toBitVec_inj.mp
  apply BitVec.eq_of_toNat_eq
  rw [pk_ushr _ s k hs, pk_tn hn, pk_tn (Nat.lt_of_le_of_lt (Nat.div_le_self _ _) hn)]
theorem pk_nb (z : Int32) : narrow .byte (.int z.toInt8.toInt32) = .int z.toInt8.toInt32 := congrArg Value.int (by simp)
theorem pk_ns (z : Int32) : narrow .short (.int z.toInt16.toInt32) = .int z.toInt16.toInt32 := congrArg Value.int (by simp)
theorem pk_fb (r : Int32) : fits .byte (.int r.toInt8.toInt32) = true := by
  have ⟨a, b⟩ := lg_i2b_range r
  have h1 : (-128 : Int32).toInt = -128 := by decide
  have h2 : (127 : Int32).toInt = 127 := by decide
  simp only [fits, Bool.and_eq_true, decide_eq_true_eq, Int32.le_iff_toInt_le, h1, h2]
  omega
theorem pk_fs (r : Int32) : fits .short (.int r.toInt16.toInt32) = true := by
  have ⟨a, b⟩ := lg_i2s_range r
  have h1 : (-32768 : Int32).toInt = -32768 := by decide
  have h2 : (32767 : Int32).toInt = 32767 := by decide
  simp only [fits, Bool.and_eq_true, decide_eq_true_eq, Int32.le_iff_toInt_le, h1, h2]
  omega
theorem pk_charN {q : Nat} (hq : q < 65536) : narrow .char (.int (nI q)) = .int (nI q) ∧ fits .char (.int (nI q)) = true := by
  constructor
  · have e : (nI q).toUInt32.toUInt16.toUInt32.toInt32 = nI q := by
      apply Int32.toBitVec_inj.mp
      apply BitVec.eq_of_toNat_eq
      show (nI q).toUInt32.toUInt16.toUInt32.toNat = q % 2 ^ 32
      rw [UInt16.toNat_toUInt32, UInt32.toNat_toUInt16, show (nI q).toUInt32.toNat = q % 2 ^ 32 from rfl]
      omega
    exact congrArg Value.int e
  · have a : (0 : Int32) ≤ nI q := nI_pos' (by omega)
    have b : nI q ≤ 65535 := nI_le (b := 65535) (by omega) (by decide)
    show (decide ((0 : Int32) ≤ nI q) && decide (nI q ≤ 65535)) = true
    rw [decide_eq_true a, decide_eq_true b]
    rfl
theorem pk_char (x : Int32) : (x.toUInt32 % 65536).toInt32 = nI (x.toBitVec.toNat % 65536) := by
  apply Int32.toBitVec_inj.mp
  apply BitVec.eq_of_toNat_eq
  rw [pk_tn (by omega)]
  show (x.toUInt32 % 65536).toNat = _
  rw [UInt32.toNat_mod]
  rfl
theorem pk_nc (x : Int32) : narrow .char (.int (x.toUInt32 % 65536).toInt32) = .int (x.toUInt32 % 65536).toInt32 := by
  rw [pk_char]
  exact (pk_charN (Nat.mod_lt _ (by decide))).1
theorem pk_fc (x : Int32) : fits .char (.int (x.toUInt32 % 65536).toInt32) = true := by
  rw [pk_char]
  exact (pk_charN (Nat.mod_lt _ (by decide))).2
theorem pk_vb (z : Int32) : vp_nar .byte z.toInt8.toInt32 = z.toInt8.toInt32 := by rw [vp_nar_byte]; simp
theorem pk_vs (z : Int32) : vp_nar .short z.toInt16.toInt32 = z.toInt16.toInt32 := by rw [vp_nar_short]; simp
theorem pk_vc (z : Int32) : vp_nar .char (z.toUInt32 % 65536).toInt32 = (z.toUInt32 % 65536).toInt32 := Value.int.inj (pk_nc z)
theorem pk_lT {n : Nat} (h : n < 2 ^ 63) : (lN n).toInt = (n : Int) := lg_ofNat_toInt h
theorem pk_lLT {a b : Nat} (ha : a < 2 ^ 63) (hb : b < 2 ^ 63) : lN a < lN b ↔ a < b := by
  rw [Int64.lt_iff_toInt_lt, pk_lT ha, pk_lT hb]; omega
theorem pk_lLE {a b : Nat} (ha : a < 2 ^ 63) (hb : b < 2 ^ 63) : lN a ≤ lN b ↔ a ≤ b := by
  rw [Int64.le_iff_toInt_le, pk_lT ha, pk_lT hb]; omega
theorem pk_lEQ {a b : Nat} (ha : a < 2 ^ 63) (hb : b < 2 ^ 63) : lN a = lN b ↔ a = b := by
  rw [← Int64.toInt_inj, pk_lT ha, pk_lT hb]; omega
theorem pk_lOf {x : Int64} (h : ¬ x < 0) : ∃ k : Nat, k < 2 ^ 63 ∧ x = lN k := by
  rw [Int64.lt_iff_toInt_lt] at h
  have h0 : (0 : Int64).toInt = 0 := by decide
  have hx := Int64.toInt_lt x
  refine ⟨x.toInt.toNat, by omega, Int64.toInt_inj.mp ?_⟩
  rw [pk_lT (by omega)]
  omega
theorem pk_lDiv {a b : Nat} (ha : a < 2 ^ 63) (h0 : 0 < b) (hb : b < 2 ^ 63) : lN a / lN b = lN (a / b) := by
  apply Int64.toInt_inj.mp
  rw [lg_ldiv_nonneg (by rw [pk_lT ha]; omega) (by rw [pk_lT hb]; omega), pk_lT ha, pk_lT hb, pk_lT (Nat.lt_of_le_of_lt (Nat.div_le_self a b) ha)]
  rfl
theorem pk_lRem {a b : Nat} (ha : a < 2 ^ 63) (h0 : 0 < b) (hb : b < 2 ^ 63) : lN a - lN a / lN b * lN b = lN (a % b) := by
  rw [pk_lDiv ha h0 hb, lN_mul, lN_sub (Nat.div_mul_le_self a b)]
  exact congrArg lN (by have := Nat.div_add_mod' a b; omega)
theorem pk_loop {σ : Type} (W : Nat → Nat → σ → Prop) (I : Nat → σ → Prop) (e i0 : Nat) (s : σ) (hi : i0 ≤ e) (h0 : I i0 s) (hx : ∀ n s, I e s → W (n + 1) e s)
    (hs : ∀ n i s, i < e → I i s → (∀ s', I (i + 1) s' → W n (i + 1) s') → W (n + 1) i s) : ∃ n, W n i0 s :=
  ⟨e + 1, loop_i W I e hx hs (e + 1) i0 s hi (by omega) h0⟩
theorem pk_loopD {σ : Type} (W : Nat → Nat → σ → Prop) (I : Nat → σ → Prop) (hx : ∀ n s, I 0 s → W (n + 1) 0 s)
    (hs : ∀ n i s, I (i + 1) s → (∀ s', I i s' → W n i s') → W (n + 1) (i + 1) s) : ∀ (e : Nat) (s : σ), I e s → W (e + 1) e s := by
  intro e
  induction e with
  | zero => exact fun s h => hx 0 s h
  | succ e ih => exact fun s h => hs (e + 1) e s h (fun s' h' => ih s' h')
theorem lp1 {A1 : Type} (W : Nat → A1 → Prop) (I : A1 → Prop) (μ : A1 → Nat) (hs : ∀ (n : Nat) (a1 : A1), I a1 → (∀ (b1 : A1), I b1 → μ b1 < μ a1 → W n b1) → W (n + 1) a1) (a1 : A1) (h : I a1) : ∃ n, W n a1 :=
  loop_m (σ := A1) (fun n s => W n s) (fun s => I s) (fun s => μ s) (fun n s hI hk => hs n s hI (fun b1 h9 hm => hk b1 h9 hm)) a1 h
theorem lp2 {A1 A2 : Type} (W : Nat → A1 → A2 → Prop) (I : A1 → A2 → Prop) (μ : A1 → A2 → Nat) (hs : ∀ (n : Nat) (a1 : A1) (a2 : A2), I a1 a2 → (∀ (b1 : A1) (b2 : A2), I b1 b2 → μ b1 b2 < μ a1 a2 → W n b1 b2) → W (n + 1) a1 a2) (a1 : A1) (a2 : A2) (h : I a1 a2) : ∃ n, W n a1 a2 :=
  loop_m (σ := A1 × A2) (fun n s => W n s.1 s.2) (fun s => I s.1 s.2) (fun s => μ s.1 s.2) (fun n s hI hk => hs n s.1 s.2 hI (fun b1 b2 h9 hm => hk (b1, b2) h9 hm)) (a1, a2) h
theorem lp3 {A1 A2 A3 : Type} (W : Nat → A1 → A2 → A3 → Prop) (I : A1 → A2 → A3 → Prop) (μ : A1 → A2 → A3 → Nat) (hs : ∀ (n : Nat) (a1 : A1) (a2 : A2) (a3 : A3), I a1 a2 a3 → (∀ (b1 : A1) (b2 : A2) (b3 : A3), I b1 b2 b3 → μ b1 b2 b3 < μ a1 a2 a3 → W n b1 b2 b3) → W (n + 1) a1 a2 a3) (a1 : A1) (a2 : A2) (a3 : A3) (h : I a1 a2 a3) : ∃ n, W n a1 a2 a3 :=
  loop_m (σ := A1 × A2 × A3) (fun n s => W n s.1 s.2.1 s.2.2) (fun s => I s.1 s.2.1 s.2.2) (fun s => μ s.1 s.2.1 s.2.2) (fun n s hI hk => hs n s.1 s.2.1 s.2.2 hI (fun b1 b2 b3 h9 hm => hk (b1, b2, b3) h9 hm)) (a1, a2, a3) h
theorem lp4 {A1 A2 A3 A4 : Type} (W : Nat → A1 → A2 → A3 → A4 → Prop) (I : A1 → A2 → A3 → A4 → Prop) (μ : A1 → A2 → A3 → A4 → Nat) (hs : ∀ (n : Nat) (a1 : A1) (a2 : A2) (a3 : A3) (a4 : A4), I a1 a2 a3 a4 → (∀ (b1 : A1) (b2 : A2) (b3 : A3) (b4 : A4), I b1 b2 b3 b4 → μ b1 b2 b3 b4 < μ a1 a2 a3 a4 → W n b1 b2 b3 b4) → W (n + 1) a1 a2 a3 a4) (a1 : A1) (a2 : A2) (a3 : A3) (a4 : A4) (h : I a1 a2 a3 a4) : ∃ n, W n a1 a2 a3 a4 :=
  loop_m (σ := A1 × A2 × A3 × A4) (fun n s => W n s.1 s.2.1 s.2.2.1 s.2.2.2) (fun s => I s.1 s.2.1 s.2.2.1 s.2.2.2) (fun s => μ s.1 s.2.1 s.2.2.1 s.2.2.2) (fun n s hI hk => hs n s.1 s.2.1 s.2.2.1 s.2.2.2 hI (fun b1 b2 b3 b4 h9 hm => hk (b1, b2, b3, b4) h9 hm)) (a1, a2, a3, a4) h
theorem lp5 {A1 A2 A3 A4 A5 : Type} (W : Nat → A1 → A2 → A3 → A4 → A5 → Prop) (I : A1 → A2 → A3 → A4 → A5 → Prop) (μ : A1 → A2 → A3 → A4 → A5 → Nat) (hs : ∀ (n : Nat) (a1 : A1) (a2 : A2) (a3 : A3) (a4 : A4) (a5 : A5), I a1 a2 a3 a4 a5 → (∀ (b1 : A1) (b2 : A2) (b3 : A3) (b4 : A4) (b5 : A5), I b1 b2 b3 b4 b5 → μ b1 b2 b3 b4 b5 < μ a1 a2 a3 a4 a5 → W n b1 b2 b3 b4 b5) → W (n + 1) a1 a2 a3 a4 a5) (a1 : A1) (a2 : A2) (a3 : A3) (a4 : A4) (a5 : A5) (h : I a1 a2 a3 a4 a5) : ∃ n, W n a1 a2 a3 a4 a5 :=
  loop_m (σ := A1 × A2 × A3 × A4 × A5) (fun n s => W n s.1 s.2.1 s.2.2.1 s.2.2.2.1 s.2.2.2.2) (fun s => I s.1 s.2.1 s.2.2.1 s.2.2.2.1 s.2.2.2.2) (fun s => μ s.1 s.2.1 s.2.2.1 s.2.2.2.1 s.2.2.2.2) (fun n s hI hk => hs n s.1 s.2.1 s.2.2.1 s.2.2.2.1 s.2.2.2.2 hI (fun b1 b2 b3 b4 b5 h9 hm => hk (b1, b2, b3, b4, b5) h9 hm)) (a1, a2, a3, a4, a5) h
theorem lp6 {A1 A2 A3 A4 A5 A6 : Type} (W : Nat → A1 → A2 → A3 → A4 → A5 → A6 → Prop) (I : A1 → A2 → A3 → A4 → A5 → A6 → Prop) (μ : A1 → A2 → A3 → A4 → A5 → A6 → Nat) (hs : ∀ (n : Nat) (a1 : A1) (a2 : A2) (a3 : A3) (a4 : A4) (a5 : A5) (a6 : A6), I a1 a2 a3 a4 a5 a6 → (∀ (b1 : A1) (b2 : A2) (b3 : A3) (b4 : A4) (b5 : A5) (b6 : A6), I b1 b2 b3 b4 b5 b6 → μ b1 b2 b3 b4 b5 b6 < μ a1 a2 a3 a4 a5 a6 → W n b1 b2 b3 b4 b5 b6) → W (n + 1) a1 a2 a3 a4 a5 a6) (a1 : A1) (a2 : A2) (a3 : A3) (a4 : A4) (a5 : A5) (a6 : A6) (h : I a1 a2 a3 a4 a5 a6) : ∃ n, W n a1 a2 a3 a4 a5 a6 :=
  loop_m (σ := A1 × A2 × A3 × A4 × A5 × A6) (fun n s => W n s.1 s.2.1 s.2.2.1 s.2.2.2.1 s.2.2.2.2.1 s.2.2.2.2.2) (fun s => I s.1 s.2.1 s.2.2.1 s.2.2.2.1 s.2.2.2.2.1 s.2.2.2.2.2) (fun s => μ s.1 s.2.1 s.2.2.1 s.2.2.2.1 s.2.2.2.2.1 s.2.2.2.2.2) (fun n s hI hk => hs n s.1 s.2.1 s.2.2.1 s.2.2.2.1 s.2.2.2.2.1 s.2.2.2.2.2 hI (fun b1 b2 b3 b4 b5 b6 h9 hm => hk (b1, b2, b3, b4, b5, b6) h9 hm)) (a1, a2, a3, a4, a5, a6) h
theorem lp7 {A1 A2 A3 A4 A5 A6 A7 : Type} (W : Nat → A1 → A2 → A3 → A4 → A5 → A6 → A7 → Prop) (I : A1 → A2 → A3 → A4 → A5 → A6 → A7 → Prop) (μ : A1 → A2 → A3 → A4 → A5 → A6 → A7 → Nat) (hs : ∀ (n : Nat) (a1 : A1) (a2 : A2) (a3 : A3) (a4 : A4) (a5 : A5) (a6 : A6) (a7 : A7), I a1 a2 a3 a4 a5 a6 a7 → (∀ (b1 : A1) (b2 : A2) (b3 : A3) (b4 : A4) (b5 : A5) (b6 : A6) (b7 : A7), I b1 b2 b3 b4 b5 b6 b7 → μ b1 b2 b3 b4 b5 b6 b7 < μ a1 a2 a3 a4 a5 a6 a7 → W n b1 b2 b3 b4 b5 b6 b7) → W (n + 1) a1 a2 a3 a4 a5 a6 a7) (a1 : A1) (a2 : A2) (a3 : A3) (a4 : A4) (a5 : A5) (a6 : A6) (a7 : A7) (h : I a1 a2 a3 a4 a5 a6 a7) : ∃ n, W n a1 a2 a3 a4 a5 a6 a7 :=
  loop_m (σ := A1 × A2 × A3 × A4 × A5 × A6 × A7) (fun n s => W n s.1 s.2.1 s.2.2.1 s.2.2.2.1 s.2.2.2.2.1 s.2.2.2.2.2.1 s.2.2.2.2.2.2) (fun s => I s.1 s.2.1 s.2.2.1 s.2.2.2.1 s.2.2.2.2.1 s.2.2.2.2.2.1 s.2.2.2.2.2.2) (fun s => μ s.1 s.2.1 s.2.2.1 s.2.2.2.1 s.2.2.2.2.1 s.2.2.2.2.2.1 s.2.2.2.2.2.2) (fun n s hI hk => hs n s.1 s.2.1 s.2.2.1 s.2.2.2.1 s.2.2.2.2.1 s.2.2.2.2.2.1 s.2.2.2.2.2.2 hI (fun b1 b2 b3 b4 b5 b6 b7 h9 hm => hk (b1, b2, b3, b4, b5, b6, b7) h9 hm)) (a1, a2, a3, a4, a5, a6, a7) h
theorem lp8 {A1 A2 A3 A4 A5 A6 A7 A8 : Type} (W : Nat → A1 → A2 → A3 → A4 → A5 → A6 → A7 → A8 → Prop) (I : A1 → A2 → A3 → A4 → A5 → A6 → A7 → A8 → Prop) (μ : A1 → A2 → A3 → A4 → A5 → A6 → A7 → A8 → Nat) (hs : ∀ (n : Nat) (a1 : A1) (a2 : A2) (a3 : A3) (a4 : A4) (a5 : A5) (a6 : A6) (a7 : A7) (a8 : A8), I a1 a2 a3 a4 a5 a6 a7 a8 → (∀ (b1 : A1) (b2 : A2) (b3 : A3) (b4 : A4) (b5 : A5) (b6 : A6) (b7 : A7) (b8 : A8), I b1 b2 b3 b4 b5 b6 b7 b8 → μ b1 b2 b3 b4 b5 b6 b7 b8 < μ a1 a2 a3 a4 a5 a6 a7 a8 → W n b1 b2 b3 b4 b5 b6 b7 b8) → W (n + 1) a1 a2 a3 a4 a5 a6 a7 a8) (a1 : A1) (a2 : A2) (a3 : A3) (a4 : A4) (a5 : A5) (a6 : A6) (a7 : A7) (a8 : A8) (h : I a1 a2 a3 a4 a5 a6 a7 a8) : ∃ n, W n a1 a2 a3 a4 a5 a6 a7 a8 :=
  loop_m (σ := A1 × A2 × A3 × A4 × A5 × A6 × A7 × A8) (fun n s => W n s.1 s.2.1 s.2.2.1 s.2.2.2.1 s.2.2.2.2.1 s.2.2.2.2.2.1 s.2.2.2.2.2.2.1 s.2.2.2.2.2.2.2) (fun s => I s.1 s.2.1 s.2.2.1 s.2.2.2.1 s.2.2.2.2.1 s.2.2.2.2.2.1 s.2.2.2.2.2.2.1 s.2.2.2.2.2.2.2) (fun s => μ s.1 s.2.1 s.2.2.1 s.2.2.2.1 s.2.2.2.2.1 s.2.2.2.2.2.1 s.2.2.2.2.2.2.1 s.2.2.2.2.2.2.2) (fun n s hI hk => hs n s.1 s.2.1 s.2.2.1 s.2.2.2.1 s.2.2.2.2.1 s.2.2.2.2.2.1 s.2.2.2.2.2.2.1 s.2.2.2.2.2.2.2 hI (fun b1 b2 b3 b4 b5 b6 b7 b8 h9 hm => hk (b1, b2, b3, b4, b5, b6, b7, b8) h9 hm)) (a1, a2, a3, a4, a5, a6, a7, a8) h
theorem lp9 {A1 A2 A3 A4 A5 A6 A7 A8 A9 : Type} (W : Nat → A1 → A2 → A3 → A4 → A5 → A6 → A7 → A8 → A9 → Prop) (I : A1 → A2 → A3 → A4 → A5 → A6 → A7 → A8 → A9 → Prop) (μ : A1 → A2 → A3 → A4 → A5 → A6 → A7 → A8 → A9 → Nat) (hs : ∀ (n : Nat) (a1 : A1) (a2 : A2) (a3 : A3) (a4 : A4) (a5 : A5) (a6 : A6) (a7 : A7) (a8 : A8) (a9 : A9), I a1 a2 a3 a4 a5 a6 a7 a8 a9 → (∀ (b1 : A1) (b2 : A2) (b3 : A3) (b4 : A4) (b5 : A5) (b6 : A6) (b7 : A7) (b8 : A8) (b9 : A9), I b1 b2 b3 b4 b5 b6 b7 b8 b9 → μ b1 b2 b3 b4 b5 b6 b7 b8 b9 < μ a1 a2 a3 a4 a5 a6 a7 a8 a9 → W n b1 b2 b3 b4 b5 b6 b7 b8 b9) → W (n + 1) a1 a2 a3 a4 a5 a6 a7 a8 a9) (a1 : A1) (a2 : A2) (a3 : A3) (a4 : A4) (a5 : A5) (a6 : A6) (a7 : A7) (a8 : A8) (a9 : A9) (h : I a1 a2 a3 a4 a5 a6 a7 a8 a9) : ∃ n, W n a1 a2 a3 a4 a5 a6 a7 a8 a9 :=
  loop_m (σ := A1 × A2 × A3 × A4 × A5 × A6 × A7 × A8 × A9) (fun n s => W n s.1 s.2.1 s.2.2.1 s.2.2.2.1 s.2.2.2.2.1 s.2.2.2.2.2.1 s.2.2.2.2.2.2.1 s.2.2.2.2.2.2.2.1 s.2.2.2.2.2.2.2.2) (fun s => I s.1 s.2.1 s.2.2.1 s.2.2.2.1 s.2.2.2.2.1 s.2.2.2.2.2.1 s.2.2.2.2.2.2.1 s.2.2.2.2.2.2.2.1 s.2.2.2.2.2.2.2.2) (fun s => μ s.1 s.2.1 s.2.2.1 s.2.2.2.1 s.2.2.2.2.1 s.2.2.2.2.2.1 s.2.2.2.2.2.2.1 s.2.2.2.2.2.2.2.1 s.2.2.2.2.2.2.2.2) (fun n s hI hk => hs n s.1 s.2.1 s.2.2.1 s.2.2.2.1 s.2.2.2.2.1 s.2.2.2.2.2.1 s.2.2.2.2.2.2.1 s.2.2.2.2.2.2.2.1 s.2.2.2.2.2.2.2.2 hI (fun b1 b2 b3 b4 b5 b6 b7 b8 b9 h9 hm => hk (b1, b2, b3, b4, b5, b6, b7, b8, b9) h9 hm)) (a1, a2, a3, a4, a5, a6, a7, a8, a9) h
theorem lp10 {A1 A2 A3 A4 A5 A6 A7 A8 A9 A10 : Type} (W : Nat → A1 → A2 → A3 → A4 → A5 → A6 → A7 → A8 → A9 → A10 → Prop) (I : A1 → A2 → A3 → A4 → A5 → A6 → A7 → A8 → A9 → A10 → Prop) (μ : A1 → A2 → A3 → A4 → A5 → A6 → A7 → A8 → A9 → A10 → Nat) (hs : ∀ (n : Nat) (a1 : A1) (a2 : A2) (a3 : A3) (a4 : A4) (a5 : A5) (a6 : A6) (a7 : A7) (a8 : A8) (a9 : A9) (a10 : A10), I a1 a2 a3 a4 a5 a6 a7 a8 a9 a10 → (∀ (b1 : A1) (b2 : A2) (b3 : A3) (b4 : A4) (b5 : A5) (b6 : A6) (b7 : A7) (b8 : A8) (b9 : A9) (b10 : A10), I b1 b2 b3 b4 b5 b6 b7 b8 b9 b10 → μ b1 b2 b3 b4 b5 b6 b7 b8 b9 b10 < μ a1 a2 a3 a4 a5 a6 a7 a8 a9 a10 → W n b1 b2 b3 b4 b5 b6 b7 b8 b9 b10) → W (n + 1) a1 a2 a3 a4 a5 a6 a7 a8 a9 a10) (a1 : A1) (a2 : A2) (a3 : A3) (a4 : A4) (a5 : A5) (a6 : A6) (a7 : A7) (a8 : A8) (a9 : A9) (a10 : A10) (h : I a1 a2 a3 a4 a5 a6 a7 a8 a9 a10) : ∃ n, W n a1 a2 a3 a4 a5 a6 a7 a8 a9 a10 :=
  loop_m (σ := A1 × A2 × A3 × A4 × A5 × A6 × A7 × A8 × A9 × A10) (fun n s => W n s.1 s.2.1 s.2.2.1 s.2.2.2.1 s.2.2.2.2.1 s.2.2.2.2.2.1 s.2.2.2.2.2.2.1 s.2.2.2.2.2.2.2.1 s.2.2.2.2.2.2.2.2.1 s.2.2.2.2.2.2.2.2.2) (fun s => I s.1 s.2.1 s.2.2.1 s.2.2.2.1 s.2.2.2.2.1 s.2.2.2.2.2.1 s.2.2.2.2.2.2.1 s.2.2.2.2.2.2.2.1 s.2.2.2.2.2.2.2.2.1 s.2.2.2.2.2.2.2.2.2) (fun s => μ s.1 s.2.1 s.2.2.1 s.2.2.2.1 s.2.2.2.2.1 s.2.2.2.2.2.1 s.2.2.2.2.2.2.1 s.2.2.2.2.2.2.2.1 s.2.2.2.2.2.2.2.2.1 s.2.2.2.2.2.2.2.2.2) (fun n s hI hk => hs n s.1 s.2.1 s.2.2.1 s.2.2.2.1 s.2.2.2.2.1 s.2.2.2.2.2.1 s.2.2.2.2.2.2.1 s.2.2.2.2.2.2.2.1 s.2.2.2.2.2.2.2.2.1 s.2.2.2.2.2.2.2.2.2 hI (fun b1 b2 b3 b4 b5 b6 b7 b8 b9 b10 h9 hm => hk (b1, b2, b3, b4, b5, b6, b7, b8, b9, b10) h9 hm)) (a1, a2, a3, a4, a5, a6, a7, a8, a9, a10) h
theorem lp11 {A1 A2 A3 A4 A5 A6 A7 A8 A9 A10 A11 : Type} (W : Nat → A1 → A2 → A3 → A4 → A5 → A6 → A7 → A8 → A9 → A10 → A11 → Prop) (I : A1 → A2 → A3 → A4 → A5 → A6 → A7 → A8 → A9 → A10 → A11 → Prop) (μ : A1 → A2 → A3 → A4 → A5 → A6 → A7 → A8 → A9 → A10 → A11 → Nat) (hs : ∀ (n : Nat) (a1 : A1) (a2 : A2) (a3 : A3) (a4 : A4) (a5 : A5) (a6 : A6) (a7 : A7) (a8 : A8) (a9 : A9) (a10 : A10) (a11 : A11), I a1 a2 a3 a4 a5 a6 a7 a8 a9 a10 a11 → (∀ (b1 : A1) (b2 : A2) (b3 : A3) (b4 : A4) (b5 : A5) (b6 : A6) (b7 : A7) (b8 : A8) (b9 : A9) (b10 : A10) (b11 : A11), I b1 b2 b3 b4 b5 b6 b7 b8 b9 b10 b11 → μ b1 b2 b3 b4 b5 b6 b7 b8 b9 b10 b11 < μ a1 a2 a3 a4 a5 a6 a7 a8 a9 a10 a11 → W n b1 b2 b3 b4 b5 b6 b7 b8 b9 b10 b11) → W (n + 1) a1 a2 a3 a4 a5 a6 a7 a8 a9 a10 a11) (a1 : A1) (a2 : A2) (a3 : A3) (a4 : A4) (a5 : A5) (a6 : A6) (a7 : A7) (a8 : A8) (a9 : A9) (a10 : A10) (a11 : A11) (h : I a1 a2 a3 a4 a5 a6 a7 a8 a9 a10 a11) : ∃ n, W n a1 a2 a3 a4 a5 a6 a7 a8 a9 a10 a11 :=
  loop_m (σ := A1 × A2 × A3 × A4 × A5 × A6 × A7 × A8 × A9 × A10 × A11) (fun n s => W n s.1 s.2.1 s.2.2.1 s.2.2.2.1 s.2.2.2.2.1 s.2.2.2.2.2.1 s.2.2.2.2.2.2.1 s.2.2.2.2.2.2.2.1 s.2.2.2.2.2.2.2.2.1 s.2.2.2.2.2.2.2.2.2.1 s.2.2.2.2.2.2.2.2.2.2) (fun s => I s.1 s.2.1 s.2.2.1 s.2.2.2.1 s.2.2.2.2.1 s.2.2.2.2.2.1 s.2.2.2.2.2.2.1 s.2.2.2.2.2.2.2.1 s.2.2.2.2.2.2.2.2.1 s.2.2.2.2.2.2.2.2.2.1 s.2.2.2.2.2.2.2.2.2.2) (fun s => μ s.1 s.2.1 s.2.2.1 s.2.2.2.1 s.2.2.2.2.1 s.2.2.2.2.2.1 s.2.2.2.2.2.2.1 s.2.2.2.2.2.2.2.1 s.2.2.2.2.2.2.2.2.1 s.2.2.2.2.2.2.2.2.2.1 s.2.2.2.2.2.2.2.2.2.2) (fun n s hI hk => hs n s.1 s.2.1 s.2.2.1 s.2.2.2.1 s.2.2.2.2.1 s.2.2.2.2.2.1 s.2.2.2.2.2.2.1 s.2.2.2.2.2.2.2.1 s.2.2.2.2.2.2.2.2.1 s.2.2.2.2.2.2.2.2.2.1 s.2.2.2.2.2.2.2.2.2.2 hI (fun b1 b2 b3 b4 b5 b6 b7 b8 b9 b10 b11 h9 hm => hk (b1, b2, b3, b4, b5, b6, b7, b8, b9, b10, b11) h9 hm)) (a1, a2, a3, a4, a5, a6, a7, a8, a9, a10, a11) h
theorem lp12 {A1 A2 A3 A4 A5 A6 A7 A8 A9 A10 A11 A12 : Type} (W : Nat → A1 → A2 → A3 → A4 → A5 → A6 → A7 → A8 → A9 → A10 → A11 → A12 → Prop) (I : A1 → A2 → A3 → A4 → A5 → A6 → A7 → A8 → A9 → A10 → A11 → A12 → Prop) (μ : A1 → A2 → A3 → A4 → A5 → A6 → A7 → A8 → A9 → A10 → A11 → A12 → Nat) (hs : ∀ (n : Nat) (a1 : A1) (a2 : A2) (a3 : A3) (a4 : A4) (a5 : A5) (a6 : A6) (a7 : A7) (a8 : A8) (a9 : A9) (a10 : A10) (a11 : A11) (a12 : A12), I a1 a2 a3 a4 a5 a6 a7 a8 a9 a10 a11 a12 → (∀ (b1 : A1) (b2 : A2) (b3 : A3) (b4 : A4) (b5 : A5) (b6 : A6) (b7 : A7) (b8 : A8) (b9 : A9) (b10 : A10) (b11 : A11) (b12 : A12), I b1 b2 b3 b4 b5 b6 b7 b8 b9 b10 b11 b12 → μ b1 b2 b3 b4 b5 b6 b7 b8 b9 b10 b11 b12 < μ a1 a2 a3 a4 a5 a6 a7 a8 a9 a10 a11 a12 → W n b1 b2 b3 b4 b5 b6 b7 b8 b9 b10 b11 b12) → W (n + 1) a1 a2 a3 a4 a5 a6 a7 a8 a9 a10 a11 a12) (a1 : A1) (a2 : A2) (a3 : A3) (a4 : A4) (a5 : A5) (a6 : A6) (a7 : A7) (a8 : A8) (a9 : A9) (a10 : A10) (a11 : A11) (a12 : A12) (h : I a1 a2 a3 a4 a5 a6 a7 a8 a9 a10 a11 a12) : ∃ n, W n a1 a2 a3 a4 a5 a6 a7 a8 a9 a10 a11 a12 :=
  loop_m (σ := A1 × A2 × A3 × A4 × A5 × A6 × A7 × A8 × A9 × A10 × A11 × A12) (fun n s => W n s.1 s.2.1 s.2.2.1 s.2.2.2.1 s.2.2.2.2.1 s.2.2.2.2.2.1 s.2.2.2.2.2.2.1 s.2.2.2.2.2.2.2.1 s.2.2.2.2.2.2.2.2.1 s.2.2.2.2.2.2.2.2.2.1 s.2.2.2.2.2.2.2.2.2.2.1 s.2.2.2.2.2.2.2.2.2.2.2) (fun s => I s.1 s.2.1 s.2.2.1 s.2.2.2.1 s.2.2.2.2.1 s.2.2.2.2.2.1 s.2.2.2.2.2.2.1 s.2.2.2.2.2.2.2.1 s.2.2.2.2.2.2.2.2.1 s.2.2.2.2.2.2.2.2.2.1 s.2.2.2.2.2.2.2.2.2.2.1 s.2.2.2.2.2.2.2.2.2.2.2) (fun s => μ s.1 s.2.1 s.2.2.1 s.2.2.2.1 s.2.2.2.2.1 s.2.2.2.2.2.1 s.2.2.2.2.2.2.1 s.2.2.2.2.2.2.2.1 s.2.2.2.2.2.2.2.2.1 s.2.2.2.2.2.2.2.2.2.1 s.2.2.2.2.2.2.2.2.2.2.1 s.2.2.2.2.2.2.2.2.2.2.2) (fun n s hI hk => hs n s.1 s.2.1 s.2.2.1 s.2.2.2.1 s.2.2.2.2.1 s.2.2.2.2.2.1 s.2.2.2.2.2.2.1 s.2.2.2.2.2.2.2.1 s.2.2.2.2.2.2.2.2.1 s.2.2.2.2.2.2.2.2.2.1 s.2.2.2.2.2.2.2.2.2.2.1 s.2.2.2.2.2.2.2.2.2.2.2 hI (fun b1 b2 b3 b4 b5 b6 b7 b8 b9 b10 b11 b12 h9 hm => hk (b1, b2, b3, b4, b5, b6, b7, b8, b9, b10, b11, b12) h9 hm)) (a1, a2, a3, a4, a5, a6, a7, a8, a9, a10, a11, a12) h
theorem lp13 {A1 A2 A3 A4 A5 A6 A7 A8 A9 A10 A11 A12 A13 : Type} (W : Nat → A1 → A2 → A3 → A4 → A5 → A6 → A7 → A8 → A9 → A10 → A11 → A12 → A13 → Prop) (I : A1 → A2 → A3 → A4 → A5 → A6 → A7 → A8 → A9 → A10 → A11 → A12 → A13 → Prop) (μ : A1 → A2 → A3 → A4 → A5 → A6 → A7 → A8 → A9 → A10 → A11 → A12 → A13 → Nat) (hs : ∀ (n : Nat) (a1 : A1) (a2 : A2) (a3 : A3) (a4 : A4) (a5 : A5) (a6 : A6) (a7 : A7) (a8 : A8) (a9 : A9) (a10 : A10) (a11 : A11) (a12 : A12) (a13 : A13), I a1 a2 a3 a4 a5 a6 a7 a8 a9 a10 a11 a12 a13 → (∀ (b1 : A1) (b2 : A2) (b3 : A3) (b4 : A4) (b5 : A5) (b6 : A6) (b7 : A7) (b8 : A8) (b9 : A9) (b10 : A10) (b11 : A11) (b12 : A12) (b13 : A13), I b1 b2 b3 b4 b5 b6 b7 b8 b9 b10 b11 b12 b13 → μ b1 b2 b3 b4 b5 b6 b7 b8 b9 b10 b11 b12 b13 < μ a1 a2 a3 a4 a5 a6 a7 a8 a9 a10 a11 a12 a13 → W n b1 b2 b3 b4 b5 b6 b7 b8 b9 b10 b11 b12 b13) → W (n + 1) a1 a2 a3 a4 a5 a6 a7 a8 a9 a10 a11 a12 a13) (a1 : A1) (a2 : A2) (a3 : A3) (a4 : A4) (a5 : A5) (a6 : A6) (a7 : A7) (a8 : A8) (a9 : A9) (a10 : A10) (a11 : A11) (a12 : A12) (a13 : A13) (h : I a1 a2 a3 a4 a5 a6 a7 a8 a9 a10 a11 a12 a13) : ∃ n, W n a1 a2 a3 a4 a5 a6 a7 a8 a9 a10 a11 a12 a13 :=
  loop_m (σ := A1 × A2 × A3 × A4 × A5 × A6 × A7 × A8 × A9 × A10 × A11 × A12 × A13) (fun n s => W n s.1 s.2.1 s.2.2.1 s.2.2.2.1 s.2.2.2.2.1 s.2.2.2.2.2.1 s.2.2.2.2.2.2.1 s.2.2.2.2.2.2.2.1 s.2.2.2.2.2.2.2.2.1 s.2.2.2.2.2.2.2.2.2.1 s.2.2.2.2.2.2.2.2.2.2.1 s.2.2.2.2.2.2.2.2.2.2.2.1 s.2.2.2.2.2.2.2.2.2.2.2.2) (fun s => I s.1 s.2.1 s.2.2.1 s.2.2.2.1 s.2.2.2.2.1 s.2.2.2.2.2.1 s.2.2.2.2.2.2.1 s.2.2.2.2.2.2.2.1 s.2.2.2.2.2.2.2.2.1 s.2.2.2.2.2.2.2.2.2.1 s.2.2.2.2.2.2.2.2.2.2.1 s.2.2.2.2.2.2.2.2.2.2.2.1 s.2.2.2.2.2.2.2.2.2.2.2.2) (fun s => μ s.1 s.2.1 s.2.2.1 s.2.2.2.1 s.2.2.2.2.1 s.2.2.2.2.2.1 s.2.2.2.2.2.2.1 s.2.2.2.2.2.2.2.1 s.2.2.2.2.2.2.2.2.1 s.2.2.2.2.2.2.2.2.2.1 s.2.2.2.2.2.2.2.2.2.2.1 s.2.2.2.2.2.2.2.2.2.2.2.1 s.2.2.2.2.2.2.2.2.2.2.2.2) (fun n s hI hk => hs n s.1 s.2.1 s.2.2.1 s.2.2.2.1 s.2.2.2.2.1 s.2.2.2.2.2.1 s.2.2.2.2.2.2.1 s.2.2.2.2.2.2.2.1 s.2.2.2.2.2.2.2.2.1 s.2.2.2.2.2.2.2.2.2.1 s.2.2.2.2.2.2.2.2.2.2.1 s.2.2.2.2.2.2.2.2.2.2.2.1 s.2.2.2.2.2.2.2.2.2.2.2.2 hI (fun b1 b2 b3 b4 b5 b6 b7 b8 b9 b10 b11 b12 b13 h9 hm => hk (b1, b2, b3, b4, b5, b6, b7, b8, b9, b10, b11, b12, b13) h9 hm)) (a1, a2, a3, a4, a5, a6, a7, a8, a9, a10, a11, a12, a13) h
theorem lp14 {A1 A2 A3 A4 A5 A6 A7 A8 A9 A10 A11 A12 A13 A14 : Type} (W : Nat → A1 → A2 → A3 → A4 → A5 → A6 → A7 → A8 → A9 → A10 → A11 → A12 → A13 → A14 → Prop) (I : A1 → A2 → A3 → A4 → A5 → A6 → A7 → A8 → A9 → A10 → A11 → A12 → A13 → A14 → Prop) (μ : A1 → A2 → A3 → A4 → A5 → A6 → A7 → A8 → A9 → A10 → A11 → A12 → A13 → A14 → Nat) (hs : ∀ (n : Nat) (a1 : A1) (a2 : A2) (a3 : A3) (a4 : A4) (a5 : A5) (a6 : A6) (a7 : A7) (a8 : A8) (a9 : A9) (a10 : A10) (a11 : A11) (a12 : A12) (a13 : A13) (a14 : A14), I a1 a2 a3 a4 a5 a6 a7 a8 a9 a10 a11 a12 a13 a14 → (∀ (b1 : A1) (b2 : A2) (b3 : A3) (b4 : A4) (b5 : A5) (b6 : A6) (b7 : A7) (b8 : A8) (b9 : A9) (b10 : A10) (b11 : A11) (b12 : A12) (b13 : A13) (b14 : A14), I b1 b2 b3 b4 b5 b6 b7 b8 b9 b10 b11 b12 b13 b14 → μ b1 b2 b3 b4 b5 b6 b7 b8 b9 b10 b11 b12 b13 b14 < μ a1 a2 a3 a4 a5 a6 a7 a8 a9 a10 a11 a12 a13 a14 → W n b1 b2 b3 b4 b5 b6 b7 b8 b9 b10 b11 b12 b13 b14) → W (n + 1) a1 a2 a3 a4 a5 a6 a7 a8 a9 a10 a11 a12 a13 a14) (a1 : A1) (a2 : A2) (a3 : A3) (a4 : A4) (a5 : A5) (a6 : A6) (a7 : A7) (a8 : A8) (a9 : A9) (a10 : A10) (a11 : A11) (a12 : A12) (a13 : A13) (a14 : A14) (h : I a1 a2 a3 a4 a5 a6 a7 a8 a9 a10 a11 a12 a13 a14) : ∃ n, W n a1 a2 a3 a4 a5 a6 a7 a8 a9 a10 a11 a12 a13 a14 :=
  loop_m (σ := A1 × A2 × A3 × A4 × A5 × A6 × A7 × A8 × A9 × A10 × A11 × A12 × A13 × A14) (fun n s => W n s.1 s.2.1 s.2.2.1 s.2.2.2.1 s.2.2.2.2.1 s.2.2.2.2.2.1 s.2.2.2.2.2.2.1 s.2.2.2.2.2.2.2.1 s.2.2.2.2.2.2.2.2.1 s.2.2.2.2.2.2.2.2.2.1 s.2.2.2.2.2.2.2.2.2.2.1 s.2.2.2.2.2.2.2.2.2.2.2.1 s.2.2.2.2.2.2.2.2.2.2.2.2.1 s.2.2.2.2.2.2.2.2.2.2.2.2.2) (fun s => I s.1 s.2.1 s.2.2.1 s.2.2.2.1 s.2.2.2.2.1 s.2.2.2.2.2.1 s.2.2.2.2.2.2.1 s.2.2.2.2.2.2.2.1 s.2.2.2.2.2.2.2.2.1 s.2.2.2.2.2.2.2.2.2.1 s.2.2.2.2.2.2.2.2.2.2.1 s.2.2.2.2.2.2.2.2.2.2.2.1 s.2.2.2.2.2.2.2.2.2.2.2.2.1 s.2.2.2.2.2.2.2.2.2.2.2.2.2) (fun s => μ s.1 s.2.1 s.2.2.1 s.2.2.2.1 s.2.2.2.2.1 s.2.2.2.2.2.1 s.2.2.2.2.2.2.1 s.2.2.2.2.2.2.2.1 s.2.2.2.2.2.2.2.2.1 s.2.2.2.2.2.2.2.2.2.1 s.2.2.2.2.2.2.2.2.2.2.1 s.2.2.2.2.2.2.2.2.2.2.2.1 s.2.2.2.2.2.2.2.2.2.2.2.2.1 s.2.2.2.2.2.2.2.2.2.2.2.2.2) (fun n s hI hk => hs n s.1 s.2.1 s.2.2.1 s.2.2.2.1 s.2.2.2.2.1 s.2.2.2.2.2.1 s.2.2.2.2.2.2.1 s.2.2.2.2.2.2.2.1 s.2.2.2.2.2.2.2.2.1 s.2.2.2.2.2.2.2.2.2.1 s.2.2.2.2.2.2.2.2.2.2.1 s.2.2.2.2.2.2.2.2.2.2.2.1 s.2.2.2.2.2.2.2.2.2.2.2.2.1 s.2.2.2.2.2.2.2.2.2.2.2.2.2 hI (fun b1 b2 b3 b4 b5 b6 b7 b8 b9 b10 b11 b12 b13 b14 h9 hm => hk (b1, b2, b3, b4, b5, b6, b7, b8, b9, b10, b11, b12, b13, b14) h9 hm)) (a1, a2, a3, a4, a5, a6, a7, a8, a9, a10, a11, a12, a13, a14) h
theorem lp15 {A1 A2 A3 A4 A5 A6 A7 A8 A9 A10 A11 A12 A13 A14 A15 : Type} (W : Nat → A1 → A2 → A3 → A4 → A5 → A6 → A7 → A8 → A9 → A10 → A11 → A12 → A13 → A14 → A15 → Prop) (I : A1 → A2 → A3 → A4 → A5 → A6 → A7 → A8 → A9 → A10 → A11 → A12 → A13 → A14 → A15 → Prop) (μ : A1 → A2 → A3 → A4 → A5 → A6 → A7 → A8 → A9 → A10 → A11 → A12 → A13 → A14 → A15 → Nat) (hs : ∀ (n : Nat) (a1 : A1) (a2 : A2) (a3 : A3) (a4 : A4) (a5 : A5) (a6 : A6) (a7 : A7) (a8 : A8) (a9 : A9) (a10 : A10) (a11 : A11) (a12 : A12) (a13 : A13) (a14 : A14) (a15 : A15), I a1 a2 a3 a4 a5 a6 a7 a8 a9 a10 a11 a12 a13 a14 a15 → (∀ (b1 : A1) (b2 : A2) (b3 : A3) (b4 : A4) (b5 : A5) (b6 : A6) (b7 : A7) (b8 : A8) (b9 : A9) (b10 : A10) (b11 : A11) (b12 : A12) (b13 : A13) (b14 : A14) (b15 : A15), I b1 b2 b3 b4 b5 b6 b7 b8 b9 b10 b11 b12 b13 b14 b15 → μ b1 b2 b3 b4 b5 b6 b7 b8 b9 b10 b11 b12 b13 b14 b15 < μ a1 a2 a3 a4 a5 a6 a7 a8 a9 a10 a11 a12 a13 a14 a15 → W n b1 b2 b3 b4 b5 b6 b7 b8 b9 b10 b11 b12 b13 b14 b15) → W (n + 1) a1 a2 a3 a4 a5 a6 a7 a8 a9 a10 a11 a12 a13 a14 a15) (a1 : A1) (a2 : A2) (a3 : A3) (a4 : A4) (a5 : A5) (a6 : A6) (a7 : A7) (a8 : A8) (a9 : A9) (a10 : A10) (a11 : A11) (a12 : A12) (a13 : A13) (a14 : A14) (a15 : A15) (h : I a1 a2 a3 a4 a5 a6 a7 a8 a9 a10 a11 a12 a13 a14 a15) : ∃ n, W n a1 a2 a3 a4 a5 a6 a7 a8 a9 a10 a11 a12 a13 a14 a15 :=
  loop_m (σ := A1 × A2 × A3 × A4 × A5 × A6 × A7 × A8 × A9 × A10 × A11 × A12 × A13 × A14 × A15) (fun n s => W n s.1 s.2.1 s.2.2.1 s.2.2.2.1 s.2.2.2.2.1 s.2.2.2.2.2.1 s.2.2.2.2.2.2.1 s.2.2.2.2.2.2.2.1 s.2.2.2.2.2.2.2.2.1 s.2.2.2.2.2.2.2.2.2.1 s.2.2.2.2.2.2.2.2.2.2.1 s.2.2.2.2.2.2.2.2.2.2.2.1 s.2.2.2.2.2.2.2.2.2.2.2.2.1 s.2.2.2.2.2.2.2.2.2.2.2.2.2.1 s.2.2.2.2.2.2.2.2.2.2.2.2.2.2) (fun s => I s.1 s.2.1 s.2.2.1 s.2.2.2.1 s.2.2.2.2.1 s.2.2.2.2.2.1 s.2.2.2.2.2.2.1 s.2.2.2.2.2.2.2.1 s.2.2.2.2.2.2.2.2.1 s.2.2.2.2.2.2.2.2.2.1 s.2.2.2.2.2.2.2.2.2.2.1 s.2.2.2.2.2.2.2.2.2.2.2.1 s.2.2.2.2.2.2.2.2.2.2.2.2.1 s.2.2.2.2.2.2.2.2.2.2.2.2.2.1 s.2.2.2.2.2.2.2.2.2.2.2.2.2.2) (fun s => μ s.1 s.2.1 s.2.2.1 s.2.2.2.1 s.2.2.2.2.1 s.2.2.2.2.2.1 s.2.2.2.2.2.2.1 s.2.2.2.2.2.2.2.1 s.2.2.2.2.2.2.2.2.1 s.2.2.2.2.2.2.2.2.2.1 s.2.2.2.2.2.2.2.2.2.2.1 s.2.2.2.2.2.2.2.2.2.2.2.1 s.2.2.2.2.2.2.2.2.2.2.2.2.1 s.2.2.2.2.2.2.2.2.2.2.2.2.2.1 s.2.2.2.2.2.2.2.2.2.2.2.2.2.2) (fun n s hI hk => hs n s.1 s.2.1 s.2.2.1 s.2.2.2.1 s.2.2.2.2.1 s.2.2.2.2.2.1 s.2.2.2.2.2.2.1 s.2.2.2.2.2.2.2.1 s.2.2.2.2.2.2.2.2.1 s.2.2.2.2.2.2.2.2.2.1 s.2.2.2.2.2.2.2.2.2.2.1 s.2.2.2.2.2.2.2.2.2.2.2.1 s.2.2.2.2.2.2.2.2.2.2.2.2.1 s.2.2.2.2.2.2.2.2.2.2.2.2.2.1 s.2.2.2.2.2.2.2.2.2.2.2.2.2.2 hI (fun b1 b2 b3 b4 b5 b6 b7 b8 b9 b10 b11 b12 b13 b14 b15 h9 hm => hk (b1, b2, b3, b4, b5, b6, b7, b8, b9, b10, b11, b12, b13, b14, b15) h9 hm)) (a1, a2, a3, a4, a5, a6, a7, a8, a9, a10, a11, a12, a13, a14, a15) h
theorem lp16 {A1 A2 A3 A4 A5 A6 A7 A8 A9 A10 A11 A12 A13 A14 A15 A16 : Type} (W : Nat → A1 → A2 → A3 → A4 → A5 → A6 → A7 → A8 → A9 → A10 → A11 → A12 → A13 → A14 → A15 → A16 → Prop) (I : A1 → A2 → A3 → A4 → A5 → A6 → A7 → A8 → A9 → A10 → A11 → A12 → A13 → A14 → A15 → A16 → Prop) (μ : A1 → A2 → A3 → A4 → A5 → A6 → A7 → A8 → A9 → A10 → A11 → A12 → A13 → A14 → A15 → A16 → Nat) (hs : ∀ (n : Nat) (a1 : A1) (a2 : A2) (a3 : A3) (a4 : A4) (a5 : A5) (a6 : A6) (a7 : A7) (a8 : A8) (a9 : A9) (a10 : A10) (a11 : A11) (a12 : A12) (a13 : A13) (a14 : A14) (a15 : A15) (a16 : A16), I a1 a2 a3 a4 a5 a6 a7 a8 a9 a10 a11 a12 a13 a14 a15 a16 → (∀ (b1 : A1) (b2 : A2) (b3 : A3) (b4 : A4) (b5 : A5) (b6 : A6) (b7 : A7) (b8 : A8) (b9 : A9) (b10 : A10) (b11 : A11) (b12 : A12) (b13 : A13) (b14 : A14) (b15 : A15) (b16 : A16), I b1 b2 b3 b4 b5 b6 b7 b8 b9 b10 b11 b12 b13 b14 b15 b16 → μ b1 b2 b3 b4 b5 b6 b7 b8 b9 b10 b11 b12 b13 b14 b15 b16 < μ a1 a2 a3 a4 a5 a6 a7 a8 a9 a10 a11 a12 a13 a14 a15 a16 → W n b1 b2 b3 b4 b5 b6 b7 b8 b9 b10 b11 b12 b13 b14 b15 b16) → W (n + 1) a1 a2 a3 a4 a5 a6 a7 a8 a9 a10 a11 a12 a13 a14 a15 a16) (a1 : A1) (a2 : A2) (a3 : A3) (a4 : A4) (a5 : A5) (a6 : A6) (a7 : A7) (a8 : A8) (a9 : A9) (a10 : A10) (a11 : A11) (a12 : A12) (a13 : A13) (a14 : A14) (a15 : A15) (a16 : A16) (h : I a1 a2 a3 a4 a5 a6 a7 a8 a9 a10 a11 a12 a13 a14 a15 a16) : ∃ n, W n a1 a2 a3 a4 a5 a6 a7 a8 a9 a10 a11 a12 a13 a14 a15 a16 :=
  loop_m (σ := A1 × A2 × A3 × A4 × A5 × A6 × A7 × A8 × A9 × A10 × A11 × A12 × A13 × A14 × A15 × A16) (fun n s => W n s.1 s.2.1 s.2.2.1 s.2.2.2.1 s.2.2.2.2.1 s.2.2.2.2.2.1 s.2.2.2.2.2.2.1 s.2.2.2.2.2.2.2.1 s.2.2.2.2.2.2.2.2.1 s.2.2.2.2.2.2.2.2.2.1 s.2.2.2.2.2.2.2.2.2.2.1 s.2.2.2.2.2.2.2.2.2.2.2.1 s.2.2.2.2.2.2.2.2.2.2.2.2.1 s.2.2.2.2.2.2.2.2.2.2.2.2.2.1 s.2.2.2.2.2.2.2.2.2.2.2.2.2.2.1 s.2.2.2.2.2.2.2.2.2.2.2.2.2.2.2) (fun s => I s.1 s.2.1 s.2.2.1 s.2.2.2.1 s.2.2.2.2.1 s.2.2.2.2.2.1 s.2.2.2.2.2.2.1 s.2.2.2.2.2.2.2.1 s.2.2.2.2.2.2.2.2.1 s.2.2.2.2.2.2.2.2.2.1 s.2.2.2.2.2.2.2.2.2.2.1 s.2.2.2.2.2.2.2.2.2.2.2.1 s.2.2.2.2.2.2.2.2.2.2.2.2.1 s.2.2.2.2.2.2.2.2.2.2.2.2.2.1 s.2.2.2.2.2.2.2.2.2.2.2.2.2.2.1 s.2.2.2.2.2.2.2.2.2.2.2.2.2.2.2) (fun s => μ s.1 s.2.1 s.2.2.1 s.2.2.2.1 s.2.2.2.2.1 s.2.2.2.2.2.1 s.2.2.2.2.2.2.1 s.2.2.2.2.2.2.2.1 s.2.2.2.2.2.2.2.2.1 s.2.2.2.2.2.2.2.2.2.1 s.2.2.2.2.2.2.2.2.2.2.1 s.2.2.2.2.2.2.2.2.2.2.2.1 s.2.2.2.2.2.2.2.2.2.2.2.2.1 s.2.2.2.2.2.2.2.2.2.2.2.2.2.1 s.2.2.2.2.2.2.2.2.2.2.2.2.2.2.1 s.2.2.2.2.2.2.2.2.2.2.2.2.2.2.2) (fun n s hI hk => hs n s.1 s.2.1 s.2.2.1 s.2.2.2.1 s.2.2.2.2.1 s.2.2.2.2.2.1 s.2.2.2.2.2.2.1 s.2.2.2.2.2.2.2.1 s.2.2.2.2.2.2.2.2.1 s.2.2.2.2.2.2.2.2.2.1 s.2.2.2.2.2.2.2.2.2.2.1 s.2.2.2.2.2.2.2.2.2.2.2.1 s.2.2.2.2.2.2.2.2.2.2.2.2.1 s.2.2.2.2.2.2.2.2.2.2.2.2.2.1 s.2.2.2.2.2.2.2.2.2.2.2.2.2.2.1 s.2.2.2.2.2.2.2.2.2.2.2.2.2.2.2 hI (fun b1 b2 b3 b4 b5 b6 b7 b8 b9 b10 b11 b12 b13 b14 b15 b16 h9 hm => hk (b1, b2, b3, b4, b5, b6, b7, b8, b9, b10, b11, b12, b13, b14, b15, b16) h9 hm)) (a1, a2, a3, a4, a5, a6, a7, a8, a9, a10, a11, a12, a13, a14, a15, a16) h
theorem pk_least (P : Nat → Prop) (h : ∃ k, P k) : ∃ k, P k ∧ ∀ j, j < k → ¬ P j := by
  obtain ⟨k, hk⟩ := h
  induction k using Nat.strongRecOn with
  | ind k ih =>
    by_cases e : ∃ j, j < k ∧ P j
    · obtain ⟨j, hj, pj⟩ := e
      exact ih j hj pj
    · exact ⟨k, hk, fun j hj pj => e ⟨j, hj, pj⟩⟩
theorem rp1 {ρ A1 : Type} (W : Nat → (ρ → Prop) → A1 → Prop) (ok : A1 → Prop) (μ : A1 → Nat) (val : A1 → ρ)
    (hs : ∀ (d : Nat) (post : ρ → Prop) (a1 : A1), ok a1 → post (val a1) → (∀ (post' : ρ → Prop) (b1 : A1), ok b1 → μ b1 < μ a1 → post' (val b1) → W d post' b1) → W (d + 1) post a1) :
    ∀ (d : Nat) (post : ρ → Prop) (a1 : A1), ok a1 → μ a1 < d → post (val a1) → W d post a1 := by
  intro d
  induction d with
  | zero => intro post a1 _ h; omega
  | succ d ih =>
    intro post a1 ho hm hp
    exact hs d post a1 ho hp (fun post' b1 ho' hm' hp' => ih post' b1 ho' (by omega) hp')
theorem rp2 {ρ A1 A2 : Type} (W : Nat → (ρ → Prop) → A1 → A2 → Prop) (ok : A1 → A2 → Prop) (μ : A1 → A2 → Nat) (val : A1 → A2 → ρ)
    (hs : ∀ (d : Nat) (post : ρ → Prop) (a1 : A1) (a2 : A2), ok a1 a2 → post (val a1 a2) → (∀ (post' : ρ → Prop) (b1 : A1) (b2 : A2), ok b1 b2 → μ b1 b2 < μ a1 a2 → post' (val b1 b2) → W d post' b1 b2) → W (d + 1) post a1 a2) :
    ∀ (d : Nat) (post : ρ → Prop) (a1 : A1) (a2 : A2), ok a1 a2 → μ a1 a2 < d → post (val a1 a2) → W d post a1 a2 := by
  intro d
  induction d with
  | zero => intro post a1 a2 _ h; omega
  | succ d ih =>
    intro post a1 a2 ho hm hp
    exact hs d post a1 a2 ho hp (fun post' b1 b2 ho' hm' hp' => ih post' b1 b2 ho' (by omega) hp')
theorem rp3 {ρ A1 A2 A3 : Type} (W : Nat → (ρ → Prop) → A1 → A2 → A3 → Prop) (ok : A1 → A2 → A3 → Prop) (μ : A1 → A2 → A3 → Nat) (val : A1 → A2 → A3 → ρ)
    (hs : ∀ (d : Nat) (post : ρ → Prop) (a1 : A1) (a2 : A2) (a3 : A3), ok a1 a2 a3 → post (val a1 a2 a3) → (∀ (post' : ρ → Prop) (b1 : A1) (b2 : A2) (b3 : A3), ok b1 b2 b3 → μ b1 b2 b3 < μ a1 a2 a3 → post' (val b1 b2 b3) → W d post' b1 b2 b3) → W (d + 1) post a1 a2 a3) :
    ∀ (d : Nat) (post : ρ → Prop) (a1 : A1) (a2 : A2) (a3 : A3), ok a1 a2 a3 → μ a1 a2 a3 < d → post (val a1 a2 a3) → W d post a1 a2 a3 := by
  intro d
  induction d with
  | zero => intro post a1 a2 a3 _ h; omega
  | succ d ih =>
    intro post a1 a2 a3 ho hm hp
    exact hs d post a1 a2 a3 ho hp (fun post' b1 b2 b3 ho' hm' hp' => ih post' b1 b2 b3 ho' (by omega) hp')
theorem rp4 {ρ A1 A2 A3 A4 : Type} (W : Nat → (ρ → Prop) → A1 → A2 → A3 → A4 → Prop) (ok : A1 → A2 → A3 → A4 → Prop) (μ : A1 → A2 → A3 → A4 → Nat) (val : A1 → A2 → A3 → A4 → ρ)
    (hs : ∀ (d : Nat) (post : ρ → Prop) (a1 : A1) (a2 : A2) (a3 : A3) (a4 : A4), ok a1 a2 a3 a4 → post (val a1 a2 a3 a4) → (∀ (post' : ρ → Prop) (b1 : A1) (b2 : A2) (b3 : A3) (b4 : A4), ok b1 b2 b3 b4 → μ b1 b2 b3 b4 < μ a1 a2 a3 a4 → post' (val b1 b2 b3 b4) → W d post' b1 b2 b3 b4) → W (d + 1) post a1 a2 a3 a4) :
    ∀ (d : Nat) (post : ρ → Prop) (a1 : A1) (a2 : A2) (a3 : A3) (a4 : A4), ok a1 a2 a3 a4 → μ a1 a2 a3 a4 < d → post (val a1 a2 a3 a4) → W d post a1 a2 a3 a4 := by
  intro d
  induction d with
  | zero => intro post a1 a2 a3 a4 _ h; omega
  | succ d ih =>
    intro post a1 a2 a3 a4 ho hm hp
    exact hs d post a1 a2 a3 a4 ho hp (fun post' b1 b2 b3 b4 ho' hm' hp' => ih post' b1 b2 b3 b4 ho' (by omega) hp')
theorem rp5 {ρ A1 A2 A3 A4 A5 : Type} (W : Nat → (ρ → Prop) → A1 → A2 → A3 → A4 → A5 → Prop) (ok : A1 → A2 → A3 → A4 → A5 → Prop) (μ : A1 → A2 → A3 → A4 → A5 → Nat) (val : A1 → A2 → A3 → A4 → A5 → ρ)
    (hs : ∀ (d : Nat) (post : ρ → Prop) (a1 : A1) (a2 : A2) (a3 : A3) (a4 : A4) (a5 : A5), ok a1 a2 a3 a4 a5 → post (val a1 a2 a3 a4 a5) → (∀ (post' : ρ → Prop) (b1 : A1) (b2 : A2) (b3 : A3) (b4 : A4) (b5 : A5), ok b1 b2 b3 b4 b5 → μ b1 b2 b3 b4 b5 < μ a1 a2 a3 a4 a5 → post' (val b1 b2 b3 b4 b5) → W d post' b1 b2 b3 b4 b5) → W (d + 1) post a1 a2 a3 a4 a5) :
    ∀ (d : Nat) (post : ρ → Prop) (a1 : A1) (a2 : A2) (a3 : A3) (a4 : A4) (a5 : A5), ok a1 a2 a3 a4 a5 → μ a1 a2 a3 a4 a5 < d → post (val a1 a2 a3 a4 a5) → W d post a1 a2 a3 a4 a5 := by
  intro d
  induction d with
  | zero => intro post a1 a2 a3 a4 a5 _ h; omega
  | succ d ih =>
    intro post a1 a2 a3 a4 a5 ho hm hp
    exact hs d post a1 a2 a3 a4 a5 ho hp (fun post' b1 b2 b3 b4 b5 ho' hm' hp' => ih post' b1 b2 b3 b4 b5 ho' (by omega) hp')
theorem rp6 {ρ A1 A2 A3 A4 A5 A6 : Type} (W : Nat → (ρ → Prop) → A1 → A2 → A3 → A4 → A5 → A6 → Prop) (ok : A1 → A2 → A3 → A4 → A5 → A6 → Prop) (μ : A1 → A2 → A3 → A4 → A5 → A6 → Nat) (val : A1 → A2 → A3 → A4 → A5 → A6 → ρ)
    (hs : ∀ (d : Nat) (post : ρ → Prop) (a1 : A1) (a2 : A2) (a3 : A3) (a4 : A4) (a5 : A5) (a6 : A6), ok a1 a2 a3 a4 a5 a6 → post (val a1 a2 a3 a4 a5 a6) → (∀ (post' : ρ → Prop) (b1 : A1) (b2 : A2) (b3 : A3) (b4 : A4) (b5 : A5) (b6 : A6), ok b1 b2 b3 b4 b5 b6 → μ b1 b2 b3 b4 b5 b6 < μ a1 a2 a3 a4 a5 a6 → post' (val b1 b2 b3 b4 b5 b6) → W d post' b1 b2 b3 b4 b5 b6) → W (d + 1) post a1 a2 a3 a4 a5 a6) :
    ∀ (d : Nat) (post : ρ → Prop) (a1 : A1) (a2 : A2) (a3 : A3) (a4 : A4) (a5 : A5) (a6 : A6), ok a1 a2 a3 a4 a5 a6 → μ a1 a2 a3 a4 a5 a6 < d → post (val a1 a2 a3 a4 a5 a6) → W d post a1 a2 a3 a4 a5 a6 := by
  intro d
  induction d with
  | zero => intro post a1 a2 a3 a4 a5 a6 _ h; omega
  | succ d ih =>
    intro post a1 a2 a3 a4 a5 a6 ho hm hp
    exact hs d post a1 a2 a3 a4 a5 a6 ho hp (fun post' b1 b2 b3 b4 b5 b6 ho' hm' hp' => ih post' b1 b2 b3 b4 b5 b6 ho' (by omega) hp')
theorem rec_p {σ ρ : Type} (W : Nat → (ρ → Prop) → σ → Prop) (ok : σ → Prop) (μ : σ → Nat) (val : σ → ρ)
    (hs : ∀ d s post, ok s → post (val s) → (∀ s' post', ok s' → μ s' < μ s → post' (val s') → W d post' s') → W (d + 1) post s) :
    ∀ d s post, ok s → μ s < d → post (val s) → W d post s := by
  intro d
  induction d with
  | zero => intro s post _ h; omega
  | succ d ih =>
    intro s post ho hm hp
    exact hs d s post ho hp (fun s' post' ho' hm' hp' => ih s' post' ho' (by omega) hp')
theorem rec_q {σ ρ : Type} (W : Nat → (ρ → Prop) → σ → Prop) (ok : σ → Prop) (μ : σ → Nat) (Q : σ → ρ → Prop)
    (hs : ∀ d s post, ok s → (∀ r, Q s r → post r) → (∀ s' post', ok s' → μ s' < μ s → (∀ r, Q s' r → post' r) → W d post' s') → W (d + 1) post s) :
    ∀ d s post, ok s → μ s < d → (∀ r, Q s r → post r) → W d post s := by
  intro d
  induction d with
  | zero => intro s post _ h; omega
  | succ d ih =>
    intro s post ho hm hp
    exact hs d s post ho hp (fun s' post' ho' hm' hp' => ih s' post' ho' (by omega) hp')
def bx_sum (f : Nat → Int32) : Nat → Int32
  | 0 => 0
  | n + 1 => bx_sum f n + f n
theorem ek_u {A : Prop} {B : Nat → Prop} {k N : Nat} (hk : k < N) (h : B k) : (some k = none → A) ∧ (∀ y : Nat, some k = some y → (y < N ∧ B y)) :=
  ⟨fun z => absurd z (Option.some_ne_none k), fun _ e => (by cases e; exact ⟨hk, h⟩)⟩
theorem ek_nu {A : Prop} {B : Nat → Prop} (h : A) : ((none : Option Nat) = none → A) ∧ (∀ y : Nat, (none : Option Nat) = some y → B y) :=
  ⟨fun _ => h, fun _ e => (by cases e)⟩
theorem ek_if {c d A B : Prop} (e : c ↔ d) (f : d → A) (g : ¬ d → B) : (c → A) ∧ (¬ c → B) :=
  ⟨fun z => f (e.mp z), fun z => g (fun y => z (e.mpr y))⟩
theorem ek_v {α : Sort _} {P : α → Prop} {a b : α} (e : a = b) (h : P b) : P a := e ▸ h
theorem co_some {x : Option Nat} {A : Prop} {B : Nat → Prop} (i : Nat) (h : B i) (hx : x = some i := by rfl) : (x = none → A) ∧ (∀ y : Nat, x = some y → B y) := by
  subst hx
  exact ⟨fun e => (nomatch e), fun y e => Option.some.inj e ▸ h⟩
theorem co_none {x : Option Nat} {A : Prop} {B : Nat → Prop} (h : A) (hx : x = none := by rfl) : (x = none → A) ∧ (∀ y : Nat, x = some y → B y) := by
  subst hx
  exact ⟨fun _ => h, fun y e => (nomatch e)⟩
theorem co_any {x : Option Nat} {A : Prop} {B : Nat → Prop} (hn : x = none → A) (hs : ∀ i : Nat, x = some i → B i) : (x = none → A) ∧ (∀ y : Nat, x = some y → B y) := ⟨hn, hs⟩
theorem co_2 {P : Nat → Prop} (h0 : P 0) (h1 : P 1) {i : Nat} (hi : i < 2) : P i :=
  match i, hi with
  | 0, _ => h0
  | 1, _ => h1
theorem co_3 {P : Nat → Prop} (h0 : P 0) (h1 : P 1) (h2 : P 2) {i : Nat} (hi : i < 3) : P i :=
  match i, hi with
  | 0, _ => h0
  | 1, _ => h1
  | 2, _ => h2
theorem co_4 {P : Nat → Prop} (h0 : P 0) (h1 : P 1) (h2 : P 2) (h3 : P 3) {i : Nat} (hi : i < 4) : P i :=
  match i, hi with
  | 0, _ => h0
  | 1, _ => h1
  | 2, _ => h2
  | 3, _ => h3
theorem co_dec {N : Nat} {P : Nat → Prop} [DecidablePred P] (h : (List.range N).all (fun i => decide (P i)) = true) {i : Nat} (hi : i < N) : P i := by
  have := List.all_eq_true.mp h i (List.mem_range.mpr hi)
  exact of_decide_eq_true this
theorem co_tab {α : Type} {l : List α} {d : α} {P : α → Prop} (h : ∀ a, a ∈ l → P a) {i : Nat} (hi : i < l.length) : P (l.getD i d) := by
  rw [List.getD_eq_getElem?_getD, List.getElem?_eq_getElem hi]
  exact h _ (List.getElem_mem hi)
theorem pk_mu {x : Int32} {L : Nat} (h0 : ¬ x < 0) (h : ¬ nI L ≤ x) (hL : L < 2 ^ 31) : ∃ j : Nat, j < L ∧ x = nI j ∧ x + 1 = nI (j + 1) ∧ x.toNatClampNeg = j ∧ L - (x + 1).toNatClampNeg < L - x.toNatClampNeg := by
  obtain ⟨j, hj, rfl⟩ := nI_of h0
  have hl : j < L := Nat.not_le.mp fun q => h (nI_le q hj)
  refine ⟨j, hl, rfl, nI_1 j, nI_clamp hj, ?_⟩
  rw [nI_1, nI_clamp (by omega), nI_clamp hj]
  omega
theorem op_s {α : Type} {r : Option α} {A : Prop} {B : α → Prop} {y : α} (h : r = some y) (b : B y) : (r = none → A) ∧ ∀ z, r = some z → B z :=
  ⟨fun e => (by rw [h] at e; cases e), fun z e => (by rw [h] at e; cases e; exact b)⟩
def l_holds {α : Type} (a : Nat → Option Nat) (LP : List Nat) (p : Nat → α) (c : Nat) (b : Nat → α) : Prop :=
  ∀ j, j < c → ∃ y, a j = some y ∧ y ∈ LP ∧ p y = b j
theorem l_holds_0 {α : Type} {a : Nat → Option Nat} {LP : List Nat} {p b : Nat → α} : l_holds a LP p 0 b := fun j h => absurd h (Nat.not_lt_zero j)
theorem l_in_new (LP : List Nat) (q : Nat) : q ∈ LP ++ [q] := List.mem_append.mpr (Or.inr (List.mem_singleton.mpr rfl))
def l_sum (b : Nat → Int32) : Nat → Int32
  | 0 => 0
  | k + 1 => l_sum b k + b k
theorem sb_shr0 (x : Int32) : x >>> ((0 : Int32) &&& 31) = x := by
  rw [show ((0 : Int32) &&& 31) = 0 by decide]
  simp
theorem sb_shl0 (x : Int32) : x <<< ((0 : Int32) &&& 31) = x := by
  rw [show ((0 : Int32) &&& 31) = 0 by decide]
  simp
theorem sb_cl0 : (0 : Int32).toNatClampNeg = 0 := by decide
theorem sb_m1 {p : Nat} (h : 0 < p) : nI p + (-1) = nI (p - 1) := by
  obtain ⟨q, rfl⟩ : ∃ q, p = q + 1 := ⟨p - 1, by omega⟩
  exact pk_m1 q
def sb_b (c : Nat) : Int32 := (nI c).toInt8.toInt32
theorem sb_byte : ∀ c, c < 256 → sb_b c &&& 255 = nI c ∧ ((nI c).toUInt32 % 65536).toInt32 = nI c ∧ nI c ≤ 255 := by decide +kernel
def sb_Fit (a : Nat → Int32) : Prop := ∀ j, fits .byte (.int (a j)) = true
def sb_Lat (t : Nat → Nat) (n : Nat) (a : Nat → Int32) : Prop := ∀ j, j < n → t j < 256 ∧ a j = sb_b (t j)
theorem sb_fitB (c : Nat) : fits .byte (.int (sb_b c)) = true := pk_fb _
theorem sb_fit0 : sb_Fit (fun _ => 0) := fun _ => by
  show fits .byte (.int 0) = true
  decide
theorem sb_fitU {a : Nat → Int32} {k : Nat} {x : Int32} (h : sb_Fit a) (hx : fits .byte (.int x) = true) : sb_Fit (upd a k x) := by
  intro j
  by_cases e : j = k
  · subst e
    rw [pk_us]
    exact hx
  · rw [pk_un e]
    exact h j
def sb_cat (t : Nat → Nat) (n : Nat) (s : Nat → Nat) : Nat → Nat := fun j => if j < n then t j else s (j - n)
theorem sb_cat_lo {t s : Nat → Nat} {n j : Nat} (h : j < n) : sb_cat t n s j = t j := if_pos h
theorem sb_cat_hi {t s : Nat → Nat} {n j : Nat} : sb_cat t n s (n + j) = s j := by
  show (if n + j < n then t (n + j) else s (n + j - n)) = s j
  rw [if_neg (by omega), Nat.add_sub_cancel_left]
theorem sb_latPut {t s : Nat → Nat} {n w : Nat} {a a' : Nat → Int32} (h : sb_Lat t n a) (hk : ∀ j, j < n → a' j = a j) (hs : ∀ i, i < w → s i < 256 ∧ a' (n + i) = sb_b (s i)) : sb_Lat (sb_cat t n s) (n + w) a' := by
  intro j hj
  by_cases e : j < n
  · rw [sb_cat_lo e, hk j e]
    exact h j e
  · obtain ⟨i, rfl⟩ : ∃ i, j = n + i := ⟨j - n, by omega⟩
    rw [sb_cat_hi]
    exact hs i (by omega)
theorem sb_latKeep {t : Nat → Nat} {n : Nat} {a a' : Nat → Int32} (h : sb_Lat t n a) (hk : ∀ j, j < n → a' j = a j) : sb_Lat t n a' := fun j hj => by
  rw [hk j hj]
  exact h j hj
def sb_cap (q m : Nat) : Nat := if q ≤ m then m else if 2 * m + 2 < q then q else 2 * m + 2
def sb_Room (q m mc ms : Nat) : Prop := q ≤ m ∨ (1 ≤ mc ∧ sb_cap q m ≤ ms ∧ sb_cap q m ≤ 65536)
theorem sb_cap_ge (q m : Nat) : q ≤ sb_cap q m := by
  unfold sb_cap
  split
  · omega
  · split <;> omega
theorem sb_cap_gem (q m : Nat) : m ≤ sb_cap q m := by
  unfold sb_cap
  split
  · omega
  · split <;> omega
theorem sb_cap_le {q m mc ms : Nat} (hm : m ≤ 65536) (hr : sb_Room q m mc ms) : sb_cap q m ≤ 65536 := by
  rcases hr with h | h
  · rw [sb_cap, if_pos h]
    exact hm
  · exact h.2.2
theorem sb_at {P : Int32 → Prop} {x y : Int32} (e : x = y) (h : P y) : P x := e ▸ h
def sb_dg (w : Nat) : Nat := if w < 10 then 1 else if w < 100 then 2 else if w < 1000 then 3 else if w < 10000 then 4 else if w < 100000 then 5 else if w < 1000000 then 6 else if w < 10000000 then 7 else if w < 100000000 then 8 else if w < 1000000000 then 9 else 10
def sb_dec (v : Nat) : Nat → Nat := fun i => 48 + v / 10 ^ (sb_dg v - 1 - i) % 10
theorem sb_dg_in (w : Nat) : 1 ≤ sb_dg w ∧ sb_dg w ≤ 10 := by
  unfold sb_dg
  constructor <;> (repeat' split) <;> omega
theorem sb_dg100 {w : Nat} (h : 100 ≤ w) (hw : w < 2 ^ 31) : sb_dg w = sb_dg (w / 100) + 2 := by
  rw [sb_dg, sb_dg, if_neg (show ¬ w < 10 by omega), if_neg (show ¬ w < 100 by omega)]
  by_cases h3 : w < 1000
  · rw [if_pos h3, if_pos (show w / 100 < 10 by omega)]
  rw [if_neg h3, if_neg (show ¬ w / 100 < 10 by omega)]
  by_cases h4 : w < 10000
  · rw [if_pos h4, if_pos (show w / 100 < 100 by omega)]
  rw [if_neg h4, if_neg (show ¬ w / 100 < 100 by omega)]
  by_cases h5 : w < 100000
  · rw [if_pos h5, if_pos (show w / 100 < 1000 by omega)]
  rw [if_neg h5, if_neg (show ¬ w / 100 < 1000 by omega)]
  by_cases h6 : w < 1000000
  · rw [if_pos h6, if_pos (show w / 100 < 10000 by omega)]
  rw [if_neg h6, if_neg (show ¬ w / 100 < 10000 by omega)]
  by_cases h7 : w < 10000000
  · rw [if_pos h7, if_pos (show w / 100 < 100000 by omega)]
  rw [if_neg h7, if_neg (show ¬ w / 100 < 100000 by omega)]
  by_cases h8 : w < 100000000
  · rw [if_pos h8, if_pos (show w / 100 < 1000000 by omega)]
  rw [if_neg h8, if_neg (show ¬ w / 100 < 1000000 by omega)]
  by_cases h9 : w < 1000000000
  · rw [if_pos h9, if_pos (show w / 100 < 10000000 by omega)]
  rw [if_neg h9, if_neg (show ¬ w / 100 < 10000000 by omega)]
  rw [if_pos (show w / 100 < 100000000 by omega)]
theorem sb_negT {w : Nat} (h : w < 2 ^ 31) : (-nI w).toInt = -(w : Int) := by
  rw [Int32.toInt_neg, nI_toInt h]
  exact Int.bmod_eq_of_le (by omega) (by omega)
theorem sb_nle {a b : Nat} (ha : a < 2 ^ 31) (hb : b < 2 ^ 31) : -nI a ≤ -nI b ↔ b ≤ a := by
  rw [Int32.le_iff_toInt_le, sb_negT ha, sb_negT hb]
  omega
theorem sb_nlt {a b : Nat} (ha : a < 2 ^ 31) (hb : b < 2 ^ 31) : -nI a < -nI b ↔ b < a := by
  rw [Int32.lt_iff_toInt_lt, sb_negT ha, sb_negT hb]
  omega
theorem sb_cmp {A B : Prop} {x : Int32} (v c : Nat) (f : c ≤ v → A) (g : v < c → B) (hv : v < 2 ^ 31) (hx : x = -nI c := by rfl) (hc : c < 2 ^ 31 := by omega) : (-nI v ≤ x → A) ∧ (¬ -nI v ≤ x → B) := by
  subst hx
  rw [sb_nle hv hc]
  exact ⟨f, fun z => g (by omega)⟩
theorem sb_ndiv {w : Nat} (hw : w < 2 ^ 31) : (-nI w) / 100 = -nI (w / 100) := by
  apply Int32.toInt_inj.mp
  have h100 : (100 : Int32).toInt = 100 := by decide
  rw [Int32.toInt_div, sb_negT hw, h100, sb_negT (by omega), Int.neg_tdiv, Int.tdiv_eq_ediv_of_nonneg (by omega), Int.bmod_eq_of_le (by omega) (by omega)]
  omega
theorem sb_nrem {w : Nat} (hw : w < 2 ^ 31) : (-nI (w / 100)) * 100 - (-nI w) = nI (w % 100) := by
  have h := pk_rem (a := w) (d := 100) hw (by decide) (by decide)
  rw [pk_div hw (by decide) (by decide)] at h
  rw [← h]
  show (-nI (w / 100)) * nI 100 - (-nI w) = nI w - nI (w / 100) * nI 100
  rw [Int32.neg_mul, Int32.sub_neg, Int32.add_comm, ← Int32.sub_eq_add_neg]
end
section
/-! pure: counting functions, code lists, ends of subterms, local numbers -/
def wm_cn (P : Nat → Bool) : Nat → Nat
  | 0 => 0
  | k + 1 => wm_cn P k + (if P k then 1 else 0)
theorem wm_cn_t {P : Nat → Bool} {a : Nat} (h : P a = true) : wm_cn P (a + 1) = wm_cn P a + 1 := by simp [wm_cn, h]
theorem wm_cn_f {P : Nat → Bool} {a : Nat} (h : ¬ P a = true) : wm_cn P (a + 1) = wm_cn P a := by simp [wm_cn, h]
theorem wm_cn_le (P : Nat → Bool) {a b : Nat} (h : a ≤ b) : wm_cn P a ≤ wm_cn P b := by
  induction h with
  | refl => exact Nat.le_refl _
  | step _ ih => exact Nat.le_trans ih (Nat.le_add_right _ _)
theorem wm_cn_lt {P : Nat → Bool} {a b : Nat} (h : P a = true) (hab : a < b) : wm_cn P a < wm_cn P b := by
  have x := wm_cn_le P (a := a + 1) (b := b) hab
  rw [wm_cn_t h] at x; omega
theorem wm_cn_inj {P : Nat → Bool} {a b : Nat} (ha : P a = true) (hb : P b = true) (e : wm_cn P a = wm_cn P b) : a = b := by
  rcases Nat.lt_trichotomy a b with h | h | h
  · have := wm_cn_lt ha h; omega
  · exact h
  · have := wm_cn_lt hb h; omega
theorem wm_cn_sur {P : Nat → Bool} : ∀ {n m : Nat}, m < wm_cn P n → ∃ k, k < n ∧ P k = true ∧ wm_cn P k = m
  | 0, m, h => absurd h (Nat.not_lt_zero _)
  | n + 1, m, h => by
    by_cases hp : P n = true
    · rw [wm_cn_t hp] at h
      rcases Nat.lt_or_ge m (wm_cn P n) with z | z
      · obtain ⟨k, h1, h2, h3⟩ := wm_cn_sur z
        exact ⟨k, by omega, h2, h3⟩
      · exact ⟨n, by omega, hp, by omega⟩
    · rw [wm_cn_f hp] at h
      obtain ⟨k, h1, h2, h3⟩ := wm_cn_sur h
      exact ⟨k, by omega, h2, h3⟩
theorem wm_cn_n (P : Nat → Bool) : ∀ n, wm_cn P n ≤ n
  | 0 => Nat.le_refl _
  | n + 1 => by
    have := wm_cn_n P n
    by_cases hp : P n = true
    · rw [wm_cn_t hp]; omega
    · rw [wm_cn_f hp]; omega
theorem wm_cn_c {P : Nat → Bool} {a : Nat} : ∀ {b : Nat}, a ≤ b → (∀ j, a ≤ j → j < b → ¬ P j = true) → wm_cn P b = wm_cn P a
  | 0, h, _ => by have : a = 0 := by omega
                  rw [this]
  | b + 1, h, hf => by
    rcases Nat.lt_or_ge b a with z | z
    · have : a = b + 1 := by omega
      rw [this]
    · rw [wm_cn_f (hf b z (by omega))]
      exact wm_cn_c z (fun j h1 h2 => hf j h1 (by omega))
theorem wm_cn_congr {P Q : Nat → Bool} : ∀ {n : Nat}, (∀ k, k < n → P k = Q k) → wm_cn P n = wm_cn Q n
  | 0, _ => rfl
  | n + 1, h => by
    have := wm_cn_congr (P := P) (Q := Q) (n := n) (fun k hk => h k (by omega))
    simp only [wm_cn, this, h n (by omega)]
/-- arity of a code -/
def wm_ar (c : Nat) : Nat := if c < 80 then c / 16 else 0
theorem wm_ar4 (c : Nat) : wm_ar c ≤ 4 := by
  unfold wm_ar; split <;> omega
theorem wm_ar_c {c : Nat} (h : c < 80) : wm_ar c = c / 16 := if_pos h
theorem wm_ar_v {c : Nat} (h : ¬ c < 80) : wm_ar c = 0 := if_neg h
/-- open argument places before place k -/
def wm_op (C : Nat → Nat) : Nat → Nat
  | 0 => 0
  | k + 1 => (wm_op C k - 1) + wm_ar (C k)
theorem wm_op_s (C : Nat → Nat) (k : Nat) : wm_op C (k + 1) = (wm_op C k - 1) + wm_ar (C k) := rfl
theorem wm_op_le (C : Nat → Nat) : ∀ k, wm_op C k ≤ 4 * k
  | 0 => Nat.le_refl _
  | k + 1 => by
    have := wm_op_le C k
    have := wm_ar4 (C k)
    rw [wm_op_s]; omega
theorem wm_op_congr {C D : Nat → Nat} : ∀ {n : Nat}, (∀ k, k < n → C k = D k) → wm_op C n = wm_op D n
  | 0, _ => rfl
  | n + 1, h => by
    rw [wm_op_s, wm_op_s, wm_op_congr (C := C) (D := D) (n := n) (fun k hk => h k (by omega)), h n (by omega)]
def wm_pa (C : Nat → Nat) (k : Nat) : Bool := decide (wm_op C k = 0)
def wm_ps (C : Nat → Nat) (k : Nat) : Bool := decide (0 < wm_op C k ∧ 0 < wm_ar (C k))
theorem wm_pa_t {C : Nat → Nat} {k : Nat} : wm_pa C k = true ↔ wm_op C k = 0 := by simp [wm_pa]
theorem wm_ps_t {C : Nat → Nat} {k : Nat} : wm_ps C k = true ↔ (0 < wm_op C k ∧ 0 < wm_ar (C k)) := by simp [wm_ps]
/-- does variable v occur below place n -/
def wm_oc (C : Nat → Nat) : Nat → Nat → Bool
  | 0, _ => false
  | n + 1, v => wm_oc C n v || decide (C n = 128 + v)
theorem wm_oc_iff {C : Nat → Nat} {v : Nat} : ∀ {n : Nat}, wm_oc C n v = true ↔ ∃ k, k < n ∧ C k = 128 + v
  | 0 => by simp [wm_oc]
  | n + 1 => by
    simp only [wm_oc, Bool.or_eq_true, decide_eq_true_eq, wm_oc_iff (n := n)]
    constructor
    · rintro (⟨k, h1, h2⟩ | h)
      · exact ⟨k, by omega, h2⟩
      · exact ⟨n, by omega, h⟩
    · rintro ⟨k, h1, h2⟩
      rcases Nat.lt_or_ge k n with z | z
      · exact Or.inl ⟨k, z, h2⟩
      · have : k = n := by omega
        subst this; exact Or.inr h2
/-- rank of a variable, number of variables, of atoms -/
def wm_rk (C : Nat → Nat) (n v : Nat) : Nat := wm_cn (wm_oc C n) v
def wm_vs (C : Nat → Nat) (n : Nat) : Nat := wm_rk C n 8
def wm_na (C : Nat → Nat) (n : Nat) : Nat := wm_cn (wm_pa C) n
def wm_st (C : Nat → Nat) (k : Nat) : Nat := wm_cn (wm_ps C) k
def wm_wt (C : Nat → Nat) : Nat → Nat
  | 0 => 0
  | k + 1 => wm_wt C k + (if wm_ps C k then 1 + wm_ar (C k) else 0)
def wm_N (C : Nat → Nat) (n : Nat) : Nat := wm_vs C n + wm_st C n
def wm_W (C : Nat → Nat) (n : Nat) : Nat := wm_vs C n + wm_wt C n
theorem wm_vs8 (C : Nat → Nat) (n : Nat) : wm_vs C n ≤ 8 := wm_cn_n _ 8
theorem wm_st_wt (C : Nat → Nat) : ∀ k, wm_st C k ≤ wm_wt C k
  | 0 => Nat.le_refl _
  | k + 1 => by
    have := wm_st_wt C k
    unfold wm_st at this ⊢
    simp only [wm_wt]
    by_cases h : wm_ps C k = true
    · rw [wm_cn_t h, if_pos h]; omega
    · rw [wm_cn_f h, if_neg h]; omega
theorem wm_wt_le (C : Nat → Nat) : ∀ k, wm_wt C k ≤ 5 * k
  | 0 => Nat.le_refl _
  | k + 1 => by
    have := wm_wt_le C k
    have := wm_ar4 (C k)
    simp only [wm_wt]
    split <;> omega
theorem wm_N_W (C : Nat → Nat) (n : Nat) : wm_N C n ≤ wm_W C n := Nat.add_le_add_left (wm_st_wt C n) _
theorem wm_W_le (C : Nat → Nat) (n : Nat) : wm_W C n ≤ 8 + 5 * n := Nat.add_le_add (wm_vs8 C n) (wm_wt_le C n)
def wm_ok (c : Nat) : Prop := c < 80 ∨ (128 ≤ c ∧ c < 136)
def wm_VD (C : Nat → Nat) (n : Nat) : Prop := n ≤ 32 ∧ (∀ k, k < n → wm_ok (C k) ∧ (wm_op C k = 0 → C k < 80)) ∧ wm_na C n ≤ 8
def wm_WC (C : Nat → Nat) (n : Nat) : Prop := wm_VD C n ∧ 0 < n ∧ wm_op C n = 0
/-- first place from q on where f is at most l -/
def wm_fi (f : Nat → Nat) (l : Nat) : Nat → Nat → Nat
  | 0, q => q
  | m + 1, q => if f q ≤ l then q else wm_fi f l m (q + 1)
theorem wm_fi_spec {f : Nat → Nat} {l n : Nat} (hn : f n ≤ l) : ∀ m q, q + m = n → q ≤ wm_fi f l m q ∧ wm_fi f l m q ≤ n ∧ f (wm_fi f l m q) ≤ l ∧ ∀ j, q ≤ j → j < wm_fi f l m q → l < f j
  | 0, q, h => by
    have : q = n := by omega
    subst this
    exact ⟨Nat.le_refl _, Nat.le_refl _, hn, fun j h1 h2 => absurd h2 (by simp only [wm_fi]; omega)⟩
  | m + 1, q, h => by
    by_cases hq : f q ≤ l
    · simp only [wm_fi, if_pos hq]
      exact ⟨Nat.le_refl _, by omega, hq, fun j h1 h2 => by omega⟩
    · simp only [wm_fi, if_neg hq]
      obtain ⟨a, b, c, d⟩ := wm_fi_spec hn m (q + 1) (by omega)
      refine ⟨by omega, b, c, fun j h1 h2 => ?_⟩
      rcases Nat.lt_or_ge q j with z | z
      · exact d j z h2
      · have : j = q := by omega
        subst this; omega
/-- the place behind the subterm (or atom) begun at i -/
def wm_en (C : Nat → Nat) (n i : Nat) : Nat := wm_fi (wm_op C) (wm_op C i - 1) (n - (i + 1)) (i + 1)
theorem wm_en_spec {C : Nat → Nat} {n i : Nat} (h0 : wm_op C n = 0) (hi : i < n) : i < wm_en C n i ∧ wm_en C n i ≤ n ∧ wm_op C (wm_en C n i) = wm_op C i - 1 ∧ ∀ j, i < j → j < wm_en C n i → wm_op C i - 1 < wm_op C j := by
  obtain ⟨a, b, c, d⟩ := wm_fi_spec (f := wm_op C) (l := wm_op C i - 1) (n := n) (by omega) (n - (i + 1)) (i + 1) (by omega)
  change i + 1 ≤ wm_en C n i at a
  change wm_en C n i ≤ n at b
  change wm_op C (wm_en C n i) ≤ _ at c
  change ∀ j, i + 1 ≤ j → j < wm_en C n i → _ at d
  refine ⟨a, b, ?_, d⟩
  obtain ⟨q, hq⟩ : ∃ q, wm_en C n i = q + 1 := ⟨wm_en C n i - 1, by omega⟩
  rw [hq] at a c d ⊢
  rw [wm_op_s] at c ⊢
  rcases Nat.lt_or_ge i q with z | z
  · have := d q z (by omega)
    omega
  · have : i = q := by omega
    subst this; omega
theorem wm_en_uq {C : Nat → Nat} {n i q : Nat} (h0 : wm_op C n = 0) (hi : i < q) (hq : q ≤ n) (ho : wm_op C q ≤ wm_op C i - 1) (hm : ∀ j, i < j → j < q → wm_op C i - 1 < wm_op C j) : wm_en C n i = q := by
  obtain ⟨a, b, c, d⟩ := wm_en_spec (C := C) (n := n) (i := i) h0 (by omega)
  rcases Nat.lt_trichotomy (wm_en C n i) q with z | z | z
  · have := hm _ a z; omega
  · exact z
  · have := d q hi z; omega
/-- the place of argument k -/
def wm_ap (C : Nat → Nat) (n i : Nat) : Nat → Nat
  | 0 => i + 1
  | k + 1 => wm_en C n (wm_ap C n i k)
theorem wm_ap_spec {C : Nat → Nat} {n i : Nat} (h0 : wm_op C n = 0) (hi : i < n) : ∀ k, k ≤ wm_ar (C i) → i < wm_ap C n i k ∧ wm_ap C n i k ≤ n ∧ wm_op C (wm_ap C n i k) + k = (wm_op C i - 1) + wm_ar (C i) ∧ ∀ j, i < j → j < wm_ap C n i k → wm_op C (wm_ap C n i k) < wm_op C j
  | 0, _ => ⟨Nat.lt_succ_self _, hi, rfl, fun j h1 h2 => by simp only [wm_ap] at h2; omega⟩
  | k + 1, hk => by
    obtain ⟨a, b, c, d⟩ := wm_ap_spec h0 hi k (by omega)
    have hl : wm_ap C n i k < n := by
      rcases Nat.lt_or_ge (wm_ap C n i k) n with z | z
      · exact z
      · have : wm_ap C n i k = n := by omega
        rw [this, h0] at c; omega
    obtain ⟨a', b', c', d'⟩ := wm_en_spec h0 hl
    simp only [wm_ap]
    refine ⟨by omega, b', by omega, fun j h1 h2 => ?_⟩
    rcases Nat.lt_trichotomy j (wm_ap C n i k) with z | z | z
    · have := d j h1 z; omega
    · subst z; omega
    · have := d' j z h2; omega
theorem wm_ap_lt {C : Nat → Nat} {n i k : Nat} (h0 : wm_op C n = 0) (hi : i < n) (hk : k < wm_ar (C i)) : i < wm_ap C n i k ∧ wm_ap C n i k < n ∧ 0 < wm_op C (wm_ap C n i k) := by
  obtain ⟨a, b, c, d⟩ := wm_ap_spec h0 hi k (by omega)
  refine ⟨a, ?_, by omega⟩
  rcases Nat.lt_or_ge (wm_ap C n i k) n with z | z
  · exact z
  · have : wm_ap C n i k = n := by omega
    rw [this, h0] at c; omega
theorem wm_ap_en {C : Nat → Nat} {n i : Nat} (h0 : wm_op C n = 0) (hi : i < n) : wm_ap C n i (wm_ar (C i)) = wm_en C n i := by
  obtain ⟨a, b, c, d⟩ := wm_ap_spec h0 hi _ (Nat.le_refl _)
  refine (wm_en_uq h0 a b (by omega) (fun j h1 h2 => ?_)).symm
  have := d j h1 h2; omega
/-- the place of atom k -/
def wm_pl (C : Nat → Nat) (n : Nat) : Nat → Nat
  | 0 => 0
  | k + 1 => wm_en C n (wm_pl C n k)
theorem wm_pl_spec {C : Nat → Nat} {n : Nat} (h0 : wm_op C n = 0) : ∀ k, k ≤ wm_na C n → wm_pl C n k ≤ n ∧ wm_op C (wm_pl C n k) = 0 ∧ wm_na C (wm_pl C n k) = k
  | 0, _ => ⟨Nat.zero_le _, rfl, rfl⟩
  | k + 1, hk => by
    obtain ⟨a, b, c⟩ := wm_pl_spec h0 k (by omega)
    have hl : wm_pl C n k < n := by
      rcases Nat.lt_or_ge (wm_pl C n k) n with z | z
      · exact z
      · have e : wm_pl C n k = n := by omega
        rw [e] at c; omega
    obtain ⟨a', b', c', d'⟩ := wm_en_spec h0 hl
    simp only [wm_pl]
    refine ⟨b', by omega, ?_⟩
    unfold wm_na at c ⊢
    rw [wm_cn_c (P := wm_pa C) (a := wm_pl C n k + 1) a' (fun j h1 h2 => by rw [wm_pa_t]; have := d' j h1 h2; omega), wm_cn_t (wm_pa_t.mpr b), c]
theorem wm_pl_lt {C : Nat → Nat} {n k : Nat} (h0 : wm_op C n = 0) (hk : k < wm_na C n) : wm_pl C n k < n ∧ wm_op C (wm_pl C n k) = 0 := by
  obtain ⟨a, b, c⟩ := wm_pl_spec h0 k (by omega)
  refine ⟨?_, b⟩
  rcases Nat.lt_or_ge (wm_pl C n k) n with z | z
  · exact z
  · have e : wm_pl C n k = n := by omega
    rw [e] at c; omega
theorem wm_pl_uq {C : Nat → Nat} {n k : Nat} (h0 : wm_op C n = 0) (hk : k < n) (ho : wm_op C k = 0) : wm_na C k < wm_na C n ∧ wm_pl C n (wm_na C k) = k := by
  have hl : wm_na C k < wm_na C n := wm_cn_lt (wm_pa_t.mpr ho) hk
  obtain ⟨a, b, c⟩ := wm_pl_spec h0 (wm_na C k) (by omega)
  exact ⟨hl, wm_cn_inj (P := wm_pa C) (wm_pa_t.mpr b) (wm_pa_t.mpr ho) c⟩
theorem wm_na_pos {C : Nat → Nat} {n : Nat} (h : 0 < n) : 0 < wm_na C n := Nat.lt_of_le_of_lt (Nat.zero_le _) (wm_cn_lt (P := wm_pa C) (a := 0) (wm_pa_t.mpr rfl) h)
/-- local number as the class stores it, and the node of a place in a copy with base b -/
def wm_lo (C : Nat → Nat) (n k : Nat) : Int32 := if wm_op C k = 0 then -1 else if 128 ≤ C k then nI (wm_rk C n (C k - 128)) else if 0 < wm_ar (C k) then nI (wm_vs C n + wm_st C k) else -1
def wm_nd (C : Nat → Nat) (n b k : Nat) : Nat := if 128 ≤ C k then b + wm_rk C n (C k - 128) else if 0 < wm_ar (C k) then b + (wm_vs C n + wm_st C k) else C k
theorem wm_rk_lt {C : Nat → Nat} {n v : Nat} (hv : v < 8) (h : wm_oc C n v = true) : wm_rk C n v < wm_vs C n := wm_cn_lt h hv
theorem wm_rk_inj {C : Nat → Nat} {n v w : Nat} (h : wm_oc C n v = true) (h' : wm_oc C n w = true) (e : wm_rk C n v = wm_rk C n w) : v = w := wm_cn_inj h h' e
theorem wm_nd_v {C : Nat → Nat} {n b k : Nat} (h : 128 ≤ C k) : wm_nd C n b k = b + wm_rk C n (C k - 128) := if_pos h
theorem wm_nd_s {C : Nat → Nat} {n b k : Nat} (h : 0 < wm_ar (C k)) : wm_nd C n b k = b + (wm_vs C n + wm_st C k) := by
  have : ¬ 128 ≤ C k := fun z => by rw [wm_ar_v (by omega)] at h; omega
  unfold wm_nd; rw [if_neg this, if_pos h]
theorem wm_nd_c {C : Nat → Nat} {n b k : Nat} (h : C k < 16) : wm_nd C n b k = C k := by
  have h2 : ¬ 0 < wm_ar (C k) := by rw [wm_ar_c (by omega)]; omega
  unfold wm_nd; rw [if_neg (by omega), if_neg h2]
/-- a place of an argument is a variable, a structure or a constant -/
theorem wm_cases {C : Nat → Nat} {n k : Nat} (h : wm_VD C n) (hk : k < n) : (128 ≤ C k ∧ C k < 136 ∧ wm_ar (C k) = 0) ∨ (16 ≤ C k ∧ C k < 80 ∧ 0 < wm_ar (C k)) ∨ (C k < 16 ∧ wm_ar (C k) = 0) := by
  rcases (h.2.1 k hk).1 with z | z
  · rw [wm_ar_c z]
    rcases Nat.lt_or_ge (C k) 16 with y | y
    · exact Or.inr (Or.inr ⟨y, by omega⟩)
    · exact Or.inr (Or.inl ⟨y, z, by omega⟩)
  · exact Or.inl ⟨z.1, z.2, wm_ar_v (by omega)⟩
theorem wm_nd_rng {C : Nat → Nat} {n b k : Nat} (h : wm_VD C n) (hk : k < n) (ho : 0 < wm_op C k) : (wm_nd C n b k = C k ∧ C k < 16) ∨ (b ≤ wm_nd C n b k ∧ wm_nd C n b k < b + wm_N C n) := by
  rcases wm_cases h hk with z | z | z
  · right
    rw [wm_nd_v z.1]
    have e : 128 + (C k - 128) = C k := by omega
    have := wm_rk_lt (C := C) (n := n) (v := C k - 128) (by omega) (wm_oc_iff.mpr ⟨k, hk, by omega⟩)
    unfold wm_N; omega
  · right
    rw [wm_nd_s z.2.2]
    have := wm_cn_lt (P := wm_ps C) (wm_ps_t.mpr ⟨ho, z.2.2⟩) hk
    unfold wm_N wm_st; omega
  · left
    exact ⟨wm_nd_c z.1, z.1⟩
end
section
/-! pure: unification over a graph of nodes (F functor codes, 80 and above: variable; G arguments), T nodes, equations Q -/
def wm_Eqv (S : Nat → Nat → Prop) : Prop := (∀ a, S a a) ∧ (∀ a b, S a b → S b a) ∧ (∀ a b c, S a b → S b c → S a c)
def wm_Cl (T : Nat) (F : Nat → Nat) (G : Nat → Nat → Nat) (Q S : Nat → Nat → Prop) : Prop := wm_Eqv S ∧ (∀ a b, Q a b → S a b) ∧ (∀ a b, a < T → b < T → S a b → F a = F b → ∀ k, k < wm_ar (F a) → S (G a k) (G b k))
def wm_Ro (T : Nat) (F : Nat → Nat) (ρ : Nat → Nat) : Prop := ∀ a, a < T → ρ a < T ∧ ρ (ρ a) = ρ a ∧ (F a < 80 → F (ρ a) = F a)
def wm_Sv (T : Nat) (F : Nat → Nat) (G : Nat → Nat → Nat) (Q : Nat → Nat → Prop) (ρ : Nat → Nat) : Prop :=
  wm_Ro T F ρ ∧ (∀ a b, Q a b → ρ a = ρ b) ∧ (∀ a, a < T → ∀ k, k < wm_ar (F a) → ρ (G a k) = ρ (G (ρ a) k)) ∧ (∀ S, wm_Cl T F G Q S → ∀ a, a < T → S a (ρ a))
def wm_In (T : Nat) (F : Nat → Nat) (G : Nat → Nat → Nat) (Q : Nat → Nat → Prop) (ρ : Nat → Nat) (P : Nat → Nat → Prop) : Prop :=
  wm_Ro T F ρ ∧ (∀ x y, P x y → x < T ∧ y < T) ∧ (∀ S, wm_Cl T F G Q S → (∀ a, a < T → S a (ρ a)) ∧ ∀ x y, P x y → S x y) ∧
  (∀ S, wm_Eqv S → (∀ a, a < T → S a (ρ a)) → (∀ x y, P x y → S x y) → (∀ a b, Q a b → S a b) ∧ (∀ a, a < T → ∀ k, k < wm_ar (F a) → S (G a k) (G (ρ a) k)))
theorem wm_ker (ρ : Nat → Nat) : wm_Eqv (fun a b => ρ a = ρ b) := ⟨fun _ => rfl, fun _ _ h => h.symm, fun _ _ _ h h' => h.trans h'⟩
theorem wm_ar80 {c k : Nat} (h : k < wm_ar c) : c < 80 := by
  rcases Nat.lt_or_ge c 80 with z | z
  · exact z
  · rw [wm_ar_v (by omega)] at h; omega
section
variable {T : Nat} {F : Nat → Nat} {G : Nat → Nat → Nat} {Q P : Nat → Nat → Prop} {ρ ρ' : Nat → Nat}
theorem wm_Sv_cl (h : wm_Sv T F G Q ρ) : wm_Cl T F G Q (fun a b => ρ a = ρ b) := by
  refine ⟨wm_ker ρ, h.2.1, fun a b ha hb e ef k hk => ?_⟩
  show ρ (G a k) = ρ (G b k)
  rw [h.2.2.1 a ha k hk, h.2.2.1 b hb k (by rw [← ef]; exact hk), e]
theorem wm_In_sv (h : wm_In T F G Q ρ P) (hP : ∀ x y, ¬ P x y) : wm_Sv T F G Q ρ := by
  obtain ⟨h1, h2, h3, h4⟩ := h
  obtain ⟨a, b⟩ := h4 (fun a b => ρ a = ρ b) (wm_ker ρ) (fun a ha => (h1 a ha).2.1.symm) (fun x y z => absurd z (hP x y))
  exact ⟨h1, a, b, fun S hS => (h3 S hS).1⟩
/-- a pair whose classes are one already -/
theorem wm_In_skip {P' : Nat → Nat → Prop} {x y : Nat} (h : wm_In T F G Q ρ P) (hx : P x y) (e : ρ x = ρ y)
    (h1 : ∀ u v, P u v → (u = x ∧ v = y) ∨ P' u v) (h2 : ∀ u v, P' u v → P u v) : wm_In T F G Q ρ P' := by
  obtain ⟨a1, a2, a3, a4⟩ := h
  refine ⟨a1, fun u v z => a2 u v (h2 u v z), fun S hS => ⟨(a3 S hS).1, fun u v z => (a3 S hS).2 u v (h2 u v z)⟩, fun S hS hρ hP => a4 S hS hρ (fun u v z => ?_)⟩
  rcases h1 u v z with ⟨rfl, rfl⟩ | w
  · have sx := hρ u (a2 u v hx).1
    have sy := hρ v (a2 u v hx).2
    rw [e] at sx
    exact hS.2.2 _ _ _ sx (hS.2.1 _ _ sy)
  · exact hP u v w
/-- the class of a goes under b -/
theorem wm_In_union {P' : Nat → Nat → Prop} {x y a b u0 v0 : Nat} (h : wm_In T F G Q ρ P) (hG : ∀ a, a < T → ∀ k, k < wm_ar (F a) → G a k < T)
    (hx : P u0 v0) (hxy : (u0 = x ∧ v0 = y) ∨ (u0 = y ∧ v0 = x)) (ea : ρ x = a) (eb : ρ y = b) (hF : ¬ F a < 80 ∨ F a = F b)
    (h1 : ∀ u v, P u v → (u = u0 ∧ v = v0) ∨ P' u v) (h2 : ∀ u v, P' u v → P u v ∨ ∃ k, k < wm_ar (F a) ∧ u = G a k ∧ v = G b k)
    (h3 : ∀ k, k < wm_ar (F a) → P' (G a k) (G b k)) : wm_In T F G Q (fun n => if ρ n = a then b else ρ n) P' := by
  obtain ⟨a1, a2, a3, a4⟩ := h
  have hxT : x < T ∧ y < T := by
    have := a2 u0 v0 hx
    rcases hxy with ⟨rfl, rfl⟩ | ⟨rfl, rfl⟩ <;> omega
  have haT : a < T := ea ▸ (a1 x hxT.1).1
  have hbT : b < T := eb ▸ (a1 y hxT.2).1
  have haa : ρ a = a := by rw [← ea]; exact (a1 x hxT.1).2.1
  have hbb : ρ b = b := by rw [← eb]; exact (a1 y hxT.2).2.1
  have hFF : ∀ k, k < wm_ar (F a) → F a = F b := fun k hk => hF.resolve_left (fun z => z (wm_ar80 hk))
  refine ⟨fun n hn => ?_, fun u v z => ?_, fun S hS => ?_, fun S hS hρ hP => ?_⟩
  · obtain ⟨r1, r2, r3⟩ := a1 n hn
    show (if ρ n = a then b else ρ n) < T ∧ (if ρ (if ρ n = a then b else ρ n) = a then b else ρ (if ρ n = a then b else ρ n)) = (if ρ n = a then b else ρ n) ∧ (F n < 80 → F (if ρ n = a then b else ρ n) = F n)
    by_cases c : ρ n = a
    · rw [if_pos c, hbb]
      refine ⟨hbT, by split <;> rfl, fun z => ?_⟩
      have := r3 z
      rw [c] at this
      have w : F a < 80 := by omega
      exact (hF.resolve_left (fun q => q w)) ▸ this
    · rw [if_neg c, r2, if_neg c]
      exact ⟨r1, rfl, r3⟩
  · rcases h2 u v z with w | ⟨k, hk, rfl, rfl⟩
    · exact a2 u v w
    · exact ⟨hG a haT k hk, hG b hbT k (by rw [← hFF k hk]; exact hk)⟩
  · obtain ⟨s1, s2⟩ := a3 S hS
    have E := hS.1
    have sxy : S x y := by
      rcases hxy with ⟨rfl, rfl⟩ | ⟨rfl, rfl⟩
      · exact s2 _ _ hx
      · exact E.2.1 _ _ (s2 _ _ hx)
    have sab : S a b := by
      have p := s1 x hxT.1
      have q := s1 y hxT.2
      rw [ea] at p; rw [eb] at q
      exact E.2.2 _ _ _ (E.2.1 _ _ p) (E.2.2 _ _ _ sxy q)
    refine ⟨fun n hn => ?_, fun u v z => ?_⟩
    · show S n (if ρ n = a then b else ρ n)
      have p := s1 n hn
      by_cases c : ρ n = a
      · rw [if_pos c]; rw [c] at p; exact E.2.2 _ _ _ p sab
      · rw [if_neg c]; exact p
    · rcases h2 u v z with w | ⟨k, hk, rfl, rfl⟩
      · exact s2 u v w
      · exact hS.2.2 a b haT hbT sab (hFF k hk) k hk
  · have sab : S a b := by
      have z : S a (if ρ a = a then b else ρ a) := hρ a haT
      rw [haa, if_pos rfl] at z
      exact z
    have s1 : ∀ n, n < T → S n (ρ n) := fun n hn => by
      have p : S n (if ρ n = a then b else ρ n) := hρ n hn
      by_cases c : ρ n = a
      · rw [if_pos c] at p; rw [c]; exact hS.2.2 _ _ _ p (hS.2.1 _ _ sab)
      · rw [if_neg c] at p; exact p
    have sxy : S u0 v0 := by
      have p := s1 x hxT.1
      have q := s1 y hxT.2
      rw [ea] at p; rw [eb] at q
      have : S x y := hS.2.2 _ _ _ p (hS.2.2 _ _ _ sab (hS.2.1 _ _ q))
      rcases hxy with ⟨rfl, rfl⟩ | ⟨rfl, rfl⟩
      · exact this
      · exact hS.2.1 _ _ this
    obtain ⟨q1, q2⟩ := a4 S hS s1 (fun u v z => by
      rcases h1 u v z with ⟨rfl, rfl⟩ | w
      · exact sxy
      · exact hP u v w)
    refine ⟨q1, fun n hn k hk => ?_⟩
    have p := q2 n hn k hk
    show S (G n k) (G (if ρ n = a then b else ρ n) k)
    by_cases c : ρ n = a
    · rw [if_pos c]
      rw [c] at p
      have e := (a1 n hn).2.2 (wm_ar80 hk)
      rw [c] at e
      exact hS.2.2 _ _ _ p (hP _ _ (h3 k (by rw [e]; exact hk)))
    · rw [if_neg c]; exact p
/-- two solutions have one kernel -/
theorem wm_uq (h : wm_Sv T F G Q ρ) (h' : wm_Sv T F G Q ρ') {a b : Nat} (ha : a < T) (hb : b < T) (e : ρ a = ρ b) : ρ' a = ρ' b := by
  have p := h.2.2.2 _ (wm_Sv_cl h') a ha
  have q := h.2.2.2 _ (wm_Sv_cl h') b hb
  have p' : ρ' a = ρ' (ρ a) := p
  have q' : ρ' b = ρ' (ρ b) := q
  rw [p', q', e]
theorem wm_uq1 (h : wm_Sv T F G Q ρ) (h' : wm_Sv T F G Q ρ') {a : Nat} (ha : a < T) : ρ' (ρ a) = ρ' a := (h.2.2.2 _ (wm_Sv_cl h') a ha).symm
theorem wm_fn (h : wm_Sv T F G Q ρ) (h' : wm_Sv T F G Q ρ') {a : Nat} (ha : a < T) (hf : F (ρ a) < 80) : F (ρ' a) = F (ρ a) := by
  have p := (h'.1 (ρ a) (h.1 a ha).1).2.2 hf
  rw [wm_uq1 h h' ha] at p
  exact p
def wm_Rk (T : Nat) (F : Nat → Nat) (G : Nat → Nat → Nat) (ρ rk : Nat → Nat) : Prop := (∀ a, a < T → rk (ρ a) = rk a) ∧ (∀ a, a < T → ∀ k, k < wm_ar (F a) → rk (G a k) < rk a)
def wm_Gd (T : Nat) (F : Nat → Nat) (G : Nat → Nat → Nat) (Q : Nat → Nat → Prop) : Prop := ∃ ρ rk, wm_Sv T F G Q ρ ∧ wm_Rk T F G ρ rk
theorem wm_gd_rk (h : wm_Gd T F G Q) (hs : wm_Sv T F G Q ρ) : ∃ rk, wm_Rk T F G ρ rk := by
  obtain ⟨ρ', rk, h1, h2, h3⟩ := h
  refine ⟨rk, fun a ha => ?_, h3⟩
  rw [← h2 (ρ a) (hs.1 a ha).1, wm_uq1 hs h1 ha, h2 a ha]
theorem wm_clash (h : wm_In T F G Q ρ P) {x y : Nat} (hx : P x y) (h1 : F (ρ x) < 80) (h2 : F (ρ y) < 80) (hne : F (ρ x) ≠ F (ρ y)) : ¬ wm_Gd T F G Q := by
  rintro ⟨ρ', rk, hs, -⟩
  obtain ⟨s1, s2⟩ := h.2.2.1 _ (wm_Sv_cl hs)
  have hT := h.2.1 x y hx
  have e : ρ' x = ρ' y := s2 x y hx
  have ex : ρ' x = ρ' (ρ x) := s1 x hT.1
  have ey : ρ' y = ρ' (ρ y) := s1 y hT.2
  have p := (hs.1 (ρ x) (h.1 x hT.1).1).2.2 h1
  have q := (hs.1 (ρ y) (h.1 y hT.2).1).2.2 h2
  rw [← ex, e, ey] at p
  rw [p] at q
  exact hne q
/-- the start of the reference: nothing is merged yet -/
theorem wm_In_0 (hQ : ∀ a b, Q a b → a < T ∧ b < T) : wm_In T F G Q (fun n => n) Q :=
  ⟨fun a ha => ⟨ha, rfl, fun _ => rfl⟩, hQ, fun S hS => ⟨fun a _ => hS.1.1 a, hS.2.1⟩, fun S hS _ hP => ⟨hP, fun a _ k _ => hS.1 _⟩⟩
/-- the start of the class: the old equations are solved, the new ones pending -/
theorem wm_In_1 {Q0 Qn : Nat → Nat → Prop} (h : wm_Sv T F G Q0 ρ) (hQ : ∀ a b, Q a b ↔ (Q0 a b ∨ Qn a b)) (hn : ∀ a b, Qn a b → a < T ∧ b < T) (h0 : ∀ a b, Q0 a b → a < T ∧ b < T) (hG : ∀ a, a < T → ∀ k, k < wm_ar (F a) → G a k < T) : wm_In T F G Q ρ Qn := by
  refine ⟨h.1, hn, fun S hS => ⟨?_, fun x y z => hS.2.1 x y ((hQ x y).mpr (Or.inr z))⟩, fun S hS hρ hP => ⟨fun a b z => ?_, fun a ha k hk => ?_⟩⟩
  · exact h.2.2.2 S ⟨hS.1, fun a b z => hS.2.1 a b ((hQ a b).mpr (Or.inl z)), hS.2.2⟩
  · rcases (hQ a b).mp z with w | w
    · have sa := hρ a (h0 a b w).1
      have sb := hρ b (h0 a b w).2
      rw [h.2.1 a b w] at sa
      exact hS.2.2 _ _ _ sa (hS.2.1 _ _ sb)
    · exact hP a b w
  · have e := (h.1 a ha).2.2 (wm_ar80 hk)
    have sa := hρ (G a k) (hG a ha k hk)
    have sb := hρ (G (ρ a) k) (hG (ρ a) (h.1 a ha).1 k (by rw [e]; exact hk))
    rw [h.2.2.1 a ha k hk] at sa
    exact hS.2.2 _ _ _ sa (hS.2.1 _ _ sb)
/-- new nodes, not linked: the old solution goes on, and so does a rank -/
theorem wm_ext {T0 : Nat} {rk : Nat → Nat} (h : wm_Sv T0 F G Q ρ) (hr : wm_Rk T0 F G ρ rk) (hT : T0 ≤ T) (hQ : ∀ a b, Q a b → a < T0 ∧ b < T0)
    (hG : ∀ a, a < T0 → ∀ k, k < wm_ar (F a) → G a k < T0) (hi : ∀ n, T0 ≤ n → ρ n = n)
    (M : Nat) (pr : Nat → Nat) (hN : ∀ a, T0 ≤ a → a < T → ∀ k, k < wm_ar (F a) → (G a k < T0 ∧ rk (G a k) < M) ∨ (T0 ≤ G a k ∧ G a k < T ∧ pr (G a k) < pr a)) :
    wm_Sv T F G Q ρ ∧ wm_Rk T F G ρ (fun n => if n < T0 then rk n else M + pr n) := by
  refine ⟨⟨fun a ha => ?_, h.2.1, fun a ha k hk => ?_, fun S hS a ha => ?_⟩, fun a ha => ?_, fun a ha k hk => ?_⟩
  · rcases Nat.lt_or_ge a T0 with z | z
    · exact ⟨Nat.lt_of_lt_of_le (h.1 a z).1 hT, (h.1 a z).2⟩
    · rw [hi a z]; exact ⟨ha, hi a z, fun _ => rfl⟩
  · rcases Nat.lt_or_ge a T0 with z | z
    · exact h.2.2.1 a z k hk
    · rw [hi a z]
  · rcases Nat.lt_or_ge a T0 with z | z
    · exact h.2.2.2 S ⟨hS.1, hS.2.1, fun a b ha hb => hS.2.2 a b (by omega) (by omega)⟩ a z
    · rw [hi a z]; exact hS.1.1 a
  · show (if ρ a < T0 then rk (ρ a) else M + pr (ρ a)) = (if a < T0 then rk a else M + pr a)
    rcases Nat.lt_or_ge a T0 with z | z
    · rw [if_pos z, if_pos (h.1 a z).1]; exact hr.1 a z
    · rw [hi a z]
  · show (if G a k < T0 then rk (G a k) else M + pr (G a k)) < (if a < T0 then rk a else M + pr a)
    rcases Nat.lt_or_ge a T0 with z | z
    · rw [if_pos z, if_pos (hG a z k hk)]; exact hr.2 a z k hk
    · rw [if_neg (by omega : ¬ a < T0)]
      rcases hN a z ha k hk with ⟨p, q⟩ | ⟨p, q, r⟩
      · rw [if_pos p]; omega
      · rw [if_neg (by omega : ¬ G a k < T0)]; omega
/-- the rank behind a search from the goal's arguments that found no cycle -/
theorem wm_newrank {Q0 Qn : Nat → Nat → Prop} {ρ0 rk0 r2 : Nat → Nat} {K : Nat → Prop} {B : Nat} (h0 : wm_Sv T F G Q0 ρ0) (hr : wm_Rk T F G ρ0 rk0) (h : wm_Sv T F G Q ρ)
    (hQ : ∀ a b, Q a b ↔ (Q0 a b ∨ Qn a b)) (hK : ∀ a b, Qn a b → K (ρ a)) (hG : ∀ a, a < T → ∀ k, k < wm_ar (F a) → G a k < T)
    (hc : ∀ m, K m → ∀ k, k < wm_ar (F m) → K (ρ (G m k)) ∧ r2 (ρ (G m k)) < r2 m) (hB : ∀ m, K m → r2 m < B) : ∃ rk, wm_Rk T F G ρ rk := by
  have key : ∀ a, a < T → ρ0 a = ρ0 (ρ a) ∨ K (ρ a) := by
    have cl : wm_Cl T F G Q (fun a b => ρ a = ρ b ∧ (ρ0 a = ρ0 b ∨ K (ρ a))) := by
      refine ⟨⟨fun a => ⟨rfl, Or.inl rfl⟩, fun a b ⟨p, q⟩ => ⟨p.symm, ?_⟩, fun a b c ⟨p, q⟩ ⟨p', q'⟩ => ⟨p.trans p', ?_⟩⟩, fun a b z => ⟨h.2.1 a b z, ?_⟩, fun a b ha hb ⟨p, q⟩ ef k hk => ⟨?_, ?_⟩⟩
      · rcases q with q | q
        · exact Or.inl q.symm
        · rw [p] at q; exact Or.inr q
      · rcases q with q | q
        · rcases q' with q' | q'
          · exact Or.inl (q.trans q')
          · rw [← p] at q'; exact Or.inr q'
        · exact Or.inr q
      · rcases (hQ a b).mp z with w | w
        · exact Or.inl (h0.2.1 a b w)
        · exact Or.inr (hK a b w)
      · exact (wm_Sv_cl h).2.2 a b ha hb p ef k hk
      · rcases q with q | q
        · exact Or.inl ((wm_Sv_cl h0).2.2 a b ha hb q ef k hk)
        · right
          show K (ρ (G a k))
          have e := (h.1 a ha).2.2 (wm_ar80 hk)
          rw [h.2.2.1 a ha k hk]
          exact (hc _ q k (by rw [e]; exact hk)).1
    intro a ha
    have w := (h.2.2.2 _ cl a ha).2
    exact w
  have dec : ∀ a, K (ρ a) ∨ ¬ K (ρ a) := fun a => Classical.em _
  refine ⟨fun a => @ite Nat (K (ρ a)) (Classical.propDecidable _) (r2 (ρ a)) (B + rk0 a), fun a ha => ?_, fun a ha k hk => ?_⟩
  · show @ite Nat (K (ρ (ρ a))) (Classical.propDecidable _) (r2 (ρ (ρ a))) (B + rk0 (ρ a)) = @ite Nat (K (ρ a)) (Classical.propDecidable _) (r2 (ρ a)) (B + rk0 a)
    rw [(h.1 a ha).2.1]
    rcases dec a with z | z
    · rw [if_pos z, if_pos z]
    · rw [if_neg z, if_neg z]
      have e := (key a ha).resolve_right z
      have p := hr.1 a ha
      have q := hr.1 (ρ a) (h.1 a ha).1
      rw [← e, p] at q
      rw [q]
  · show @ite Nat (K (ρ (G a k))) (Classical.propDecidable _) (r2 (ρ (G a k))) (B + rk0 (G a k)) < @ite Nat (K (ρ a)) (Classical.propDecidable _) (r2 (ρ a)) (B + rk0 a)
    have e := (h.1 a ha).2.2 (wm_ar80 hk)
    rcases dec a with z | z
    · have w := hc _ z k (by rw [e]; exact hk)
      rw [← h.2.2.1 a ha k hk] at w
      rw [if_pos z, if_pos w.1]; exact w.2
    · rw [if_neg z]
      rcases dec (G a k) with y | y
      · rw [if_pos y]; have := hB _ y; omega
      · rw [if_neg y]; have := hr.2 a ha k hk; omega
theorem wm_Cl_congr {F' : Nat → Nat} {G' : Nat → Nat → Nat} {S : Nat → Nat → Prop} (hF : ∀ n, n < T → F' n = F n) (hG' : ∀ n, n < T → ∀ k, k < wm_ar (F n) → G' n k = G n k) (h : wm_Cl T F G Q S) : wm_Cl T F' G' Q S := by
  refine ⟨h.1, h.2.1, fun a b ha hb s e k hk => ?_⟩
  rw [hF a ha] at hk e
  rw [hF b hb] at e
  rw [hG' a ha k hk, hG' b hb k (by rw [← e]; exact hk)]
  exact h.2.2 a b ha hb s e k hk
theorem wm_Sv_congr {F' : Nat → Nat} {G' : Nat → Nat → Nat} (hF : ∀ n, n < T → F' n = F n) (hG' : ∀ n, n < T → ∀ k, k < wm_ar (F n) → G' n k = G n k) (h : wm_Sv T F G Q ρ) : wm_Sv T F' G' Q ρ := by
  refine ⟨fun a ha => ?_, h.2.1, fun a ha k hk => ?_, fun S hS => h.2.2.2 S (wm_Cl_congr (fun n hn => (hF n hn).symm) (fun n hn k hk => (hG' n hn k (by rw [← hF n hn]; exact hk)).symm) hS)⟩
  · rw [hF a ha, hF _ (h.1 a ha).1]; exact h.1 a ha
  · rw [hF a ha] at hk
    have e := (h.1 a ha).2.2 (wm_ar80 hk)
    rw [hG' a ha k hk, hG' _ (h.1 a ha).1 k (by rw [e]; exact hk)]
    exact h.2.2.1 a ha k hk
theorem wm_Rk_congr {F' : Nat → Nat} {G' : Nat → Nat → Nat} {rk : Nat → Nat} (hF : ∀ n, n < T → F' n = F n) (hG' : ∀ n, n < T → ∀ k, k < wm_ar (F n) → G' n k = G n k) (h : wm_Rk T F G ρ rk) : wm_Rk T F' G' ρ rk :=
  ⟨h.1, fun a ha k hk => by
    rw [hF a ha] at hk
    rw [hG' a ha k hk]; exact h.2 a ha k hk⟩
theorem wm_Sv_q {Q' : Nat → Nat → Prop} (hQ : ∀ a b, Q a b ↔ Q' a b) (h : wm_Sv T F G Q ρ) : wm_Sv T F G Q' ρ := by
  have : Q = Q' := funext fun a => funext fun b => propext (hQ a b)
  exact this ▸ h
end
end
section
/-! pure: forests of links, the trail -/
theorem wm_pig : ∀ (N k : Nat) (t : Nat → Nat), (∀ i, i < k → t i < N) → (∀ i j, i < k → j < k → t i = t j → i = j) → k ≤ N
  | 0, 0, _, _, _ => Nat.le_refl _
  | 0, k + 1, t, h, _ => absurd (h 0 (by omega)) (Nat.not_lt_zero _)
  | N + 1, 0, _, _, _ => Nat.zero_le _
  | N + 1, k + 1, t, h, inj => by
    have := wm_pig N k (fun i => if t i = N then t k else t i) (fun i hi => by
      show (if t i = N then t k else t i) < N
      by_cases c : t i = N
      · rw [if_pos c]
        have a := h k (by omega)
        rcases Nat.lt_or_ge (t k) N with z | z
        · exact z
        · have := inj i k (by omega) (by omega) (by omega)
          omega
      · rw [if_neg c]
        have := h i (by omega)
        omega) (fun i j hi hj e => by
      have e' : (if t i = N then t k else t i) = (if t j = N then t k else t j) := e
      by_cases c : t i = N
      · by_cases d : t j = N
        · exact inj i j (by omega) (by omega) (by omega)
        · rw [if_pos c, if_neg d] at e'
          have := inj k j (by omega) (by omega) e'
          omega
      · by_cases d : t j = N
        · rw [if_neg c, if_pos d] at e'
          have := inj i k (by omega) (by omega) e'
          omega
        · rw [if_neg c, if_neg d] at e'
          exact inj i j (by omega) (by omega) e')
    omega
theorem wm_nm1 {m : Nat} (h : m < 2 ^ 31) : ¬ nI m = -1 := fun e => by
  have := nI_pos' h
  rw [e] at this
  exact absurd this (by decide)
theorem wm_m1lt : (-1 : Int32) < 0 := by decide
def wm_UF (N : Nat) (L : Nat → Int32) (ρ δ : Nat → Nat) : Prop := ∀ n, n < N → (L n = -1 ∧ ρ n = n ∧ δ n = 0) ∨ (∃ m, m < N ∧ L n = nI m ∧ ρ n = ρ m ∧ δ n = δ m + 1)
theorem wm_UF_root {N : Nat} {L : Nat → Int32} {ρ δ : Nat → Nat} (h : wm_UF N L ρ δ) : ∀ d n, n < N → δ n = d → ρ n < N ∧ L (ρ n) = -1 ∧ ρ (ρ n) = ρ n ∧ δ (ρ n) = 0
  | 0, n, hn, hd => by
    rcases h n hn with ⟨a, b, c⟩ | ⟨m, hm, a, b, c⟩
    · rw [b]; exact ⟨hn, a, b, c⟩
    · omega
  | d + 1, n, hn, hd => by
    rcases h n hn with ⟨a, b, c⟩ | ⟨m, hm, a, b, c⟩
    · omega
    · rw [b]; exact wm_UF_root h d m hm (by omega)
theorem wm_UF_rt {N : Nat} {L : Nat → Int32} {ρ δ : Nat → Nat} (h : wm_UF N L ρ δ) {n : Nat} (hn : n < N) : ρ n < N ∧ L (ρ n) = -1 ∧ ρ (ρ n) = ρ n ∧ δ (ρ n) = 0 := wm_UF_root h _ n hn rfl
theorem wm_UF_m1 {N : Nat} {L : Nat → Int32} {ρ δ : Nat → Nat} (h : wm_UF N L ρ δ) (hN : N < 2 ^ 31) {n : Nat} (hn : n < N) (e : L n = -1) : ρ n = n := by
  rcases h n hn with ⟨a, b, c⟩ | ⟨m, hm, a, b, c⟩
  · exact b
  · rw [a] at e; exact absurd e (wm_nm1 (by omega))
theorem wm_UF_congr {N : Nat} {L L' : Nat → Int32} {ρ δ : Nat → Nat} (h : wm_UF N L ρ δ) (e : ∀ n, n < N → L' n = L n) : wm_UF N L' ρ δ := fun n hn => by
  rw [e n hn]; exact h n hn
theorem wm_UF_union {N : Nat} {L : Nat → Int32} {ρ δ : Nat → Nat} {a b : Nat} (h : wm_UF N L ρ δ) (hN : N < 2 ^ 31) (ha : a < N) (hb : b < N) (la : L a = -1) (lb : L b = -1) (hne : a ≠ b) :
    wm_UF N (upd L a (nI b)) (fun n => if ρ n = a then b else ρ n) (fun n => if ρ n = a then δ n + 1 else δ n) := by
  have ra := wm_UF_m1 h hN ha la
  have rb := wm_UF_m1 h hN hb lb
  intro n hn
  show (upd L a (nI b) n = -1 ∧ (if ρ n = a then b else ρ n) = n ∧ (if ρ n = a then δ n + 1 else δ n) = 0) ∨ (∃ m, m < N ∧ upd L a (nI b) n = nI m ∧ (if ρ n = a then b else ρ n) = (if ρ m = a then b else ρ m) ∧ (if ρ n = a then δ n + 1 else δ n) = (if ρ m = a then δ m + 1 else δ m) + 1)
  by_cases c : n = a
  · right
    subst c
    have d0 : δ n = 0 := by
      rcases h n hn with ⟨x, y, z⟩ | ⟨m, hm, x, y, z⟩
      · exact z
      · rw [x] at la; exact absurd la (wm_nm1 (by omega))
    have d1 : δ b = 0 := by
      rcases h b hb with ⟨x, y, z⟩ | ⟨m, hm, x, y, z⟩
      · exact z
      · rw [x] at lb; exact absurd lb (wm_nm1 (by omega))
    refine ⟨b, hb, pk_us, ?_, ?_⟩
    · rw [if_pos ra, rb, if_neg (Ne.symm hne)]
    · rw [if_pos ra, rb, if_neg (Ne.symm hne), d0, d1]
  · rw [pk_un c]
    rcases h n hn with ⟨x, y, z⟩ | ⟨m, hm, x, y, z⟩
    · left
      rw [y, if_neg c, if_neg c]
      exact ⟨x, rfl, z⟩
    · right
      refine ⟨m, hm, x, by rw [y], ?_⟩
      rw [y]
      by_cases q : ρ m = a
      · rw [if_pos q, if_pos q, z]
      · rw [if_neg q, if_neg q, z]
/-- new roots behind the old nodes -/
theorem wm_UF_ext {N N' : Nat} {L L' : Nat → Int32} {ρ δ : Nat → Nat} (h : wm_UF N L ρ δ) (hN : N ≤ N') (e : ∀ n, n < N → L' n = L n) (e' : ∀ n, N ≤ n → n < N' → L' n = -1) (hi : ∀ n, N ≤ n → ρ n = n) (hd : ∀ n, N ≤ n → δ n = 0) : wm_UF N' L' ρ δ := fun n hn => by
  rcases Nat.lt_or_ge n N with z | z
  · rw [e n z]
    rcases h n z with x | ⟨m, hm, x⟩
    · exact Or.inl x
    · exact Or.inr ⟨m, by omega, x⟩
  · exact Or.inl ⟨e' n z hn, hi n z, hd n z⟩
/-- a solved state of the nodes below T -/
def wm_XS (T : Nat) (F : Nat → Nat) (G : Nat → Nat → Nat) (Q : Nat → Nat → Prop) (L : Nat → Int32) (B : Nat) : Prop :=
  ∃ ρ δ rk : Nat → Nat, wm_UF T L ρ δ ∧ (∀ n, δ n ≤ B) ∧ wm_Sv T F G Q ρ ∧ wm_Rk T F G ρ rk ∧ (∀ n, T ≤ n → ρ n = n) ∧ (∀ n, T ≤ n → δ n = 0)
theorem wm_XS_congr {T B : Nat} {F F' : Nat → Nat} {G G' : Nat → Nat → Nat} {Q : Nat → Nat → Prop} {L L' : Nat → Int32} (hF : ∀ n, n < T → F' n = F n) (hG : ∀ n, n < T → ∀ k, k < wm_ar (F n) → G' n k = G n k) (hL : ∀ n, n < T → L' n = L n) (h : wm_XS T F G Q L B) : wm_XS T F' G' Q L' B := by
  obtain ⟨ρ, δ, rk, h1, h2, h3, h4, h5, h6⟩ := h
  exact ⟨ρ, δ, rk, wm_UF_congr h1 hL, h2, wm_Sv_congr hF hG h3, wm_Rk_congr hF hG h4, h5, h6⟩
/-- L' is L with the trail's entries from lo to hi undone -/
def wm_Und (T : Nat) (L : Nat → Int32) (t : Nat → Nat) (lo hi : Nat) (L' : Nat → Int32) : Prop :=
  ∀ n, n < T → ((∃ i, lo ≤ i ∧ i < hi ∧ t i = n) → L' n = -1) ∧ ((∀ i, lo ≤ i → i < hi → t i ≠ n) → L' n = L n)
def wm_Tr (d : Nat) (TT ta : Nat → Nat) (F : Nat → Nat) (G : Nat → Nat → Nat) (Q : Nat → Nat → Nat → Prop) (L : Nat → Int32) (t : Nat → Nat) (tl : Nat) : Prop :=
  ∀ j, j ≤ d → ta j ≤ tl ∧ ∀ L', wm_Und (TT j) L t (ta j) tl L' → wm_XS (TT j) F G (Q j) L' (ta j)
def wm_TL (d : Nat) (TT ta : Nat → Nat) (L : Nat → Int32) (t : Nat → Nat) (tl : Nat) : Prop :=
  (∀ i, i < tl → 16 ≤ t i ∧ t i < 272 ∧ ¬ L (t i) = -1) ∧ (∀ i j, i < tl → j < tl → t i = t j → i = j) ∧ (∀ j, j ≤ d → ∀ i, i < ta j → t i < TT j)
theorem wm_TL_256 {d : Nat} {TT ta : Nat → Nat} {L : Nat → Int32} {t : Nat → Nat} {tl : Nat} (h : wm_TL d TT ta L t tl) : tl ≤ 256 :=
  wm_pig 256 tl (fun i => t i - 16) (fun i hi => by have := h.1 i hi; show t i - 16 < 256; omega) (fun i j hi hj e => h.2.1 i j hi hj (by
    have a := h.1 i hi
    have b := h.1 j hj
    have e' : t i - 16 = t j - 16 := e
    omega))
/-- further links on the trail, other nodes above: the elder depths keep what they have -/
theorem wm_Tr_ext {d : Nat} {TT ta : Nat → Nat} {F F' : Nat → Nat} {G G' : Nat → Nat → Nat} {Q : Nat → Nat → Nat → Prop} {L L' : Nat → Int32} {t t' : Nat → Nat} {tl tl' : Nat} (h : wm_Tr d TT ta F G Q L t tl)
    (hm : ∀ j, j ≤ d → TT j ≤ TT d) (hF : ∀ n, n < TT d → F' n = F n) (hG : ∀ n, n < TT d → ∀ k, k < wm_ar (F n) → G' n k = G n k)
    (htl : tl ≤ tl') (ht : ∀ i, i < tl → t' i = t i) (hL : ∀ n, n < TT d → (∀ i, tl ≤ i → i < tl' → t' i ≠ n) → L' n = L n) (hN : ∀ i, tl ≤ i → i < tl' → t' i < TT d → L (t' i) = -1) : wm_Tr d TT ta F' G' Q L' t' tl' := by
  intro j hj
  obtain ⟨h1, h2⟩ := h j hj
  refine ⟨by omega, fun L2 hu => ?_⟩
  have hmj := hm j hj
  refine wm_XS_congr (fun n hn => hF n (by omega)) (fun n hn => hG n (by omega)) (fun _ _ => rfl) (h2 L2 fun n hn => ⟨?_, fun z => ?_⟩)
  · rintro ⟨i, a, b, c⟩
    exact (hu n hn).1 ⟨i, a, by omega, by rw [ht i b]; exact c⟩
  · by_cases q : ∃ i, tl ≤ i ∧ i < tl' ∧ t' i = n
    · obtain ⟨i, a, b, c⟩ := q
      have e := hN i a b (by omega)
      rw [c] at e
      rw [(hu n hn).1 ⟨i, by omega, b, c⟩, e]
    · rw [(hu n hn).2 (fun i a b c => ?_), hL n (by omega) (fun i a b c => q ⟨i, a, b, c⟩)]
      rcases Nat.lt_or_ge i tl with y | y
      · exact z i a y (by rw [← ht i y]; exact c)
      · exact q ⟨i, y, b, c⟩
/-- back to depth j -/
theorem wm_Tr_und {d j : Nat} {TT ta : Nat → Nat} {F : Nat → Nat} {G : Nat → Nat → Nat} {Q : Nat → Nat → Nat → Prop} {L L' : Nat → Int32} {t : Nat → Nat} {tl : Nat} (h : wm_Tr d TT ta F G Q L t tl)
    (hj : j ≤ d) (hm : ∀ i, i ≤ j → TT i ≤ TT j) (ha : ∀ i, i ≤ j → ta i ≤ ta j) (hu : wm_Und (TT j) L t (ta j) tl L') : wm_Tr j TT ta F G Q L' t (ta j) := by
  intro i hi
  obtain ⟨h1, h2⟩ := h i (by omega)
  refine ⟨ha i hi, fun L2 hv => h2 L2 fun n hn => ⟨?_, fun z => ?_⟩⟩
  · rintro ⟨p, a, b, c⟩
    have := hm i hi
    by_cases q : ∃ p, ta i ≤ p ∧ p < ta j ∧ t p = n
    · exact (hv n hn).1 q
    · rw [(hv n hn).2 (fun p a b c => q ⟨p, a, b, c⟩)]
      exact (hu n (by omega)).1 ⟨p, by
        rcases Nat.lt_or_ge p (ta j) with y | y
        · exact absurd ⟨p, a, y, c⟩ q
        · exact y, b, c⟩
  · have := hm i hi
    have := ha i hi
    have := (h j hj).1
    rw [(hv n hn).2 (fun p a b => z p a (by omega)), (hu n (by omega)).2 (fun p a b => z p (by omega) b)]
theorem wm_TL_und {d j : Nat} {TT ta : Nat → Nat} {L L' : Nat → Int32} {t : Nat → Nat} {tl : Nat} (h : wm_TL d TT ta L t tl) (hj : j ≤ d) (htl : ta j ≤ tl) (hu : wm_Und (TT j) L t (ta j) tl L') : wm_TL j TT ta L' t (ta j) := by
  refine ⟨fun i hi => ?_, fun i k hi hk => h.2.1 i k (by omega) (by omega), fun k hk => h.2.2 k (by omega)⟩
  obtain ⟨a, b, c⟩ := h.1 i (by omega)
  refine ⟨a, b, ?_⟩
  rw [(hu (t i) (h.2.2 j hj i hi)).2 (fun p y z e => ?_)]
  · exact c
  · have := h.2.1 p i z (by omega) e
    omega
end
section
/-! tools: branches with a known way, reads and writes by natural places -/
theorem wm_leT {x y : Int32} {A B : Prop} (a b : Nat) (h : a ≤ b) (p : A) (hx : x = nI a := by rfl) (hy : y = nI b := by rfl) (hb : b < 2 ^ 31 := by omega) : (x ≤ y → A) ∧ (¬ x ≤ y → B) := by
  subst hx hy; exact br_t (nI_le h hb) p
theorem wm_leF {x y : Int32} {A B : Prop} (a b : Nat) (h : b < a) (p : B) (hx : x = nI a := by rfl) (hy : y = nI b := by rfl) (ha : a < 2 ^ 31 := by omega) : (x ≤ y → A) ∧ (¬ x ≤ y → B) := by
  subst hx hy; exact br_f (nI_ge h ha) p
theorem wm_ltT {x y : Int32} {A B : Prop} (a b : Nat) (h : a < b) (p : A) (hx : x = nI a := by rfl) (hy : y = nI b := by rfl) (hb : b < 2 ^ 31 := by omega) : (x < y → A) ∧ (¬ x < y → B) := by
  subst hx hy; exact br_t (nI_lt h hb) p
theorem wm_ltF {x y : Int32} {A B : Prop} (a b : Nat) (h : b ≤ a) (p : B) (hx : x = nI a := by rfl) (hy : y = nI b := by rfl) (ha : a < 2 ^ 31 := by omega) : (x < y → A) ∧ (¬ x < y → B) := by
  subst hx hy; exact br_f (nI_nlt h ha) p
theorem wm_eqT {x y : Int32} {A B : Prop} (a b : Nat) (h : a = b) (p : A) (hx : x = nI a := by rfl) (hy : y = nI b := by rfl) : (x = y → A) ∧ (¬ x = y → B) := by
  subst hx hy h; exact br_t rfl p
theorem wm_eqF {x y : Int32} {A B : Prop} (a b : Nat) (h : a ≠ b) (p : B) (hx : x = nI a := by rfl) (hy : y = nI b := by rfl) (ha : a < 2 ^ 31 := by omega) (hb : b < 2 ^ 31 := by omega) : (x = y → A) ∧ (¬ x = y → B) := by
  subst hx hy; exact br_f (fun e => h ((nI_eq ha hb).mp e)) p
theorem wm_rx {a : Nat → Int32} {x v : Int32} {n : Nat} (e : a n = v) (hx : x = nI n := by rfl) (h : n < 2 ^ 31 := by omega) : a x.toNatClampNeg = v := by
  subst hx; rw [nI_clamp h]; exact e
theorem wm_ux {a : Nat → Int32} {x v v' : Int32} {n : Nat} (hv : v = v') (hx : x = nI n := by rfl) (h : n < 2 ^ 31 := by omega) : upd a x.toNatClampNeg v = upd a n v' := by
  subst hx hv; rw [nI_clamp h]
theorem wm_m1s {s : Nat} (h : s < 2 ^ 30) : nI s + (-1) < nI s := by
  cases s with
  | zero => decide
  | succ s => rw [pk_m1]; exact nI_lt (by omega) (by omega)
theorem wm_or (a b : Nat) : nI a ||| nI b = nI (a ||| b) := by
  apply Int32.toBitVec_inj.1
  show BitVec.ofNat 32 a ||| BitVec.ofNat 32 b = BitVec.ofNat 32 (a ||| b)
  apply BitVec.eq_of_getLsbD_eq
  intro i hi
  simp [hi]
theorem wm_sl : ∀ n, n < 32 → ((nI n &&& 31).toBitVec.smod 32).toNat = n := by decide +kernel
theorem wm_bit1 : ∀ v, v < 8 → (1 : Int32) <<< (nI v &&& 31) = nI (2 ^ v) := by decide +kernel
theorem wm_tb {M b : Nat} (hM : M < 256) (hb : b < 8) : (nI M >>> (nI b &&& 31)) &&& 1 = nI (if M.testBit b then 1 else 0) := by
  rw [pk_shrN (by omega) _ b (wm_sl b (by omega)), pk_andN (Nat.lt_of_le_of_lt (Nat.div_le_self _ _) (by omega)) 1 (by decide)]
  apply congrArg nI
  rw [Nat.testBit_eq_decide_div_mod_eq]
  have : M / 2 ^ b % 2 < 2 := Nat.mod_lt _ (by decide)
  by_cases h : M / 2 ^ b % 2 = 1
  · simp [h]
  · simp [h]; omega
/-- the functor as a node stores it -/
def wm_fI (c : Nat) : Int32 := if c < 80 then nI c else -1
theorem wm_fI_t {c : Nat} (h : c < 80) : wm_fI c = nI c := if_pos h
theorem wm_fI_v {c : Nat} (h : ¬ c < 80) : wm_fI c = -1 := if_neg h
/-- the mask of the variables -/
def wm_mk (C : Nat → Nat) : Nat → Nat
  | 0 => 0
  | k + 1 => if 128 ≤ C k then wm_mk C k ||| 2 ^ (C k - 128) else wm_mk C k
theorem wm_mk_lt {C : Nat → Nat} : ∀ {n : Nat}, (∀ k, k < n → wm_ok (C k)) → wm_mk C n < 2 ^ 8
  | 0, _ => Nat.two_pow_pos 8
  | n + 1, h => by
    have := wm_mk_lt (C := C) (n := n) (fun k hk => h k (by omega))
    simp only [wm_mk]
    split
    · refine Nat.or_lt_two_pow this (Nat.pow_lt_pow_right (by decide) ?_)
      have := h n (by omega)
      unfold wm_ok at this
      omega
    · exact this
theorem wm_mk_tb {C : Nat → Nat} {v : Nat} : ∀ {n : Nat}, (∀ k, k < n → wm_ok (C k)) → (wm_mk C n).testBit v = wm_oc C n v
  | 0, _ => by simp [wm_mk, wm_oc]
  | n + 1, h => by
    have ih := wm_mk_tb (C := C) (v := v) (n := n) (fun k hk => h k (by omega))
    simp only [wm_mk, wm_oc]
    by_cases c : 128 ≤ C n
    · rw [if_pos c, Nat.testBit_or, ih, Nat.testBit_two_pow]
      congr 1
      apply decide_eq_decide.mpr
      omega
    · rw [if_neg c, ih]
      have : ¬ C n = 128 + v := by omega
      simp [this]
end
section
/-! the class's compiler -/
section
variable {f_clauseCap f_heapCap f_frameCap f_choiceCap f_querySlot f_firstNode f_draftLen f_draftOpen f_draftAtoms f_programUsed f_clauses f_trailLen f_depth f_choiceCount f_status f_solutions f_steps f_complete f_pairTop f_writeTop f_answerLen f_goalLen : Int32} {a_draft a_code a_skip a_local a_slotStart a_slotLen a_slotAtoms a_slotVars a_slotNodes a_slotWeight a_slotKey a_atomPlace a_nodeFn a_nodeLink a_nodeArg a_trail a_frameSlot a_frameBase a_contFrame a_contAtom a_selFrame a_selAtom a_nodeTop a_trailAt a_heapAt a_pendingAt a_choiceDepth a_choiceNext a_pairLeft a_pairRight a_colour a_dfsNode a_dfsArg a_writing a_writeStack a_varNumber : Nat → Int32}
theorem wx_ar {post : Int32 → Prop} {x : Int32} (c : Nat) (hc : wm_ok c) (hx : x = nI c) (hp : post (nI (wm_ar c))) : wpX_arityOf post (f_clauseCap, f_heapCap, f_frameCap, f_choiceCap, f_querySlot, f_firstNode, f_draftLen, f_draftOpen, f_draftAtoms, f_programUsed, f_clauses, f_trailLen, f_depth, f_choiceCount, f_status, f_solutions, f_steps, f_complete, f_pairTop, f_writeTop, f_answerLen, f_goalLen, a_draft, a_code, a_skip, a_local, a_slotStart, a_slotLen, a_slotAtoms, a_slotVars, a_slotNodes, a_slotWeight, a_slotKey, a_atomPlace, a_nodeFn, a_nodeLink, a_nodeArg, a_trail, a_frameSlot, a_frameBase, a_contFrame, a_contAtom, a_selFrame, a_selAtom, a_nodeTop, a_trailAt, a_heapAt, a_pendingAt, a_choiceDepth, a_choiceNext, a_pairLeft, a_pairRight, a_colour, a_dfsNode, a_dfsArg, a_writing, a_writeStack, a_varNumber) x := by
  subst hx
  rcases hc with h | h
  · refine wm_ltF c 0 (by omega) (wm_leF 80 c h ?_)
    rw [pk_shrN (by omega) _ 4 (by decide)]
    rw [wm_ar_c h] at hp
    exact hp
  · refine wm_ltF c 0 (by omega) (wm_leT 80 c (by omega) ?_)
    rw [wm_ar_v (by omega)] at hp
    exact hp
theorem wx_arF {post : Int32 → Prop} {x : Int32} (c : Nat) (hx : x = wm_fI c) (hp : post (nI (wm_ar c))) : wpX_arityOf post (f_clauseCap, f_heapCap, f_frameCap, f_choiceCap, f_querySlot, f_firstNode, f_draftLen, f_draftOpen, f_draftAtoms, f_programUsed, f_clauses, f_trailLen, f_depth, f_choiceCount, f_status, f_solutions, f_steps, f_complete, f_pairTop, f_writeTop, f_answerLen, f_goalLen, a_draft, a_code, a_skip, a_local, a_slotStart, a_slotLen, a_slotAtoms, a_slotVars, a_slotNodes, a_slotWeight, a_slotKey, a_atomPlace, a_nodeFn, a_nodeLink, a_nodeArg, a_trail, a_frameSlot, a_frameBase, a_contFrame, a_contAtom, a_selFrame, a_selAtom, a_nodeTop, a_trailAt, a_heapAt, a_pendingAt, a_choiceDepth, a_choiceNext, a_pairLeft, a_pairRight, a_colour, a_dfsNode, a_dfsArg, a_writing, a_writeStack, a_varNumber) x := by
  by_cases h : c < 80
  · exact wx_ar c (Or.inl h) (hx.trans (wm_fI_t h)) hp
  · rw [wm_fI_v h] at hx
    subst hx
    rw [wm_ar_v h] at hp
    exact br_t wm_m1lt hp
/-- the hops over the arguments -/
theorem wx_findEnds_29 {post : SX → Prop} {J : Int32 → (Nat → Int32) → (Nat → Int32) → (Nat → Int32) → (Nat → Int32) → (Nat → Int32) → (Nat → Int32) → (Nat → Int32) → (Nat → Int32) → (Nat → Int32) → (Nat → Int32) → (Nat → Int32) → (Nat → Int32) → (Nat → Int32) → (Nat → Int32) → (Nat → Int32) → (Nat → Int32) → (Nat → Int32) → (Nat → Int32) → (Nat → Int32) → (Nat → Int32) → (Nat → Int32) → (Nat → Int32) → (Nat → Int32) → (Nat → Int32) → (Nat → Int32) → (Nat → Int32) → (Nat → Int32) → (Nat → Int32) → (Nat → Int32) → (Nat → Int32) → (Nat → Int32) → (Nat → Int32) → (Nat → Int32) → (Nat → Int32) → (Nat → Int32) → (Nat → Int32) →  Prop} {C : Nat → Nat} {n s i : Nat}
    (h0 : wm_op C n = 0) (hs : s + n ≤ 288) (hi : i < n) (hk : ∀ k, i < k → k < n → a_skip (s + k) = nI (s + wm_en C n k))
    (hJ : J (nI (s + i) + (-1)) a_draft a_code (upd a_skip (s + i) (nI (s + wm_en C n i))) a_local a_slotStart a_slotLen a_slotAtoms a_slotVars a_slotNodes a_slotWeight a_slotKey a_atomPlace a_nodeFn a_nodeLink a_nodeArg a_trail a_frameSlot a_frameBase a_contFrame a_contAtom a_selFrame a_selAtom a_nodeTop a_trailAt a_heapAt a_pendingAt a_choiceDepth a_choiceNext a_pairLeft a_pairRight a_colour a_dfsNode a_dfsArg a_writing a_writeStack a_varNumber) :
    ∀ m k : Nat, k ≤ wm_ar (C i) → wm_ar (C i) < m + k → wX_findEnds_29 post J (nI s) (nI (s + n)) (nI (s + i)) (nI (wm_ar (C i))) f_clauseCap f_heapCap f_frameCap f_choiceCap f_querySlot f_firstNode f_draftLen f_draftOpen f_draftAtoms f_programUsed f_clauses f_trailLen f_depth f_choiceCount f_status f_solutions f_steps f_complete f_pairTop f_writeTop f_answerLen f_goalLen a_draft a_code a_skip a_local a_slotStart a_slotLen a_slotAtoms a_slotVars a_slotNodes a_slotWeight a_slotKey a_atomPlace a_nodeFn a_nodeLink a_nodeArg a_trail a_frameSlot a_frameBase a_contFrame a_contAtom a_selFrame a_selAtom a_nodeTop a_trailAt a_heapAt a_pendingAt a_choiceDepth a_choiceNext a_pairLeft a_pairRight a_colour a_dfsNode a_dfsArg a_writing a_writeStack a_varNumber m (nI (s + wm_ap C n i k)) (nI k) := by
  intro m
  induction m with
  | zero => intro k h1 h2; omega
  | succ m ih =>
    intro k h1 h2
    have a4 := wm_ar4 (C i)
    by_cases c : k = wm_ar (C i)
    · refine wm_leT (wm_ar (C i)) k (by omega) (And.intro (pk_in (s + i) 288 (by omega)) (nm_r (wm_ux (n := s + i) ?_) (nm_e hJ)))
      rw [c, wm_ap_en h0 hi]
    · obtain ⟨p1, p2, p3⟩ := wm_ap_lt h0 hi (show k < wm_ar (C i) by omega)
      refine wm_leF (wm_ar (C i)) k (by omega) (wm_leF (s + n) (s + wm_ap C n i k) (by omega) (And.intro (pk_in (s + wm_ap C n i k) 288 (by omega)) (nm_r (wm_rx (n := s + wm_ap C n i k) (hk _ p1 p2)) (nm_r (nI_1 k) (ih (k + 1) (by omega) (by omega))))))
theorem wx_findEnds_4 {post : SX → Prop} {C : Nat → Nat} {n s : Nat} (hC : wm_WC C n) (hs : s + n ≤ 288) (hc : ∀ k, k < n → a_code (s + k) = nI (C k)) :
    ∀ (i m : Nat) (a_skip : Nat → Int32), i ≤ n → i < m → (∀ k, i ≤ k → k < n → a_skip (s + k) = nI (s + wm_en C n k)) →
    (∀ a_skip' : Nat → Int32, (∀ k, k < n → a_skip' (s + k) = nI (s + wm_en C n k)) → (∀ p, (p < s ∨ s + n ≤ p) → a_skip' p = a_skip p) → post (f_clauseCap, f_heapCap, f_frameCap, f_choiceCap, f_querySlot, f_firstNode, f_draftLen, f_draftOpen, f_draftAtoms, f_programUsed, f_clauses, f_trailLen, f_depth, f_choiceCount, f_status, f_solutions, f_steps, f_complete, f_pairTop, f_writeTop, f_answerLen, f_goalLen, a_draft, a_code, a_skip', a_local, a_slotStart, a_slotLen, a_slotAtoms, a_slotVars, a_slotNodes, a_slotWeight, a_slotKey, a_atomPlace, a_nodeFn, a_nodeLink, a_nodeArg, a_trail, a_frameSlot, a_frameBase, a_contFrame, a_contAtom, a_selFrame, a_selAtom, a_nodeTop, a_trailAt, a_heapAt, a_pendingAt, a_choiceDepth, a_choiceNext, a_pairLeft, a_pairRight, a_colour, a_dfsNode, a_dfsArg, a_writing, a_writeStack, a_varNumber)) →
    wX_findEnds_4 post (nI s) (nI (s + n)) f_clauseCap f_heapCap f_frameCap f_choiceCap f_querySlot f_firstNode f_draftLen f_draftOpen f_draftAtoms f_programUsed f_clauses f_trailLen f_depth f_choiceCount f_status f_solutions f_steps f_complete f_pairTop f_writeTop f_answerLen f_goalLen m (nI (s + i) + (-1)) a_draft a_code a_skip a_local a_slotStart a_slotLen a_slotAtoms a_slotVars a_slotNodes a_slotWeight a_slotKey a_atomPlace a_nodeFn a_nodeLink a_nodeArg a_trail a_frameSlot a_frameBase a_contFrame a_contAtom a_selFrame a_selAtom a_nodeTop a_trailAt a_heapAt a_pendingAt a_choiceDepth a_choiceNext a_pairLeft a_pairRight a_colour a_dfsNode a_dfsArg a_writing a_writeStack a_varNumber := by
  intro i
  induction i with
  | zero =>
    intro m a_skip hi hm hk hp
    obtain ⟨m, rfl⟩ : ∃ q, m = q + 1 := ⟨m - 1, by omega⟩
    exact br_t (wm_m1s (by omega)) (hp a_skip (fun k => hk k (by omega)) (fun _ _ => rfl))
  | succ i ih =>
    intro m a_skip hi hm hk hp
    obtain ⟨m, rfl⟩ : ∃ q, m = q + 1 := ⟨m - 1, by omega⟩
    rw [show s + (i + 1) = (s + i) + 1 from rfl, pk_m1]
    refine wm_ltF (s + i) s (by omega) (And.intro (pk_in (s + i) 288 (by omega)) (wx_ar (C i) (hC.1.2.1 i (by omega)).1 (wm_rx (n := s + i) (hc i (by omega))) (nm_r (nI_1 (s + i)) ⟨wm_ar (C i) + 1, ?_⟩)))
    refine wx_findEnds_29 (k := 0) hC.2.2 hs (by omega) (fun k h1 h2 => hk k (by omega) h2) ?_ _ (Nat.zero_le _) (by omega)
    refine ih m _ (by omega) (by omega) (fun k h1 h2 => ?_) (fun q h1 h2 => hp q h1 (fun p hp' => ?_))
    · by_cases c : k = i
      · subst c; exact pk_us
      · rw [pk_un (by omega)]; exact hk k (by omega) h2
    · rw [h2 p hp', pk_un (by omega)]
theorem wx_findEnds {post : SX → Prop} {C : Nat → Nat} {n s : Nat} (hC : wm_WC C n) (hs : s + n ≤ 288) (hc : ∀ k, k < n → a_code (s + k) = nI (C k))
    (hp : ∀ a_skip' : Nat → Int32, (∀ k, k < n → a_skip' (s + k) = nI (s + wm_en C n k)) → (∀ p, (p < s ∨ s + n ≤ p) → a_skip' p = a_skip p) → post (f_clauseCap, f_heapCap, f_frameCap, f_choiceCap, f_querySlot, f_firstNode, f_draftLen, f_draftOpen, f_draftAtoms, f_programUsed, f_clauses, f_trailLen, f_depth, f_choiceCount, f_status, f_solutions, f_steps, f_complete, f_pairTop, f_writeTop, f_answerLen, f_goalLen, a_draft, a_code, a_skip', a_local, a_slotStart, a_slotLen, a_slotAtoms, a_slotVars, a_slotNodes, a_slotWeight, a_slotKey, a_atomPlace, a_nodeFn, a_nodeLink, a_nodeArg, a_trail, a_frameSlot, a_frameBase, a_contFrame, a_contAtom, a_selFrame, a_selAtom, a_nodeTop, a_trailAt, a_heapAt, a_pendingAt, a_choiceDepth, a_choiceNext, a_pairLeft, a_pairRight, a_colour, a_dfsNode, a_dfsArg, a_writing, a_writeStack, a_varNumber)) :
    wpX_findEnds post (f_clauseCap, f_heapCap, f_frameCap, f_choiceCap, f_querySlot, f_firstNode, f_draftLen, f_draftOpen, f_draftAtoms, f_programUsed, f_clauses, f_trailLen, f_depth, f_choiceCount, f_status, f_solutions, f_steps, f_complete, f_pairTop, f_writeTop, f_answerLen, f_goalLen, a_draft, a_code, a_skip, a_local, a_slotStart, a_slotLen, a_slotAtoms, a_slotVars, a_slotNodes, a_slotWeight, a_slotKey, a_atomPlace, a_nodeFn, a_nodeLink, a_nodeArg, a_trail, a_frameSlot, a_frameBase, a_contFrame, a_contAtom, a_selFrame, a_selAtom, a_nodeTop, a_trailAt, a_heapAt, a_pendingAt, a_choiceDepth, a_choiceNext, a_pairLeft, a_pairRight, a_colour, a_dfsNode, a_dfsArg, a_writing, a_writeStack, a_varNumber) (nI s) (nI (s + n)) := by
  have hn := hC.2.1
  refine nm_r (e' := nI (s + n) + (-1)) ?_ ⟨n + 1, wx_findEnds_4 hC hs hc n (n + 1) a_skip (Nat.le_refl _) (by omega) (fun k h1 h2 => by omega) hp⟩
  obtain ⟨q, hq⟩ : ∃ q, s + n = q + 1 := ⟨s + n - 1, by omega⟩
  rw [hq, pk_m1, nI_pred]
theorem wx_listAtoms_19 {post : SX → Prop} {C : Nat → Nat} {n s sl : Nat} (hC : wm_WC C n) (hs : s + n ≤ 288) (hsl : sl < 33) (hsk : ∀ k, k < n → a_skip (s + k) = nI (s + wm_en C n k)) (hat : a_slotAtoms sl = nI (wm_na C n)) :
    ∀ (m k : Nat) (a_atomPlace : Nat → Int32), k ≤ wm_na C n → wm_na C n < m + k → (∀ j, j < k → a_atomPlace (8 * sl + j) = nI (s + wm_pl C n j)) →
    (∀ a' : Nat → Int32, (∀ j, j < wm_na C n → a' (8 * sl + j) = nI (s + wm_pl C n j)) → (∀ p, (p < 8 * sl ∨ 8 * sl + 8 ≤ p) → a' p = a_atomPlace p) → post (f_clauseCap, f_heapCap, f_frameCap, f_choiceCap, f_querySlot, f_firstNode, f_draftLen, f_draftOpen, f_draftAtoms, f_programUsed, f_clauses, f_trailLen, f_depth, f_choiceCount, f_status, f_solutions, f_steps, f_complete, f_pairTop, f_writeTop, f_answerLen, f_goalLen, a_draft, a_code, a_skip, a_local, a_slotStart, a_slotLen, a_slotAtoms, a_slotVars, a_slotNodes, a_slotWeight, a_slotKey, a', a_nodeFn, a_nodeLink, a_nodeArg, a_trail, a_frameSlot, a_frameBase, a_contFrame, a_contAtom, a_selFrame, a_selAtom, a_nodeTop, a_trailAt, a_heapAt, a_pendingAt, a_choiceDepth, a_choiceNext, a_pairLeft, a_pairRight, a_colour, a_dfsNode, a_dfsArg, a_writing, a_writeStack, a_varNumber)) →
    wX_listAtoms_19 post (nI sl) (nI (s + n)) f_clauseCap f_heapCap f_frameCap f_choiceCap f_querySlot f_firstNode f_draftLen f_draftOpen f_draftAtoms f_programUsed f_clauses f_trailLen f_depth f_choiceCount f_status f_solutions f_steps f_complete f_pairTop f_writeTop f_answerLen f_goalLen m (nI (s + wm_pl C n k)) (nI k) a_draft a_code a_skip a_local a_slotStart a_slotLen a_slotAtoms a_slotVars a_slotNodes a_slotWeight a_slotKey a_atomPlace a_nodeFn a_nodeLink a_nodeArg a_trail a_frameSlot a_frameBase a_contFrame a_contAtom a_selFrame a_selAtom a_nodeTop a_trailAt a_heapAt a_pendingAt a_choiceDepth a_choiceNext a_pairLeft a_pairRight a_colour a_dfsNode a_dfsArg a_writing a_writeStack a_varNumber := by
  have h8 := hC.1.2.2
  intro m
  induction m with
  | zero => intro k a h1 h2; omega
  | succ m ih =>
    intro k a_atomPlace h1 h2 ha hp
    refine And.intro (pk_in sl 33 hsl) ?_
    by_cases c : k = wm_na C n
    · exact wm_leT (wm_na C n) k (by omega) (hp _ (fun j hj => ha j (by omega)) (fun _ _ => rfl)) (wm_rx hat)
    · obtain ⟨q1, q2⟩ := wm_pl_lt hC.2.2 (show k < wm_na C n by omega)
      have ex : nI sl * 8 + nI k = nI (8 * sl + k) := by
        rw [show (8 : Int32) = nI 8 from rfl, pk_mul, nI_add, Nat.mul_comm]
      refine wm_leF (wm_na C n) k (by omega) (wm_leF (s + n) (s + wm_pl C n k) (by omega) (And.intro (pk_in (8 * sl + k) 264 (by omega) ex) (nm_r (wm_ux (n := 8 * sl + k) rfl ex) (And.intro (pk_in (s + wm_pl C n k) 288 (by omega)) (nm_r (wm_rx (n := s + wm_pl C n k) (hsk _ q1)) (nm_r (nI_1 k) ?_)))))) (wm_rx hat)
      refine ih (k + 1) _ (by omega) (by omega) (fun j hj => ?_) (fun a' x1 x2 => hp a' x1 (fun p hp' => ?_))
      · by_cases e : j = k
        · subst e; exact pk_us
        · rw [pk_un (by omega)]; exact ha j (by omega)
      · rw [x2 p hp', pk_un (by omega)]
theorem wx_listAtoms {post : SX → Prop} {C : Nat → Nat} {n s sl : Nat} (hC : wm_WC C n) (hs : s + n ≤ 288) (hsl : sl < 33) (hst : a_slotStart sl = nI s) (hln : a_slotLen sl = nI n) (hsk : ∀ k, k < n → a_skip (s + k) = nI (s + wm_en C n k)) (hat : a_slotAtoms sl = nI (wm_na C n))
    (hp : ∀ a' : Nat → Int32, (∀ j, j < wm_na C n → a' (8 * sl + j) = nI (s + wm_pl C n j)) → (∀ p, (p < 8 * sl ∨ 8 * sl + 8 ≤ p) → a' p = a_atomPlace p) → post (f_clauseCap, f_heapCap, f_frameCap, f_choiceCap, f_querySlot, f_firstNode, f_draftLen, f_draftOpen, f_draftAtoms, f_programUsed, f_clauses, f_trailLen, f_depth, f_choiceCount, f_status, f_solutions, f_steps, f_complete, f_pairTop, f_writeTop, f_answerLen, f_goalLen, a_draft, a_code, a_skip, a_local, a_slotStart, a_slotLen, a_slotAtoms, a_slotVars, a_slotNodes, a_slotWeight, a_slotKey, a', a_nodeFn, a_nodeLink, a_nodeArg, a_trail, a_frameSlot, a_frameBase, a_contFrame, a_contAtom, a_selFrame, a_selAtom, a_nodeTop, a_trailAt, a_heapAt, a_pendingAt, a_choiceDepth, a_choiceNext, a_pairLeft, a_pairRight, a_colour, a_dfsNode, a_dfsArg, a_writing, a_writeStack, a_varNumber)) :
    wpX_listAtoms post (f_clauseCap, f_heapCap, f_frameCap, f_choiceCap, f_querySlot, f_firstNode, f_draftLen, f_draftOpen, f_draftAtoms, f_programUsed, f_clauses, f_trailLen, f_depth, f_choiceCount, f_status, f_solutions, f_steps, f_complete, f_pairTop, f_writeTop, f_answerLen, f_goalLen, a_draft, a_code, a_skip, a_local, a_slotStart, a_slotLen, a_slotAtoms, a_slotVars, a_slotNodes, a_slotWeight, a_slotKey, a_atomPlace, a_nodeFn, a_nodeLink, a_nodeArg, a_trail, a_frameSlot, a_frameBase, a_contFrame, a_contAtom, a_selFrame, a_selAtom, a_nodeTop, a_trailAt, a_heapAt, a_pendingAt, a_choiceDepth, a_choiceNext, a_pairLeft, a_pairRight, a_colour, a_dfsNode, a_dfsArg, a_writing, a_writeStack, a_varNumber) (nI sl) := by
  have hn : wm_na C n ≤ 8 := hC.1.2.2
  refine And.intro (pk_in sl 33 hsl) (nm_r (wm_rx hst) (And.intro (pk_in sl 33 hsl) (nm_r (e' := nI (s + n)) ?_ ⟨wm_na C n + 1, ?_⟩)))
  · rw [wm_rx hln, nI_add]
  · exact wx_listAtoms_19 (k := 0) hC hs hsl hsk hat _ _ (Nat.zero_le _) (by omega) (fun j hj => by omega) hp
theorem wx_bits_5 {post : Int32 → Prop} {M l : Nat} (hM : M < 256) (hl : l ≤ 8) (hp : post (nI (wm_cn M.testBit l))) :
    ∀ m b : Nat, b ≤ l → l < m + b → wX_bitsBelow_5 post (nI M) (nI l) f_clauseCap f_heapCap f_frameCap f_choiceCap f_querySlot f_firstNode f_draftLen f_draftOpen f_draftAtoms f_programUsed f_clauses f_trailLen f_depth f_choiceCount f_status f_solutions f_steps f_complete f_pairTop f_writeTop f_answerLen f_goalLen a_draft a_code a_skip a_local a_slotStart a_slotLen a_slotAtoms a_slotVars a_slotNodes a_slotWeight a_slotKey a_atomPlace a_nodeFn a_nodeLink a_nodeArg a_trail a_frameSlot a_frameBase a_contFrame a_contAtom a_selFrame a_selAtom a_nodeTop a_trailAt a_heapAt a_pendingAt a_choiceDepth a_choiceNext a_pairLeft a_pairRight a_colour a_dfsNode a_dfsArg a_writing a_writeStack a_varNumber m (nI (wm_cn M.testBit b)) (nI b) := by
  intro m
  induction m with
  | zero => intro b h1 h2; omega
  | succ m ih =>
    intro b h1 h2
    by_cases c : b = l
    · subst c; exact wm_leT b b (Nat.le_refl _) hp
    · refine wm_leF l b (by omega) (nm_r (e' := nI (wm_cn M.testBit (b + 1))) ?_ (nm_r (nI_1 b) (ih (b + 1) (by omega) (by omega))))
      rw [wm_tb hM (by omega), nI_add]
      rfl
theorem wx_bits {post : Int32 → Prop} {M l : Nat} {x y : Int32} (hM : M < 256) (hl : l ≤ 8) (hx : x = nI M) (hy : y = nI l) (hp : post (nI (wm_cn M.testBit l))) : wpX_bitsBelow post (f_clauseCap, f_heapCap, f_frameCap, f_choiceCap, f_querySlot, f_firstNode, f_draftLen, f_draftOpen, f_draftAtoms, f_programUsed, f_clauses, f_trailLen, f_depth, f_choiceCount, f_status, f_solutions, f_steps, f_complete, f_pairTop, f_writeTop, f_answerLen, f_goalLen, a_draft, a_code, a_skip, a_local, a_slotStart, a_slotLen, a_slotAtoms, a_slotVars, a_slotNodes, a_slotWeight, a_slotKey, a_atomPlace, a_nodeFn, a_nodeLink, a_nodeArg, a_trail, a_frameSlot, a_frameBase, a_contFrame, a_contAtom, a_selFrame, a_selAtom, a_nodeTop, a_trailAt, a_heapAt, a_pendingAt, a_choiceDepth, a_choiceNext, a_pairLeft, a_pairRight, a_colour, a_dfsNode, a_dfsArg, a_writing, a_writeStack, a_varNumber) x y := by
  subst hx hy
  exact ⟨l + 1, wx_bits_5 (b := 0) hM hl hp (l + 1) (Nat.zero_le _) (by omega)⟩
end
end
section
/-! the class's compiler: local numbers, the whole of compile -/
/-- slot sl holds the code list C with n codes from place s on -/
def wm_key (C : Nat → Nat) : Int32 := if 0 < wm_ar (C 0) ∧ C 1 < 128 then nI (C 1) else -1
def wm_SX (C : Nat → Nat) (n sl s : Nat) (code skip loc start len atoms vars nodes weight key place : Nat → Int32) : Prop :=
  (start sl = nI s ∧ len sl = nI n ∧ atoms sl = nI (wm_na C n)) ∧ (vars sl = nI (wm_vs C n) ∧ nodes sl = nI (wm_N C n) ∧ weight sl = nI (wm_W C n) ∧ key sl = wm_key C) ∧
  (∀ j, j < wm_na C n → place (8 * sl + j) = nI (s + wm_pl C n j)) ∧ (∀ k, k < n → code (s + k) = nI (C k) ∧ skip (s + k) = nI (s + wm_en C n k) ∧ loc (s + k) = wm_lo C n k)
def wm_FR (n sl s : Nat) (code skip loc start len atoms vars nodes weight key place code' skip' loc' start' len' atoms' vars' nodes' weight' key' place' : Nat → Int32) : Prop :=
  (∀ p, (p < s ∨ s + n ≤ p) → code' p = code p ∧ skip' p = skip p ∧ loc' p = loc p) ∧
  (∀ q, q ≠ sl → (start' q = start q ∧ len' q = len q ∧ atoms' q = atoms q) ∧ vars' q = vars q ∧ nodes' q = nodes q ∧ weight' q = weight q ∧ key' q = key q) ∧
  (∀ p, (p < 8 * sl ∨ 8 * sl + 8 ≤ p) → place' p = place p)
theorem wm_SX_keep {C : Nat → Nat} {n sl s n' sl' s' : Nat} {code skip loc start len atoms vars nodes weight key place code' skip' loc' start' len' atoms' vars' nodes' weight' key' place' : Nat → Int32}
    (hC : wm_WC C n) (h : wm_SX C n sl s code skip loc start len atoms vars nodes weight key place) (hf : wm_FR n' sl' s' code skip loc start len atoms vars nodes weight key place code' skip' loc' start' len' atoms' vars' nodes' weight' key' place')
    (h1 : sl ≠ sl') (h2 : s + n ≤ s' ∨ s' + n' ≤ s) : wm_SX C n sl s code' skip' loc' start' len' atoms' vars' nodes' weight' key' place' := by
  obtain ⟨⟨a1, a2, a3⟩, ⟨b1, b2, b3, b4⟩, c, d⟩ := h
  obtain ⟨f1, f2, f3⟩ := hf
  obtain ⟨⟨e1, e2, e3⟩, e4, e5, e6, e7⟩ := f2 sl h1
  refine ⟨⟨e1 ▸ a1, e2 ▸ a2, e3 ▸ a3⟩, ⟨e4 ▸ b1, e5 ▸ b2, e6 ▸ b3, e7 ▸ b4⟩, fun j hj => ?_, fun k hk => ?_⟩
  · have : wm_na C n ≤ 8 := hC.1.2.2
    rw [f3 _ (by omega)]; exact c j hj
  · obtain ⟨x, y, z⟩ := f1 (s + k) (by omega)
    rw [x, y, z]; exact d k hk
section
variable {f_clauseCap f_heapCap f_frameCap f_choiceCap f_querySlot f_firstNode f_draftLen f_draftOpen f_draftAtoms f_programUsed f_clauses f_trailLen f_depth f_choiceCount f_status f_solutions f_steps f_complete f_pairTop f_writeTop f_answerLen f_goalLen : Int32} {a_draft a_code a_skip a_local a_slotStart a_slotLen a_slotAtoms a_slotVars a_slotNodes a_slotWeight a_slotKey a_atomPlace a_nodeFn a_nodeLink a_nodeArg a_trail a_frameSlot a_frameBase a_contFrame a_contAtom a_selFrame a_selAtom a_nodeTop a_trailAt a_heapAt a_pendingAt a_choiceDepth a_choiceNext a_pairLeft a_pairRight a_colour a_dfsNode a_dfsArg a_writing a_writeStack a_varNumber : Nat → Int32}
theorem wx_nn_73 {post : SX → Prop} {C : Nat → Nat} {n s sl : Nat} (hC : wm_WC C n) (hs : s + n ≤ 288) (hsl : sl < 33) (hc : ∀ k, k < n → a_code (s + k) = nI (C k)) :
    ∀ (m k : Nat) (x6 x7 x8 x9 : Int32) (a_local : Nat → Int32), k ≤ n → n < m + k → x6 = nI (wm_vs C n + wm_st C k) → x7 = nI (wm_vs C n + wm_wt C k) → x8 = nI (wm_op C k) → x9 = nI (s + k) → (∀ j, j < k → a_local (s + j) = wm_lo C n j) →
    (∀ l' : Nat → Int32, (∀ j, j < n → l' (s + j) = wm_lo C n j) → (∀ p, (p < s ∨ s + n ≤ p) → l' p = a_local p) → post (f_clauseCap, f_heapCap, f_frameCap, f_choiceCap, f_querySlot, f_firstNode, f_draftLen, f_draftOpen, f_draftAtoms, f_programUsed, f_clauses, f_trailLen, f_depth, f_choiceCount, f_status, f_solutions, f_steps, f_complete, f_pairTop, f_writeTop, f_answerLen, f_goalLen, a_draft, a_code, a_skip, l', a_slotStart, a_slotLen, a_slotAtoms, (upd a_slotVars sl (nI (wm_vs C n))), (upd a_slotNodes sl (nI (wm_N C n))), (upd a_slotWeight sl (nI (wm_W C n))), a_slotKey, a_atomPlace, a_nodeFn, a_nodeLink, a_nodeArg, a_trail, a_frameSlot, a_frameBase, a_contFrame, a_contAtom, a_selFrame, a_selAtom, a_nodeTop, a_trailAt, a_heapAt, a_pendingAt, a_choiceDepth, a_choiceNext, a_pairLeft, a_pairRight, a_colour, a_dfsNode, a_dfsArg, a_writing, a_writeStack, a_varNumber)) →
    wX_numberNodes_73 post (nI sl) (nI (s + n)) (nI (wm_mk C n)) (nI (wm_vs C n)) f_clauseCap f_heapCap f_frameCap f_choiceCap f_querySlot f_firstNode f_draftLen f_draftOpen f_draftAtoms f_programUsed f_clauses f_trailLen f_depth f_choiceCount f_status f_solutions f_steps f_complete f_pairTop f_writeTop f_answerLen f_goalLen m x6 x7 x8 x9 a_draft a_code a_skip a_local a_slotStart a_slotLen a_slotAtoms a_slotVars a_slotNodes a_slotWeight a_slotKey a_atomPlace a_nodeFn a_nodeLink a_nodeArg a_trail a_frameSlot a_frameBase a_contFrame a_contAtom a_selFrame a_selAtom a_nodeTop a_trailAt a_heapAt a_pendingAt a_choiceDepth a_choiceNext a_pairLeft a_pairRight a_colour a_dfsNode a_dfsArg a_writing a_writeStack a_varNumber := by
  intro m
  induction m with
  | zero => intro k _ _ _ _ _ h1 h2; omega
  | succ m ih =>
    intro k x6 x7 x8 x9 a_local h1 h2 e6 e7 e8 e9 hl hp
    subst e6 e7 e8 e9
    by_cases c : k = n
    · subst c
      exact wm_leT (s + k) (s + k) (Nat.le_refl _) (And.intro (pk_in sl 33 hsl) (nm_r (wm_ux rfl) (And.intro (pk_in sl 33 hsl) (nm_r (wm_ux rfl) (And.intro (pk_in sl 33 hsl) (nm_r (wm_ux rfl) (hp a_local hl (fun _ _ => rfl))))))))
    · have hk : k < n := by omega
      have hok := (hC.1.2.1 k hk).1
      have ho := wm_op_le C k
      have ha := wm_ar4 (C k)
      have h32 := hC.1.1
      have hin : vp_in (nI (s + k)) 288 := pk_in (s + k) 288 (by omega)
      refine wm_leF (s + n) (s + k) (by omega) (And.intro hin (wx_ar (C k) hok (wm_rx (n := s + k) (hc k hk)) (And.intro hin (nm_r (wm_ux (n := s + k) rfl) ?_))))
      by_cases o : wm_op C k = 0
      · have hps : ¬ wm_ps C k = true := by rw [wm_ps_t]; omega
        refine wm_eqT (wm_op C k) 0 o (nm_r (nI_1 (s + k)) (ih (k + 1) _ _ _ _ _ (by omega) (by omega) ?_ ?_ ?_ rfl ?_ ?_))
        · unfold wm_st; rw [wm_cn_f hps]
        · simp only [wm_wt, if_neg hps, Nat.add_zero]
        · rw [wm_op_s, o]; exact congrArg nI (by omega)
        · intro j hj
          by_cases e : j = k
          · subst e; rw [pk_us]; unfold wm_lo; rw [if_pos o]
          · rw [pk_un (by omega)]; exact hl j (by omega)
        · intro l' y1 y2
          exact hp l' y1 (fun p hp' => by rw [y2 p hp', pk_un (by omega)])
      · refine wm_eqF (wm_op C k) 0 o (nm_r (e' := nI (wm_op C (k + 1))) ?_ (And.intro hin ?_))
        · obtain ⟨q, hq⟩ : ∃ q, wm_op C k = q + 1 := ⟨wm_op C k - 1, by omega⟩
          rw [wm_op_s, hq, nI_pred, nI_add]; rfl
        · rcases wm_cases hC.1 hk with z | z | z
          · have hps : ¬ wm_ps C k = true := by rw [wm_ps_t]; omega
            have hM : wm_mk C n < 256 := wm_mk_lt (fun k hk => (hC.1.2.1 k hk).1)
            refine wm_ltF (C k) 128 z.1 (And.intro hin (wx_bits (M := wm_mk C n) (l := C k - 128) hM (by omega) rfl ?_ (And.intro hin (nm_r (wm_ux (n := s + k) rfl) (nm_r (nI_1 (s + k)) (ih (k + 1) _ _ _ _ _ (by omega) (by omega) ?_ ?_ rfl rfl ?_ ?_)))))) (wm_rx (hc k hk))
            · rw [wm_rx (hc k hk), show (128 : Int32) = nI 128 from rfl, pk_sub z.1]
            · unfold wm_st; rw [wm_cn_f hps]
            · simp only [wm_wt, if_neg hps, Nat.add_zero]
            · intro j hj
              by_cases e : j = k
              · subst e; rw [pk_us]; unfold wm_lo wm_rk; rw [if_neg o, if_pos z.1]
                exact congrArg nI (wm_cn_congr (fun v _ => wm_mk_tb (fun k hk => (hC.1.2.1 k hk).1)))
              · rw [pk_un (by omega), pk_un (by omega)]; exact hl j (by omega)
            · intro l' y1 y2
              exact hp l' y1 (fun p hp' => by rw [y2 p hp', pk_un (by omega), pk_un (by omega)])
          · have hps : wm_ps C k = true := by rw [wm_ps_t]; omega
            refine wm_ltT (C k) 128 (by omega) (wm_leF (wm_ar (C k)) 0 z.2.2 (And.intro hin (nm_r (wm_ux (n := s + k) rfl) (nm_e (nm_e (nm_r (nI_1 (s + k)) (ih (k + 1) _ _ _ _ _ (by omega) (by omega) ?_ ?_ rfl rfl ?_ ?_))))))) (wm_rx (hc k hk))
            · unfold wm_st; rw [wm_cn_t hps, nI_1]; rfl
            · simp only [wm_wt, if_pos hps]
              rw [show (1 : Int32) = nI 1 from rfl, nI_add, nI_add, Nat.add_assoc]
            · intro j hj
              by_cases e : j = k
              · subst e; rw [pk_us]; unfold wm_lo; rw [if_neg o, if_neg (by omega), if_pos z.2.2]
              · rw [pk_un (by omega), pk_un (by omega)]; exact hl j (by omega)
            · intro l' y1 y2
              exact hp l' y1 (fun p hp' => by rw [y2 p hp', pk_un (by omega), pk_un (by omega)])
          · have hps : ¬ wm_ps C k = true := by rw [wm_ps_t]; omega
            refine wm_ltT (C k) 128 (by omega) (wm_leT (wm_ar (C k)) 0 (by omega) (nm_r (nI_1 (s + k)) (ih (k + 1) _ _ _ _ _ (by omega) (by omega) ?_ ?_ rfl rfl ?_ ?_))) (wm_rx (hc k hk))
            · unfold wm_st; rw [wm_cn_f hps]
            · simp only [wm_wt, if_neg hps, Nat.add_zero]
            · intro j hj
              by_cases e : j = k
              · subst e; rw [pk_us]; unfold wm_lo; rw [if_neg o, if_neg (by omega), if_neg (by omega)]
              · rw [pk_un (by omega)]; exact hl j (by omega)
            · intro l' y1 y2
              exact hp l' y1 (fun p hp' => by rw [y2 p hp', pk_un (by omega)])
theorem wx_nn_6 {post : SX → Prop} {C : Nat → Nat} {n s sl : Nat} (hC : wm_WC C n) (hs : s + n ≤ 288) (hsl : sl < 33) (hc : ∀ k, k < n → a_code (s + k) = nI (C k))
    (hp : ∀ l' : Nat → Int32, (∀ j, j < n → l' (s + j) = wm_lo C n j) → (∀ p, (p < s ∨ s + n ≤ p) → l' p = a_local p) → post (f_clauseCap, f_heapCap, f_frameCap, f_choiceCap, f_querySlot, f_firstNode, f_draftLen, f_draftOpen, f_draftAtoms, f_programUsed, f_clauses, f_trailLen, f_depth, f_choiceCount, f_status, f_solutions, f_steps, f_complete, f_pairTop, f_writeTop, f_answerLen, f_goalLen, a_draft, a_code, a_skip, l', a_slotStart, a_slotLen, a_slotAtoms, (upd a_slotVars sl (nI (wm_vs C n))), (upd a_slotNodes sl (nI (wm_N C n))), (upd a_slotWeight sl (nI (wm_W C n))), a_slotKey, a_atomPlace, a_nodeFn, a_nodeLink, a_nodeArg, a_trail, a_frameSlot, a_frameBase, a_contFrame, a_contAtom, a_selFrame, a_selAtom, a_nodeTop, a_trailAt, a_heapAt, a_pendingAt, a_choiceDepth, a_choiceNext, a_pairLeft, a_pairRight, a_colour, a_dfsNode, a_dfsArg, a_writing, a_writeStack, a_varNumber)) :
    ∀ m k : Nat, k ≤ n → n < m + k → wX_numberNodes_6 post (nI sl) (nI s) (nI (s + n)) f_clauseCap f_heapCap f_frameCap f_choiceCap f_querySlot f_firstNode f_draftLen f_draftOpen f_draftAtoms f_programUsed f_clauses f_trailLen f_depth f_choiceCount f_status f_solutions f_steps f_complete f_pairTop f_writeTop f_answerLen f_goalLen a_draft a_code a_skip a_local a_slotStart a_slotLen a_slotAtoms a_slotVars a_slotNodes a_slotWeight a_slotKey a_atomPlace a_nodeFn a_nodeLink a_nodeArg a_trail a_frameSlot a_frameBase a_contFrame a_contAtom a_selFrame a_selAtom a_nodeTop a_trailAt a_heapAt a_pendingAt a_choiceDepth a_choiceNext a_pairLeft a_pairRight a_colour a_dfsNode a_dfsArg a_writing a_writeStack a_varNumber m (nI (wm_mk C k)) (nI (s + k)) := by
  have hok : ∀ k, k < n → wm_ok (C k) := fun k hk => (hC.1.2.1 k hk).1
  intro m
  induction m with
  | zero => intro k h1 h2; omega
  | succ m ih =>
    intro k h1 h2
    by_cases c : k = n
    · subst c
      have hM : wm_mk C k < 256 := wm_mk_lt hok
      have e : wm_cn (wm_mk C k).testBit 8 = wm_vs C k := wm_cn_congr (fun v _ => wm_mk_tb hok)
      refine wm_leT (s + k) (s + k) (Nat.le_refl _) (wx_bits (l := 8) hM (by omega) rfl rfl ?_)
      rw [e]
      exact ⟨k + 1, wx_nn_73 (k := 0) hC hs hsl hc _ _ _ _ _ _ (Nat.zero_le _) (by omega) rfl rfl rfl rfl (fun j hj => by omega) hp⟩
    · have hk : k < n := by omega
      have hin : vp_in (nI (s + k)) 288 := pk_in (s + k) 288 (by omega)
      refine wm_leF (s + n) (s + k) (by omega) (And.intro hin ?_)
      rcases Nat.lt_or_ge (C k) 128 with z | z
      · refine wm_ltT (C k) 128 z (nm_r (nI_1 (s + k)) ?_) (wm_rx (hc k hk))
        have := ih (k + 1) (by omega) (by omega)
        rw [show wm_mk C (k + 1) = wm_mk C k from if_neg (by omega)] at this
        exact this
      · have hv : C k - 128 < 8 := by have := hok k hk; unfold wm_ok at this; omega
        refine wm_ltF (C k) 128 z (And.intro hin (nm_r (e' := nI (wm_mk C (k + 1))) ?_ (nm_r (nI_1 (s + k)) (ih (k + 1) (by omega) (by omega))))) (wm_rx (hc k hk)) rfl (by omega)
        rw [wm_rx (hc k hk), show (128 : Int32) = nI 128 from rfl, pk_sub z, wm_bit1 _ hv, wm_or]
        exact congrArg nI (if_pos z).symm
theorem wx_numberNodes {post : SX → Prop} {C : Nat → Nat} {n s sl : Nat} (hC : wm_WC C n) (hs : s + n ≤ 288) (hsl : sl < 33) (hc : ∀ k, k < n → a_code (s + k) = nI (C k))
    (hp : ∀ l' : Nat → Int32, (∀ j, j < n → l' (s + j) = wm_lo C n j) → (∀ p, (p < s ∨ s + n ≤ p) → l' p = a_local p) → post (f_clauseCap, f_heapCap, f_frameCap, f_choiceCap, f_querySlot, f_firstNode, f_draftLen, f_draftOpen, f_draftAtoms, f_programUsed, f_clauses, f_trailLen, f_depth, f_choiceCount, f_status, f_solutions, f_steps, f_complete, f_pairTop, f_writeTop, f_answerLen, f_goalLen, a_draft, a_code, a_skip, l', a_slotStart, a_slotLen, a_slotAtoms, (upd a_slotVars sl (nI (wm_vs C n))), (upd a_slotNodes sl (nI (wm_N C n))), (upd a_slotWeight sl (nI (wm_W C n))), a_slotKey, a_atomPlace, a_nodeFn, a_nodeLink, a_nodeArg, a_trail, a_frameSlot, a_frameBase, a_contFrame, a_contAtom, a_selFrame, a_selAtom, a_nodeTop, a_trailAt, a_heapAt, a_pendingAt, a_choiceDepth, a_choiceNext, a_pairLeft, a_pairRight, a_colour, a_dfsNode, a_dfsArg, a_writing, a_writeStack, a_varNumber)) :
    wpX_numberNodes post (f_clauseCap, f_heapCap, f_frameCap, f_choiceCap, f_querySlot, f_firstNode, f_draftLen, f_draftOpen, f_draftAtoms, f_programUsed, f_clauses, f_trailLen, f_depth, f_choiceCount, f_status, f_solutions, f_steps, f_complete, f_pairTop, f_writeTop, f_answerLen, f_goalLen, a_draft, a_code, a_skip, a_local, a_slotStart, a_slotLen, a_slotAtoms, a_slotVars, a_slotNodes, a_slotWeight, a_slotKey, a_atomPlace, a_nodeFn, a_nodeLink, a_nodeArg, a_trail, a_frameSlot, a_frameBase, a_contFrame, a_contAtom, a_selFrame, a_selAtom, a_nodeTop, a_trailAt, a_heapAt, a_pendingAt, a_choiceDepth, a_choiceNext, a_pairLeft, a_pairRight, a_colour, a_dfsNode, a_dfsArg, a_writing, a_writeStack, a_varNumber) (nI sl) (nI s) (nI (s + n)) :=
  ⟨n + 1, wx_nn_6 (k := 0) hC hs hsl hc hp (n + 1) (Nat.zero_le _) (by omega)⟩
theorem wx_compile_29 {post : SX → Prop} {C : Nat → Nat} {n s sl : Nat} (hC : wm_WC C n) (hs : s + n ≤ 288) (hsl : sl < 33) (hdl : f_draftLen = nI n) (hd : ∀ k, k < n → a_draft k = nI (C k))
    (hst : a_slotStart sl = nI s) (hln : a_slotLen sl = nI n) (hat : a_slotAtoms sl = nI (wm_na C n)) :
    ∀ (m k : Nat) (a_code : Nat → Int32), k ≤ n → n < m + k → (∀ j, j < k → a_code (s + j) = nI (C j)) →
    (∀ code' skip' loc' vars' nodes' weight' key' place' : Nat → Int32, wm_SX C n sl s code' skip' loc' a_slotStart a_slotLen a_slotAtoms vars' nodes' weight' key' place' →
      wm_FR n sl s a_code a_skip a_local a_slotStart a_slotLen a_slotAtoms a_slotVars a_slotNodes a_slotWeight a_slotKey a_atomPlace code' skip' loc' a_slotStart a_slotLen a_slotAtoms vars' nodes' weight' key' place' →
      post (f_clauseCap, f_heapCap, f_frameCap, f_choiceCap, f_querySlot, f_firstNode, f_draftLen, f_draftOpen, f_draftAtoms, f_programUsed, f_clauses, f_trailLen, f_depth, f_choiceCount, f_status, f_solutions, f_steps, f_complete, f_pairTop, f_writeTop, f_answerLen, f_goalLen, a_draft, code', skip', loc', a_slotStart, a_slotLen, a_slotAtoms, vars', nodes', weight', key', place', a_nodeFn, a_nodeLink, a_nodeArg, a_trail, a_frameSlot, a_frameBase, a_contFrame, a_contAtom, a_selFrame, a_selAtom, a_nodeTop, a_trailAt, a_heapAt, a_pendingAt, a_choiceDepth, a_choiceNext, a_pairLeft, a_pairRight, a_colour, a_dfsNode, a_dfsArg, a_writing, a_writeStack, a_varNumber)) →
    wX_compile_29 post (nI sl) (nI s) f_clauseCap f_heapCap f_frameCap f_choiceCap f_querySlot f_firstNode f_draftLen f_draftOpen f_draftAtoms f_programUsed f_clauses f_trailLen f_depth f_choiceCount f_status f_solutions f_steps f_complete f_pairTop f_writeTop f_answerLen f_goalLen m (nI k) a_draft a_code a_skip a_local a_slotStart a_slotLen a_slotAtoms a_slotVars a_slotNodes a_slotWeight a_slotKey a_atomPlace a_nodeFn a_nodeLink a_nodeArg a_trail a_frameSlot a_frameBase a_contFrame a_contAtom a_selFrame a_selAtom a_nodeTop a_trailAt a_heapAt a_pendingAt a_choiceDepth a_choiceNext a_pairLeft a_pairRight a_colour a_dfsNode a_dfsArg a_writing a_writeStack a_varNumber := by
  have h32 := hC.1.1
  have hn := hC.2.1
  intro m
  induction m with
  | zero => intro k _ h1 h2; omega
  | succ m ih =>
    intro k a_code h1 h2 hc hp
    by_cases c : k = n
    · subst c
      refine wm_leT k k (Nat.le_refl _) (nm_r (e' := nI (s + k)) ?_ (wx_findEnds hC hs hc (fun sk y1 y2 => wx_listAtoms hC hs hsl hst hln y1 hat (fun pl z1 z2 => wx_numberNodes hC hs hsl hc (fun lo w1 w2 => ?_))))) hdl
      · rw [hdl, nI_add]
      · have fin : ∀ kv : Int32, kv = wm_key C → post (f_clauseCap, f_heapCap, f_frameCap, f_choiceCap, f_querySlot, f_firstNode, f_draftLen, f_draftOpen, f_draftAtoms, f_programUsed, f_clauses, f_trailLen, f_depth, f_choiceCount, f_status, f_solutions, f_steps, f_complete, f_pairTop, f_writeTop, f_answerLen, f_goalLen, a_draft, a_code, sk, lo, a_slotStart, a_slotLen, a_slotAtoms, (upd a_slotVars sl (nI (wm_vs C k))), (upd a_slotNodes sl (nI (wm_N C k))), (upd a_slotWeight sl (nI (wm_W C k))), (upd a_slotKey sl kv), pl, a_nodeFn, a_nodeLink, a_nodeArg, a_trail, a_frameSlot, a_frameBase, a_contFrame, a_contAtom, a_selFrame, a_selAtom, a_nodeTop, a_trailAt, a_heapAt, a_pendingAt, a_choiceDepth, a_choiceNext, a_pairLeft, a_pairRight, a_colour, a_dfsNode, a_dfsArg, a_writing, a_writeStack, a_varNumber) := by
          intro kv ek
          refine hp a_code sk lo _ _ _ _ pl ⟨⟨hst, hln, hat⟩, ⟨pk_us, pk_us, pk_us, pk_us.trans ek⟩, z1, fun j hj => ⟨hc j hj, y1 j hj, w1 j hj⟩⟩ ⟨fun p hp' => ⟨rfl, y2 p hp', w2 p hp'⟩, fun q hq => ⟨⟨rfl, rfl, rfl⟩, pk_un hq, pk_un hq, pk_un hq, pk_un hq⟩, z2⟩
        have c0 := hc 0 hn
        rw [Nat.add_zero] at c0
        refine And.intro (pk_in s 288 (by omega)) (wx_ar (C 0) (hC.1.2.1 0 hn).1 (wm_rx c0) ?_)
        have a4 := wm_ar4 (C 0)
        rcases Nat.eq_zero_or_pos (wm_ar (C 0)) with z | z
        · refine wm_leT (wm_ar (C 0)) 0 (by omega) (And.intro (pk_in sl 33 hsl) (nm_r (wm_ux rfl) (fin _ ?_)))
          unfold wm_key; rw [if_neg (by omega)]
        · obtain ⟨p1, p2, p3⟩ := wm_ap_lt (k := 0) hC.2.2 hn z
          have p2' : 1 < k := p2
          have c1 := hc 1 p2'
          have hin : vp_in (nI s + 1) 288 := pk_in (s + 1) 288 (by omega) (nI_1 s)
          refine wm_leF (wm_ar (C 0)) 0 z (And.intro hin ?_)
          rcases Nat.lt_or_ge (C 1) 128 with y | y
          · refine wm_leF 128 (C 1) y (And.intro hin (nm_e (And.intro (pk_in sl 33 hsl) (nm_r (wm_ux rfl) (fin _ ?_))))) rfl (wm_rx c1 (nI_1 s))
            unfold wm_key; rw [if_pos ⟨z, y⟩]
            exact wm_rx c1 (nI_1 s)
          · have hok := (hC.1.2.1 1 p2').1
            unfold wm_ok at hok
            refine wm_leT 128 (C 1) y (And.intro (pk_in sl 33 hsl) (nm_r (wm_ux rfl) (fin _ ?_))) rfl (wm_rx c1 (nI_1 s))
            unfold wm_key; rw [if_neg (by omega)]
    · refine wm_leF n k (by omega) (And.intro (pk_in k 32 (by omega)) (And.intro (pk_in (s + k) 288 (by omega) (nI_add s k)) (nm_r (wm_ux (n := s + k) (wm_rx (hd k (by omega))) (nI_add s k)) (nm_r (nI_1 k) (ih (k + 1) _ (by omega) (by omega) ?_ ?_))))) hdl
      · intro j hj
        by_cases e : j = k
        · subst e; exact pk_us
        · rw [pk_un (by omega)]; exact hc j (by omega)
      · intro code' skip' loc' vars' nodes' weight' key' place' x1 x2
        refine hp code' skip' loc' vars' nodes' weight' key' place' x1 ⟨fun p hp' => ?_, x2.2⟩
        have := x2.1 p hp'
        rw [pk_un (by omega)] at this
        exact this
theorem wx_compile {post : SX → Prop} {C : Nat → Nat} {n s sl : Nat} {x y : Int32} (hx : x = nI sl) (hy : y = nI s) (hC : wm_WC C n) (hs : s + n ≤ 288) (hsl : sl < 33) (hdl : f_draftLen = nI n) (hda : f_draftAtoms = nI (wm_na C n)) (hd : ∀ k, k < n → a_draft k = nI (C k))
    (hp : ∀ code' skip' loc' start' len' atoms' vars' nodes' weight' key' place' : Nat → Int32, wm_SX C n sl s code' skip' loc' start' len' atoms' vars' nodes' weight' key' place' →
      wm_FR n sl s a_code a_skip a_local a_slotStart a_slotLen a_slotAtoms a_slotVars a_slotNodes a_slotWeight a_slotKey a_atomPlace code' skip' loc' start' len' atoms' vars' nodes' weight' key' place' →
      post (f_clauseCap, f_heapCap, f_frameCap, f_choiceCap, f_querySlot, f_firstNode, f_draftLen, f_draftOpen, f_draftAtoms, f_programUsed, f_clauses, f_trailLen, f_depth, f_choiceCount, f_status, f_solutions, f_steps, f_complete, f_pairTop, f_writeTop, f_answerLen, f_goalLen, a_draft, code', skip', loc', start', len', atoms', vars', nodes', weight', key', place', a_nodeFn, a_nodeLink, a_nodeArg, a_trail, a_frameSlot, a_frameBase, a_contFrame, a_contAtom, a_selFrame, a_selAtom, a_nodeTop, a_trailAt, a_heapAt, a_pendingAt, a_choiceDepth, a_choiceNext, a_pairLeft, a_pairRight, a_colour, a_dfsNode, a_dfsArg, a_writing, a_writeStack, a_varNumber)) :
    wpX_compile post (f_clauseCap, f_heapCap, f_frameCap, f_choiceCap, f_querySlot, f_firstNode, f_draftLen, f_draftOpen, f_draftAtoms, f_programUsed, f_clauses, f_trailLen, f_depth, f_choiceCount, f_status, f_solutions, f_steps, f_complete, f_pairTop, f_writeTop, f_answerLen, f_goalLen, a_draft, a_code, a_skip, a_local, a_slotStart, a_slotLen, a_slotAtoms, a_slotVars, a_slotNodes, a_slotWeight, a_slotKey, a_atomPlace, a_nodeFn, a_nodeLink, a_nodeArg, a_trail, a_frameSlot, a_frameBase, a_contFrame, a_contAtom, a_selFrame, a_selAtom, a_nodeTop, a_trailAt, a_heapAt, a_pendingAt, a_choiceDepth, a_choiceNext, a_pairLeft, a_pairRight, a_colour, a_dfsNode, a_dfsArg, a_writing, a_writeStack, a_varNumber) x y := by
  subst hx hy
  refine And.intro (pk_in sl 33 hsl) (nm_r (wm_ux rfl) (And.intro (pk_in sl 33 hsl) (nm_r (wm_ux hdl) (And.intro (pk_in sl 33 hsl) (nm_r (wm_ux hda) ⟨n + 1, ?_⟩)))))
  refine wx_compile_29 (k := 0) hC hs hsl hdl hd pk_us pk_us pk_us _ _ (Nat.zero_le _) (by omega) (fun j hj => by omega) (fun code' skip' loc' vars' nodes' weight' key' place' x1 x2 => hp _ _ _ _ _ _ _ _ _ _ _ x1 ⟨x2.1, fun q hq => ?_, x2.2.2⟩)
  exact ⟨⟨pk_un hq, pk_un hq, pk_un hq⟩, (x2.2.1 q hq).2⟩
end
end
section
/-! the class's nodes: nodeAt, buildStructure, buildCopy, deref -/
theorem wm_ltM {x : Int32} {A B : Prop} (e : x = -1) (p : A) : (x < 0 → A) ∧ (¬ x < 0 → B) := br_t (by rw [e]; exact wm_m1lt) p
theorem wm_geM {x : Int32} {A B : Prop} (e : x = -1) (p : B) : (0 ≤ x → A) ∧ (¬ 0 ≤ x → B) := br_f (by rw [e]; decide) p
theorem wm_lo_nd {C : Nat → Nat} {n k : Nat} (b : Nat) (hV : wm_VD C n) (hk : k < n) (ho : 0 < wm_op C k) :
    (wm_lo C n k = -1 ∧ wm_nd C n b k = C k ∧ C k < 16) ∨ (∃ q, wm_lo C n k = nI q ∧ wm_nd C n b k = b + q ∧ q < wm_N C n ∧ 16 ≤ C k ∧ (wm_ps C k = true ↔ wm_vs C n ≤ q)) := by
  have h1 : ¬ wm_op C k = 0 := by omega
  unfold wm_lo
  rw [if_neg h1]
  rcases wm_cases hV hk with z | z | z
  · right
    have e : 128 + (C k - 128) = C k := by omega
    have hr := wm_rk_lt (C := C) (n := n) (v := C k - 128) (by omega) (wm_oc_iff.mpr ⟨k, hk, by omega⟩)
    refine ⟨wm_rk C n (C k - 128), if_pos z.1, wm_nd_v z.1, by unfold wm_N; omega, by omega, ?_⟩
    rw [wm_ps_t]; omega
  · right
    have hr := wm_cn_lt (P := wm_ps C) (wm_ps_t.mpr ⟨ho, z.2.2⟩) hk
    refine ⟨wm_vs C n + wm_st C k, by rw [if_neg (by omega), if_pos z.2.2], wm_nd_s z.2.2, by unfold wm_N wm_st; omega, by omega, ?_⟩
    rw [wm_ps_t]
    exact ⟨fun _ => Nat.le_add_right _ _, fun _ => ⟨ho, z.2.2⟩⟩
  · left
    exact ⟨by rw [if_neg (by omega), if_neg (by omega)], wm_nd_c z.1, z.1⟩
section
variable {f_clauseCap f_heapCap f_frameCap f_choiceCap f_querySlot f_firstNode f_draftLen f_draftOpen f_draftAtoms f_programUsed f_clauses f_trailLen f_depth f_choiceCount f_status f_solutions f_steps f_complete f_pairTop f_writeTop f_answerLen f_goalLen : Int32} {a_draft a_code a_skip a_local a_slotStart a_slotLen a_slotAtoms a_slotVars a_slotNodes a_slotWeight a_slotKey a_atomPlace a_nodeFn a_nodeLink a_nodeArg a_trail a_frameSlot a_frameBase a_contFrame a_contAtom a_selFrame a_selAtom a_nodeTop a_trailAt a_heapAt a_pendingAt a_choiceDepth a_choiceNext a_pairLeft a_pairRight a_colour a_dfsNode a_dfsArg a_writing a_writeStack a_varNumber : Nat → Int32}
theorem wx_nodeAt {post : Int32 → Prop} {C : Nat → Nat} {n s b k : Nat} {x y : Int32} (hV : wm_VD C n) (hk : k < n) (ho : 0 < wm_op C k) (hc : a_code (s + k) = nI (C k)) (hl : a_local (s + k) = wm_lo C n k) (hs : s + n ≤ 288)
    (hx : x = nI (s + k)) (hy : y = nI b) (hp : post (nI (wm_nd C n b k))) : wpX_nodeAt post (f_clauseCap, f_heapCap, f_frameCap, f_choiceCap, f_querySlot, f_firstNode, f_draftLen, f_draftOpen, f_draftAtoms, f_programUsed, f_clauses, f_trailLen, f_depth, f_choiceCount, f_status, f_solutions, f_steps, f_complete, f_pairTop, f_writeTop, f_answerLen, f_goalLen, a_draft, a_code, a_skip, a_local, a_slotStart, a_slotLen, a_slotAtoms, a_slotVars, a_slotNodes, a_slotWeight, a_slotKey, a_atomPlace, a_nodeFn, a_nodeLink, a_nodeArg, a_trail, a_frameSlot, a_frameBase, a_contFrame, a_contAtom, a_selFrame, a_selAtom, a_nodeTop, a_trailAt, a_heapAt, a_pendingAt, a_choiceDepth, a_choiceNext, a_pairLeft, a_pairRight, a_colour, a_dfsNode, a_dfsArg, a_writing, a_writeStack, a_varNumber) x y := by
  subst hx hy
  have hin : vp_in (nI (s + k)) 288 := pk_in (s + k) 288 (by omega)
  have hN := wm_W_le C n
  have hN' := wm_N_W C n
  have h32 := hV.1
  refine And.intro hin (nm_r (wm_rx hl) ?_)
  rcases wm_lo_nd b hV hk ho with ⟨e, e', e3⟩ | ⟨q, e, e', hq, -⟩
  · refine wm_ltM e (And.intro hin ?_)
    rw [wm_rx hc, ← e']; exact hp
  · refine wm_ltF q 0 (Nat.zero_le _) ?_ e
    rw [e, nI_add, ← e']; exact hp
theorem wx_bs_48 {post : SX → Prop} {C : Nat → Nat} {n s b k nd : Nat} (hC : wm_WC C n) (hk : k < n) (hs : s + n ≤ 288) (hn : nd < 272)
    (hc : ∀ k, k < n → a_code (s + k) = nI (C k) ∧ a_skip (s + k) = nI (s + wm_en C n k) ∧ a_local (s + k) = wm_lo C n k) :
    ∀ (m j : Nat) (a_nodeArg : Nat → Int32), j ≤ wm_ar (C k) → wm_ar (C k) < m + j → (∀ i, i < j → a_nodeArg (4 * nd + i) = nI (wm_nd C n b (wm_ap C n k i))) →
    (∀ arg' : Nat → Int32, (∀ i, i < wm_ar (C k) → arg' (4 * nd + i) = nI (wm_nd C n b (wm_ap C n k i))) → (∀ q, (q < 4 * nd ∨ 4 * nd + 4 ≤ q) → arg' q = a_nodeArg q) → post (f_clauseCap, f_heapCap, f_frameCap, f_choiceCap, f_querySlot, f_firstNode, f_draftLen, f_draftOpen, f_draftAtoms, f_programUsed, f_clauses, f_trailLen, f_depth, f_choiceCount, f_status, f_solutions, f_steps, f_complete, f_pairTop, f_writeTop, f_answerLen, f_goalLen, a_draft, a_code, a_skip, a_local, a_slotStart, a_slotLen, a_slotAtoms, a_slotVars, a_slotNodes, a_slotWeight, a_slotKey, a_atomPlace, a_nodeFn, a_nodeLink, arg', a_trail, a_frameSlot, a_frameBase, a_contFrame, a_contAtom, a_selFrame, a_selAtom, a_nodeTop, a_trailAt, a_heapAt, a_pendingAt, a_choiceDepth, a_choiceNext, a_pairLeft, a_pairRight, a_colour, a_dfsNode, a_dfsArg, a_writing, a_writeStack, a_varNumber)) →
    wX_buildStructure_48 post (nI b) (nI nd) (nI (wm_ar (C k))) f_clauseCap f_heapCap f_frameCap f_choiceCap f_querySlot f_firstNode f_draftLen f_draftOpen f_draftAtoms f_programUsed f_clauses f_trailLen f_depth f_choiceCount f_status f_solutions f_steps f_complete f_pairTop f_writeTop f_answerLen f_goalLen m (nI (s + wm_ap C n k j)) (nI j) a_draft a_code a_skip a_local a_slotStart a_slotLen a_slotAtoms a_slotVars a_slotNodes a_slotWeight a_slotKey a_atomPlace a_nodeFn a_nodeLink a_nodeArg a_trail a_frameSlot a_frameBase a_contFrame a_contAtom a_selFrame a_selAtom a_nodeTop a_trailAt a_heapAt a_pendingAt a_choiceDepth a_choiceNext a_pairLeft a_pairRight a_colour a_dfsNode a_dfsArg a_writing a_writeStack a_varNumber := by
  have a4 := wm_ar4 (C k)
  intro m
  induction m with
  | zero => intro j _ h1 h2; omega
  | succ m ih =>
    intro j a_nodeArg h1 h2 ha hp
    by_cases c : j = wm_ar (C k)
    · exact wm_leT (wm_ar (C k)) j (by omega) (hp _ (fun i hi => ha i (by omega)) (fun _ _ => rfl))
    · obtain ⟨p1, p2, p3⟩ := wm_ap_lt hC.2.2 hk (show j < wm_ar (C k) by omega)
      obtain ⟨c1, c2, c3⟩ := hc _ p2
      have ex : nI nd * 4 + nI j = nI (4 * nd + j) := by
        rw [show (4 : Int32) = nI 4 from rfl, pk_mul, nI_add, Nat.mul_comm]
      refine wm_leF (wm_ar (C k)) j (by omega) (wx_nodeAt hC.1 p2 p3 c1 c3 hs rfl rfl (And.intro (pk_in (4 * nd + j) 1088 (by omega) ex) (nm_r (wm_ux (n := 4 * nd + j) rfl ex) (And.intro (pk_in (s + wm_ap C n k j) 288 (by omega)) (nm_r (wm_rx c2) (nm_r (nI_1 j) (ih (j + 1) _ (by omega) (by omega) ?_ ?_)))))))
      · intro i hi
        by_cases e : i = j
        · subst e; exact pk_us
        · rw [pk_un (by omega)]; exact ha i (by omega)
      · intro arg' x1 x2
        exact hp arg' x1 (fun q hq => by rw [x2 q hq, pk_un (by omega)])
theorem wx_buildStructure {post : SX → Prop} {C : Nat → Nat} {n s b k : Nat} (hC : wm_WC C n) (hk : k < n) (hps : wm_ps C k = true) (hs : s + n ≤ 288) (hn : wm_nd C n b k < 272)
    (hc : ∀ k, k < n → a_code (s + k) = nI (C k) ∧ a_skip (s + k) = nI (s + wm_en C n k) ∧ a_local (s + k) = wm_lo C n k)
    (hp : ∀ arg' : Nat → Int32, (∀ i, i < wm_ar (C k) → arg' (4 * wm_nd C n b k + i) = nI (wm_nd C n b (wm_ap C n k i))) → (∀ q, (q < 4 * wm_nd C n b k ∨ 4 * wm_nd C n b k + 4 ≤ q) → arg' q = a_nodeArg q) →
      post (f_clauseCap, f_heapCap, f_frameCap, f_choiceCap, f_querySlot, f_firstNode, f_draftLen, f_draftOpen, f_draftAtoms, f_programUsed, f_clauses, f_trailLen, f_depth, f_choiceCount, f_status, f_solutions, f_steps, f_complete, f_pairTop, f_writeTop, f_answerLen, f_goalLen, a_draft, a_code, a_skip, a_local, a_slotStart, a_slotLen, a_slotAtoms, a_slotVars, a_slotNodes, a_slotWeight, a_slotKey, a_atomPlace, (upd a_nodeFn (wm_nd C n b k) (nI (C k))), (upd a_nodeLink (wm_nd C n b k) (-1)), arg', a_trail, a_frameSlot, a_frameBase, a_contFrame, a_contAtom, a_selFrame, a_selAtom, a_nodeTop, a_trailAt, a_heapAt, a_pendingAt, a_choiceDepth, a_choiceNext, a_pairLeft, a_pairRight, a_colour, a_dfsNode, a_dfsArg, a_writing, a_writeStack, a_varNumber)) :
    wpX_buildStructure post (f_clauseCap, f_heapCap, f_frameCap, f_choiceCap, f_querySlot, f_firstNode, f_draftLen, f_draftOpen, f_draftAtoms, f_programUsed, f_clauses, f_trailLen, f_depth, f_choiceCount, f_status, f_solutions, f_steps, f_complete, f_pairTop, f_writeTop, f_answerLen, f_goalLen, a_draft, a_code, a_skip, a_local, a_slotStart, a_slotLen, a_slotAtoms, a_slotVars, a_slotNodes, a_slotWeight, a_slotKey, a_atomPlace, a_nodeFn, a_nodeLink, a_nodeArg, a_trail, a_frameSlot, a_frameBase, a_contFrame, a_contAtom, a_selFrame, a_selAtom, a_nodeTop, a_trailAt, a_heapAt, a_pendingAt, a_choiceDepth, a_choiceNext, a_pairLeft, a_pairRight, a_colour, a_dfsNode, a_dfsArg, a_writing, a_writeStack, a_varNumber) (nI (s + k)) (nI b) := by
  obtain ⟨c1, c2, c3⟩ := hc k hk
  have hin : vp_in (nI (s + k)) 288 := pk_in (s + k) 288 (by omega)
  have hh := wm_ps_t.mp hps
  refine And.intro hin (nm_r (e' := nI (wm_nd C n b k)) ?_ (And.intro hin (wx_ar (C k) (hC.1.2.1 k hk).1 (wm_rx c1) (And.intro hin (And.intro (pk_in (wm_nd C n b k) 272 hn) (nm_r (wm_ux (wm_rx c1)) (And.intro (pk_in (wm_nd C n b k) 272 hn) (nm_r (wm_ux rfl) (nm_r (nI_1 (s + k)) ⟨wm_ar (C k) + 1, ?_⟩)))))))))
  · rcases wm_lo_nd b hC.1 hk hh.1 with ⟨e, e', e3⟩ | ⟨q, e, e', hq, -⟩
    · rw [wm_ar_c (by omega)] at hh; omega
    · rw [wm_rx c3, e, nI_add, e']
  · exact wx_bs_48 (j := 0) hC hk hs hn hc _ _ (Nat.zero_le _) (by omega) (fun i hi => by omega) hp
end
/-- the nodes of a copy with base b -/
def wm_GC (C : Nat → Nat) (n b : Nat) (fn lk arg : Nat → Int32) : Prop :=
  (∀ v, v < wm_vs C n → fn (b + v) = -1 ∧ lk (b + v) = -1) ∧ (∀ k, k < n → wm_ps C k = true → fn (wm_nd C n b k) = nI (C k) ∧ lk (wm_nd C n b k) = -1 ∧ ∀ j, j < wm_ar (C k) → arg (4 * wm_nd C n b k + j) = nI (wm_nd C n b (wm_ap C n k j)))
def wm_GF (b N : Nat) (fn lk arg fn' lk' arg' : Nat → Int32) : Prop := (∀ q, (q < b ∨ b + N ≤ q) → fn' q = fn q ∧ lk' q = lk q) ∧ (∀ q, (q < 4 * b ∨ 4 * (b + N) ≤ q) → arg' q = arg q)
section
variable {f_clauseCap f_heapCap f_frameCap f_choiceCap f_querySlot f_firstNode f_draftLen f_draftOpen f_draftAtoms f_programUsed f_clauses f_trailLen f_depth f_choiceCount f_status f_solutions f_steps f_complete f_pairTop f_writeTop f_answerLen f_goalLen : Int32} {a_draft a_code a_skip a_local a_slotStart a_slotLen a_slotAtoms a_slotVars a_slotNodes a_slotWeight a_slotKey a_atomPlace a_nodeFn a_nodeLink a_nodeArg a_trail a_frameSlot a_frameBase a_contFrame a_contAtom a_selFrame a_selAtom a_nodeTop a_trailAt a_heapAt a_pendingAt a_choiceDepth a_choiceNext a_pairLeft a_pairRight a_colour a_dfsNode a_dfsArg a_writing a_writeStack a_varNumber : Nat → Int32}
theorem wx_bc_65 {post : SX → Prop} {C : Nat → Nat} {n s b : Nat} (hC : wm_WC C n) (hs : s + n ≤ 288) (hb : b + wm_N C n ≤ 272)
    (hc : ∀ k, k < n → a_code (s + k) = nI (C k) ∧ a_skip (s + k) = nI (s + wm_en C n k) ∧ a_local (s + k) = wm_lo C n k) :
    ∀ (m k : Nat) (a_nodeFn a_nodeLink a_nodeArg : Nat → Int32), k ≤ n → n < m + k →
    (∀ v, v < wm_vs C n → a_nodeFn (b + v) = -1 ∧ a_nodeLink (b + v) = -1) →
    (∀ i, i < k → wm_ps C i = true → a_nodeFn (wm_nd C n b i) = nI (C i) ∧ a_nodeLink (wm_nd C n b i) = -1 ∧ ∀ j, j < wm_ar (C i) → a_nodeArg (4 * wm_nd C n b i + j) = nI (wm_nd C n b (wm_ap C n i j))) →
    (∀ fn' lk' arg' : Nat → Int32, wm_GC C n b fn' lk' arg' → wm_GF b (wm_N C n) a_nodeFn a_nodeLink a_nodeArg fn' lk' arg' → post (f_clauseCap, f_heapCap, f_frameCap, f_choiceCap, f_querySlot, f_firstNode, f_draftLen, f_draftOpen, f_draftAtoms, f_programUsed, f_clauses, f_trailLen, f_depth, f_choiceCount, f_status, f_solutions, f_steps, f_complete, f_pairTop, f_writeTop, f_answerLen, f_goalLen, a_draft, a_code, a_skip, a_local, a_slotStart, a_slotLen, a_slotAtoms, a_slotVars, a_slotNodes, a_slotWeight, a_slotKey, a_atomPlace, fn', lk', arg', a_trail, a_frameSlot, a_frameBase, a_contFrame, a_contAtom, a_selFrame, a_selAtom, a_nodeTop, a_trailAt, a_heapAt, a_pendingAt, a_choiceDepth, a_choiceNext, a_pairLeft, a_pairRight, a_colour, a_dfsNode, a_dfsArg, a_writing, a_writeStack, a_varNumber)) →
    wX_buildCopy_65 post (nI b) (nI (wm_vs C n)) (nI (s + n)) m (nI (s + k)) f_clauseCap f_heapCap f_frameCap f_choiceCap f_querySlot f_firstNode f_draftLen f_draftOpen f_draftAtoms f_programUsed f_clauses f_trailLen f_depth f_choiceCount f_status f_solutions f_steps f_complete f_pairTop f_writeTop f_answerLen f_goalLen a_draft a_code a_skip a_local a_slotStart a_slotLen a_slotAtoms a_slotVars a_slotNodes a_slotWeight a_slotKey a_atomPlace a_nodeFn a_nodeLink a_nodeArg a_trail a_frameSlot a_frameBase a_contFrame a_contAtom a_selFrame a_selAtom a_nodeTop a_trailAt a_heapAt a_pendingAt a_choiceDepth a_choiceNext a_pairLeft a_pairRight a_colour a_dfsNode a_dfsArg a_writing a_writeStack a_varNumber := by
  have hv8 := wm_vs8 C n
  intro m
  induction m with
  | zero => intro k _ _ _ h1 h2; omega
  | succ m ih =>
    intro k a_nodeFn a_nodeLink a_nodeArg h1 h2 hv hi hp
    by_cases c : k = n
    · subst c
      exact wm_leT (s + k) (s + k) (Nat.le_refl _) (hp _ _ _ ⟨hv, hi⟩ ⟨fun _ _ => ⟨rfl, rfl⟩, fun _ _ => rfl⟩)
    · have hk : k < n := by omega
      obtain ⟨c1, c2, c3⟩ := hc k hk
      have hin : vp_in (nI (s + k)) 288 := pk_in (s + k) 288 (by omega)
      have skip : ¬ wm_ps C k = true → wX_buildCopy_65 post (nI b) (nI (wm_vs C n)) (nI (s + n)) m (nI (s + (k + 1))) f_clauseCap f_heapCap f_frameCap f_choiceCap f_querySlot f_firstNode f_draftLen f_draftOpen f_draftAtoms f_programUsed f_clauses f_trailLen f_depth f_choiceCount f_status f_solutions f_steps f_complete f_pairTop f_writeTop f_answerLen f_goalLen a_draft a_code a_skip a_local a_slotStart a_slotLen a_slotAtoms a_slotVars a_slotNodes a_slotWeight a_slotKey a_atomPlace a_nodeFn a_nodeLink a_nodeArg a_trail a_frameSlot a_frameBase a_contFrame a_contAtom a_selFrame a_selAtom a_nodeTop a_trailAt a_heapAt a_pendingAt a_choiceDepth a_choiceNext a_pairLeft a_pairRight a_colour a_dfsNode a_dfsArg a_writing a_writeStack a_varNumber := fun hps =>
        ih (k + 1) _ _ _ (by omega) (by omega) hv (fun i hik hq => hi i (by
          rcases Nat.lt_or_ge i k with z | z
          · exact z
          · have : i = k := by omega
            subst this; exact absurd hq hps) hq) hp
      refine wm_leF (s + n) (s + k) (by omega) (And.intro hin ?_)
      by_cases ho : wm_op C k = 0
      · have e : wm_lo C n k = -1 := if_pos ho
        refine br_t (by rw [wm_rx c3, e]; exact Int32.lt_of_lt_of_le wm_m1lt (nI_pos' (by omega))) (nm_r (nI_1 (s + k)) (skip (by rw [wm_ps_t]; omega)))
      · rcases wm_lo_nd b hC.1 hk (by omega) with ⟨e, e', e3⟩ | ⟨q, e, e', hq, h16, hpq⟩
        · refine br_t (by rw [wm_rx c3, e]; exact Int32.lt_of_lt_of_le wm_m1lt (nI_pos' (by omega))) (nm_r (nI_1 (s + k)) (skip ?_))
          rw [wm_ps_t, wm_ar_c (by omega)]; omega
        · by_cases hps : wm_ps C k = true
          · have hvq := hpq.mp hps
            have enq : wm_nd C n b k = b + (wm_vs C n + wm_st C k) := wm_nd_s (wm_ps_t.mp hps).2
            refine wm_ltF q (wm_vs C n) hvq (wx_buildStructure hC hk hps hs (by omega) hc (fun arg' x1 x2 => nm_r (nI_1 (s + k)) (ih (k + 1) _ _ _ (by omega) (by omega) ?_ ?_ ?_))) ((wm_rx c3).trans e) rfl (by omega)
            · intro v hv'
              rw [pk_un (by omega), pk_un (by omega)]; exact hv v hv'
            · intro i hik hq'
              by_cases ei : i = k
              · subst ei
                exact ⟨pk_us, pk_us, x1⟩
              · have hlt : i < k := by omega
                have eni : wm_nd C n b i = b + (wm_vs C n + wm_st C i) := wm_nd_s (wm_ps_t.mp hq').2
                have hst : wm_st C i < wm_st C k := wm_cn_lt hq' hlt
                obtain ⟨y1, y2, y3⟩ := hi i hlt hq'
                refine ⟨by rw [pk_un (by omega)]; exact y1, by rw [pk_un (by omega)]; exact y2, fun j hj => ?_⟩
                have := wm_ar4 (C i)
                rw [x2 _ (by omega)]; exact y3 j hj
            · intro fn' lk' arg' z1 z2
              refine hp fn' lk' arg' z1 ⟨fun q' hq' => ?_, fun q' hq' => ?_⟩
              · have := z2.1 q' hq'
                rw [pk_un (by omega), pk_un (by omega)] at this
                exact this
              · rw [z2.2 q' hq', x2 q' (by omega)]
          · have hvq : q < wm_vs C n := by
              rcases Nat.lt_or_ge q (wm_vs C n) with z | z
              · exact z
              · exact absurd (hpq.mpr z) hps
            exact wm_ltT q (wm_vs C n) hvq (nm_r (nI_1 (s + k)) (skip hps)) ((wm_rx c3).trans e)
theorem wx_bc_10 {post : SX → Prop} {C : Nat → Nat} {n s b sl : Nat} (hC : wm_WC C n) (hs : s + n ≤ 288) (hb : b + wm_N C n ≤ 272) (hsl : sl < 33) (hst : a_slotStart sl = nI s) (hln : a_slotLen sl = nI n)
    (hc : ∀ k, k < n → a_code (s + k) = nI (C k) ∧ a_skip (s + k) = nI (s + wm_en C n k) ∧ a_local (s + k) = wm_lo C n k) :
    ∀ (m v : Nat) (a_nodeFn a_nodeLink : Nat → Int32), v ≤ wm_vs C n → wm_vs C n < m + v →
    (∀ w, w < v → a_nodeFn (b + w) = -1 ∧ a_nodeLink (b + w) = -1) →
    (∀ fn' lk' arg' : Nat → Int32, wm_GC C n b fn' lk' arg' → wm_GF b (wm_N C n) a_nodeFn a_nodeLink a_nodeArg fn' lk' arg' → post (f_clauseCap, f_heapCap, f_frameCap, f_choiceCap, f_querySlot, f_firstNode, f_draftLen, f_draftOpen, f_draftAtoms, f_programUsed, f_clauses, f_trailLen, f_depth, f_choiceCount, f_status, f_solutions, f_steps, f_complete, f_pairTop, f_writeTop, f_answerLen, f_goalLen, a_draft, a_code, a_skip, a_local, a_slotStart, a_slotLen, a_slotAtoms, a_slotVars, a_slotNodes, a_slotWeight, a_slotKey, a_atomPlace, fn', lk', arg', a_trail, a_frameSlot, a_frameBase, a_contFrame, a_contAtom, a_selFrame, a_selAtom, a_nodeTop, a_trailAt, a_heapAt, a_pendingAt, a_choiceDepth, a_choiceNext, a_pairLeft, a_pairRight, a_colour, a_dfsNode, a_dfsArg, a_writing, a_writeStack, a_varNumber)) →
    wX_buildCopy_10 post (nI sl) (nI b) (nI (wm_vs C n)) f_clauseCap f_heapCap f_frameCap f_choiceCap f_querySlot f_firstNode f_draftLen f_draftOpen f_draftAtoms f_programUsed f_clauses f_trailLen f_depth f_choiceCount f_status f_solutions f_steps f_complete f_pairTop f_writeTop f_answerLen f_goalLen m (nI v) a_draft a_code a_skip a_local a_slotStart a_slotLen a_slotAtoms a_slotVars a_slotNodes a_slotWeight a_slotKey a_atomPlace a_nodeFn a_nodeLink a_nodeArg a_trail a_frameSlot a_frameBase a_contFrame a_contAtom a_selFrame a_selAtom a_nodeTop a_trailAt a_heapAt a_pendingAt a_choiceDepth a_choiceNext a_pairLeft a_pairRight a_colour a_dfsNode a_dfsArg a_writing a_writeStack a_varNumber := by
  have hv8 := wm_vs8 C n
  have hN : wm_vs C n ≤ wm_N C n := Nat.le_add_right _ _
  intro m
  induction m with
  | zero => intro v _ _ h1 h2; omega
  | succ m ih =>
    intro v a_nodeFn a_nodeLink h1 h2 hv hp
    by_cases c : v = wm_vs C n
    · refine wm_leT (wm_vs C n) v (by omega) (And.intro (pk_in sl 33 hsl) (nm_r (wm_rx hst) (And.intro (pk_in sl 33 hsl) (nm_r (e' := nI (s + n)) (by rw [wm_rx hln, nI_add]) ⟨n + 1, ?_⟩))))
      exact wx_bc_65 (k := 0) hC hs hb hc _ _ _ _ (Nat.zero_le _) (by omega) (by rw [← c]; exact hv) (fun i hi => by omega) hp
    · have hin : vp_in (nI b + nI v) 272 := pk_in (b + v) 272 (by omega) (nI_add b v)
      refine wm_leF (wm_vs C n) v (by omega) (And.intro hin (nm_r (wm_ux (n := b + v) rfl (nI_add b v)) (And.intro hin (nm_r (wm_ux (n := b + v) rfl (nI_add b v)) (nm_r (nI_1 v) (ih (v + 1) _ _ (by omega) (by omega) ?_ ?_))))))
      · intro w hw
        by_cases e : w = v
        · subst e; exact ⟨pk_us, pk_us⟩
        · rw [pk_un (by omega), pk_un (by omega)]; exact hv w (by omega)
      · intro fn' lk' arg' z1 z2
        refine hp fn' lk' arg' z1 ⟨fun q' hq' => ?_, z2.2⟩
        have := z2.1 q' hq'
        rw [pk_un (by omega), pk_un (by omega)] at this
        exact this
theorem wx_buildCopy {post : SX → Prop} {C : Nat → Nat} {n s b sl : Nat} {x y : Int32} (hx : x = nI sl) (hy : y = nI b) (hC : wm_WC C n) (hs : s + n ≤ 288) (hb : b + wm_N C n ≤ 272) (hsl : sl < 33)
    (hS : wm_SX C n sl s a_code a_skip a_local a_slotStart a_slotLen a_slotAtoms a_slotVars a_slotNodes a_slotWeight a_slotKey a_atomPlace)
    (hp : ∀ fn' lk' arg' : Nat → Int32, wm_GC C n b fn' lk' arg' → wm_GF b (wm_N C n) a_nodeFn a_nodeLink a_nodeArg fn' lk' arg' → post (f_clauseCap, f_heapCap, f_frameCap, f_choiceCap, f_querySlot, f_firstNode, f_draftLen, f_draftOpen, f_draftAtoms, f_programUsed, f_clauses, f_trailLen, f_depth, f_choiceCount, f_status, f_solutions, f_steps, f_complete, f_pairTop, f_writeTop, f_answerLen, f_goalLen, a_draft, a_code, a_skip, a_local, a_slotStart, a_slotLen, a_slotAtoms, a_slotVars, a_slotNodes, a_slotWeight, a_slotKey, a_atomPlace, fn', lk', arg', a_trail, a_frameSlot, a_frameBase, a_contFrame, a_contAtom, a_selFrame, a_selAtom, a_nodeTop, a_trailAt, a_heapAt, a_pendingAt, a_choiceDepth, a_choiceNext, a_pairLeft, a_pairRight, a_colour, a_dfsNode, a_dfsArg, a_writing, a_writeStack, a_varNumber)) :
    wpX_buildCopy post (f_clauseCap, f_heapCap, f_frameCap, f_choiceCap, f_querySlot, f_firstNode, f_draftLen, f_draftOpen, f_draftAtoms, f_programUsed, f_clauses, f_trailLen, f_depth, f_choiceCount, f_status, f_solutions, f_steps, f_complete, f_pairTop, f_writeTop, f_answerLen, f_goalLen, a_draft, a_code, a_skip, a_local, a_slotStart, a_slotLen, a_slotAtoms, a_slotVars, a_slotNodes, a_slotWeight, a_slotKey, a_atomPlace, a_nodeFn, a_nodeLink, a_nodeArg, a_trail, a_frameSlot, a_frameBase, a_contFrame, a_contAtom, a_selFrame, a_selAtom, a_nodeTop, a_trailAt, a_heapAt, a_pendingAt, a_choiceDepth, a_choiceNext, a_pairLeft, a_pairRight, a_colour, a_dfsNode, a_dfsArg, a_writing, a_writeStack, a_varNumber) x y := by
  subst hx hy
  have hv8 := wm_vs8 C n
  refine And.intro (pk_in sl 33 hsl) (nm_r (wm_rx hS.2.1.1) ⟨wm_vs C n + 1, ?_⟩)
  exact wx_bc_10 (v := 0) hC hs hb hsl hS.1.1 hS.1.2.1 hS.2.2.2 _ _ _ (Nat.zero_le _) (by omega) (fun i hi => by omega) hp
theorem wx_deref_4 {post : Int32 → Prop} {T : Nat} {ρ δ : Nat → Nat} (h : wm_UF T a_nodeLink ρ δ) (hT : T ≤ 272) :
    ∀ m n i : Nat, n < T → i + δ n ≤ 272 → δ n < m → post (nI (ρ n)) → wX_deref_4 post f_clauseCap f_heapCap f_frameCap f_choiceCap f_querySlot f_firstNode f_draftLen f_draftOpen f_draftAtoms f_programUsed f_clauses f_trailLen f_depth f_choiceCount f_status f_solutions f_steps f_complete f_pairTop f_writeTop f_answerLen f_goalLen a_draft a_code a_skip a_local a_slotStart a_slotLen a_slotAtoms a_slotVars a_slotNodes a_slotWeight a_slotKey a_atomPlace a_nodeFn a_nodeLink a_nodeArg a_trail a_frameSlot a_frameBase a_contFrame a_contAtom a_selFrame a_selAtom a_nodeTop a_trailAt a_heapAt a_pendingAt a_choiceDepth a_choiceNext a_pairLeft a_pairRight a_colour a_dfsNode a_dfsArg a_writing a_writeStack a_varNumber m (nI n) (nI i) := by
  intro m
  induction m with
  | zero => intro n i h1 h2 h3; omega
  | succ m ih =>
    intro n i h1 h2 h3 hp
    by_cases c : i = 272
    · refine wm_leT 272 i (by omega) ?_
      rcases h n h1 with ⟨a, b, d⟩ | ⟨m', hm, a, b, d⟩
      · rw [b] at hp; exact hp
      · omega
    · refine wm_leF 272 i (by omega) (And.intro (pk_in n 272 (by omega)) ?_)
      rcases h n h1 with ⟨a, b, d⟩ | ⟨m', hm, a, b, d⟩
      · rw [b] at hp; exact wm_ltM (wm_rx a) hp
      · rw [b] at hp
        exact wm_ltF m' 0 (Nat.zero_le _) (And.intro (pk_in n 272 (by omega)) (nm_r (wm_rx a) (nm_r (nI_1 i) (ih m' (i + 1) hm (by omega) (by omega) hp)))) (wm_rx a)
theorem wx_deref {post : Int32 → Prop} {T : Nat} {ρ δ : Nat → Nat} {x : Int32} {n : Nat} (h : wm_UF T a_nodeLink ρ δ) (hT : T ≤ 272) (hn : n < T) (hd : δ n ≤ 272) (hx : x = nI n) (hp : post (nI (ρ n))) : wpX_deref post (f_clauseCap, f_heapCap, f_frameCap, f_choiceCap, f_querySlot, f_firstNode, f_draftLen, f_draftOpen, f_draftAtoms, f_programUsed, f_clauses, f_trailLen, f_depth, f_choiceCount, f_status, f_solutions, f_steps, f_complete, f_pairTop, f_writeTop, f_answerLen, f_goalLen, a_draft, a_code, a_skip, a_local, a_slotStart, a_slotLen, a_slotAtoms, a_slotVars, a_slotNodes, a_slotWeight, a_slotKey, a_atomPlace, a_nodeFn, a_nodeLink, a_nodeArg, a_trail, a_frameSlot, a_frameBase, a_contFrame, a_contAtom, a_selFrame, a_selAtom, a_nodeTop, a_trailAt, a_heapAt, a_pendingAt, a_choiceDepth, a_choiceNext, a_pairLeft, a_pairRight, a_colour, a_dfsNode, a_dfsArg, a_writing, a_writeStack, a_varNumber) x := by
  subst hx
  exact ⟨δ n + 1, wx_deref_4 (i := 0) h hT _ _ hn (by omega) (by omega) hp⟩
end
end
section
/-! the class's merging -/
/-- the nodes below T as the class stores them -/
def wm_GX (T : Nat) (F : Nat → Nat) (G : Nat → Nat → Nat) (fn arg : Nat → Int32) : Prop :=
  (16 ≤ T ∧ T ≤ 272) ∧ (∀ n, n < T → fn n = wm_fI (F n) ∧ (F n < 80 ∨ F n = 128) ∧ (n < 16 → F n = n) ∧ (16 ≤ n → 16 ≤ F n)) ∧ (∀ n, n < T → ∀ k, k < wm_ar (F n) → arg (4 * n + k) = nI (G n k) ∧ G n k < T)
theorem wm_GX_G {T : Nat} {F : Nat → Nat} {G : Nat → Nat → Nat} {fn arg : Nat → Int32} (h : wm_GX T F G fn arg) : ∀ a, a < T → ∀ k, k < wm_ar (F a) → G a k < T := fun a ha k hk => (h.2.2 a ha k hk).2
/-- links made since (L0, t0, tl0) -/
def wm_EX (T : Nat) (L0 : Nat → Int32) (t0 : Nat → Nat) (tl0 : Nat) (L : Nat → Int32) (t : Nat → Nat) (tl : Nat) : Prop :=
  tl0 ≤ tl ∧ (∀ i, i < tl0 → t i = t0 i) ∧ (∀ n, (∀ i, tl0 ≤ i → i < tl → t i ≠ n) → L n = L0 n) ∧ (∀ i, tl0 ≤ i → i < tl → t i < T ∧ L0 (t i) = -1) ∧
  (∀ i, i < tl → 16 ≤ t i ∧ t i < 272 ∧ ¬ L (t i) = -1) ∧ (∀ i j, i < tl → j < tl → t i = t j → i = j)
theorem wm_EX_256 {T : Nat} {L0 : Nat → Int32} {t0 : Nat → Nat} {tl0 : Nat} {L : Nat → Int32} {t : Nat → Nat} {tl : Nat} (h : wm_EX T L0 t0 tl0 L t tl) : tl ≤ 256 :=
  wm_TL_256 (d := 0) (TT := fun _ => 0) (ta := fun _ => 0) ⟨h.2.2.2.2.1, h.2.2.2.2.2, fun j _ i hi => absurd hi (Nat.not_lt_zero _)⟩
theorem wm_EX_link {T : Nat} {L0 : Nat → Int32} {t0 : Nat → Nat} {tl0 : Nat} {L : Nat → Int32} {t : Nat → Nat} {tl a b : Nat} (h : wm_EX T L0 t0 tl0 L t tl) (ha : a < T) (hT : T ≤ 272) (h16 : 16 ≤ a) (la : L a = -1) (hb : b < 2 ^ 31) :
    wm_EX T L0 t0 tl0 (upd L a (nI b)) (fun i => if i = tl then a else t i) (tl + 1) := by
  obtain ⟨h1, h2, h3, h4, h5, h6⟩ := h
  have hne : ∀ i, i < tl → t i ≠ a := fun i hi e => (h5 i hi).2.2 (by rw [e]; exact la)
  have la0 : L0 a = -1 := by
    rw [← h3 a (fun i _ hi => hne i hi)]; exact la
  refine ⟨by omega, fun i hi => ?_, fun n hn => ?_, fun i hi1 hi2 => ?_, fun i hi => ?_, fun i j hi hj e => ?_⟩
  · show (if i = tl then a else t i) = t0 i
    rw [if_neg (by omega)]; exact h2 i hi
  · have na : n ≠ a := fun e => hn tl h1 (by omega) (by show (if tl = tl then a else t tl) = n; rw [if_pos rfl, e])
    rw [pk_un na]
    refine h3 n (fun i x1 x2 e => hn i x1 (by omega) ?_)
    show (if i = tl then a else t i) = n
    rw [if_neg (by omega)]; exact e
  · show (if i = tl then a else t i) < T ∧ L0 (if i = tl then a else t i) = -1
    by_cases c : i = tl
    · rw [if_pos c]; exact ⟨ha, la0⟩
    · rw [if_neg c]; exact h4 i hi1 (by omega)
  · show 16 ≤ (if i = tl then a else t i) ∧ (if i = tl then a else t i) < 272 ∧ ¬ upd L a (nI b) (if i = tl then a else t i) = -1
    by_cases c : i = tl
    · rw [if_pos c, pk_us]; exact ⟨h16, by omega, wm_nm1 hb⟩
    · rw [if_neg c, pk_un (hne i (by omega))]; exact h5 i (by omega)
  · have e' : (if i = tl then a else t i) = (if j = tl then a else t j) := e
    by_cases c : i = tl
    · by_cases d : j = tl
      · omega
      · rw [if_pos c, if_neg d] at e'
        exact absurd e'.symm (hne j (by omega))
    · by_cases d : j = tl
      · rw [if_neg c, if_pos d] at e'
        exact absurd e' (hne i (by omega))
      · rw [if_neg c, if_neg d] at e'
        exact h6 i j (by omega) (by omega) e'
section
variable {f_clauseCap f_heapCap f_frameCap f_choiceCap f_querySlot f_firstNode f_draftLen f_draftOpen f_draftAtoms f_programUsed f_clauses f_trailLen f_depth f_choiceCount f_status f_solutions f_steps f_complete f_pairTop f_writeTop f_answerLen f_goalLen : Int32} {a_draft a_code a_skip a_local a_slotStart a_slotLen a_slotAtoms a_slotVars a_slotNodes a_slotWeight a_slotKey a_atomPlace a_nodeFn a_nodeLink a_nodeArg a_trail a_frameSlot a_frameBase a_contFrame a_contAtom a_selFrame a_selAtom a_nodeTop a_trailAt a_heapAt a_pendingAt a_choiceDepth a_choiceNext a_pairLeft a_pairRight a_colour a_dfsNode a_dfsArg a_writing a_writeStack a_varNumber : Nat → Int32}
theorem wx_pushPair {post : SX → Prop} {x y : Int32} {pt : Nat} (ht : f_pairTop = nI pt) (h : pt < 1032) (hp : post (f_clauseCap, f_heapCap, f_frameCap, f_choiceCap, f_querySlot, f_firstNode, f_draftLen, f_draftOpen, f_draftAtoms, f_programUsed, f_clauses, f_trailLen, f_depth, f_choiceCount, f_status, f_solutions, f_steps, f_complete, (nI (pt + 1)), f_writeTop, f_answerLen, f_goalLen, a_draft, a_code, a_skip, a_local, a_slotStart, a_slotLen, a_slotAtoms, a_slotVars, a_slotNodes, a_slotWeight, a_slotKey, a_atomPlace, a_nodeFn, a_nodeLink, a_nodeArg, a_trail, a_frameSlot, a_frameBase, a_contFrame, a_contAtom, a_selFrame, a_selAtom, a_nodeTop, a_trailAt, a_heapAt, a_pendingAt, a_choiceDepth, a_choiceNext, (upd a_pairLeft pt x), (upd a_pairRight pt y), a_colour, a_dfsNode, a_dfsArg, a_writing, a_writeStack, a_varNumber)) : wpX_pushPair post (f_clauseCap, f_heapCap, f_frameCap, f_choiceCap, f_querySlot, f_firstNode, f_draftLen, f_draftOpen, f_draftAtoms, f_programUsed, f_clauses, f_trailLen, f_depth, f_choiceCount, f_status, f_solutions, f_steps, f_complete, f_pairTop, f_writeTop, f_answerLen, f_goalLen, a_draft, a_code, a_skip, a_local, a_slotStart, a_slotLen, a_slotAtoms, a_slotVars, a_slotNodes, a_slotWeight, a_slotKey, a_atomPlace, a_nodeFn, a_nodeLink, a_nodeArg, a_trail, a_frameSlot, a_frameBase, a_contFrame, a_contAtom, a_selFrame, a_selAtom, a_nodeTop, a_trailAt, a_heapAt, a_pendingAt, a_choiceDepth, a_choiceNext, a_pairLeft, a_pairRight, a_colour, a_dfsNode, a_dfsArg, a_writing, a_writeStack, a_varNumber) x y := by
  subst ht
  exact And.intro (pk_in pt 1032 h) (nm_r (wm_ux rfl) (And.intro (pk_in pt 1032 h) (nm_r (wm_ux rfl) (nm_r (nI_1 pt) hp))))
theorem wx_link {post : SX → Prop} {x y : Int32} {a b tl : Nat} (hx : x = nI a) (hy : y = nI b) (ht : f_trailLen = nI tl) (ha : a < 272) (h : tl < 272) (hp : post (f_clauseCap, f_heapCap, f_frameCap, f_choiceCap, f_querySlot, f_firstNode, f_draftLen, f_draftOpen, f_draftAtoms, f_programUsed, f_clauses, (nI (tl + 1)), f_depth, f_choiceCount, f_status, f_solutions, f_steps, f_complete, f_pairTop, f_writeTop, f_answerLen, f_goalLen, a_draft, a_code, a_skip, a_local, a_slotStart, a_slotLen, a_slotAtoms, a_slotVars, a_slotNodes, a_slotWeight, a_slotKey, a_atomPlace, a_nodeFn, (upd a_nodeLink a (nI b)), a_nodeArg, (upd a_trail tl (nI a)), a_frameSlot, a_frameBase, a_contFrame, a_contAtom, a_selFrame, a_selAtom, a_nodeTop, a_trailAt, a_heapAt, a_pendingAt, a_choiceDepth, a_choiceNext, a_pairLeft, a_pairRight, a_colour, a_dfsNode, a_dfsArg, a_writing, a_writeStack, a_varNumber)) : wpX_link post (f_clauseCap, f_heapCap, f_frameCap, f_choiceCap, f_querySlot, f_firstNode, f_draftLen, f_draftOpen, f_draftAtoms, f_programUsed, f_clauses, f_trailLen, f_depth, f_choiceCount, f_status, f_solutions, f_steps, f_complete, f_pairTop, f_writeTop, f_answerLen, f_goalLen, a_draft, a_code, a_skip, a_local, a_slotStart, a_slotLen, a_slotAtoms, a_slotVars, a_slotNodes, a_slotWeight, a_slotKey, a_atomPlace, a_nodeFn, a_nodeLink, a_nodeArg, a_trail, a_frameSlot, a_frameBase, a_contFrame, a_contAtom, a_selFrame, a_selAtom, a_nodeTop, a_trailAt, a_heapAt, a_pendingAt, a_choiceDepth, a_choiceNext, a_pairLeft, a_pairRight, a_colour, a_dfsNode, a_dfsArg, a_writing, a_writeStack, a_varNumber) x y := by
  subst hx hy ht
  exact And.intro (pk_in a 272 ha) (nm_r (wm_ux rfl) (And.intro (pk_in tl 272 h) (nm_r (wm_ux rfl) (nm_r (nI_1 tl) hp))))
theorem wx_merge_95 {post : Int32 → SX → Prop} {a b ar : Nat} {G : Nat → Nat → Nat} {p0 : Nat} (ha : a < 272) (hb : b < 272) (har : ar ≤ 4) (hp0 : p0 + ar ≤ 1032) (hga : ∀ k, k < ar → a_nodeArg (4 * a + k) = nI (G a k)) (hgb : ∀ k, k < ar → a_nodeArg (4 * b + k) = nI (G b k)) :
    ∀ (m k : Nat) (f_pairTop : Int32) (a_pairLeft a_pairRight : Nat → Int32), k ≤ ar → ar < m + k → f_pairTop = nI (p0 + k) → (∀ i, i < k → a_pairLeft (p0 + i) = nI (G a i) ∧ a_pairRight (p0 + i) = nI (G b i)) →
    (∀ pl pr : Nat → Int32, (∀ i, i < ar → pl (p0 + i) = nI (G a i) ∧ pr (p0 + i) = nI (G b i)) → (∀ i, i < p0 → pl i = a_pairLeft i ∧ pr i = a_pairRight i) → post 1 (f_clauseCap, f_heapCap, f_frameCap, f_choiceCap, f_querySlot, f_firstNode, f_draftLen, f_draftOpen, f_draftAtoms, f_programUsed, f_clauses, f_trailLen, f_depth, f_choiceCount, f_status, f_solutions, f_steps, f_complete, (nI (p0 + ar)), f_writeTop, f_answerLen, f_goalLen, a_draft, a_code, a_skip, a_local, a_slotStart, a_slotLen, a_slotAtoms, a_slotVars, a_slotNodes, a_slotWeight, a_slotKey, a_atomPlace, a_nodeFn, a_nodeLink, a_nodeArg, a_trail, a_frameSlot, a_frameBase, a_contFrame, a_contAtom, a_selFrame, a_selAtom, a_nodeTop, a_trailAt, a_heapAt, a_pendingAt, a_choiceDepth, a_choiceNext, pl, pr, a_colour, a_dfsNode, a_dfsArg, a_writing, a_writeStack, a_varNumber)) →
    wX_merge_95 post (nI a) (nI b) (nI ar) m (nI k) f_clauseCap f_heapCap f_frameCap f_choiceCap f_querySlot f_firstNode f_draftLen f_draftOpen f_draftAtoms f_programUsed f_clauses f_trailLen f_depth f_choiceCount f_status f_solutions f_steps f_complete f_pairTop f_writeTop f_answerLen f_goalLen a_draft a_code a_skip a_local a_slotStart a_slotLen a_slotAtoms a_slotVars a_slotNodes a_slotWeight a_slotKey a_atomPlace a_nodeFn a_nodeLink a_nodeArg a_trail a_frameSlot a_frameBase a_contFrame a_contAtom a_selFrame a_selAtom a_nodeTop a_trailAt a_heapAt a_pendingAt a_choiceDepth a_choiceNext a_pairLeft a_pairRight a_colour a_dfsNode a_dfsArg a_writing a_writeStack a_varNumber := by
  intro m
  induction m with
  | zero => intro k _ _ _ h1 h2; omega
  | succ m ih =>
    intro k f_pairTop a_pairLeft a_pairRight h1 h2 hpt hi hp
    by_cases c : k = ar
    · subst c
      refine wm_leT k k (Nat.le_refl _) ?_
      rw [hpt]
      exact hp _ _ hi (fun _ _ => ⟨rfl, rfl⟩)
    · have ea : nI a * 4 + nI k = nI (4 * a + k) := by rw [show (4 : Int32) = nI 4 from rfl, pk_mul, nI_add, Nat.mul_comm]
      have eb : nI b * 4 + nI k = nI (4 * b + k) := by rw [show (4 : Int32) = nI 4 from rfl, pk_mul, nI_add, Nat.mul_comm]
      refine wm_leF ar k (by omega) (And.intro (pk_in (4 * a + k) 1088 (by omega) ea) (And.intro (pk_in (4 * b + k) 1088 (by omega) eb) (wx_pushPair hpt (by omega) (nm_r (nI_1 k) (ih (k + 1) _ _ _ (by omega) (by omega) rfl ?_ ?_)))))
      · intro i hik
        by_cases e : i = k
        · subst e; rw [pk_us, pk_us]
          exact ⟨wm_rx (hga i (by omega)) ea, wm_rx (hgb i (by omega)) eb⟩
        · rw [pk_un (by omega), pk_un (by omega)]; exact hi i (by omega)
      · intro pl pr x1 x2
        refine hp pl pr x1 (fun i hi' => ?_)
        have := x2 i hi'
        rw [pk_un (by omega), pk_un (by omega)] at this
        exact this
theorem wx_merge {post : Int32 → SX → Prop} {T : Nat} {F : Nat → Nat} {G : Nat → Nat → Nat} {a b tl pt : Nat} (hg : wm_GX T F G a_nodeFn a_nodeArg) (ha : a < T) (hb : b < T) (htl : f_trailLen = nI tl) (htl' : tl < 272) (hpt : f_pairTop = nI pt) (hpt' : pt + 4 ≤ 1032)
    (h1 : ¬ F a < 80 → post 1 (f_clauseCap, f_heapCap, f_frameCap, f_choiceCap, f_querySlot, f_firstNode, f_draftLen, f_draftOpen, f_draftAtoms, f_programUsed, f_clauses, (nI (tl + 1)), f_depth, f_choiceCount, f_status, f_solutions, f_steps, f_complete, f_pairTop, f_writeTop, f_answerLen, f_goalLen, a_draft, a_code, a_skip, a_local, a_slotStart, a_slotLen, a_slotAtoms, a_slotVars, a_slotNodes, a_slotWeight, a_slotKey, a_atomPlace, a_nodeFn, (upd a_nodeLink a (nI b)), a_nodeArg, (upd a_trail tl (nI a)), a_frameSlot, a_frameBase, a_contFrame, a_contAtom, a_selFrame, a_selAtom, a_nodeTop, a_trailAt, a_heapAt, a_pendingAt, a_choiceDepth, a_choiceNext, a_pairLeft, a_pairRight, a_colour, a_dfsNode, a_dfsArg, a_writing, a_writeStack, a_varNumber))
    (h2 : ¬ F b < 80 → post 1 (f_clauseCap, f_heapCap, f_frameCap, f_choiceCap, f_querySlot, f_firstNode, f_draftLen, f_draftOpen, f_draftAtoms, f_programUsed, f_clauses, (nI (tl + 1)), f_depth, f_choiceCount, f_status, f_solutions, f_steps, f_complete, f_pairTop, f_writeTop, f_answerLen, f_goalLen, a_draft, a_code, a_skip, a_local, a_slotStart, a_slotLen, a_slotAtoms, a_slotVars, a_slotNodes, a_slotWeight, a_slotKey, a_atomPlace, a_nodeFn, (upd a_nodeLink b (nI a)), a_nodeArg, (upd a_trail tl (nI b)), a_frameSlot, a_frameBase, a_contFrame, a_contAtom, a_selFrame, a_selAtom, a_nodeTop, a_trailAt, a_heapAt, a_pendingAt, a_choiceDepth, a_choiceNext, a_pairLeft, a_pairRight, a_colour, a_dfsNode, a_dfsArg, a_writing, a_writeStack, a_varNumber))
    (h3 : F a < 80 → F a = F b → ∀ pl pr : Nat → Int32, (∀ i, i < wm_ar (F a) → pl (pt + i) = nI (G a i) ∧ pr (pt + i) = nI (G b i)) → (∀ i, i < pt → pl i = a_pairLeft i ∧ pr i = a_pairRight i) →
      post 1 (f_clauseCap, f_heapCap, f_frameCap, f_choiceCap, f_querySlot, f_firstNode, f_draftLen, f_draftOpen, f_draftAtoms, f_programUsed, f_clauses, (nI (tl + 1)), f_depth, f_choiceCount, f_status, f_solutions, f_steps, f_complete, (nI (pt + wm_ar (F a))), f_writeTop, f_answerLen, f_goalLen, a_draft, a_code, a_skip, a_local, a_slotStart, a_slotLen, a_slotAtoms, a_slotVars, a_slotNodes, a_slotWeight, a_slotKey, a_atomPlace, a_nodeFn, (upd a_nodeLink a (nI b)), a_nodeArg, (upd a_trail tl (nI a)), a_frameSlot, a_frameBase, a_contFrame, a_contAtom, a_selFrame, a_selAtom, a_nodeTop, a_trailAt, a_heapAt, a_pendingAt, a_choiceDepth, a_choiceNext, pl, pr, a_colour, a_dfsNode, a_dfsArg, a_writing, a_writeStack, a_varNumber))
    (h0 : F a < 80 → F b < 80 → F a ≠ F b → post 0 (f_clauseCap, f_heapCap, f_frameCap, f_choiceCap, f_querySlot, f_firstNode, f_draftLen, f_draftOpen, f_draftAtoms, f_programUsed, f_clauses, f_trailLen, f_depth, f_choiceCount, f_status, f_solutions, f_steps, f_complete, f_pairTop, f_writeTop, f_answerLen, f_goalLen, a_draft, a_code, a_skip, a_local, a_slotStart, a_slotLen, a_slotAtoms, a_slotVars, a_slotNodes, a_slotWeight, a_slotKey, a_atomPlace, a_nodeFn, a_nodeLink, a_nodeArg, a_trail, a_frameSlot, a_frameBase, a_contFrame, a_contAtom, a_selFrame, a_selAtom, a_nodeTop, a_trailAt, a_heapAt, a_pendingAt, a_choiceDepth, a_choiceNext, a_pairLeft, a_pairRight, a_colour, a_dfsNode, a_dfsArg, a_writing, a_writeStack, a_varNumber)) : wpX_merge post (f_clauseCap, f_heapCap, f_frameCap, f_choiceCap, f_querySlot, f_firstNode, f_draftLen, f_draftOpen, f_draftAtoms, f_programUsed, f_clauses, f_trailLen, f_depth, f_choiceCount, f_status, f_solutions, f_steps, f_complete, f_pairTop, f_writeTop, f_answerLen, f_goalLen, a_draft, a_code, a_skip, a_local, a_slotStart, a_slotLen, a_slotAtoms, a_slotVars, a_slotNodes, a_slotWeight, a_slotKey, a_atomPlace, a_nodeFn, a_nodeLink, a_nodeArg, a_trail, a_frameSlot, a_frameBase, a_contFrame, a_contAtom, a_selFrame, a_selAtom, a_nodeTop, a_trailAt, a_heapAt, a_pendingAt, a_choiceDepth, a_choiceNext, a_pairLeft, a_pairRight, a_colour, a_dfsNode, a_dfsArg, a_writing, a_writeStack, a_varNumber) (nI a) (nI b) := by
  obtain ⟨hT, hf, hga⟩ := hg
  have hfa := (hf a ha).1
  have hfb := (hf b hb).1
  have ina : vp_in (nI a) 272 := pk_in a 272 (by omega)
  have inb : vp_in (nI b) 272 := pk_in b 272 (by omega)
  refine And.intro ina (nm_r (wm_rx hfa) (And.intro inb (nm_r (wm_rx hfb) ?_)))
  by_cases ca : F a < 80
  · have ea := wm_fI_t ca
    refine wm_leT 0 (F a) (Nat.zero_le _) ?_ rfl ea
    refine wm_leT 0 (F a) (Nat.zero_le _) ?_ rfl ea
    by_cases cb : F b < 80
    · have eb := wm_fI_t cb
      refine wm_leT 0 (F b) (Nat.zero_le _) ?_ rfl eb
      by_cases e : F a = F b
      · have a4 := wm_ar4 (F a)
        refine wm_eqT (F a) (F b) e (wx_link rfl rfl htl (by omega) htl' (wx_arF (F a) rfl ⟨wm_ar (F a) + 1, ?_⟩)) ea eb
        refine wx_merge_95 (k := 0) (G := G) (p0 := pt) (by omega) (by omega) a4 (by omega) (fun k hk => (hga a ha k hk).1) (fun k hk => (hga b hb k (by rw [← e]; exact hk)).1) _ _ _ _ (Nat.zero_le _) (by omega) hpt (fun i hi => by omega) (h3 ca e)
      · exact wm_eqF (F a) (F b) e (h0 ca cb e) ea eb
    · exact wm_geM (wm_fI_v cb) (wx_link rfl rfl htl (by omega) htl' (h2 cb))
  · have ea := wm_fI_v ca
    refine wm_geM ea ?_
    by_cases cb : F b < 80
    · have eb := wm_fI_t cb
      refine wm_leT 0 (F b) (Nat.zero_le _) ?_ rfl eb
      exact wm_geM ea (wx_link rfl rfl htl (by omega) htl' (h1 ca))
    · refine wm_geM (wm_fI_v cb) ?_
      exact pk_le a b (fun _ => wx_link rfl rfl htl (by omega) htl' (h2 cb)) (fun _ => wx_link rfl rfl htl (by omega) htl' (h1 ca))
end
end
section
/-! the class's mergePairs: solved, or no solution -/
def wm_PP (pt : Nat) (pl pr : Nat → Nat) (x y : Nat) : Prop := ∃ i, i < pt ∧ pl i = x ∧ pr i = y
/-- the state of merging: T nodes, equations Q, from (L0, t0, tl0) -/
def wm_MI (T : Nat) (F : Nat → Nat) (G : Nat → Nat → Nat) (Q : Nat → Nat → Prop) (L0 : Nat → Int32) (t0 : Nat → Nat) (tl0 : Nat) (it pt : Nat) (L tr PL PR : Nat → Int32) (tl : Nat) : Prop :=
  ∃ (ρ δ t pl pr : Nat → Nat), wm_UF T L ρ δ ∧ (∀ n, δ n ≤ tl) ∧ (∀ n, T ≤ n → ρ n = n) ∧ (∀ n, T ≤ n → δ n = 0) ∧ wm_EX T L0 t0 tl0 L t tl ∧ (∀ i, i < tl → tr i = nI (t i)) ∧
    (∀ i, i < pt → PL i = nI (pl i) ∧ PR i = nI (pr i)) ∧ wm_In T F G Q ρ (wm_PP pt pl pr) ∧ it + pt ≤ 4 + 4 * (tl - tl0)
def wm_MP (T : Nat) (F : Nat → Nat) (G : Nat → Nat → Nat) (Q : Nat → Nat → Prop) (L0 : Nat → Int32) (t0 : Nat → Nat) (tl0 : Nat) (r : Int32) (L tr : Nat → Int32) (tl : Nat) : Prop :=
  (∃ t : Nat → Nat, wm_EX T L0 t0 tl0 L t tl ∧ (∀ i, i < tl → tr i = nI (t i))) ∧
  ((r = 1 ∧ ∃ ρ δ : Nat → Nat, wm_UF T L ρ δ ∧ (∀ n, δ n ≤ tl) ∧ (∀ n, T ≤ n → ρ n = n) ∧ (∀ n, T ≤ n → δ n = 0) ∧ wm_Sv T F G Q ρ) ∨ (r = 0 ∧ ¬ wm_Gd T F G Q))
theorem wm_tr_ext {tr : Nat → Int32} {t : Nat → Nat} {tl a : Nat} (h : ∀ i, i < tl → tr i = nI (t i)) : ∀ i, i < tl + 1 → upd tr tl (nI a) i = nI (if i = tl then a else t i) := fun i hi => by
  by_cases c : i = tl
  · subst c; rw [pk_us, if_pos rfl]
  · rw [pk_un c, if_neg c]; exact h i (by omega)
/-- a link without new pairs -/
theorem wm_MI_v {T : Nat} {F : Nat → Nat} {G : Nat → Nat → Nat} {Q : Nat → Nat → Prop} {L0 : Nat → Int32} {t0 : Nat → Nat} {tl0 it pt : Nat} {L tr PL PR : Nat → Int32} {tl : Nat} {ρ δ t pl pr : Nat → Nat} {x y : Nat}
    (hT : 16 ≤ T ∧ T ≤ 272) (hG : ∀ a, a < T → ∀ k, k < wm_ar (F a) → G a k < T)
    (h1 : wm_UF T L ρ δ) (h2 : ∀ n, δ n ≤ tl) (h3 : ∀ n, T ≤ n → ρ n = n) (h3' : ∀ n, T ≤ n → δ n = 0) (h4 : wm_EX T L0 t0 tl0 L t tl) (h5 : ∀ i, i < tl → tr i = nI (t i)) (h6 : ∀ i, i < pt + 1 → PL i = nI (pl i) ∧ PR i = nI (pr i)) (h7 : wm_In T F G Q ρ (wm_PP (pt + 1) pl pr)) (h8 : it + (pt + 1) ≤ 4 + 4 * (tl - tl0))
    (hxy : (pl pt = x ∧ pr pt = y) ∨ (pl pt = y ∧ pr pt = x)) (hne : ρ x ≠ ρ y) (h16 : 16 ≤ ρ x) (hF : ¬ F (ρ x) < 80) :
    wm_MI T F G Q L0 t0 tl0 (it + 1) pt (upd L (ρ x) (nI (ρ y))) (upd tr tl (nI (ρ x))) PL PR (tl + 1) := by
  have hpp : wm_PP (pt + 1) pl pr (pl pt) (pr pt) := ⟨pt, by omega, rfl, rfl⟩
  have hb := h7.2.1 _ _ hpp
  have hx : x < T := by rcases hxy with ⟨e, e'⟩ | ⟨e, e'⟩ <;> omega
  have hy : y < T := by rcases hxy with ⟨e, e'⟩ | ⟨e, e'⟩ <;> omega
  obtain ⟨rx, lx, ix, -⟩ := wm_UF_rt h1 hx
  obtain ⟨ry, ly, iy, -⟩ := wm_UF_rt h1 hy
  refine ⟨fun n => if ρ n = ρ x then ρ y else ρ n, fun n => if ρ n = ρ x then δ n + 1 else δ n, fun i => if i = tl then ρ x else t i, pl, pr, wm_UF_union h1 (by omega) rx ry lx ly hne, fun n => ?_, fun n hn => ?_, fun n hn => ?_, wm_EX_link h4 rx hT.2 h16 lx (by omega), wm_tr_ext h5, fun i hi => h6 i (by omega), ?_, by have := h4.1; omega⟩
  · have := h2 n
    show (if ρ n = ρ x then δ n + 1 else δ n) ≤ tl + 1
    split <;> omega
  · show (if ρ n = ρ x then ρ y else ρ n) = n
    rw [h3 n hn, if_neg (by omega)]
  · show (if ρ n = ρ x then δ n + 1 else δ n) = 0
    rw [h3 n hn, if_neg (by omega)]; exact h3' n hn
  · have hz : ∀ k, ¬ k < wm_ar (F (ρ x)) := fun k hk => hF (wm_ar80 hk)
    refine wm_In_union h7 hG hpp hxy rfl rfl (Or.inl hF) (fun u v => ?_) (fun u v => ?_) (fun k hk => absurd hk (hz k))
    · rintro ⟨i, p1, p2, p3⟩
      by_cases c : i = pt
      · subst c; exact Or.inl ⟨p2.symm, p3.symm⟩
      · exact Or.inr ⟨i, by omega, p2, p3⟩
    · rintro ⟨i, p1, p2, p3⟩
      exact Or.inl ⟨i, by omega, p2, p3⟩
/-- a link of structures, with new pairs -/
theorem wm_MI_s {T : Nat} {F : Nat → Nat} {G : Nat → Nat → Nat} {Q : Nat → Nat → Prop} {L0 : Nat → Int32} {t0 : Nat → Nat} {tl0 it pt : Nat} {L tr PL PR PL' PR' : Nat → Int32} {tl : Nat} {ρ δ t pl pr : Nat → Nat}
    (hT : 16 ≤ T ∧ T ≤ 272) (hG : ∀ a, a < T → ∀ k, k < wm_ar (F a) → G a k < T)
    (h1 : wm_UF T L ρ δ) (h2 : ∀ n, δ n ≤ tl) (h3 : ∀ n, T ≤ n → ρ n = n) (h3' : ∀ n, T ≤ n → δ n = 0) (h4 : wm_EX T L0 t0 tl0 L t tl) (h5 : ∀ i, i < tl → tr i = nI (t i)) (h6 : ∀ i, i < pt + 1 → PL i = nI (pl i) ∧ PR i = nI (pr i)) (h7 : wm_In T F G Q ρ (wm_PP (pt + 1) pl pr)) (h8 : it + (pt + 1) ≤ 4 + 4 * (tl - tl0))
    (hne : ρ (pl pt) ≠ ρ (pr pt)) (h16 : 16 ≤ ρ (pl pt)) (hF : F (ρ (pl pt)) = F (ρ (pr pt)))
    (hn1 : ∀ i, i < wm_ar (F (ρ (pl pt))) → PL' (pt + i) = nI (G (ρ (pl pt)) i) ∧ PR' (pt + i) = nI (G (ρ (pr pt)) i)) (hn2 : ∀ i, i < pt → PL' i = PL i ∧ PR' i = PR i) :
    wm_MI T F G Q L0 t0 tl0 (it + 1) (pt + wm_ar (F (ρ (pl pt)))) (upd L (ρ (pl pt)) (nI (ρ (pr pt)))) (upd tr tl (nI (ρ (pl pt)))) PL' PR' (tl + 1) := by
  have hpp : wm_PP (pt + 1) pl pr (pl pt) (pr pt) := ⟨pt, by omega, rfl, rfl⟩
  obtain ⟨hx, hy⟩ := h7.2.1 _ _ hpp
  obtain ⟨rx, lx, ix, -⟩ := wm_UF_rt h1 hx
  obtain ⟨ry, ly, iy, -⟩ := wm_UF_rt h1 hy
  have a4 := wm_ar4 (F (ρ (pl pt)))
  refine ⟨fun n => if ρ n = ρ (pl pt) then ρ (pr pt) else ρ n, fun n => if ρ n = ρ (pl pt) then δ n + 1 else δ n, fun i => if i = tl then ρ (pl pt) else t i, fun i => if i < pt then pl i else G (ρ (pl pt)) (i - pt), fun i => if i < pt then pr i else G (ρ (pr pt)) (i - pt), wm_UF_union h1 (by omega) rx ry lx ly hne, fun n => ?_, fun n hn => ?_, fun n hn => ?_, wm_EX_link h4 rx hT.2 h16 lx (by omega), wm_tr_ext h5, fun i hi => ?_, ?_, by have := h4.1; omega⟩
  · have := h2 n
    show (if ρ n = ρ (pl pt) then δ n + 1 else δ n) ≤ tl + 1
    split <;> omega
  · show (if ρ n = ρ (pl pt) then ρ (pr pt) else ρ n) = n
    rw [h3 n hn, if_neg (by omega)]
  · show (if ρ n = ρ (pl pt) then δ n + 1 else δ n) = 0
    rw [h3 n hn, if_neg (by omega)]; exact h3' n hn
  · show PL' i = nI (if i < pt then pl i else G (ρ (pl pt)) (i - pt)) ∧ PR' i = nI (if i < pt then pr i else G (ρ (pr pt)) (i - pt))
    by_cases c : i < pt
    · rw [if_pos c, if_pos c, (hn2 i c).1, (hn2 i c).2]; exact h6 i (by omega)
    · rw [if_neg c, if_neg c]
      have := hn1 (i - pt) (by omega)
      rw [show pt + (i - pt) = i by omega] at this
      exact this
  · refine wm_In_union h7 hG hpp (Or.inl ⟨rfl, rfl⟩) rfl rfl (Or.inr hF) (fun u v => ?_) (fun u v => ?_) (fun k hk => ?_)
    · rintro ⟨i, p1, p2, p3⟩
      by_cases c : i = pt
      · subst c; exact Or.inl ⟨p2.symm, p3.symm⟩
      · refine Or.inr ⟨i, by omega, ?_, ?_⟩
        · show (if i < pt then pl i else _) = u
          rw [if_pos (by omega)]; exact p2
        · show (if i < pt then pr i else _) = v
          rw [if_pos (by omega)]; exact p3
    · rintro ⟨i, p1, p2, p3⟩
      have p2' : (if i < pt then pl i else G (ρ (pl pt)) (i - pt)) = u := p2
      have p3' : (if i < pt then pr i else G (ρ (pr pt)) (i - pt)) = v := p3
      by_cases c : i < pt
      · rw [if_pos c] at p2' p3'
        exact Or.inl ⟨i, by omega, p2', p3'⟩
      · rw [if_neg c] at p2' p3'
        exact Or.inr ⟨i - pt, by omega, p2'.symm, p3'.symm⟩
    · refine ⟨pt + k, by omega, ?_, ?_⟩
      · show (if pt + k < pt then _ else G (ρ (pl pt)) (pt + k - pt)) = _
        rw [if_neg (by omega), Nat.add_sub_cancel_left]
      · show (if pt + k < pt then _ else G (ρ (pr pt)) (pt + k - pt)) = _
        rw [if_neg (by omega), Nat.add_sub_cancel_left]
section
variable {f_clauseCap f_heapCap f_frameCap f_choiceCap f_querySlot f_firstNode f_draftLen f_draftOpen f_draftAtoms f_programUsed f_clauses f_trailLen f_depth f_choiceCount f_status f_solutions f_steps f_complete f_pairTop f_writeTop f_answerLen f_goalLen : Int32} {a_draft a_code a_skip a_local a_slotStart a_slotLen a_slotAtoms a_slotVars a_slotNodes a_slotWeight a_slotKey a_atomPlace a_nodeFn a_nodeLink a_nodeArg a_trail a_frameSlot a_frameBase a_contFrame a_contAtom a_selFrame a_selAtom a_nodeTop a_trailAt a_heapAt a_pendingAt a_choiceDepth a_choiceNext a_pairLeft a_pairRight a_colour a_dfsNode a_dfsArg a_writing a_writeStack a_varNumber : Nat → Int32}
theorem wx_mp_2 {post : Int32 → SX → Prop} {T : Nat} {F : Nat → Nat} {G : Nat → Nat → Nat} {Q : Nat → Nat → Prop} {L0 : Nat → Int32} {t0 : Nat → Nat} {tl0 : Nat} (hg : wm_GX T F G a_nodeFn a_nodeArg)
    (hp : ∀ (r : Int32) (tl : Nat) (pt : Int32) (L tr PL PR : Nat → Int32), wm_MP T F G Q L0 t0 tl0 r L tr tl → post r (f_clauseCap, f_heapCap, f_frameCap, f_choiceCap, f_querySlot, f_firstNode, f_draftLen, f_draftOpen, f_draftAtoms, f_programUsed, f_clauses, (nI tl), f_depth, f_choiceCount, f_status, f_solutions, f_steps, f_complete, pt, f_writeTop, f_answerLen, f_goalLen, a_draft, a_code, a_skip, a_local, a_slotStart, a_slotLen, a_slotAtoms, a_slotVars, a_slotNodes, a_slotWeight, a_slotKey, a_atomPlace, a_nodeFn, L, a_nodeArg, tr, a_frameSlot, a_frameBase, a_contFrame, a_contAtom, a_selFrame, a_selAtom, a_nodeTop, a_trailAt, a_heapAt, a_pendingAt, a_choiceDepth, a_choiceNext, PL, PR, a_colour, a_dfsNode, a_dfsArg, a_writing, a_writeStack, a_varNumber)) :
    ∀ (m it pt tl : Nat) (a_nodeLink a_trail a_pairLeft a_pairRight : Nat → Int32) (f_trailLen f_pairTop : Int32), 1032 < m + it → f_trailLen = nI tl → f_pairTop = nI pt → wm_MI T F G Q L0 t0 tl0 it pt a_nodeLink a_trail a_pairLeft a_pairRight tl →
      wX_mergePairs_2 post m (nI it) f_clauseCap f_heapCap f_frameCap f_choiceCap f_querySlot f_firstNode f_draftLen f_draftOpen f_draftAtoms f_programUsed f_clauses f_trailLen f_depth f_choiceCount f_status f_solutions f_steps f_complete f_pairTop f_writeTop f_answerLen f_goalLen a_draft a_code a_skip a_local a_slotStart a_slotLen a_slotAtoms a_slotVars a_slotNodes a_slotWeight a_slotKey a_atomPlace a_nodeFn a_nodeLink a_nodeArg a_trail a_frameSlot a_frameBase a_contFrame a_contAtom a_selFrame a_selAtom a_nodeTop a_trailAt a_heapAt a_pendingAt a_choiceDepth a_choiceNext a_pairLeft a_pairRight a_colour a_dfsNode a_dfsArg a_writing a_writeStack a_varNumber := by
  have hG := wm_GX_G hg
  intro m
  induction m with
  | zero =>
    intro it pt tl _ _ _ _ _ _ h1 _ _ hI
    obtain ⟨ρ, δ, t, pl, pr, -, -, -, -, h4, -, -, -, h8⟩ := hI
    have := wm_EX_256 h4
    omega
  | succ m ih =>
    intro it pt tl a_nodeLink a_trail a_pairLeft a_pairRight f_trailLen f_pairTop h1 htl hpt hI
    obtain ⟨ρ, δ, t, pl, pr, i1, i2, i3, i3', i4, i5, i6, i7, i8⟩ := hI
    have h256 := wm_EX_256 i4
    have hle := i4.1
    refine wm_leF 1032 it (by omega) ?_
    cases pt with
    | zero =>
      subst htl
      refine wm_leT 0 0 (Nat.le_refl _) ?_ hpt
      exact hp 1 tl _ _ _ _ _ ⟨⟨t, i4, i5⟩, Or.inl ⟨rfl, ρ, δ, i1, i2, i3, i3', wm_In_sv i7 (by rintro x y ⟨i, h, -⟩; omega)⟩⟩
    | succ pt =>
      obtain ⟨⟨hT1, hT2⟩, hf, hga⟩ := hg
      have hpp : wm_PP (pt + 1) pl pr (pl pt) (pr pt) := ⟨pt, by omega, rfl, rfl⟩
      obtain ⟨hx, hy⟩ := i7.2.1 _ _ hpp
      have hd := i2 (pl pt)
      have hd' := i2 (pr pt)
      obtain ⟨rx, lx, ix, -⟩ := wm_UF_rt i1 hx
      obtain ⟨ry, ly, iy, -⟩ := wm_UF_rt i1 hy
      have hin : vp_in (nI pt) 1032 := pk_in pt 1032 (by omega)
      refine wm_leF (pt + 1) 0 (by omega) (nm_r (e' := nI pt) (by rw [hpt, nI_pred]) (And.intro hin (wx_deref i1 hT2 hx (by omega) (wm_rx (i6 pt (by omega)).1) (And.intro hin (wx_deref i1 hT2 hy (by omega) (wm_rx (i6 pt (by omega)).2) ?_))))) hpt
      refine pk_eq (ρ (pl pt)) (ρ (pr pt)) (fun e => nm_r (nI_1 it) ?_) (fun e => ?_)
      · refine ih (it + 1) pt tl _ _ _ _ _ _ (by omega) htl rfl ⟨ρ, δ, t, pl, pr, i1, i2, i3, i3', i4, i5, fun i hi => i6 i (by omega), wm_In_skip i7 hpp e (fun u v => ?_) (fun u v => ?_), by omega⟩
        · rintro ⟨i, p1, p2, p3⟩
          by_cases c : i = pt
          · subst c; exact Or.inl ⟨p2.symm, p3.symm⟩
          · exact Or.inr ⟨i, by omega, p2, p3⟩
        · rintro ⟨i, p1, p2, p3⟩
          exact ⟨i, by omega, p2, p3⟩
      · have v16 : ∀ z, z < T → ¬ F z < 80 → 16 ≤ z := fun z hz hfz => by
          rcases Nat.lt_or_ge z 16 with q | q
          · have := (hf z hz).2.2.1 q; omega
          · exact q
        refine wx_merge (tl := tl) (pt := pt) ⟨⟨hT1, hT2⟩, hf, hga⟩ rx ry htl (by omega) rfl (by omega) (fun c => ?_) (fun c => ?_) (fun c c' PL PR x1 x2 => ?_) (fun c c' c2 => ?_)
        · refine wm_eqF 1 0 (by omega) (nm_r (nI_1 it) (ih (it + 1) pt (tl + 1) _ _ _ _ _ _ (by omega) rfl rfl ?_))
          exact wm_MI_v ⟨hT1, hT2⟩ hG i1 i2 i3 i3' i4 i5 i6 i7 i8 (Or.inl ⟨rfl, rfl⟩) e (v16 _ rx c) c
        · refine wm_eqF 1 0 (by omega) (nm_r (nI_1 it) (ih (it + 1) pt (tl + 1) _ _ _ _ _ _ (by omega) rfl rfl ?_))
          exact wm_MI_v ⟨hT1, hT2⟩ hG i1 i2 i3 i3' i4 i5 i6 i7 i8 (Or.inr ⟨rfl, rfl⟩) (fun z => e z.symm) (v16 _ ry c) c
        · refine wm_eqF 1 0 (by omega) (nm_r (nI_1 it) (ih (it + 1) _ (tl + 1) _ _ _ _ _ _ (by omega) rfl rfl ?_))
          refine wm_MI_s ⟨hT1, hT2⟩ hG i1 i2 i3 i3' i4 i5 i6 i7 i8 e ?_ c' x1 x2
          rcases Nat.lt_or_ge (ρ (pl pt)) 16 with q | q
          · have p1 := (hf _ rx).2.2.1 q
            rcases Nat.lt_or_ge (ρ (pr pt)) 16 with q' | q'
            · have p2 := (hf _ ry).2.2.1 q'; omega
            · have p2 := (hf _ ry).2.2.2 q'; omega
          · exact q
        · subst htl
          refine wm_eqT 0 0 rfl ?_
          exact hp 0 tl _ _ _ _ _ ⟨⟨t, i4, i5⟩, Or.inr ⟨rfl, wm_clash i7 hpp c c' c2⟩⟩
theorem wx_mergePairs {post : Int32 → SX → Prop} {T : Nat} {F : Nat → Nat} {G : Nat → Nat → Nat} {Q : Nat → Nat → Prop} {L0 : Nat → Int32} {t0 : Nat → Nat} {tl0 pt : Nat} (hg : wm_GX T F G a_nodeFn a_nodeArg) (htl : f_trailLen = nI tl0) (hpt : f_pairTop = nI pt)
    (hI : wm_MI T F G Q L0 t0 tl0 0 pt a_nodeLink a_trail a_pairLeft a_pairRight tl0)
    (hp : ∀ (r : Int32) (tl : Nat) (pt : Int32) (L tr PL PR : Nat → Int32), wm_MP T F G Q L0 t0 tl0 r L tr tl → post r (f_clauseCap, f_heapCap, f_frameCap, f_choiceCap, f_querySlot, f_firstNode, f_draftLen, f_draftOpen, f_draftAtoms, f_programUsed, f_clauses, (nI tl), f_depth, f_choiceCount, f_status, f_solutions, f_steps, f_complete, pt, f_writeTop, f_answerLen, f_goalLen, a_draft, a_code, a_skip, a_local, a_slotStart, a_slotLen, a_slotAtoms, a_slotVars, a_slotNodes, a_slotWeight, a_slotKey, a_atomPlace, a_nodeFn, L, a_nodeArg, tr, a_frameSlot, a_frameBase, a_contFrame, a_contAtom, a_selFrame, a_selAtom, a_nodeTop, a_trailAt, a_heapAt, a_pendingAt, a_choiceDepth, a_choiceNext, PL, PR, a_colour, a_dfsNode, a_dfsArg, a_writing, a_writeStack, a_varNumber)) : wpX_mergePairs post (f_clauseCap, f_heapCap, f_frameCap, f_choiceCap, f_querySlot, f_firstNode, f_draftLen, f_draftOpen, f_draftAtoms, f_programUsed, f_clauses, f_trailLen, f_depth, f_choiceCount, f_status, f_solutions, f_steps, f_complete, f_pairTop, f_writeTop, f_answerLen, f_goalLen, a_draft, a_code, a_skip, a_local, a_slotStart, a_slotLen, a_slotAtoms, a_slotVars, a_slotNodes, a_slotWeight, a_slotKey, a_atomPlace, a_nodeFn, a_nodeLink, a_nodeArg, a_trail, a_frameSlot, a_frameBase, a_contFrame, a_contAtom, a_selFrame, a_selAtom, a_nodeTop, a_trailAt, a_heapAt, a_pendingAt, a_choiceDepth, a_choiceNext, a_pairLeft, a_pairRight, a_colour, a_dfsNode, a_dfsArg, a_writing, a_writeStack, a_varNumber) :=
  ⟨1033, wx_mp_2 (it := 0) hg hp 1033 pt tl0 _ _ _ _ _ _ (by omega) htl hpt hI⟩
end
end
section
/-! pure: the search for cycles -/
def wm_u (f : Nat → Nat) (k v : Nat) : Nat → Nat := fun j => if j = k then v else f j
theorem wm_us {f : Nat → Nat} {k v : Nat} : wm_u f k v k = v := if_pos rfl
theorem wm_un {f : Nat → Nat} {k v j : Nat} (h : j ≠ k) : wm_u f k v j = f j := if_neg h
theorem wm_cn_del {P P' : Nat → Bool} {m : Nat} (hm : P m = true) (hm' : ¬ P' m = true) (h : ∀ k, k ≠ m → P' k = P k) : ∀ N, m < N → wm_cn P' N + 1 = wm_cn P N
  | 0, hN => absurd hN (Nat.not_lt_zero _)
  | N + 1, hN => by
    rcases Nat.lt_or_ge m N with z | z
    · have ih := wm_cn_del hm hm' h N z
      have e := h N (by omega)
      simp only [wm_cn, e]; omega
    · have e : m = N := by omega
      subst e
      rw [wm_cn_t hm, wm_cn_f hm', wm_cn_congr (fun k hk => h k (by omega))]
def wm_wh (c : Nat → Nat) : Nat := wm_cn (fun n => decide (c n = 0)) 272
def wm_sm (e : Nat → Nat) : Nat → Nat
  | 0 => 0
  | t + 1 => wm_sm e t + (5 - e t)
theorem wm_sm_congr {e e' : Nat → Nat} : ∀ {n : Nat}, (∀ t, t < n → e' t = e t) → wm_sm e' n = wm_sm e n
  | 0, _ => rfl
  | n + 1, h => by simp only [wm_sm, wm_sm_congr (e := e) (e' := e') (n := n) (fun t ht => h t (by omega)), h n (by omega)]
theorem wm_wh_del {c : Nat → Nat} {m v : Nat} (hm : c m = 0) (hv : v ≠ 0) (h : m < 272) : wm_wh (wm_u c m v) + 1 = wm_wh c := by
  refine wm_cn_del (m := m) (by simp [hm]) (by simp [wm_us, hv]) (fun k hk => ?_) 272 h
  show decide (wm_u c m v k = 0) = decide (c k = 0)
  rw [wm_un hk]
theorem wm_wh_same {c : Nat → Nat} {m v : Nat} (hm : c m ≠ 0) (hv : v ≠ 0) : wm_wh (wm_u c m v) = wm_wh c := by
  refine wm_cn_congr (fun k _ => ?_)
  show decide (wm_u c m v k = 0) = decide (c k = 0)
  by_cases e : k = m
  · subst e; rw [wm_us]; simp [hm, hv]
  · rw [wm_un e]
/-- nodes of colour 2 -/
def wm_DB (T : Nat) (F : Nat → Nat) (G : Nat → Nat → Nat) (ρ c r2 : Nat → Nat) (B : Nat) : Prop :=
  (∀ n, c n ≤ 2) ∧ (∀ n, c n = 2 → n < T ∧ r2 n < B ∧ ∀ k, k < wm_ar (F n) → c (ρ (G n k)) = 2 ∧ r2 (ρ (G n k)) < r2 n)
/-- the stack -/
def wm_DS (T : Nat) (F : Nat → Nat) (G : Nat → Nat → Nat) (ρ c s e : Nat → Nat) (top : Nat) : Prop :=
  (∀ t, t < top → s t < T ∧ c (s t) = 1 ∧ e t ≤ wm_ar (F (s t)) ∧ (∀ k, k < e t → (k + 1 < e t ∨ t + 1 = top) → c (ρ (G (s t) k)) = 2)) ∧
  (∀ t, t + 1 < top → 0 < e t ∧ s (t + 1) = ρ (G (s t) (e t - 1))) ∧ (∀ n, c n = 1 → ∃ t, t < top ∧ s t = n) ∧ (∀ t t', t < top → t' < top → s t = s t' → t = t')
def wm_DC (c e : Nat → Nat) (top it : Nat) : Prop := wm_wh c + top ≤ 272 ∧ it + 5 * wm_wh c + wm_sm e top ≤ 1360
section
variable {T : Nat} {F : Nat → Nat} {G : Nat → Nat → Nat} {ρ c r2 s e : Nat → Nat} {B tp it : Nat}
theorem wm_D_pop (hb : wm_DB T F G ρ c r2 B) (hs : wm_DS T F G ρ c s e (tp + 1)) (hc : wm_DC c e (tp + 1) it) (he : wm_ar (F (s tp)) ≤ e tp) :
    wm_DB T F G ρ (wm_u c (s tp) 2) (wm_u r2 (s tp) B) (B + 1) ∧ wm_DS T F G ρ (wm_u c (s tp) 2) s e tp ∧ wm_DC (wm_u c (s tp) 2) e tp (it + 1) ∧ wm_u c (s tp) 2 (s tp) = 2 ∧ ∀ n, c n = 2 → wm_u c (s tp) 2 n = 2 := by
  obtain ⟨b1, b2⟩ := hb
  obtain ⟨s1, s2, s3, s4⟩ := hs
  obtain ⟨t1, t2, t3, t4⟩ := s1 tp (by omega)
  have ne : ∀ n, c n = 2 → n ≠ s tp := fun n h1 h2 => by rw [h2] at h1; omega
  have keep : ∀ n, c n = 2 → wm_u c (s tp) 2 n = 2 := fun n h => by rw [wm_un (ne n h)]; exact h
  refine ⟨⟨fun n => ?_, fun n hn => ?_⟩, ⟨fun t ht => ?_, fun t ht => s2 t (by omega), fun n hn => ?_, fun t t' h1 h2 => s4 t t' (by omega) (by omega)⟩, ?_, wm_us, keep⟩
  · by_cases q : n = s tp
    · subst q; rw [wm_us]; omega
    · rw [wm_un q]; exact b1 n
  · by_cases q : n = s tp
    · subst q
      refine ⟨t1, by rw [wm_us]; omega, fun k hk => ?_⟩
      have ck := t4 k (by omega) (Or.inr rfl)
      refine ⟨keep _ ck, ?_⟩
      rw [wm_un (ne _ ck), wm_us]
      exact (b2 _ ck).2.1
    · rw [wm_un q] at hn
      obtain ⟨x1, x2, x3⟩ := b2 n hn
      refine ⟨x1, by rw [wm_un q]; omega, fun k hk => ?_⟩
      obtain ⟨y1, y2⟩ := x3 k hk
      refine ⟨keep _ y1, ?_⟩
      rw [wm_un (ne _ y1), wm_un q]; exact y2
  · obtain ⟨x1, x2, x3, x4⟩ := s1 t (by omega)
    have q : s t ≠ s tp := fun h => by have := s4 t tp (by omega) (by omega) h; omega
    refine ⟨x1, by rw [wm_un q]; exact x2, x3, fun k hk hor => ?_⟩
    rcases hor with h | h
    · exact keep _ (x4 k hk (Or.inl h))
    · by_cases hk2 : k + 1 < e t
      · exact keep _ (x4 k hk (Or.inl hk2))
      · obtain ⟨y1, y2⟩ := s2 t (by omega)
        have ek : k = e t - 1 := by omega
        rw [ek, ← y2, h]; exact wm_us
  · by_cases q : n = s tp
    · subst q; rw [wm_us] at hn; omega
    · rw [wm_un q] at hn
      obtain ⟨t, ht, et⟩ := s3 n hn
      refine ⟨t, ?_, et⟩
      rcases Nat.lt_or_ge t tp with z | z
      · exact z
      · have : t = tp := by omega
        subst this; exact absurd et.symm q
  · obtain ⟨c1, c2⟩ := hc
    unfold wm_DC
    rw [wm_wh_same (by omega) (by omega)]
    simp only [wm_sm] at c2
    have := wm_ar4 (F (s tp))
    omega
theorem wm_D_adv (hb : wm_DB T F G ρ c r2 B) (hs : wm_DS T F G ρ c s e (tp + 1)) (hc : wm_DC c e (tp + 1) it) (he : e tp < wm_ar (F (s tp))) (hm : c (ρ (G (s tp) (e tp))) = 2) :
    wm_DS T F G ρ c s (wm_u e tp (e tp + 1)) (tp + 1) ∧ wm_DC c (wm_u e tp (e tp + 1)) (tp + 1) (it + 1) := by
  obtain ⟨s1, s2, s3, s4⟩ := hs
  refine ⟨⟨fun t ht => ?_, fun t ht => ?_, s3, s4⟩, ?_⟩
  · obtain ⟨x1, x2, x3, x4⟩ := s1 t ht
    by_cases q : t = tp
    · subst q
      refine ⟨x1, x2, by rw [wm_us]; omega, fun k hk _ => ?_⟩
      rw [wm_us] at hk
      by_cases ek : k = e t
      · rw [ek]; exact hm
      · exact x4 k (by omega) (Or.inr rfl)
    · rw [wm_un q]; exact ⟨x1, x2, x3, x4⟩
  · rw [wm_un (by omega)]; exact s2 t ht
  · obtain ⟨c1, c2⟩ := hc
    refine ⟨c1, ?_⟩
    simp only [wm_sm] at c2 ⊢
    rw [wm_us, wm_sm_congr (e := e) (fun t ht => wm_un (by omega))]
    have := wm_ar4 (F (s tp))
    omega
theorem wm_D_push (hb : wm_DB T F G ρ c r2 B) (hs : wm_DS T F G ρ c s e (tp + 1)) (hc : wm_DC c e (tp + 1) it) (he : e tp < wm_ar (F (s tp))) (hm : c (ρ (G (s tp) (e tp))) = 0) (hmT : ρ (G (s tp) (e tp)) < T) (hT : T ≤ 272) :
    wm_DB T F G ρ (wm_u c (ρ (G (s tp) (e tp))) 1) r2 B ∧ wm_DS T F G ρ (wm_u c (ρ (G (s tp) (e tp))) 1) (wm_u s (tp + 1) (ρ (G (s tp) (e tp)))) (wm_u (wm_u e tp (e tp + 1)) (tp + 1) 0) (tp + 1 + 1) ∧
      wm_DC (wm_u c (ρ (G (s tp) (e tp))) 1) (wm_u (wm_u e tp (e tp + 1)) (tp + 1) 0) (tp + 1 + 1) (it + 1) ∧ ∀ n, c n = 2 → wm_u c (ρ (G (s tp) (e tp))) 1 n = 2 := by
  generalize hmm : ρ (G (s tp) (e tp)) = m at *
  obtain ⟨b1, b2⟩ := hb
  obtain ⟨s1, s2, s3, s4⟩ := hs
  have ne : ∀ n, c n = 2 → n ≠ m := fun n h1 h2 => by rw [h2] at h1; omega
  have keep : ∀ n, c n = 2 → wm_u c m 1 n = 2 := fun n h => by rw [wm_un (ne n h)]; exact h
  have nst : ∀ t, t < tp + 1 → s t ≠ m := fun t ht h => by have := (s1 t ht).2.1; rw [h] at this; omega
  refine ⟨⟨fun n => ?_, fun n hn => ?_⟩, ⟨fun t ht => ?_, fun t ht => ?_, fun n hn => ?_, fun t t' h1 h2 h3 => ?_⟩, ?_, keep⟩
  · by_cases q : n = m
    · subst q; rw [wm_us]; omega
    · rw [wm_un q]; exact b1 n
  · by_cases q : n = m
    · subst q; rw [wm_us] at hn; omega
    · rw [wm_un q] at hn
      obtain ⟨x1, x2, x3⟩ := b2 n hn
      exact ⟨x1, x2, fun k hk => ⟨keep _ (x3 k hk).1, (x3 k hk).2⟩⟩
  · by_cases q : t = tp + 1
    · subst q
      rw [wm_us, wm_us, wm_us]
      exact ⟨hmT, rfl, Nat.zero_le _, fun k hk => absurd hk (Nat.not_lt_zero _)⟩
    · obtain ⟨x1, x2, x3, x4⟩ := s1 t (by omega)
      rw [wm_un q, wm_un q, wm_un (nst t (by omega))]
      by_cases q' : t = tp
      · subst q'
        rw [wm_us]
        exact ⟨x1, x2, by omega, fun k hk hor => keep _ (x4 k (by omega) (Or.inr rfl))⟩
      · rw [wm_un q']
        exact ⟨x1, x2, x3, fun k hk hor => keep _ (x4 k hk (by omega))⟩
  · by_cases q : t = tp
    · subst q
      have n1 : t ≠ t + 1 := by omega
      simp only [wm_us, wm_un n1, Nat.add_sub_cancel]
      exact ⟨by omega, hmm.symm⟩
    · have n1 : t ≠ tp + 1 := by omega
      have n2 : t + 1 ≠ tp + 1 := by omega
      simp only [wm_un n1, wm_un n2, wm_un q]
      exact s2 t (by omega)
  · by_cases q : n = m
    · subst q; exact ⟨tp + 1, by omega, wm_us⟩
    · rw [wm_un q] at hn
      obtain ⟨t, ht, et⟩ := s3 n hn
      exact ⟨t, by omega, by rw [wm_un (by omega)]; exact et⟩
  · by_cases q : t = tp + 1
    · by_cases q' : t' = tp + 1
      · omega
      · rw [q, wm_us, wm_un q'] at h3
        exact absurd h3.symm (nst t' (by omega))
    · by_cases q' : t' = tp + 1
      · rw [q', wm_us, wm_un q] at h3
        exact absurd h3 (nst t (by omega))
      · rw [wm_un q, wm_un q'] at h3
        exact s4 t t' (by omega) (by omega) h3
  · obtain ⟨c1, c2⟩ := hc
    have w := wm_wh_del (v := 1) hm (by omega) (show m < 272 by omega)
    refine ⟨by omega, ?_⟩
    simp only [wm_sm] at c2 ⊢
    rw [wm_us, wm_un (by omega), wm_us, wm_sm_congr (e := e) (fun t ht => by rw [wm_un (by omega), wm_un (by omega)])]
    have := wm_ar4 (F (s tp))
    omega
/-- a node on the path again: no rank -/
theorem wm_D_cyc {rk : Nat → Nat} (hr : wm_Rk T F G ρ rk) (hG : ∀ a, a < T → ∀ k, k < wm_ar (F a) → G a k < T) (hs : wm_DS T F G ρ c s e (tp + 1)) (he : e tp < wm_ar (F (s tp))) (hm : c (ρ (G (s tp) (e tp))) = 1) : False := by
  obtain ⟨s1, s2, s3, s4⟩ := hs
  have dn : ∀ d t, t + d = tp → rk (s tp) ≤ rk (s t) := by
    intro d
    induction d with
    | zero => intro t ht; have : t = tp := by omega
              subst this; exact Nat.le_refl _
    | succ d ih =>
      intro t ht
      have a := ih (t + 1) (by omega)
      obtain ⟨x1, x2, x3, x4⟩ := s1 t (by omega)
      obtain ⟨y1, y2⟩ := s2 t (by omega)
      have hk : e t - 1 < wm_ar (F (s t)) := by omega
      have p := hr.2 (s t) x1 (e t - 1) hk
      have q := hr.1 (G (s t) (e t - 1)) (hG _ x1 _ hk)
      rw [← y2] at q
      omega
  obtain ⟨t, ht, et⟩ := s3 _ hm
  have a := dn (tp - t) t (by omega)
  have x1 := (s1 tp (by omega)).1
  have p := hr.2 (s tp) x1 (e tp) he
  have q := hr.1 (G (s tp) (e tp)) (hG _ x1 _ he)
  rw [← et] at q
  omega
end
end
section
/-! the class's search for cycles -/
section
variable {f_clauseCap f_heapCap f_frameCap f_choiceCap f_querySlot f_firstNode f_draftLen f_draftOpen f_draftAtoms f_programUsed f_clauses f_trailLen f_depth f_choiceCount f_status f_solutions f_steps f_complete f_pairTop f_writeTop f_answerLen f_goalLen : Int32} {a_draft a_code a_skip a_local a_slotStart a_slotLen a_slotAtoms a_slotVars a_slotNodes a_slotWeight a_slotKey a_atomPlace a_nodeFn a_nodeLink a_nodeArg a_trail a_frameSlot a_frameBase a_contFrame a_contAtom a_selFrame a_selAtom a_nodeTop a_trailAt a_heapAt a_pendingAt a_choiceDepth a_choiceNext a_pairLeft a_pairRight a_colour a_dfsNode a_dfsArg a_writing a_writeStack a_varNumber : Nat → Int32}
theorem wx_ff_36 {post : Int32 → SX → Prop} {T : Nat} {F : Nat → Nat} {G : Nat → Nat → Nat} {Q : Nat → Nat → Prop} {ρ δ : Nat → Nat} (hg : wm_GX T F G a_nodeFn a_nodeArg) (hu : wm_UF T a_nodeLink ρ δ) (hd : ∀ n, δ n ≤ 272) (hs : wm_Sv T F G Q ρ) {c0 : Nat → Nat} {root : Nat}
    (h1 : ∀ (c r2 : Nat → Nat) (B : Nat) (col dn da : Nat → Int32), wm_DB T F G ρ c r2 B → (∀ n, c n ≠ 1) → (∀ n, n < 272 → col n = nI (c n)) → c root = 2 → (∀ n, c0 n = 2 → c n = 2) → post 1 (f_clauseCap, f_heapCap, f_frameCap, f_choiceCap, f_querySlot, f_firstNode, f_draftLen, f_draftOpen, f_draftAtoms, f_programUsed, f_clauses, f_trailLen, f_depth, f_choiceCount, f_status, f_solutions, f_steps, f_complete, f_pairTop, f_writeTop, f_answerLen, f_goalLen, a_draft, a_code, a_skip, a_local, a_slotStart, a_slotLen, a_slotAtoms, a_slotVars, a_slotNodes, a_slotWeight, a_slotKey, a_atomPlace, a_nodeFn, a_nodeLink, a_nodeArg, a_trail, a_frameSlot, a_frameBase, a_contFrame, a_contAtom, a_selFrame, a_selAtom, a_nodeTop, a_trailAt, a_heapAt, a_pendingAt, a_choiceDepth, a_choiceNext, a_pairLeft, a_pairRight, col, dn, da, a_writing, a_writeStack, a_varNumber))
    (h0 : ∀ (col dn da : Nat → Int32), ¬ wm_Gd T F G Q → post 0 (f_clauseCap, f_heapCap, f_frameCap, f_choiceCap, f_querySlot, f_firstNode, f_draftLen, f_draftOpen, f_draftAtoms, f_programUsed, f_clauses, f_trailLen, f_depth, f_choiceCount, f_status, f_solutions, f_steps, f_complete, f_pairTop, f_writeTop, f_answerLen, f_goalLen, a_draft, a_code, a_skip, a_local, a_slotStart, a_slotLen, a_slotAtoms, a_slotVars, a_slotNodes, a_slotWeight, a_slotKey, a_atomPlace, a_nodeFn, a_nodeLink, a_nodeArg, a_trail, a_frameSlot, a_frameBase, a_contFrame, a_contAtom, a_selFrame, a_selAtom, a_nodeTop, a_trailAt, a_heapAt, a_pendingAt, a_choiceDepth, a_choiceNext, a_pairLeft, a_pairRight, col, dn, da, a_writing, a_writeStack, a_varNumber)) :
    ∀ (m it top : Nat) (c r2 s e : Nat → Nat) (B : Nat) (a_colour a_dfsNode a_dfsArg : Nat → Int32), 1361 < m + it → (∀ n, n < 272 → a_colour n = nI (c n)) → (∀ t, t < top → a_dfsNode t = nI (s t) ∧ a_dfsArg t = nI (e t)) →
      wm_DB T F G ρ c r2 B → wm_DS T F G ρ c s e top → wm_DC c e top it → (c root = 2 ∨ (0 < top ∧ s 0 = root)) → (∀ n, c0 n = 2 → c n = 2) →
      wX_finiteFrom_36 post f_clauseCap f_heapCap f_frameCap f_choiceCap f_querySlot f_firstNode f_draftLen f_draftOpen f_draftAtoms f_programUsed f_clauses f_trailLen f_depth f_choiceCount f_status f_solutions f_steps f_complete f_pairTop f_writeTop f_answerLen f_goalLen m (nI top) (nI it) a_draft a_code a_skip a_local a_slotStart a_slotLen a_slotAtoms a_slotVars a_slotNodes a_slotWeight a_slotKey a_atomPlace a_nodeFn a_nodeLink a_nodeArg a_trail a_frameSlot a_frameBase a_contFrame a_contAtom a_selFrame a_selAtom a_nodeTop a_trailAt a_heapAt a_pendingAt a_choiceDepth a_choiceNext a_pairLeft a_pairRight a_colour a_dfsNode a_dfsArg a_writing a_writeStack a_varNumber := by
  have hG := wm_GX_G hg
  obtain ⟨⟨hT1, hT2⟩, hf, hga⟩ := hg
  intro m
  induction m with
  | zero => intro it top c r2 s e B _ _ _ hm _ _ _ _ hc; unfold wm_DC at hc; omega
  | succ m ih =>
    intro it top c r2 s e B a_colour a_dfsNode a_dfsArg hm hcol hst hb hds hdc hroot hk0
    have hdc' := hdc
    unfold wm_DC at hdc'
    refine wm_leF 1400 it (by omega) ?_
    cases top with
    | zero =>
      refine wm_leT 0 0 (Nat.le_refl _) (h1 c r2 B _ _ _ hb (fun n hn => ?_) hcol ?_ hk0)
      · obtain ⟨t, ht, -⟩ := hds.2.2.1 n hn; omega
      · rcases hroot with h | h
        · exact h
        · omega
    | succ tp =>
      obtain ⟨x1, x2, x3, x4⟩ := hds.1 tp (by omega)
      obtain ⟨q1, q2⟩ := hst tp (by omega)
      have a4 := wm_ar4 (F (s tp))
      have hin : vp_in (nI (tp + 1) - 1) 272 := pk_in tp 272 (by omega) (nI_pred tp)
      have hin4 : vp_in (nI (s tp)) 272 := pk_in (s tp) 272 (by omega)
      refine wm_leF (tp + 1) 0 (by omega) (And.intro hin (nm_r (wm_rx q1 (nI_pred tp)) (And.intro hin (nm_r (wm_rx q2 (nI_pred tp)) (And.intro hin4 (wx_arF (F (s tp)) (wm_rx (hf _ x1).1) ?_))))))
      refine pk_lt (e tp) (wm_ar (F (s tp))) (fun hlt => ?_) (fun hge => ?_)
      · have ex : nI (s tp) * 4 + nI (e tp) = nI (4 * s tp + e tp) := by rw [show (4 : Int32) = nI 4 from rfl, pk_mul, nI_add, Nat.mul_comm]
        obtain ⟨g1, g2⟩ := hga (s tp) x1 (e tp) hlt
        obtain ⟨rT, -, -, -⟩ := wm_UF_rt hu g2
        have inr : vp_in (nI (ρ (G (s tp) (e tp)))) 272 := pk_in (ρ (G (s tp) (e tp))) 272 (by omega)
        refine And.intro hin (nm_r (wm_ux (nI_1 (e tp)) (nI_pred tp)) (And.intro (pk_in (4 * s tp + e tp) 1088 (by omega) ex) (wx_deref hu hT2 g2 (hd _) (wm_rx g1 ex) (And.intro inr ?_))))
        have hcm := hcol _ (show ρ (G (s tp) (e tp)) < 272 by omega)
        have c2 := hb.1 (ρ (G (s tp) (e tp)))
        have c3 : c (ρ (G (s tp) (e tp))) = 0 ∨ c (ρ (G (s tp) (e tp))) = 1 ∨ c (ρ (G (s tp) (e tp))) = 2 := by omega
        rcases c3 with z | z | z
        · have w := wm_wh_del (v := 1) z (by omega) (show ρ (G (s tp) (e tp)) < 272 by omega)
          have hcz : a_colour (nI (ρ (G (s tp) (e tp)))).toNatClampNeg = nI 0 := (wm_rx hcm).trans (congrArg nI z)
          refine wm_eqF 0 1 (by omega) (And.intro inr ?_) hcz
          refine wm_eqT 0 0 rfl (And.intro inr (nm_r (wm_ux (n := ρ (G (s tp) (e tp))) rfl) (And.intro (pk_in (tp + 1) 272 (by omega)) (nm_r (wm_ux rfl) (And.intro (pk_in (tp + 1) 272 (by omega)) (nm_r (wm_ux rfl) (nm_r (nI_1 (tp + 1)) (nm_r (nI_1 it) ?_)))))))) hcz
          obtain ⟨y1, y2, y3, y4⟩ := wm_D_push hb hds hdc hlt z rT hT2
          refine ih (it + 1) (tp + 1 + 1) _ r2 _ _ B _ _ _ (by omega) ?_ ?_ y1 y2 y3 ?_ (fun n hn => y4 n (hk0 n hn))
          · intro n hn
            by_cases q : n = ρ (G (s tp) (e tp))
            · subst q; rw [pk_us, wm_us]; rfl
            · rw [pk_un q, wm_un q]; exact hcol n hn
          · intro t ht
            by_cases q : t = tp + 1
            · subst q; rw [pk_us, pk_us, wm_us, wm_us]; exact ⟨rfl, rfl⟩
            · rw [pk_un q, pk_un q, wm_un q, wm_un q]
              by_cases q' : t = tp
              · subst q'; rw [pk_us, wm_us]; exact ⟨q1, rfl⟩
              · rw [pk_un q', wm_un q']; exact hst t (by omega)
          · rcases hroot with h | h
            · exact Or.inl (y4 _ h)
            · exact Or.inr ⟨by omega, by rw [wm_un (by omega)]; exact h.2⟩
        · refine wm_eqT 1 1 rfl (h0 _ _ _ (fun hgd => ?_)) ((wm_rx hcm).trans (congrArg nI z))
          obtain ⟨rk, hrk⟩ := wm_gd_rk hgd hs
          exact wm_D_cyc hrk hG hds hlt z
        · have hcz : a_colour (nI (ρ (G (s tp) (e tp)))).toNatClampNeg = nI 2 := (wm_rx hcm).trans (congrArg nI z)
          refine wm_eqF 2 1 (by omega) (And.intro inr ?_) hcz
          refine wm_eqF 2 0 (by omega) (nm_r (nI_1 it) ?_) hcz
          obtain ⟨y1, y2⟩ := wm_D_adv hb hds hdc hlt z
          refine ih (it + 1) (tp + 1) c r2 s _ B _ _ _ (by omega) hcol ?_ hb y1 y2 hroot hk0
          intro t ht
          by_cases q' : t = tp
          · subst q'; rw [pk_us, wm_us]; exact ⟨q1, rfl⟩
          · rw [pk_un q', wm_un q']; exact hst t ht
      · refine And.intro hin4 (nm_r (wm_ux rfl) (nm_r (pk_m1 tp) (nm_r (nI_1 it) ?_)))
        obtain ⟨y1, y2, y3, y4, y5⟩ := wm_D_pop hb hds hdc hge
        refine ih (it + 1) tp _ _ s e _ _ _ _ (by omega) ?_ (fun t ht => hst t (by omega)) y1 y2 y3 ?_ (fun n hn => y5 n (hk0 n hn))
        · intro n hn
          by_cases q : n = s tp
          · subst q; rw [pk_us, wm_us]; rfl
          · rw [pk_un q, wm_un q]; exact hcol n hn
        · rcases hroot with h | h
          · exact Or.inl (y5 _ h)
          · by_cases q : tp = 0
            · subst q; rw [← h.2]; exact Or.inl y4
            · exact Or.inr ⟨by omega, h.2⟩
theorem wx_finiteFrom {post : Int32 → SX → Prop} {T : Nat} {F : Nat → Nat} {G : Nat → Nat → Nat} {Q : Nat → Nat → Prop} {ρ δ : Nat → Nat} {root : Nat} {c r2 : Nat → Nat} {B : Nat} (hg : wm_GX T F G a_nodeFn a_nodeArg) (hu : wm_UF T a_nodeLink ρ δ) (hd : ∀ n, δ n ≤ 272) (hs : wm_Sv T F G Q ρ)
    (hr : root < T) (hb : wm_DB T F G ρ c r2 B) (hc1 : ∀ n, c n ≠ 1) (hcol : ∀ n, n < 272 → a_colour n = nI (c n))
    (h1 : ∀ (c' r2 : Nat → Nat) (B : Nat) (col dn da : Nat → Int32), wm_DB T F G ρ c' r2 B → (∀ n, c' n ≠ 1) → (∀ n, n < 272 → col n = nI (c' n)) → c' root = 2 → (∀ n, c n = 2 → c' n = 2) → post 1 (f_clauseCap, f_heapCap, f_frameCap, f_choiceCap, f_querySlot, f_firstNode, f_draftLen, f_draftOpen, f_draftAtoms, f_programUsed, f_clauses, f_trailLen, f_depth, f_choiceCount, f_status, f_solutions, f_steps, f_complete, f_pairTop, f_writeTop, f_answerLen, f_goalLen, a_draft, a_code, a_skip, a_local, a_slotStart, a_slotLen, a_slotAtoms, a_slotVars, a_slotNodes, a_slotWeight, a_slotKey, a_atomPlace, a_nodeFn, a_nodeLink, a_nodeArg, a_trail, a_frameSlot, a_frameBase, a_contFrame, a_contAtom, a_selFrame, a_selAtom, a_nodeTop, a_trailAt, a_heapAt, a_pendingAt, a_choiceDepth, a_choiceNext, a_pairLeft, a_pairRight, col, dn, da, a_writing, a_writeStack, a_varNumber))
    (h0 : ∀ (col dn da : Nat → Int32), ¬ wm_Gd T F G Q → post 0 (f_clauseCap, f_heapCap, f_frameCap, f_choiceCap, f_querySlot, f_firstNode, f_draftLen, f_draftOpen, f_draftAtoms, f_programUsed, f_clauses, f_trailLen, f_depth, f_choiceCount, f_status, f_solutions, f_steps, f_complete, f_pairTop, f_writeTop, f_answerLen, f_goalLen, a_draft, a_code, a_skip, a_local, a_slotStart, a_slotLen, a_slotAtoms, a_slotVars, a_slotNodes, a_slotWeight, a_slotKey, a_atomPlace, a_nodeFn, a_nodeLink, a_nodeArg, a_trail, a_frameSlot, a_frameBase, a_contFrame, a_contAtom, a_selFrame, a_selAtom, a_nodeTop, a_trailAt, a_heapAt, a_pendingAt, a_choiceDepth, a_choiceNext, a_pairLeft, a_pairRight, col, dn, da, a_writing, a_writeStack, a_varNumber)) : wpX_finiteFrom post (f_clauseCap, f_heapCap, f_frameCap, f_choiceCap, f_querySlot, f_firstNode, f_draftLen, f_draftOpen, f_draftAtoms, f_programUsed, f_clauses, f_trailLen, f_depth, f_choiceCount, f_status, f_solutions, f_steps, f_complete, f_pairTop, f_writeTop, f_answerLen, f_goalLen, a_draft, a_code, a_skip, a_local, a_slotStart, a_slotLen, a_slotAtoms, a_slotVars, a_slotNodes, a_slotWeight, a_slotKey, a_atomPlace, a_nodeFn, a_nodeLink, a_nodeArg, a_trail, a_frameSlot, a_frameBase, a_contFrame, a_contAtom, a_selFrame, a_selAtom, a_nodeTop, a_trailAt, a_heapAt, a_pendingAt, a_choiceDepth, a_choiceNext, a_pairLeft, a_pairRight, a_colour, a_dfsNode, a_dfsArg, a_writing, a_writeStack, a_varNumber) (nI root) := by
  have hT2 := hg.1.2
  have hin : vp_in (nI root) 272 := pk_in root 272 (by omega)
  have hcr := hcol root (by omega)
  have c2 := hb.1 root
  have c1 := hc1 root
  refine And.intro hin ?_
  by_cases z : c root = 0
  · refine wm_eqT 0 0 rfl (And.intro hin (nm_r (wm_ux rfl) (nm_e (nm_e ⟨1362, ?_⟩)))) ((wm_rx hcr).trans (congrArg nI z))
    have w := wm_wh_del (v := 1) z (by omega) (show root < 272 by omega)
    have w2 : wm_wh c ≤ 272 := wm_cn_n _ 272
    refine wx_ff_36 (it := 0) (top := 1) hg hu hd hs h1 h0 1362 (wm_u c root 1) r2 (fun _ => root) (fun _ => 0) B _ _ _ (by omega) ?_ ?_ ?_ ?_ ?_ ?_ ?_
    · intro n hn
      by_cases q : n = root
      · subst q; rw [pk_us, wm_us]; rfl
      · rw [pk_un q, wm_un q]; exact hcol n hn
    · intro t ht
      have : t = 0 := by omega
      subst this
      exact ⟨pk_us, pk_us⟩
    · refine ⟨fun n => ?_, fun n hn => ?_⟩
      · by_cases q : n = root
        · subst q; rw [wm_us]; omega
        · rw [wm_un q]; exact hb.1 n
      · by_cases q : n = root
        · subst q; rw [wm_us] at hn; omega
        · rw [wm_un q] at hn
          obtain ⟨y1, y2, y3⟩ := hb.2 n hn
          refine ⟨y1, y2, fun k hk => ⟨?_, (y3 k hk).2⟩⟩
          rw [wm_un (fun h => by have := (y3 k hk).1; rw [h] at this; omega)]
          exact (y3 k hk).1
    · refine ⟨fun t ht => ⟨hr, wm_us, Nat.zero_le _, fun k hk => absurd hk (Nat.not_lt_zero _)⟩, fun t ht => by omega, fun n hn => ⟨0, by omega, ?_⟩, fun t t' a b _ => by omega⟩
      by_cases q : n = root
      · exact q.symm
      · rw [wm_un q] at hn; exact absurd hn (hc1 n)
    · refine ⟨by omega, ?_⟩
      simp only [wm_sm]
      omega
    · exact Or.inr ⟨by omega, rfl⟩
    · intro n hn
      rw [wm_un (fun h => by rw [h] at hn; omega)]; exact hn
  · refine wm_eqF (c root) 0 z ?_ (wm_rx hcr)
    exact h1 c r2 B _ _ _ hb hc1 hcol (by omega) (fun _ h => h)
/-- what the search gives -/
theorem wx_gif_41 {post : Int32 → SX → Prop} {T : Nat} {F : Nat → Nat} {G : Nat → Nat → Nat} {Q : Nat → Nat → Prop} {ρ δ : Nat → Nat} {C : Nat → Nat} {n s b g : Nat} (hg : wm_GX T F G a_nodeFn a_nodeArg) (hu : wm_UF T a_nodeLink ρ δ) (hd : ∀ n, δ n ≤ 272) (hs : wm_Sv T F G Q ρ)
    (hC : wm_WC C n) (hsn : s + n ≤ 288) (hgn : g < n) (hc : ∀ k, k < n → a_code (s + k) = nI (C k) ∧ a_skip (s + k) = nI (s + wm_en C n k) ∧ a_local (s + k) = wm_lo C n k) (hnd : ∀ k, k < wm_ar (C g) → wm_nd C n b (wm_ap C n g k) < T)
    (h1 : ∀ (K : Nat → Prop) (r2 : Nat → Nat) (B : Nat) (col dn da : Nat → Int32), (∀ k, k < wm_ar (C g) → K (ρ (wm_nd C n b (wm_ap C n g k)))) → (∀ m, K m → r2 m < B ∧ ∀ k, k < wm_ar (F m) → K (ρ (G m k)) ∧ r2 (ρ (G m k)) < r2 m) → post 1 (f_clauseCap, f_heapCap, f_frameCap, f_choiceCap, f_querySlot, f_firstNode, f_draftLen, f_draftOpen, f_draftAtoms, f_programUsed, f_clauses, f_trailLen, f_depth, f_choiceCount, f_status, f_solutions, f_steps, f_complete, f_pairTop, f_writeTop, f_answerLen, f_goalLen, a_draft, a_code, a_skip, a_local, a_slotStart, a_slotLen, a_slotAtoms, a_slotVars, a_slotNodes, a_slotWeight, a_slotKey, a_atomPlace, a_nodeFn, a_nodeLink, a_nodeArg, a_trail, a_frameSlot, a_frameBase, a_contFrame, a_contAtom, a_selFrame, a_selAtom, a_nodeTop, a_trailAt, a_heapAt, a_pendingAt, a_choiceDepth, a_choiceNext, a_pairLeft, a_pairRight, col, dn, da, a_writing, a_writeStack, a_varNumber))
    (h0 : ∀ (col dn da : Nat → Int32), ¬ wm_Gd T F G Q → post 0 (f_clauseCap, f_heapCap, f_frameCap, f_choiceCap, f_querySlot, f_firstNode, f_draftLen, f_draftOpen, f_draftAtoms, f_programUsed, f_clauses, f_trailLen, f_depth, f_choiceCount, f_status, f_solutions, f_steps, f_complete, f_pairTop, f_writeTop, f_answerLen, f_goalLen, a_draft, a_code, a_skip, a_local, a_slotStart, a_slotLen, a_slotAtoms, a_slotVars, a_slotNodes, a_slotWeight, a_slotKey, a_atomPlace, a_nodeFn, a_nodeLink, a_nodeArg, a_trail, a_frameSlot, a_frameBase, a_contFrame, a_contAtom, a_selFrame, a_selAtom, a_nodeTop, a_trailAt, a_heapAt, a_pendingAt, a_choiceDepth, a_choiceNext, a_pairLeft, a_pairRight, col, dn, da, a_writing, a_writeStack, a_varNumber)) :
    ∀ (m k : Nat) (c r2 : Nat → Nat) (B : Nat) (a_colour a_dfsNode a_dfsArg : Nat → Int32), k ≤ wm_ar (C g) → wm_ar (C g) < m + k → (∀ n, n < 272 → a_colour n = nI (c n)) → wm_DB T F G ρ c r2 B → (∀ n, c n ≠ 1) → (∀ i, i < k → c (ρ (wm_nd C n b (wm_ap C n g i))) = 2) →
      wX_goalIsFinite_41 post (nI b) (nI (wm_ar (C g))) m (nI (s + wm_ap C n g k)) (nI k) f_clauseCap f_heapCap f_frameCap f_choiceCap f_querySlot f_firstNode f_draftLen f_draftOpen f_draftAtoms f_programUsed f_clauses f_trailLen f_depth f_choiceCount f_status f_solutions f_steps f_complete f_pairTop f_writeTop f_answerLen f_goalLen a_draft a_code a_skip a_local a_slotStart a_slotLen a_slotAtoms a_slotVars a_slotNodes a_slotWeight a_slotKey a_atomPlace a_nodeFn a_nodeLink a_nodeArg a_trail a_frameSlot a_frameBase a_contFrame a_contAtom a_selFrame a_selAtom a_nodeTop a_trailAt a_heapAt a_pendingAt a_choiceDepth a_choiceNext a_pairLeft a_pairRight a_colour a_dfsNode a_dfsArg a_writing a_writeStack a_varNumber := by
  have a4 := wm_ar4 (C g)
  have hT2 := hg.1.2
  intro m
  induction m with
  | zero => intro k _ _ _ _ _ _ h1 h2; omega
  | succ m ih =>
    intro k c r2 B a_colour a_dfsNode a_dfsArg hk hm hcol hb hc1 hdone
    by_cases q : k = wm_ar (C g)
    · subst q
      exact wm_leT _ _ (Nat.le_refl _) (h1 (fun n => c n = 2) r2 B _ _ _ hdone (fun m hm => (hb.2 m hm).2))
    · obtain ⟨p1, p2, p3⟩ := wm_ap_lt hC.2.2 hgn (show k < wm_ar (C g) by omega)
      obtain ⟨c1, c2, c3⟩ := hc _ p2
      have hn := hnd k (by omega)
      obtain ⟨rT, -, -, -⟩ := wm_UF_rt hu hn
      refine wm_leF (wm_ar (C g)) k (by omega) (wx_nodeAt hC.1 p2 p3 c1 c3 hsn rfl rfl (wx_deref hu hT2 hn (hd _) rfl (wx_finiteFrom hg hu hd hs rT hb hc1 hcol (fun c' r2' B' col dn da y1 y2 y3 y4 y5 => ?_) (fun col dn da y => ?_))))
      · refine wm_eqF 1 0 (by omega) (And.intro (pk_in (s + wm_ap C n g k) 288 (by omega)) (nm_r (wm_rx c2) (nm_r (nI_1 k) (ih (k + 1) c' r2' B' _ _ _ (by omega) (by omega) y3 y1 y2 (fun i hi => ?_)))))
        by_cases e : i = k
        · subst e; exact y4
        · exact y5 _ (hdone i (by omega))
      · exact wm_eqT 0 0 rfl (h0 _ _ _ y)
theorem wx_gif_2 {post : Int32 → SX → Prop} {T : Nat} {F : Nat → Nat} {G : Nat → Nat → Nat} {Q : Nat → Nat → Prop} {ρ δ : Nat → Nat} {C : Nat → Nat} {n s b g : Nat} (hg : wm_GX T F G a_nodeFn a_nodeArg) (hu : wm_UF T a_nodeLink ρ δ) (hd : ∀ n, δ n ≤ 272) (hs : wm_Sv T F G Q ρ)
    (hC : wm_WC C n) (hsn : s + n ≤ 288) (hgn : g < n) (hc : ∀ k, k < n → a_code (s + k) = nI (C k) ∧ a_skip (s + k) = nI (s + wm_en C n k) ∧ a_local (s + k) = wm_lo C n k) (hnd : ∀ k, k < wm_ar (C g) → wm_nd C n b (wm_ap C n g k) < T)
    (h1 : ∀ (K : Nat → Prop) (r2 : Nat → Nat) (B : Nat) (col dn da : Nat → Int32), (∀ k, k < wm_ar (C g) → K (ρ (wm_nd C n b (wm_ap C n g k)))) → (∀ m, K m → r2 m < B ∧ ∀ k, k < wm_ar (F m) → K (ρ (G m k)) ∧ r2 (ρ (G m k)) < r2 m) → post 1 (f_clauseCap, f_heapCap, f_frameCap, f_choiceCap, f_querySlot, f_firstNode, f_draftLen, f_draftOpen, f_draftAtoms, f_programUsed, f_clauses, f_trailLen, f_depth, f_choiceCount, f_status, f_solutions, f_steps, f_complete, f_pairTop, f_writeTop, f_answerLen, f_goalLen, a_draft, a_code, a_skip, a_local, a_slotStart, a_slotLen, a_slotAtoms, a_slotVars, a_slotNodes, a_slotWeight, a_slotKey, a_atomPlace, a_nodeFn, a_nodeLink, a_nodeArg, a_trail, a_frameSlot, a_frameBase, a_contFrame, a_contAtom, a_selFrame, a_selAtom, a_nodeTop, a_trailAt, a_heapAt, a_pendingAt, a_choiceDepth, a_choiceNext, a_pairLeft, a_pairRight, col, dn, da, a_writing, a_writeStack, a_varNumber))
    (h0 : ∀ (col dn da : Nat → Int32), ¬ wm_Gd T F G Q → post 0 (f_clauseCap, f_heapCap, f_frameCap, f_choiceCap, f_querySlot, f_firstNode, f_draftLen, f_draftOpen, f_draftAtoms, f_programUsed, f_clauses, f_trailLen, f_depth, f_choiceCount, f_status, f_solutions, f_steps, f_complete, f_pairTop, f_writeTop, f_answerLen, f_goalLen, a_draft, a_code, a_skip, a_local, a_slotStart, a_slotLen, a_slotAtoms, a_slotVars, a_slotNodes, a_slotWeight, a_slotKey, a_atomPlace, a_nodeFn, a_nodeLink, a_nodeArg, a_trail, a_frameSlot, a_frameBase, a_contFrame, a_contAtom, a_selFrame, a_selAtom, a_nodeTop, a_trailAt, a_heapAt, a_pendingAt, a_choiceDepth, a_choiceNext, a_pairLeft, a_pairRight, col, dn, da, a_writing, a_writeStack, a_varNumber)) :
    ∀ (m k : Nat) (a_colour : Nat → Int32), k ≤ 272 → 272 < m + k → (∀ n, n < k → a_colour n = 0) → wX_goalIsFinite_2 post (nI (s + g)) (nI b) f_clauseCap f_heapCap f_frameCap f_choiceCap f_querySlot f_firstNode f_draftLen f_draftOpen f_draftAtoms f_programUsed f_clauses f_trailLen f_depth f_choiceCount f_status f_solutions f_steps f_complete f_pairTop f_writeTop f_answerLen f_goalLen m (nI k) a_draft a_code a_skip a_local a_slotStart a_slotLen a_slotAtoms a_slotVars a_slotNodes a_slotWeight a_slotKey a_atomPlace a_nodeFn a_nodeLink a_nodeArg a_trail a_frameSlot a_frameBase a_contFrame a_contAtom a_selFrame a_selAtom a_nodeTop a_trailAt a_heapAt a_pendingAt a_choiceDepth a_choiceNext a_pairLeft a_pairRight a_colour a_dfsNode a_dfsArg a_writing a_writeStack a_varNumber := by
  have a4 := wm_ar4 (C g)
  intro m
  induction m with
  | zero => intro k _ h1 h2; omega
  | succ m ih =>
    intro k a_colour hk hm hcol
    by_cases q : k = 272
    · subst q
      refine wm_leT 272 272 (Nat.le_refl _) (And.intro (pk_in (s + g) 288 (by omega)) (wx_ar (C g) (hC.1.2.1 g hgn).1 (wm_rx (hc g hgn).1) (nm_r (nI_1 (s + g)) ⟨wm_ar (C g) + 1, ?_⟩)))
      refine wx_gif_41 (k := 0) hg hu hd hs hC hsn hgn hc hnd h1 h0 _ (fun _ => 0) (fun _ => 0) 0 _ _ _ (Nat.zero_le _) (by omega) hcol ⟨fun n => Nat.zero_le _, fun n hn => by have h : (0 : Nat) = 2 := hn; omega⟩ (fun n hn => by have h : (0 : Nat) = 1 := hn; omega) (fun i hi => by omega)
    · refine wm_leF 272 k (by omega) (And.intro (pk_in k 272 (by omega)) (nm_r (wm_ux rfl) (nm_r (nI_1 k) (ih (k + 1) _ (by omega) (by omega) (fun n hn => ?_)))))
      by_cases e : n = k
      · subst e; exact pk_us
      · rw [pk_un e]; exact hcol n (by omega)
theorem wx_goalIsFinite {post : Int32 → SX → Prop} {T : Nat} {F : Nat → Nat} {G : Nat → Nat → Nat} {Q : Nat → Nat → Prop} {ρ δ : Nat → Nat} {C : Nat → Nat} {n s b g : Nat} (hg : wm_GX T F G a_nodeFn a_nodeArg) (hu : wm_UF T a_nodeLink ρ δ) (hd : ∀ n, δ n ≤ 272) (hs : wm_Sv T F G Q ρ)
    (hC : wm_WC C n) (hsn : s + n ≤ 288) (hgn : g < n) (hc : ∀ k, k < n → a_code (s + k) = nI (C k) ∧ a_skip (s + k) = nI (s + wm_en C n k) ∧ a_local (s + k) = wm_lo C n k) (hnd : ∀ k, k < wm_ar (C g) → wm_nd C n b (wm_ap C n g k) < T)
    (h1 : ∀ (K : Nat → Prop) (r2 : Nat → Nat) (B : Nat) (col dn da : Nat → Int32), (∀ k, k < wm_ar (C g) → K (ρ (wm_nd C n b (wm_ap C n g k)))) → (∀ m, K m → r2 m < B ∧ ∀ k, k < wm_ar (F m) → K (ρ (G m k)) ∧ r2 (ρ (G m k)) < r2 m) → post 1 (f_clauseCap, f_heapCap, f_frameCap, f_choiceCap, f_querySlot, f_firstNode, f_draftLen, f_draftOpen, f_draftAtoms, f_programUsed, f_clauses, f_trailLen, f_depth, f_choiceCount, f_status, f_solutions, f_steps, f_complete, f_pairTop, f_writeTop, f_answerLen, f_goalLen, a_draft, a_code, a_skip, a_local, a_slotStart, a_slotLen, a_slotAtoms, a_slotVars, a_slotNodes, a_slotWeight, a_slotKey, a_atomPlace, a_nodeFn, a_nodeLink, a_nodeArg, a_trail, a_frameSlot, a_frameBase, a_contFrame, a_contAtom, a_selFrame, a_selAtom, a_nodeTop, a_trailAt, a_heapAt, a_pendingAt, a_choiceDepth, a_choiceNext, a_pairLeft, a_pairRight, col, dn, da, a_writing, a_writeStack, a_varNumber))
    (h0 : ∀ (col dn da : Nat → Int32), ¬ wm_Gd T F G Q → post 0 (f_clauseCap, f_heapCap, f_frameCap, f_choiceCap, f_querySlot, f_firstNode, f_draftLen, f_draftOpen, f_draftAtoms, f_programUsed, f_clauses, f_trailLen, f_depth, f_choiceCount, f_status, f_solutions, f_steps, f_complete, f_pairTop, f_writeTop, f_answerLen, f_goalLen, a_draft, a_code, a_skip, a_local, a_slotStart, a_slotLen, a_slotAtoms, a_slotVars, a_slotNodes, a_slotWeight, a_slotKey, a_atomPlace, a_nodeFn, a_nodeLink, a_nodeArg, a_trail, a_frameSlot, a_frameBase, a_contFrame, a_contAtom, a_selFrame, a_selAtom, a_nodeTop, a_trailAt, a_heapAt, a_pendingAt, a_choiceDepth, a_choiceNext, a_pairLeft, a_pairRight, col, dn, da, a_writing, a_writeStack, a_varNumber)) : wpX_goalIsFinite post (f_clauseCap, f_heapCap, f_frameCap, f_choiceCap, f_querySlot, f_firstNode, f_draftLen, f_draftOpen, f_draftAtoms, f_programUsed, f_clauses, f_trailLen, f_depth, f_choiceCount, f_status, f_solutions, f_steps, f_complete, f_pairTop, f_writeTop, f_answerLen, f_goalLen, a_draft, a_code, a_skip, a_local, a_slotStart, a_slotLen, a_slotAtoms, a_slotVars, a_slotNodes, a_slotWeight, a_slotKey, a_atomPlace, a_nodeFn, a_nodeLink, a_nodeArg, a_trail, a_frameSlot, a_frameBase, a_contFrame, a_contAtom, a_selFrame, a_selAtom, a_nodeTop, a_trailAt, a_heapAt, a_pendingAt, a_choiceDepth, a_choiceNext, a_pairLeft, a_pairRight, a_colour, a_dfsNode, a_dfsArg, a_writing, a_writeStack, a_varNumber) (nI (s + g)) (nI b) :=
  ⟨273, wx_gif_2 (k := 0) hg hu hd hs hC hsn hgn hc hnd h1 h0 273 _ (Nat.zero_le _) (by omega) (fun n hn => by omega)⟩
end
end
section
/-! pure: a trace of clauses: bases, goals, equations -/
section
variable (cs : Nat → Nat → Nat) (ln sl : Nat → Nat)
def wm_bs : Nat → Nat
  | 0 => 16
  | d + 1 => wm_bs d + wm_N (cs (sl d)) (ln (sl d))
def wm_hp : Nat → Nat
  | 0 => wm_W (cs (sl 0)) (ln (sl 0))
  | d + 1 => wm_hp d + wm_W (cs (sl (d + 1))) (ln (sl (d + 1)))
def wm_nA (f : Nat) : Nat := wm_na (cs (sl f)) (ln (sl f))
def wm_sc (f : Nat) : Nat → Nat → List (Nat × Nat)
  | _, 0 => []
  | a, c + 1 => (f, a) :: wm_sc f (a + 1) c
def wm_sg (f a : Nat) : List (Nat × Nat) := wm_sc f a (wm_nA cs ln sl f - a)
def wm_gl : Nat → List (Nat × Nat)
  | 0 => wm_sg cs ln sl 0 0
  | d + 1 => wm_sg cs ln sl (d + 1) 1 ++ (wm_gl d).tail
def wm_cl : Nat → List (Nat × Nat)
  | 0 => []
  | f + 1 => (wm_gl cs ln sl f).tail
def wm_nc (d k : Nat) : Nat := wm_nd (cs (sl d)) (ln (sl d)) (wm_bs cs ln sl d) k
def wm_aq (d p j : Nat) : Nat := wm_ap (cs (sl d)) (ln (sl d)) p j
def wm_pq (d j : Nat) : Nat := wm_pl (cs (sl d)) (ln (sl d)) j
/-- the equations of step i -/
def wm_q1 (i : Nat) (a b : Nat) : Prop := ∃ f j, (wm_gl cs ln sl i).head? = some (f, j) ∧ ∃ k, k < wm_ar (cs (sl (i + 1)) 0) ∧ a = wm_nc cs ln sl f (wm_aq cs ln sl f (wm_pq cs ln sl f j) k) ∧ b = wm_nc cs ln sl (i + 1) (wm_aq cs ln sl (i + 1) 0 k)
def wm_qs (D : Nat) (a b : Nat) : Prop := ∃ i, i < D ∧ wm_q1 cs ln sl i a b
/-- the trace is well made -/
def wm_TO (D : Nat) : Prop := (∀ d, d ≤ D → wm_WC (cs (sl d)) (ln (sl d))) ∧ (∀ i, i < D → ∃ f j, (wm_gl cs ln sl i).head? = some (f, j) ∧ cs (sl f) (wm_pq cs ln sl f j) = cs (sl (i + 1)) 0)
/-- the nodes of the copies -/
def wm_CP (D : Nat) (F : Nat → Nat) (G : Nat → Nat → Nat) : Prop := (∀ c, c < 16 → F c = c) ∧
  (∀ d, d ≤ D → (∀ v, v < wm_vs (cs (sl d)) (ln (sl d)) → F (wm_bs cs ln sl d + v) = 128) ∧ (∀ k, k < ln (sl d) → 0 < wm_op (cs (sl d)) k → (cs (sl d) k < 128 → F (wm_nc cs ln sl d k) = cs (sl d) k) ∧ (128 ≤ cs (sl d) k → F (wm_nc cs ln sl d k) = 128) ∧ ∀ i, i < wm_ar (cs (sl d) k) → G (wm_nc cs ln sl d k) i = wm_nc cs ln sl d (wm_aq cs ln sl d k i)))
end
section
variable {cs : Nat → Nat → Nat} {ln sl sl' : Nat → Nat}
theorem wm_bs_congr : ∀ {d : Nat}, (∀ j, j < d → sl' j = sl j) → wm_bs cs ln sl' d = wm_bs cs ln sl d
  | 0, _ => rfl
  | d + 1, h => by simp only [wm_bs, wm_bs_congr (d := d) (fun j hj => h j (by omega)), h d (by omega)]
theorem wm_hp_congr : ∀ {d : Nat}, (∀ j, j ≤ d → sl' j = sl j) → wm_hp cs ln sl' d = wm_hp cs ln sl d
  | 0, h => by simp only [wm_hp, h 0 (Nat.le_refl _)]
  | d + 1, h => by simp only [wm_hp, wm_hp_congr (d := d) (fun j hj => h j (by omega)), h (d + 1) (Nat.le_refl _)]
theorem wm_sg_congr {f a : Nat} (h : sl' f = sl f) : wm_sg cs ln sl' f a = wm_sg cs ln sl f a := by simp only [wm_sg, wm_nA, h]
theorem wm_gl_congr : ∀ {d : Nat}, (∀ j, j ≤ d → sl' j = sl j) → wm_gl cs ln sl' d = wm_gl cs ln sl d
  | 0, h => by simp only [wm_gl, wm_sg_congr (h 0 (Nat.le_refl _))]
  | d + 1, h => by simp only [wm_gl, wm_gl_congr (d := d) (fun j hj => h j (by omega)), wm_sg_congr (h (d + 1) (Nat.le_refl _))]
theorem wm_cl_congr : ∀ {d : Nat}, (∀ j, j < d → sl' j = sl j) → wm_cl cs ln sl' d = wm_cl cs ln sl d
  | 0, _ => rfl
  | d + 1, h => by simp only [wm_cl, wm_gl_congr (d := d) (fun j hj => h j (by omega))]
theorem wm_nc_congr {d k : Nat} (h : ∀ j, j ≤ d → sl' j = sl j) : wm_nc cs ln sl' d k = wm_nc cs ln sl d k := by
  simp only [wm_nc, wm_bs_congr (d := d) (fun j hj => h j (by omega)), h d (Nat.le_refl _)]
theorem wm_aq_congr {d p j : Nat} (h : sl' d = sl d) : wm_aq cs ln sl' d p j = wm_aq cs ln sl d p j := by simp only [wm_aq, h]
theorem wm_pq_congr {d j : Nat} (h : sl' d = sl d) : wm_pq cs ln sl' d j = wm_pq cs ln sl d j := by simp only [wm_pq, h]
theorem wm_sc_mem {f : Nat} : ∀ {c a : Nat} {x : Nat × Nat}, x ∈ wm_sc f a c → x.1 = f ∧ a ≤ x.2 ∧ x.2 < a + c
  | 0, a, x, h => by simp [wm_sc] at h
  | c + 1, a, x, h => by
    simp only [wm_sc, List.mem_cons] at h
    rcases h with rfl | h
    · exact ⟨rfl, Nat.le_refl _, by show a < a + (c + 1); omega⟩
    · obtain ⟨h1, h2, h3⟩ := wm_sc_mem h
      exact ⟨h1, by omega, by omega⟩
theorem wm_sc_len {f : Nat} : ∀ {c a : Nat}, (wm_sc f a c).length = c
  | 0, _ => rfl
  | c + 1, a => by simp only [wm_sc, List.length_cons, wm_sc_len]
theorem wm_sg_mem {f a : Nat} {x : Nat × Nat} (h : x ∈ wm_sg cs ln sl f a) : x.1 = f ∧ a ≤ x.2 ∧ x.2 < wm_nA cs ln sl f := by
  obtain ⟨h1, h2, h3⟩ := wm_sc_mem h
  exact ⟨h1, h2, by omega⟩
theorem wm_sg_cons {f a : Nat} (h : a < wm_nA cs ln sl f) : wm_sg cs ln sl f a = (f, a) :: wm_sg cs ln sl f (a + 1) := by
  unfold wm_sg
  obtain ⟨c, hc⟩ : ∃ c, wm_nA cs ln sl f - a = c + 1 := ⟨wm_nA cs ln sl f - a - 1, by omega⟩
  rw [hc, show wm_nA cs ln sl f - (a + 1) = c by omega]
  rfl
theorem wm_sg_nil {f a : Nat} (h : wm_nA cs ln sl f ≤ a) : wm_sg cs ln sl f a = [] := by
  unfold wm_sg
  rw [show wm_nA cs ln sl f - a = 0 by omega]
  rfl
theorem wm_gl_mem : ∀ {d : Nat} {x : Nat × Nat}, x ∈ wm_gl cs ln sl d → x.1 ≤ d ∧ x.2 < wm_nA cs ln sl x.1
  | 0, x, h => by
    obtain ⟨h1, h2, h3⟩ := wm_sg_mem h
    rw [h1]; exact ⟨Nat.le_refl _, h3⟩
  | d + 1, x, h => by
    simp only [wm_gl, List.mem_append] at h
    rcases h with h | h
    · obtain ⟨h1, h2, h3⟩ := wm_sg_mem h
      rw [h1]; exact ⟨Nat.le_refl _, h3⟩
    · obtain ⟨h1, h2⟩ := wm_gl_mem (List.mem_of_mem_tail h)
      exact ⟨by omega, h2⟩
theorem wm_gl_head {d f j : Nat} (h : (wm_gl cs ln sl d).head? = some (f, j)) : f ≤ d ∧ j < wm_nA cs ln sl f :=
  wm_gl_mem (x := (f, j)) (List.mem_of_mem_head? h)
theorem wm_bs_le {d e : Nat} (h : d ≤ e) : wm_bs cs ln sl d ≤ wm_bs cs ln sl e := by
  induction h with
  | refl => exact Nat.le_refl _
  | step _ ih => exact Nat.le_trans ih (Nat.le_add_right _ _)
theorem wm_bs16 (d : Nat) : 16 ≤ wm_bs cs ln sl d := wm_bs_le (d := 0) (Nat.zero_le d)
theorem wm_bs_hp : ∀ d, wm_bs cs ln sl (d + 1) ≤ 16 + wm_hp cs ln sl d
  | 0 => Nat.add_le_add_left (wm_N_W _ _) 16
  | d + 1 => by
    have a := wm_bs_hp d
    have b := wm_N_W (cs (sl (d + 1))) (ln (sl (d + 1)))
    show wm_bs cs ln sl (d + 1) + wm_N _ _ ≤ 16 + (wm_hp cs ln sl d + wm_W _ _)
    omega
theorem wm_nc_lt {d D k : Nat} (h : wm_VD (cs (sl d)) (ln (sl d))) (hd : d ≤ D) (hk : k < ln (sl d)) (ho : 0 < wm_op (cs (sl d)) k) : wm_nc cs ln sl d k < wm_bs cs ln sl (D + 1) := by
  have a := wm_bs_le (cs := cs) (ln := ln) (sl := sl) (d := d + 1) (e := D + 1) (by omega)
  have b := wm_bs16 (cs := cs) (ln := ln) (sl := sl) (D + 1)
  rcases wm_nd_rng (b := wm_bs cs ln sl d) h hk ho with ⟨x, y⟩ | ⟨x, y⟩
  · show wm_nd _ _ _ k < _
    omega
  · exact Nat.lt_of_lt_of_le y a
/-- every node is a constant or belongs to one copy -/
theorem wm_cov : ∀ {D n : Nat}, n < wm_bs cs ln sl (D + 1) → n < 16 ∨ ∃ d, d ≤ D ∧ wm_bs cs ln sl d ≤ n ∧ n < wm_bs cs ln sl (d + 1)
  | 0, n, h => by
    rcases Nat.lt_or_ge n 16 with z | z
    · exact Or.inl z
    · exact Or.inr ⟨0, Nat.le_refl _, z, h⟩
  | D + 1, n, h => by
    rcases Nat.lt_or_ge n (wm_bs cs ln sl (D + 1)) with z | z
    · rcases wm_cov z with y | ⟨d, y1, y2, y3⟩
      · exact Or.inl y
      · exact Or.inr ⟨d, by omega, y2, y3⟩
    · exact Or.inr ⟨D + 1, Nat.le_refl _, z, h⟩
theorem wm_cov1 {C : Nat → Nat} {n b q : Nat} (h1 : b ≤ q) (h2 : q < b + wm_N C n) : (∃ v, v < 8 ∧ wm_oc C n v = true ∧ q = b + wm_rk C n v ∧ wm_rk C n v < wm_vs C n) ∨ ∃ k, k < n ∧ wm_ps C k = true ∧ q = wm_nd C n b k := by
  rcases Nat.lt_or_ge (q - b) (wm_vs C n) with z | z
  · obtain ⟨v, x1, x2, x3⟩ := wm_cn_sur z
    exact Or.inl ⟨v, x1, x2, by show q = b + wm_cn _ v; omega, by show wm_cn _ v < _; omega⟩
  · have z2 : q - b - wm_vs C n < wm_cn (wm_ps C) n := by unfold wm_N wm_st at h2; omega
    obtain ⟨k, x1, x2, x3⟩ := wm_cn_sur z2
    refine Or.inr ⟨k, x1, x2, ?_⟩
    rw [wm_nd_s (wm_ps_t.mp x2).2]
    unfold wm_st; omega
/-- the goal's place -/
theorem wm_goal {D d f j : Nat} (hT : wm_TO cs ln sl D) (hd : d ≤ D) (h : (wm_gl cs ln sl d).head? = some (f, j)) : f ≤ d ∧ j < wm_nA cs ln sl f ∧ wm_pq cs ln sl f j < ln (sl f) ∧ wm_op (cs (sl f)) (wm_pq cs ln sl f j) = 0 := by
  obtain ⟨h1, h2⟩ := wm_gl_head h
  obtain ⟨a, b⟩ := wm_pl_lt (hT.1 f (by omega)).2.2 h2
  exact ⟨h1, h2, a, b⟩
theorem wm_q1_lt {D i a b : Nat} (hT : wm_TO cs ln sl D) (hi : i < D) (h : wm_q1 cs ln sl i a b) : a < wm_bs cs ln sl (i + 1) ∧ b < wm_bs cs ln sl (i + 1 + 1) := by
  obtain ⟨f, j, h1, k, hk, rfl, rfl⟩ := h
  obtain ⟨f', j', h1', h2'⟩ := hT.2 i hi
  rw [h1] at h1'
  cases h1'
  obtain ⟨g1, g2, g3, g4⟩ := wm_goal hT (by omega : i ≤ D) h1
  have wf := hT.1 f (by omega)
  have wi := hT.1 (i + 1) (by omega)
  obtain ⟨p1, p2, p3⟩ := wm_ap_lt wf.2.2 g3 (show k < wm_ar (cs (sl f) (wm_pq cs ln sl f j)) by rw [h2']; exact hk)
  obtain ⟨r1, r2, r3⟩ := wm_ap_lt wi.2.2 wi.2.1 hk
  exact ⟨wm_nc_lt wf.1 g1 p2 p3, wm_nc_lt wi.1 (Nat.le_refl _) r2 r3⟩
theorem wm_qs_lt {D a b : Nat} (hT : wm_TO cs ln sl D) (h : wm_qs cs ln sl D a b) : a < wm_bs cs ln sl (D + 1) ∧ b < wm_bs cs ln sl (D + 1) := by
  obtain ⟨i, hi, h⟩ := h
  obtain ⟨x, y⟩ := wm_q1_lt hT hi h
  have p := wm_bs_le (cs := cs) (ln := ln) (sl := sl) (d := i + 1) (e := D + 1) (by omega)
  have q := wm_bs_le (cs := cs) (ln := ln) (sl := sl) (d := i + 1 + 1) (e := D + 1) (by omega)
  omega
theorem wm_qs_s {D a b : Nat} : wm_qs cs ln sl (D + 1) a b ↔ (wm_qs cs ln sl D a b ∨ wm_q1 cs ln sl D a b) := by
  constructor
  · rintro ⟨i, hi, h⟩
    rcases Nat.lt_or_ge i D with z | z
    · exact Or.inl ⟨i, z, h⟩
    · have : i = D := by omega
      subst this; exact Or.inr h
  · rintro (⟨i, hi, h⟩ | h)
    · exact ⟨i, by omega, h⟩
    · exact ⟨D, by omega, h⟩
theorem wm_q1_congr {i a b : Nat} (h : ∀ j, j ≤ i + 1 → sl' j = sl j) : wm_q1 cs ln sl' i a b ↔ wm_q1 cs ln sl i a b := by
  unfold wm_q1
  rw [wm_gl_congr (fun j hj => h j (by omega)), h (i + 1) (Nat.le_refl _)]
  constructor
  · rintro ⟨f, j, h1, k, hk, e1, e2⟩
    have hf := (wm_gl_head h1).1
    refine ⟨f, j, h1, k, hk, ?_, ?_⟩
    · rw [e1, wm_nc_congr (fun j hj => h j (by omega)), wm_aq_congr (h f (by omega)), wm_pq_congr (h f (by omega))]
    · rw [e2, wm_nc_congr h, wm_aq_congr (h _ (Nat.le_refl _))]
  · rintro ⟨f, j, h1, k, hk, e1, e2⟩
    have hf := (wm_gl_head h1).1
    refine ⟨f, j, h1, k, hk, ?_, ?_⟩
    · rw [e1, wm_nc_congr (sl' := sl') (fun j hj => h j (by omega)), wm_aq_congr (sl' := sl') (h f (by omega)), wm_pq_congr (sl' := sl') (h f (by omega))]
    · rw [e2, wm_nc_congr (sl' := sl') h, wm_aq_congr (sl' := sl') (h _ (Nat.le_refl _))]
theorem wm_qs_congr {D a b : Nat} (h : ∀ j, j ≤ D → sl' j = sl j) : wm_qs cs ln sl' D a b ↔ wm_qs cs ln sl D a b := by
  constructor
  · rintro ⟨i, hi, z⟩
    exact ⟨i, hi, (wm_q1_congr (fun j hj => h j (by omega))).mp z⟩
  · rintro ⟨i, hi, z⟩
    exact ⟨i, hi, (wm_q1_congr (fun j hj => h j (by omega))).mpr z⟩
theorem wm_TO_congr {D : Nat} (h : ∀ j, j ≤ D → sl' j = sl j) (hT : wm_TO cs ln sl D) : wm_TO cs ln sl' D := by
  refine ⟨fun d hd => ?_, fun i hi => ?_⟩
  · rw [h d hd]; exact hT.1 d hd
  · obtain ⟨f, j, h1, h2⟩ := hT.2 i hi
    have hf := (wm_gl_head h1).1
    refine ⟨f, j, ?_, ?_⟩
    · rw [wm_gl_congr (fun j hj => h j (by omega))]; exact h1
    · rw [wm_pq_congr (h f (by omega)), h f (by omega), h (i + 1) (by omega)]; exact h2
theorem wm_TO_le {D E : Nat} (h : E ≤ D) (hT : wm_TO cs ln sl D) : wm_TO cs ln sl E := ⟨fun d hd => hT.1 d (by omega), fun i hi => hT.2 i (by omega)⟩
end
end
section
/-! the class's state of a running query -/
def wm_Fn (fn : Nat → Int32) (n : Nat) : Nat := if fn n = -1 then 128 else (fn n).toNatClampNeg
def wm_Gn (arg : Nat → Int32) (n k : Nat) : Nat := (arg (4 * n + k)).toNatClampNeg
theorem wm_Fn_v {fn : Nat → Int32} {n : Nat} (h : fn n = -1) : wm_Fn fn n = 128 := if_pos h
theorem wm_Fn_c {fn : Nat → Int32} {n c : Nat} (h : fn n = nI c) (hc : c < 80) : wm_Fn fn n = c := by
  unfold wm_Fn
  rw [if_neg (by rw [h]; exact wm_nm1 (by omega)), h, nI_clamp (by omega)]
/-- functors and arguments of a copy -/
def wm_GA (C : Nat → Nat) (n b : Nat) (fn arg : Nat → Int32) : Prop :=
  (∀ v, v < wm_vs C n → fn (b + v) = -1) ∧ (∀ k, k < n → wm_ps C k = true → fn (wm_nd C n b k) = nI (C k) ∧ ∀ j, j < wm_ar (C k) → arg (4 * wm_nd C n b k + j) = nI (wm_nd C n b (wm_ap C n k j)))
theorem wm_ps_rng {C : Nat → Nat} {n b k : Nat} (hk : k < n) (h : wm_ps C k = true) : b + wm_vs C n ≤ wm_nd C n b k ∧ wm_nd C n b k < b + wm_N C n := by
  have a := wm_cn_lt h hk
  rw [wm_nd_s (wm_ps_t.mp h).2]
  unfold wm_N wm_st; omega
theorem wm_GA_keep {C : Nat → Nat} {n b B N : Nat} {fn lk arg fn' lk' arg' : Nat → Int32} (h : wm_GA C n b fn arg) (hf : wm_GF B N fn lk arg fn' lk' arg') (hb : b + wm_N C n ≤ B) : wm_GA C n b fn' arg' := by
  have hN : wm_vs C n ≤ wm_N C n := Nat.le_add_right _ _
  refine ⟨fun v hv => ?_, fun k hk hp => ?_⟩
  · rw [(hf.1 (b + v) (by omega)).1]; exact h.1 v hv
  · obtain ⟨x, y⟩ := wm_ps_rng (b := b) hk hp
    obtain ⟨p, q⟩ := h.2 k hk hp
    refine ⟨by rw [(hf.1 _ (by omega)).1]; exact p, fun j hj => ?_⟩
    have := wm_ar4 (C k)
    rw [hf.2 _ (by omega)]; exact q j hj
section
variable (cs : Nat → Nat → Nat) (ln sl : Nat → Nat)
def wm_NDS (d : Nat) (fn lk arg : Nat → Int32) : Prop := (∀ c, c < 16 → fn c = nI c ∧ lk c = -1) ∧ ∀ j, j ≤ d → wm_GA (cs (sl j)) (ln (sl j)) (wm_bs cs ln sl j) fn arg
def wm_FRM (d : Nat) (ta : Nat → Nat) (frameSlot frameBase nodeTop heapAt pendingAt trailAt : Nat → Int32) : Prop :=
  ∀ j, j ≤ d → (frameSlot j = nI (sl j) ∧ frameBase j = nI (wm_bs cs ln sl j) ∧ nodeTop j = nI (wm_bs cs ln sl (j + 1))) ∧ heapAt j = nI (wm_hp cs ln sl j) ∧ pendingAt j = nI (wm_gl cs ln sl j).length ∧ trailAt j = nI (ta j)
def wm_RP (j : Nat) (F A : Int32) (l : List (Nat × Nat)) : Prop := (F = -1 ∧ l = []) ∨ ∃ f a, F = nI f ∧ A = nI a ∧ f ≤ j ∧ a < wm_nA cs ln sl f ∧ l = wm_sg cs ln sl f a ++ wm_cl cs ln sl f
def wm_CNT (d : Nat) (contFrame contAtom selFrame selAtom : Nat → Int32) : Prop := ∀ j, j ≤ d → wm_RP cs ln sl j (selFrame j) (selAtom j) (wm_gl cs ln sl j) ∧ wm_RP cs ln sl j (contFrame j) (contAtom j) (wm_cl cs ln sl j)
def wm_TRL (d : Nat) (ta t : Nat → Nat) (F : Nat → Nat) (G : Nat → Nat → Nat) (L tr : Nat → Int32) (tl : Nat) : Prop :=
  wm_Tr d (fun j => wm_bs cs ln sl (j + 1)) ta F G (wm_qs cs ln sl) L t tl ∧ wm_TL d (fun j => wm_bs cs ln sl (j + 1)) ta L t tl ∧ (∀ i, i < tl → tr i = nI (t i)) ∧ (∀ i j, i ≤ j → j ≤ d → ta i ≤ ta j)
end
/-- the slots in use -/
def wm_SLs (m : Nat) (cs : Nat → Nat → Nat) (ln ss : Nat → Nat) (code skip loc start len atoms vars nodes weight key place : Nat → Int32) : Prop :=
  ∀ c, (c < m ∨ c = 32) → c < 33 ∧ wm_WC (cs c) (ln c) ∧ ss c + ln c ≤ 288 ∧ wm_SX (cs c) (ln c) c (ss c) code skip loc start len atoms vars nodes weight key place
section
variable {cs : Nat → Nat → Nat} {ln sl sl' : Nat → Nat}
/-- the picture of the nodes from the arrays -/
theorem wm_gx {D : Nat} {fn lk arg : Nat → Int32} (hW : ∀ j, j ≤ D → wm_WC (cs (sl j)) (ln (sl j))) (h : wm_NDS cs ln sl D fn lk arg) (hT : wm_bs cs ln sl (D + 1) ≤ 272) :
    wm_GX (wm_bs cs ln sl (D + 1)) (wm_Fn fn) (wm_Gn arg) fn arg ∧ wm_CP cs ln sl D (wm_Fn fn) (wm_Gn arg) := by
  have cp : wm_CP cs ln sl D (wm_Fn fn) (wm_Gn arg) := by
    refine ⟨fun c hc => wm_Fn_c (h.1 c hc).1 (by omega), fun d hd => ⟨fun v hv => wm_Fn_v ((h.2 d hd).1 v hv), fun k hk ho => ?_⟩⟩
    have w := hW d hd
    have bT := wm_bs_le (cs := cs) (ln := ln) (sl := sl) (d := d + 1) (e := D + 1) (by omega)
    have bT' : wm_bs cs ln sl d + wm_N (cs (sl d)) (ln (sl d)) ≤ wm_bs cs ln sl (D + 1) := bT
    rcases wm_cases w.1 hk with z | z | z
    · refine ⟨fun q => by omega, fun _ => ?_, fun i hi => by omega⟩
      have e : wm_nc cs ln sl d k = _ := wm_nd_v z.1
      rw [e]
      exact wm_Fn_v ((h.2 d hd).1 _ (wm_rk_lt (by omega) (wm_oc_iff.mpr ⟨k, hk, by omega⟩)))
    · have hp := wm_ps_t.mpr ⟨ho, z.2.2⟩
      obtain ⟨x, y⟩ := (h.2 d hd).2 k hk hp
      refine ⟨fun _ => wm_Fn_c x (by omega), fun q => by omega, fun i hi => ?_⟩
      show (arg (4 * wm_nc cs ln sl d k + i)).toNatClampNeg = _
      have y' : arg (4 * wm_nc cs ln sl d k + i) = _ := y i hi
      rw [y']
      obtain ⟨p1, p2, p3⟩ := wm_ap_lt w.2.2 hk hi
      have := wm_nc_lt w.1 hd p2 p3
      exact nI_clamp (by show wm_nc cs ln sl d _ < _; omega)
    · refine ⟨fun _ => ?_, fun q => by omega, fun i hi => by omega⟩
      have e : wm_nc cs ln sl d k = _ := wm_nd_c z.1
      rw [e]; exact wm_Fn_c (h.1 _ z.1).1 (by omega)
  refine ⟨⟨⟨wm_bs16 _, hT⟩, fun n hn => ?_, fun n hn k hk => ?_⟩, cp⟩
  · rcases wm_cov hn with z | ⟨d, x1, x2, x3⟩
    · have e := wm_Fn_c (h.1 n z).1 (by omega)
      rw [e, wm_fI_t (by omega)]
      exact ⟨(h.1 n z).1, by omega, fun _ => rfl, fun _ => by omega⟩
    · have b16 := wm_bs16 (cs := cs) (ln := ln) (sl := sl) d
      rcases wm_cov1 x2 x3 with ⟨v, y1, y2, y3, y4⟩ | ⟨k, y1, y2, y3⟩
      · have e := (h.2 d x1).1 _ y4
        rw [← y3] at e
        rw [wm_Fn_v e, wm_fI_v (by omega)]
        exact ⟨e, by omega, fun _ => by omega, fun _ => by omega⟩
      · obtain ⟨e, -⟩ := (h.2 d x1).2 k y1 y2
        rw [← y3] at e
        have hp := wm_ps_t.mp y2
        have h80 := wm_ar80 hp.2
        rw [wm_Fn_c e h80, wm_fI_t h80]
        refine ⟨e, by omega, fun _ => by omega, fun _ => ?_⟩
        have := hp.2
        rw [wm_ar_c h80] at this
        omega
  · rcases wm_cov hn with z | ⟨d, x1, x2, x3⟩
    · have e := wm_Fn_c (h.1 n z).1 (by omega)
      rw [e, wm_ar_c (by omega)] at hk; omega
    · rcases wm_cov1 x2 x3 with ⟨v, y1, y2, y3, y4⟩ | ⟨q, y1, y2, y3⟩
      · have e := (h.2 d x1).1 _ y4
        rw [← y3] at e
        rw [wm_Fn_v e, wm_ar_v (by omega)] at hk; omega
      · obtain ⟨e, e2⟩ := (h.2 d x1).2 q y1 y2
        rw [← y3] at e e2
        have hp := wm_ps_t.mp y2
        rw [wm_Fn_c e (wm_ar80 hp.2)] at hk
        have w := hW d x1
        obtain ⟨p1, p2, p3⟩ := wm_ap_lt w.2.2 y1 hk
        have lt := wm_nc_lt w.1 x1 p2 p3
        have e3 := e2 k hk
        unfold wm_Gn
        rw [e3, nI_clamp (by have : wm_nd (cs (sl d)) (ln (sl d)) (wm_bs cs ln sl d) (wm_ap (cs (sl d)) (ln (sl d)) q k) < 272 := Nat.lt_of_lt_of_le lt hT
                             omega)]
        exact ⟨rfl, lt⟩
theorem wm_NDS_congr {d : Nat} {fn lk arg : Nat → Int32} (hs : ∀ j, j ≤ d → sl' j = sl j) (h : wm_NDS cs ln sl d fn lk arg) : wm_NDS cs ln sl' d fn lk arg := by
  refine ⟨h.1, fun j hj => ?_⟩
  rw [hs j hj, wm_bs_congr (fun i hi => hs i (by omega))]; exact h.2 j hj
theorem wm_FRM_congr {d : Nat} {ta : Nat → Nat} {a1 a2 a3 a4 a5 a6 : Nat → Int32} (hs : ∀ j, j ≤ d → sl' j = sl j) (h : wm_FRM cs ln sl d ta a1 a2 a3 a4 a5 a6) : wm_FRM cs ln sl' d ta a1 a2 a3 a4 a5 a6 := by
  intro j hj
  rw [hs j hj, wm_bs_congr (fun i hi => hs i (by omega)), wm_bs_congr (d := j + 1) (fun i hi => hs i (by omega)), wm_hp_congr (fun i hi => hs i (by omega)), wm_gl_congr (fun i hi => hs i (by omega))]
  exact h j hj
theorem wm_RP_congr {j : Nat} {F A : Int32} {l : List (Nat × Nat)} (hs : ∀ i, i ≤ j → sl' i = sl i) (h : wm_RP cs ln sl j F A l) : wm_RP cs ln sl' j F A l := by
  rcases h with h | ⟨f, a, h1, h2, h3, h4, h5⟩
  · exact Or.inl h
  · refine Or.inr ⟨f, a, h1, h2, h3, ?_, ?_⟩
    · unfold wm_nA; rw [hs f h3]; exact h4
    · rw [wm_sg_congr (hs f h3), wm_cl_congr (fun i hi => hs i (by omega))]; exact h5
theorem wm_CNT_congr {d : Nat} {a1 a2 a3 a4 : Nat → Int32} (hs : ∀ j, j ≤ d → sl' j = sl j) (h : wm_CNT cs ln sl d a1 a2 a3 a4) : wm_CNT cs ln sl' d a1 a2 a3 a4 := by
  intro j hj
  rw [wm_gl_congr (fun i hi => hs i (by omega)), wm_cl_congr (fun i hi => hs i (by omega))]
  exact ⟨wm_RP_congr (fun i hi => hs i (by omega)) (h j hj).1, wm_RP_congr (fun i hi => hs i (by omega)) (h j hj).2⟩
theorem wm_TRL_congr {d : Nat} {ta t : Nat → Nat} {F : Nat → Nat} {G : Nat → Nat → Nat} {L tr : Nat → Int32} {tl : Nat} (hs : ∀ j, j ≤ d → sl' j = sl j) (h : wm_TRL cs ln sl d ta t F G L tr tl) : wm_TRL cs ln sl' d ta t F G L tr tl := by
  obtain ⟨h1, h2, h3, h4⟩ := h
  have eb : ∀ j, j ≤ d → wm_bs cs ln sl' (j + 1) = wm_bs cs ln sl (j + 1) := fun j hj => wm_bs_congr (fun i hi => hs i (by omega))
  refine ⟨fun j hj => ?_, ⟨h2.1, h2.2.1, fun j hj i hi => ?_⟩, h3, h4⟩
  · obtain ⟨x, y⟩ := h1 j hj
    refine ⟨x, fun L' hu => ?_⟩
    have eq : wm_qs cs ln sl' j = wm_qs cs ln sl j := funext fun a => funext fun b => propext (wm_qs_congr (fun i hi => hs i (by omega)))
    show wm_XS (wm_bs cs ln sl' (j + 1)) F G (wm_qs cs ln sl' j) L' (ta j)
    have hu' : wm_Und (wm_bs cs ln sl' (j + 1)) L t (ta j) tl L' := hu
    rw [eb j hj] at hu' ⊢
    rw [eq]
    exact y L' hu'
  · show t i < wm_bs cs ln sl' (j + 1)
    rw [eb j hj]; exact h2.2.2 j hj i hi
end
end
section
/-! the class's unifyHead -/
def wm_sr (rk : Nat → Nat) : Nat → Nat
  | 0 => 0
  | n + 1 => wm_sr rk n + rk n
theorem wm_sr_le {rk : Nat → Nat} : ∀ {n c : Nat}, c < n → rk c ≤ wm_sr rk n
  | 0, c, h => absurd h (Nat.not_lt_zero _)
  | n + 1, c, h => by
    rcases Nat.lt_or_ge c n with z | z
    · have := wm_sr_le (rk := rk) z
      simp only [wm_sr]; omega
    · have : c = n := by omega
      subst this; simp only [wm_sr]; omega
/-- a new copy behind the old nodes: the solved state goes on -/
theorem wm_newcopy {cs : Nat → Nat → Nat} {ln sl : Nat → Nat} {e : Nat} {F : Nat → Nat} {G : Nat → Nat → Nat} {Q : Nat → Nat → Prop} {ρ rk : Nat → Nat} (hW : wm_WC (cs (sl e)) (ln (sl e))) (hcp : wm_CP cs ln sl e F G)
    (h : wm_Sv (wm_bs cs ln sl e) F G Q ρ) (hr : wm_Rk (wm_bs cs ln sl e) F G ρ rk) (hQ : ∀ a b, Q a b → a < wm_bs cs ln sl e ∧ b < wm_bs cs ln sl e)
    (hG : ∀ a, a < wm_bs cs ln sl e → ∀ k, k < wm_ar (F a) → G a k < wm_bs cs ln sl e) (hi : ∀ n, wm_bs cs ln sl e ≤ n → ρ n = n) :
    wm_Sv (wm_bs cs ln sl (e + 1)) F G Q ρ ∧ ∃ rk', wm_Rk (wm_bs cs ln sl (e + 1)) F G ρ rk' := by
  have b16 := wm_bs16 (cs := cs) (ln := ln) (sl := sl) e
  have main := wm_ext (T := wm_bs cs ln sl (e + 1)) h hr (wm_bs_le (by omega)) hQ hG hi (1 + wm_sr rk 16) (fun n => if n < wm_bs cs ln sl e + wm_vs (cs (sl e)) (ln (sl e)) then 0 else wm_bs cs ln sl (e + 1) - n + 1) (fun a ha1 ha2 k hk => ?_)
  · exact ⟨main.1, _, main.2⟩
  · obtain ⟨c1, c2⟩ := hcp.2 e (Nat.le_refl _)
    rcases wm_cov1 (C := cs (sl e)) (n := ln (sl e)) ha1 ha2 with ⟨v, y1, y2, y3, y4⟩ | ⟨q, y1, y2, y3⟩
    · have ee := c1 _ y4
      rw [← y3] at ee
      rw [ee, wm_ar_v (by omega)] at hk; omega
    · have hp := wm_ps_t.mp y2
      obtain ⟨f1, f2, f3⟩ := c2 q y1 hp.1
      have h80 := wm_ar80 hp.2
      have y3' : a = wm_nc cs ln sl e q := y3
      rw [y3', f1 (by omega)] at hk
      have e3 := f3 k hk
      rw [← y3'] at e3
      rw [e3]
      obtain ⟨p1, p2, p3⟩ := wm_ap_lt hW.2.2 y1 hk
      obtain ⟨r1, r2⟩ := wm_ps_rng (b := wm_bs cs ln sl e) y1 y2
      have r1' : wm_bs cs ln sl e + wm_vs (cs (sl e)) (ln (sl e)) ≤ a := by rw [y3]; exact r1
      rcases wm_cases hW.1 p2 with z | z | z
      · right
        have e4 : wm_nc cs ln sl e (wm_aq cs ln sl e q k) = wm_bs cs ln sl e + wm_rk (cs (sl e)) (ln (sl e)) (cs (sl e) (wm_ap (cs (sl e)) (ln (sl e)) q k) - 128) := wm_nd_v z.1
        have e5 := wm_rk_lt (C := cs (sl e)) (n := ln (sl e)) (v := cs (sl e) (wm_ap (cs (sl e)) (ln (sl e)) q k) - 128) (by omega) (wm_oc_iff.mpr ⟨_, p2, by omega⟩)
        have bN : wm_bs cs ln sl e + wm_N (cs (sl e)) (ln (sl e)) = wm_bs cs ln sl (e + 1) := rfl
        have hN : wm_vs (cs (sl e)) (ln (sl e)) ≤ wm_N (cs (sl e)) (ln (sl e)) := Nat.le_add_right _ _
        rw [e4]
        refine ⟨by omega, by omega, ?_⟩
        show (if _ then 0 else _) < (if a < _ then 0 else wm_bs cs ln sl (e + 1) - a + 1)
        rw [if_pos (by omega), if_neg (by omega)]; omega
      · right
        have z' := wm_ps_t.mpr ⟨p3, z.2.2⟩
        obtain ⟨s1, s2⟩ := wm_ps_rng (b := wm_bs cs ln sl e) p2 z'
        have lt : wm_st (cs (sl e)) q < wm_st (cs (sl e)) (wm_ap (cs (sl e)) (ln (sl e)) q k) := wm_cn_lt y2 p1
        have e4 : wm_nc cs ln sl e (wm_aq cs ln sl e q k) = _ := wm_nd_s z.2.2
        have e5 : a = _ := y3.trans (wm_nd_s hp.2)
        have s1' : wm_bs cs ln sl e + wm_vs (cs (sl e)) (ln (sl e)) ≤ wm_nc cs ln sl e (wm_aq cs ln sl e q k) := s1
        have s2' : wm_nc cs ln sl e (wm_aq cs ln sl e q k) < wm_bs cs ln sl (e + 1) := s2
        refine ⟨by omega, s2', ?_⟩
        show (if _ then 0 else _) < (if a < _ then 0 else wm_bs cs ln sl (e + 1) - a + 1)
        rw [if_neg (by omega), if_neg (by omega)]
        have : a < wm_nc cs ln sl e (wm_aq cs ln sl e q k) := by
          rw [e4, e5]
          exact Nat.add_lt_add_left (Nat.add_lt_add_left lt _) _
        omega
      · left
        have e4 : wm_nc cs ln sl e (wm_aq cs ln sl e q k) = cs (sl e) (wm_ap (cs (sl e)) (ln (sl e)) q k) := wm_nd_c z.1
        rw [e4]
        have := wm_sr_le (rk := rk) z.1
        omega
section
variable {f_clauseCap f_heapCap f_frameCap f_choiceCap f_querySlot f_firstNode f_draftLen f_draftOpen f_draftAtoms f_programUsed f_clauses f_trailLen f_depth f_choiceCount f_status f_solutions f_steps f_complete f_pairTop f_writeTop f_answerLen f_goalLen : Int32} {a_draft a_code a_skip a_local a_slotStart a_slotLen a_slotAtoms a_slotVars a_slotNodes a_slotWeight a_slotKey a_atomPlace a_nodeFn a_nodeLink a_nodeArg a_trail a_frameSlot a_frameBase a_contFrame a_contAtom a_selFrame a_selAtom a_nodeTop a_trailAt a_heapAt a_pendingAt a_choiceDepth a_choiceNext a_pairLeft a_pairRight a_colour a_dfsNode a_dfsArg a_writing a_writeStack a_varNumber : Nat → Int32}
variable {cs : Nat → Nat → Nat} {ln sl ss ta t : Nat → Nat} {m d : Nat}
theorem wx_goalPlace {post : Int32 → Prop} {f j : Nat} (hd : f_depth = nI d) (hd' : d ≤ 128) (hS : wm_SLs m cs ln ss a_code a_skip a_local a_slotStart a_slotLen a_slotAtoms a_slotVars a_slotNodes a_slotWeight a_slotKey a_atomPlace) (hsl : ∀ i, i ≤ d → (sl i < m ∨ sl i = 32))
    (hF : wm_FRM cs ln sl d ta a_frameSlot a_frameBase a_nodeTop a_heapAt a_pendingAt a_trailAt) (hC : wm_CNT cs ln sl d a_contFrame a_contAtom a_selFrame a_selAtom) (hg : (wm_gl cs ln sl d).head? = some (f, j))
    (hp : post (nI (ss (sl f) + wm_pq cs ln sl f j))) : wpX_goalPlace post (f_clauseCap, f_heapCap, f_frameCap, f_choiceCap, f_querySlot, f_firstNode, f_draftLen, f_draftOpen, f_draftAtoms, f_programUsed, f_clauses, f_trailLen, f_depth, f_choiceCount, f_status, f_solutions, f_steps, f_complete, f_pairTop, f_writeTop, f_answerLen, f_goalLen, a_draft, a_code, a_skip, a_local, a_slotStart, a_slotLen, a_slotAtoms, a_slotVars, a_slotNodes, a_slotWeight, a_slotKey, a_atomPlace, a_nodeFn, a_nodeLink, a_nodeArg, a_trail, a_frameSlot, a_frameBase, a_contFrame, a_contAtom, a_selFrame, a_selAtom, a_nodeTop, a_trailAt, a_heapAt, a_pendingAt, a_choiceDepth, a_choiceNext, a_pairLeft, a_pairRight, a_colour, a_dfsNode, a_dfsArg, a_writing, a_writeStack, a_varNumber) := by
  subst hd
  rcases (hC d (Nat.le_refl _)).1 with ⟨-, e⟩ | ⟨f', a, e1, e2, e3, e4, e5⟩
  · rw [e] at hg; cases hg
  · rw [e5, wm_sg_cons e4] at hg
    cases hg
    obtain ⟨s1, s2, s3, s4⟩ := hS _ (hsl f e3)
    have h8 : wm_na (cs (sl f)) (ln (sl f)) ≤ 8 := s2.1.2.2
    have e4' : j < wm_na (cs (sl f)) (ln (sl f)) := e4
    have ind : vp_in (nI d) 129 := pk_in d 129 (by omega)
    have ex : nI (sl f) * 8 + a_selAtom (nI d).toNatClampNeg = nI (8 * sl f + j) := by
      rw [wm_rx e2, show (8 : Int32) = nI 8 from rfl, pk_mul, nI_add, Nat.mul_comm]
    refine And.intro ind (And.intro (pk_in f 129 (by omega) (wm_rx e1)) (nm_r (wm_rx (hF f e3).1.1 (wm_rx e1)) (And.intro ind (And.intro (pk_in (8 * sl f + j) 264 (by omega) ex) ?_))))
    rw [wm_rx (s4.2.2.1 j e4') ex]
    exact hp
theorem wx_goalBase {post : Int32 → Prop} {f j : Nat} (hd : f_depth = nI d) (hd' : d ≤ 128)
    (hF : wm_FRM cs ln sl d ta a_frameSlot a_frameBase a_nodeTop a_heapAt a_pendingAt a_trailAt) (hC : wm_CNT cs ln sl d a_contFrame a_contAtom a_selFrame a_selAtom) (hg : (wm_gl cs ln sl d).head? = some (f, j))
    (hp : post (nI (wm_bs cs ln sl f))) : wpX_goalBase post (f_clauseCap, f_heapCap, f_frameCap, f_choiceCap, f_querySlot, f_firstNode, f_draftLen, f_draftOpen, f_draftAtoms, f_programUsed, f_clauses, f_trailLen, f_depth, f_choiceCount, f_status, f_solutions, f_steps, f_complete, f_pairTop, f_writeTop, f_answerLen, f_goalLen, a_draft, a_code, a_skip, a_local, a_slotStart, a_slotLen, a_slotAtoms, a_slotVars, a_slotNodes, a_slotWeight, a_slotKey, a_atomPlace, a_nodeFn, a_nodeLink, a_nodeArg, a_trail, a_frameSlot, a_frameBase, a_contFrame, a_contAtom, a_selFrame, a_selAtom, a_nodeTop, a_trailAt, a_heapAt, a_pendingAt, a_choiceDepth, a_choiceNext, a_pairLeft, a_pairRight, a_colour, a_dfsNode, a_dfsArg, a_writing, a_writeStack, a_varNumber) := by
  subst hd
  rcases (hC d (Nat.le_refl _)).1 with ⟨-, e⟩ | ⟨f', a, e1, e2, e3, e4, e5⟩
  · rw [e] at hg; cases hg
  · rw [e5, wm_sg_cons e4] at hg
    cases hg
    refine And.intro (pk_in d 129 (by omega)) (And.intro (pk_in f 129 (by omega) (wm_rx e1)) ?_)
    rw [wm_rx (hF f e3).1.2.1 (wm_rx e1)]
    exact hp
theorem wx_lp_30 {post : SX → Prop} {C C' : Nat → Nat} {n n' s s' b b' g : Nat} (hC : wm_WC C n) (hC' : wm_WC C' n') (hsn : s + n ≤ 288) (hsn' : s' + n' ≤ 288) (hg : g < n) (hcode : C g = C' 0)
    (hc : ∀ k, k < n → a_code (s + k) = nI (C k) ∧ a_skip (s + k) = nI (s + wm_en C n k) ∧ a_local (s + k) = wm_lo C n k) (hc' : ∀ k, k < n' → a_code (s' + k) = nI (C' k) ∧ a_skip (s' + k) = nI (s' + wm_en C' n' k) ∧ a_local (s' + k) = wm_lo C' n' k)
    (hp : ∀ (PL PR : Nat → Int32), (∀ k, k < wm_ar (C' 0) → PL k = nI (wm_nd C n b (wm_ap C n g k)) ∧ PR k = nI (wm_nd C' n' b' (wm_ap C' n' 0 k))) → post (f_clauseCap, f_heapCap, f_frameCap, f_choiceCap, f_querySlot, f_firstNode, f_draftLen, f_draftOpen, f_draftAtoms, f_programUsed, f_clauses, f_trailLen, f_depth, f_choiceCount, f_status, f_solutions, f_steps, f_complete, (nI (wm_ar (C' 0))), f_writeTop, f_answerLen, f_goalLen, a_draft, a_code, a_skip, a_local, a_slotStart, a_slotLen, a_slotAtoms, a_slotVars, a_slotNodes, a_slotWeight, a_slotKey, a_atomPlace, a_nodeFn, a_nodeLink, a_nodeArg, a_trail, a_frameSlot, a_frameBase, a_contFrame, a_contAtom, a_selFrame, a_selAtom, a_nodeTop, a_trailAt, a_heapAt, a_pendingAt, a_choiceDepth, a_choiceNext, PL, PR, a_colour, a_dfsNode, a_dfsArg, a_writing, a_writeStack, a_varNumber)) :
    ∀ (m k : Nat) (f_pairTop : Int32) (a_pairLeft a_pairRight : Nat → Int32), k ≤ wm_ar (C' 0) → wm_ar (C' 0) < m + k → f_pairTop = nI k → (∀ i, i < k → a_pairLeft i = nI (wm_nd C n b (wm_ap C n g i)) ∧ a_pairRight i = nI (wm_nd C' n' b' (wm_ap C' n' 0 i))) →
      wX_loadPairs_30 post (nI b) (nI b') (nI (wm_ar (C' 0))) m (nI (s + wm_ap C n g k)) (nI (s' + wm_ap C' n' 0 k)) (nI k) f_clauseCap f_heapCap f_frameCap f_choiceCap f_querySlot f_firstNode f_draftLen f_draftOpen f_draftAtoms f_programUsed f_clauses f_trailLen f_depth f_choiceCount f_status f_solutions f_steps f_complete f_pairTop f_writeTop f_answerLen f_goalLen a_draft a_code a_skip a_local a_slotStart a_slotLen a_slotAtoms a_slotVars a_slotNodes a_slotWeight a_slotKey a_atomPlace a_nodeFn a_nodeLink a_nodeArg a_trail a_frameSlot a_frameBase a_contFrame a_contAtom a_selFrame a_selAtom a_nodeTop a_trailAt a_heapAt a_pendingAt a_choiceDepth a_choiceNext a_pairLeft a_pairRight a_colour a_dfsNode a_dfsArg a_writing a_writeStack a_varNumber := by
  have a4 := wm_ar4 (C' 0)
  intro m
  induction m with
  | zero => intro k _ _ _ h1 h2; omega
  | succ m ih =>
    intro k f_pairTop a_pairLeft a_pairRight hk hm hpt hd
    by_cases q : k = wm_ar (C' 0)
    · subst hpt
      refine wm_leT (wm_ar (C' 0)) k (by omega) ?_
      rw [q] at hd ⊢
      exact hp _ _ hd
    · obtain ⟨p1, p2, p3⟩ := wm_ap_lt hC.2.2 hg (show k < wm_ar (C g) by rw [hcode]; omega)
      obtain ⟨r1, r2, r3⟩ := wm_ap_lt hC'.2.2 hC'.2.1 (show k < wm_ar (C' 0) by omega)
      obtain ⟨c1, c2, c3⟩ := hc _ p2
      obtain ⟨d1, d2, d3⟩ := hc' _ r2
      refine wm_leF (wm_ar (C' 0)) k (by omega) (wx_nodeAt hC.1 p2 p3 c1 c3 hsn rfl rfl (wx_nodeAt hC'.1 r2 r3 d1 d3 hsn' rfl rfl (wx_pushPair hpt (by omega) (And.intro (pk_in (s + wm_ap C n g k) 288 (by omega)) (nm_r (wm_rx c2) (And.intro (pk_in (s' + wm_ap C' n' 0 k) 288 (by omega)) (nm_r (wm_rx d2) (nm_r (nI_1 k) (ih (k + 1) _ _ _ (by omega) (by omega) rfl (fun i hi => ?_))))))))))
      by_cases e : i = k
      · subst e; rw [pk_us, pk_us]; exact ⟨rfl, rfl⟩
      · rw [pk_un e, pk_un e]; exact hd i (by omega)
theorem wx_loadPairs {post : SX → Prop} {C C' : Nat → Nat} {n n' s s' b b' g : Nat} {x : Int32} (hx : x = nI s') (hC : wm_WC C n) (hC' : wm_WC C' n') (hsn : s + n ≤ 288) (hsn' : s' + n' ≤ 288) (hg : g < n) (hcode : C g = C' 0)
    (hc : ∀ k, k < n → a_code (s + k) = nI (C k) ∧ a_skip (s + k) = nI (s + wm_en C n k) ∧ a_local (s + k) = wm_lo C n k) (hc' : ∀ k, k < n' → a_code (s' + k) = nI (C' k) ∧ a_skip (s' + k) = nI (s' + wm_en C' n' k) ∧ a_local (s' + k) = wm_lo C' n' k)
    (hp : ∀ (PL PR : Nat → Int32), (∀ k, k < wm_ar (C' 0) → PL k = nI (wm_nd C n b (wm_ap C n g k)) ∧ PR k = nI (wm_nd C' n' b' (wm_ap C' n' 0 k))) → post (f_clauseCap, f_heapCap, f_frameCap, f_choiceCap, f_querySlot, f_firstNode, f_draftLen, f_draftOpen, f_draftAtoms, f_programUsed, f_clauses, f_trailLen, f_depth, f_choiceCount, f_status, f_solutions, f_steps, f_complete, (nI (wm_ar (C' 0))), f_writeTop, f_answerLen, f_goalLen, a_draft, a_code, a_skip, a_local, a_slotStart, a_slotLen, a_slotAtoms, a_slotVars, a_slotNodes, a_slotWeight, a_slotKey, a_atomPlace, a_nodeFn, a_nodeLink, a_nodeArg, a_trail, a_frameSlot, a_frameBase, a_contFrame, a_contAtom, a_selFrame, a_selAtom, a_nodeTop, a_trailAt, a_heapAt, a_pendingAt, a_choiceDepth, a_choiceNext, PL, PR, a_colour, a_dfsNode, a_dfsArg, a_writing, a_writeStack, a_varNumber)) :
    wpX_loadPairs post (f_clauseCap, f_heapCap, f_frameCap, f_choiceCap, f_querySlot, f_firstNode, f_draftLen, f_draftOpen, f_draftAtoms, f_programUsed, f_clauses, f_trailLen, f_depth, f_choiceCount, f_status, f_solutions, f_steps, f_complete, f_pairTop, f_writeTop, f_answerLen, f_goalLen, a_draft, a_code, a_skip, a_local, a_slotStart, a_slotLen, a_slotAtoms, a_slotVars, a_slotNodes, a_slotWeight, a_slotKey, a_atomPlace, a_nodeFn, a_nodeLink, a_nodeArg, a_trail, a_frameSlot, a_frameBase, a_contFrame, a_contAtom, a_selFrame, a_selAtom, a_nodeTop, a_trailAt, a_heapAt, a_pendingAt, a_choiceDepth, a_choiceNext, a_pairLeft, a_pairRight, a_colour, a_dfsNode, a_dfsArg, a_writing, a_writeStack, a_varNumber) (nI (s + g)) (nI b) x (nI b') := by
  subst hx
  refine And.intro (pk_in (s + g) 288 (by omega)) (wx_ar (C g) (hC.1.2.1 g hg).1 (wm_rx (hc g hg).1) (nm_r (nI_1 (s + g)) (nm_r (nI_1 s') ⟨wm_ar (C' 0) + 1, ?_⟩)))
  rw [hcode]
  exact wx_lp_30 (k := 0) hC hC' hsn hsn' hg hcode hc hc' hp _ _ _ _ (Nat.zero_le _) (by omega) rfl (fun i hi => by omega)
/-- what unifyHead leaves -/
def wm_UH (cs : Nat → Nat → Nat) (ln sl ta : Nat → Nat) (d : Nat) (r : Int32) (fn lk arg tr : Nat → Int32) (tl : Nat) : Prop :=
  wm_NDS cs ln sl (d + 1) fn lk arg ∧ (∃ t, wm_TRL cs ln sl d ta t (wm_Fn fn) (wm_Gn arg) lk tr tl ∧ (∀ i, i < tl → t i < wm_bs cs ln sl (d + 1 + 1))) ∧
  ((r = 1 ∧ wm_XS (wm_bs cs ln sl (d + 1 + 1)) (wm_Fn fn) (wm_Gn arg) (wm_qs cs ln sl (d + 1)) lk tl) ∨ (r = 0 ∧ ¬ wm_Gd (wm_bs cs ln sl (d + 1 + 1)) (wm_Fn fn) (wm_Gn arg) (wm_qs cs ln sl (d + 1))))
theorem wx_unifyHead {post : Int32 → SX → Prop} {x : Int32} (hx : x = nI (sl (d + 1))) (hd : f_depth = nI d) (hd' : d + 1 ≤ 128) (hS : wm_SLs m cs ln ss a_code a_skip a_local a_slotStart a_slotLen a_slotAtoms a_slotVars a_slotNodes a_slotWeight a_slotKey a_atomPlace) (hsl : ∀ i, i ≤ d + 1 → (sl i < m ∨ sl i = 32))
    (hF : wm_FRM cs ln sl d ta a_frameSlot a_frameBase a_nodeTop a_heapAt a_pendingAt a_trailAt) (hC : wm_CNT cs ln sl d a_contFrame a_contAtom a_selFrame a_selAtom) (hT : wm_TO cs ln sl (d + 1)) (hN : wm_NDS cs ln sl d a_nodeFn a_nodeLink a_nodeArg)
    (hR : wm_TRL cs ln sl d ta t (wm_Fn a_nodeFn) (wm_Gn a_nodeArg) a_nodeLink a_trail (ta d)) (htl : f_trailLen = nI (ta d)) (hb : wm_bs cs ln sl (d + 1 + 1) ≤ 272)
    (hp : ∀ (r : Int32) (fn lk arg tr : Nat → Int32) (tl : Nat) (pt : Int32) (PL PR col dn da : Nat → Int32), wm_UH cs ln sl ta d r fn lk arg tr tl →
      post r (f_clauseCap, f_heapCap, f_frameCap, f_choiceCap, f_querySlot, f_firstNode, f_draftLen, f_draftOpen, f_draftAtoms, f_programUsed, f_clauses, (nI tl), f_depth, f_choiceCount, f_status, f_solutions, f_steps, f_complete, pt, f_writeTop, f_answerLen, f_goalLen, a_draft, a_code, a_skip, a_local, a_slotStart, a_slotLen, a_slotAtoms, a_slotVars, a_slotNodes, a_slotWeight, a_slotKey, a_atomPlace, fn, lk, arg, tr, a_frameSlot, a_frameBase, a_contFrame, a_contAtom, a_selFrame, a_selAtom, a_nodeTop, a_trailAt, a_heapAt, a_pendingAt, a_choiceDepth, a_choiceNext, PL, PR, col, dn, da, a_writing, a_writeStack, a_varNumber)) : wpX_unifyHead post (f_clauseCap, f_heapCap, f_frameCap, f_choiceCap, f_querySlot, f_firstNode, f_draftLen, f_draftOpen, f_draftAtoms, f_programUsed, f_clauses, f_trailLen, f_depth, f_choiceCount, f_status, f_solutions, f_steps, f_complete, f_pairTop, f_writeTop, f_answerLen, f_goalLen, a_draft, a_code, a_skip, a_local, a_slotStart, a_slotLen, a_slotAtoms, a_slotVars, a_slotNodes, a_slotWeight, a_slotKey, a_atomPlace, a_nodeFn, a_nodeLink, a_nodeArg, a_trail, a_frameSlot, a_frameBase, a_contFrame, a_contAtom, a_selFrame, a_selAtom, a_nodeTop, a_trailAt, a_heapAt, a_pendingAt, a_choiceDepth, a_choiceNext, a_pairLeft, a_pairRight, a_colour, a_dfsNode, a_dfsArg, a_writing, a_writeStack, a_varNumber) x := by
  subst hx hd
  obtain ⟨s1, s2, s3, s4⟩ := hS _ (hsl (d + 1) (Nat.le_refl _))
  obtain ⟨f, j, hg1, hg2⟩ := hT.2 d (by omega)
  obtain ⟨g1, g2, g3, g4⟩ := wm_goal hT (by omega : d ≤ d + 1) hg1
  obtain ⟨u1, u2, u3, u4⟩ := hS _ (hsl f (by omega))
  have bT : wm_bs cs ln sl (d + 1) ≤ wm_bs cs ln sl (d + 1 + 1) := wm_bs_le (by omega)
  have hb' : wm_bs cs ln sl (d + 1) + wm_N (cs (sl (d + 1))) (ln (sl (d + 1))) ≤ 272 := hb
  refine And.intro (pk_in d 129 (by omega)) (nm_r (wm_rx (hF d (Nat.le_refl _)).1.2.2) (wx_buildCopy rfl rfl s2 s3 hb' s1 s4 (fun fn lk arg gc gf => ?_)))
  refine wx_goalPlace rfl (by omega) hS (fun i hi => hsl i (by omega)) hF hC hg1 (wx_goalBase rfl (by omega) hF hC hg1 (And.intro (pk_in (sl (d + 1)) 33 s1) ?_))
  refine wx_loadPairs (C := cs (sl f)) (n := ln (sl f)) (s := ss (sl f)) (b := wm_bs cs ln sl f) (C' := cs (sl (d + 1))) (n' := ln (sl (d + 1))) (s' := ss (sl (d + 1))) (wm_rx s4.1.1) u2 s2 u3 s3 g3 hg2 u4.2.2.2 s4.2.2.2 (fun PL PR hpl => ?_)
  -- the new copy
  have hN' : wm_NDS cs ln sl (d + 1) fn lk arg := by
    refine ⟨fun c hc => ?_, fun i hi => ?_⟩
    · have b16 := wm_bs16 (cs := cs) (ln := ln) (sl := sl) (d + 1)
      rw [(gf.1 c (by omega)).1, (gf.1 c (by omega)).2]; exact hN.1 c hc
    · rcases Nat.lt_or_ge d i with z | z
      · have : i = d + 1 := by omega
        subst this
        exact ⟨fun v hv => (gc.1 v hv).1, fun k hk hps => ⟨(gc.2 k hk hps).1, (gc.2 k hk hps).2.2⟩⟩
      · exact wm_GA_keep (hN.2 i z) gf (wm_bs_le (cs := cs) (ln := ln) (sl := sl) (d := i + 1) (e := d + 1) (by omega))
  have hW : ∀ i, i ≤ d + 1 → wm_WC (cs (sl i)) (ln (sl i)) := hT.1
  obtain ⟨gx0, cp0⟩ := wm_gx (D := d) (fun i hi => hW i (by omega)) hN (by omega)
  obtain ⟨gx, cp⟩ := wm_gx (D := d + 1) hW hN' hb
  have eF : ∀ n, n < wm_bs cs ln sl (d + 1) → wm_Fn fn n = wm_Fn a_nodeFn n := fun n hn => by unfold wm_Fn; rw [(gf.1 n (by omega)).1]
  have eG : ∀ n, n < wm_bs cs ln sl (d + 1) → ∀ k, k < wm_ar (wm_Fn a_nodeFn n) → wm_Gn arg n k = wm_Gn a_nodeArg n k := fun n hn k hk => by
    have := wm_ar4 (wm_Fn a_nodeFn n)
    unfold wm_Gn; rw [gf.2 _ (by omega)]
  have eL : ∀ n, n < wm_bs cs ln sl (d + 1) → lk n = a_nodeLink n := fun n hn => (gf.1 n (by omega)).2
  have hmono : ∀ i, i ≤ d → wm_bs cs ln sl (i + 1) ≤ wm_bs cs ln sl (d + 1) := fun i hi => wm_bs_le (by omega)
  obtain ⟨hr1, hr2, hr3, hr4⟩ := hR
  have l1 : ∀ n, wm_bs cs ln sl (d + 1) ≤ n → n < wm_bs cs ln sl (d + 1 + 1) → lk n = -1 := fun n h1 h2 => by
    rcases wm_cov1 (C := cs (sl (d + 1))) (n := ln (sl (d + 1))) h1 h2 with ⟨v, y1, y2, y3, y4⟩ | ⟨q, y1, y2, y3⟩
    · rw [y3]; exact (gc.1 _ y4).2
    · rw [y3]; exact (gc.2 q y1 y2).2.1
  -- the old solution
  obtain ⟨ρ0, δ0, rk0, o1, o2, o3, o4, o5, o6⟩ := (hr1 d (Nat.le_refl _)).2 a_nodeLink (fun n hn => ⟨fun ⟨i, y1, y2, y3⟩ => by omega, fun _ => rfl⟩)
  have o5 : ∀ n, wm_bs cs ln sl (d + 1) ≤ n → ρ0 n = n := o5
  have o6 : ∀ n, wm_bs cs ln sl (d + 1) ≤ n → δ0 n = 0 := o6
  have o1' : wm_UF (wm_bs cs ln sl (d + 1 + 1)) lk ρ0 δ0 := wm_UF_ext o1 bT eL l1 o5 o6
  have o3' : wm_Sv (wm_bs cs ln sl (d + 1)) (wm_Fn fn) (wm_Gn arg) (wm_qs cs ln sl d) ρ0 := wm_Sv_congr eF eG o3
  have o4' : wm_Rk (wm_bs cs ln sl (d + 1)) (wm_Fn fn) (wm_Gn arg) ρ0 rk0 := wm_Rk_congr eF eG o4
  have hTd : wm_TO cs ln sl d := wm_TO_le (by omega) hT
  obtain ⟨n1, rk1, n2⟩ := wm_newcopy s2 cp o3' o4' (fun a b h => wm_qs_lt hTd h) (fun a ha k hk => by
    rw [eF a ha] at hk
    rw [eG a ha k hk]
    exact wm_GX_G gx0 a ha k hk) o5
  have hqn : ∀ a b, wm_q1 cs ln sl d a b → a < wm_bs cs ln sl (d + 1 + 1) ∧ b < wm_bs cs ln sl (d + 1 + 1) := fun a b h => by
    have := wm_q1_lt hT (by omega : d < d + 1) h; omega
  have hq0 : ∀ a b, wm_qs cs ln sl d a b → a < wm_bs cs ln sl (d + 1 + 1) ∧ b < wm_bs cs ln sl (d + 1 + 1) := fun a b h => by
    have := wm_qs_lt hTd h; omega
  have In1 := wm_In_1 (Q := wm_qs cs ln sl (d + 1)) n1 (fun a b => wm_qs_s) hqn hq0 (wm_GX_G gx)
  have In2 : wm_In (wm_bs cs ln sl (d + 1 + 1)) (wm_Fn fn) (wm_Gn arg) (wm_qs cs ln sl (d + 1)) ρ0 (wm_PP (wm_ar (cs (sl (d + 1)) 0)) (fun k => wm_nc cs ln sl f (wm_aq cs ln sl f (wm_pq cs ln sl f j) k)) (fun k => wm_nc cs ln sl (d + 1) (wm_aq cs ln sl (d + 1) 0 k))) := by
    have e : wm_PP (wm_ar (cs (sl (d + 1)) 0)) (fun k => wm_nc cs ln sl f (wm_aq cs ln sl f (wm_pq cs ln sl f j) k)) (fun k => wm_nc cs ln sl (d + 1) (wm_aq cs ln sl (d + 1) 0 k)) = wm_q1 cs ln sl d := by
      funext a b
      apply propext
      constructor
      · rintro ⟨k, h1, h2, h3⟩
        exact ⟨f, j, hg1, k, h1, h2.symm, h3.symm⟩
      · rintro ⟨f', j', h0, k, h1, h2, h3⟩
        rw [hg1] at h0
        cases h0
        exact ⟨k, h1, h2.symm, h3.symm⟩
    rw [e]; exact In1
  have lt256 := wm_TL_256 hr2
  have ex0 : wm_EX (wm_bs cs ln sl (d + 1 + 1)) lk t (ta d) lk t (ta d) := by
    refine ⟨Nat.le_refl _, fun _ _ => rfl, fun _ _ => rfl, fun i h1 h2 => by omega, fun i hi => ?_, hr2.2.1⟩
    obtain ⟨y1, y2, y3⟩ := hr2.1 i hi
    refine ⟨y1, y2, ?_⟩
    rw [eL (t i) (hr2.2.2 d (Nat.le_refl _) i hi)]; exact y3
  refine wx_mergePairs (Q := wm_qs cs ln sl (d + 1)) (L0 := lk) (t0 := t) gx htl rfl ⟨ρ0, δ0, t, _, _, o1', o2, fun n hn => o5 n (by omega), fun n hn => o6 n (by omega), ex0, hr3, fun i hi => hpl i hi, In2, by have := wm_ar4 (cs (sl (d + 1)) 0); omega⟩ (fun r tl pt L tr PL' PR' hmp => ?_)
  obtain ⟨⟨t', ex, htr⟩, hcase⟩ := hmp
  obtain ⟨x1, x2, x3, x4, x5, x6⟩ := ex
  have hN2 : wm_NDS cs ln sl (d + 1) fn L arg := by
    refine ⟨fun c hc => ⟨(hN'.1 c hc).1, ?_⟩, hN'.2⟩
    rw [x3 c (fun i h1 h2 e => by have := (x5 i h2).1; omega)]; exact (hN'.1 c hc).2
  have hlow : ∀ i, i < tl → t' i < wm_bs cs ln sl (d + 1 + 1) := fun i hi => by
    rcases Nat.lt_or_ge i (ta d) with z | z
    · rw [x2 i z]; have := hr2.2.2 d (Nat.le_refl _) i z
      have e2 : t i < wm_bs cs ln sl (d + 1) := this
      omega
    · exact (x4 i z hi).1
  have hTRL : wm_TRL cs ln sl d ta t' (wm_Fn fn) (wm_Gn arg) L tr tl := by
    refine ⟨wm_Tr_ext hr1 hmono eF eG x1 x2 (fun n hn hh => ?_) (fun i h1 h2 h3 => ?_), ⟨x5, x6, fun i hi k hk => ?_⟩, htr, hr4⟩
    · rw [x3 n hh]; exact eL n hn
    · rw [← eL _ h3]; exact (x4 i h1 h2).2
    · have : ta i ≤ ta d := hr4 i d hi (Nat.le_refl _)
      show t' k < wm_bs cs ln sl (i + 1)
      rw [x2 k (by omega)]; exact hr2.2.2 i hi k hk
  rcases hcase with ⟨rfl, ρ, δ, m1, m2, m3, m4, m5⟩ | ⟨rfl, hng⟩
  · refine wm_eqF 1 0 (by omega) ?_
    have l256 : tl ≤ 256 := wm_EX_256 ⟨x1, x2, x3, x4, x5, x6⟩
    have nb : narrow .boolean (.int (1 : Int32)) = .int 1 := rfl
    have nb0 : narrow .boolean (.int (0 : Int32)) = .int 0 := rfl
    refine wx_goalIsFinite (T := wm_bs cs ln sl (d + 1 + 1)) (F := wm_Fn fn) (G := wm_Gn arg) (Q := wm_qs cs ln sl (d + 1)) (C := cs (sl f)) (n := ln (sl f)) (s := ss (sl f)) (b := wm_bs cs ln sl f) gx m1 (fun n => by have := m2 n; omega) m5 u2 u3 g3 u4.2.2.2 (fun k hk => ?_) (fun K r2 B col dn da k1 k2 => And.intro nb ?_) (fun col dn da hng => And.intro nb0 ?_)
    · obtain ⟨p1, p2, p3⟩ := wm_ap_lt u2.2.2 g3 hk
      exact wm_nc_lt u2.1 (by omega : f ≤ d + 1) p2 p3
    · obtain ⟨rk, hrk⟩ := wm_newrank (Qn := wm_q1 cs ln sl d) n1 n2 m5 (fun a b => wm_qs_s) (fun a b h => by
        obtain ⟨f', j', h0, k, h1, h2, h3⟩ := h
        rw [hg1] at h0
        cases h0
        rw [h2]
        exact k1 k (by rw [hg2]; exact h1)) (wm_GX_G gx) (fun mm hm => (k2 mm hm).2) (fun mm hm => (k2 mm hm).1)
      exact hp 1 fn L arg tr tl pt PL' PR' col dn da ⟨hN2, ⟨t', hTRL, hlow⟩, Or.inl ⟨rfl, ρ, δ, rk, m1, m2, m5, hrk, m3, m4⟩⟩
    · exact hp 0 fn L arg tr tl pt PL' PR' col dn da ⟨hN2, ⟨t', hTRL, hlow⟩, Or.inr ⟨rfl, hng⟩⟩
  · exact wm_eqT 0 0 rfl (hp 0 fn L arg tr tl pt PL' PR' _ _ _ ⟨hN2, ⟨t', hTRL, hlow⟩, Or.inr ⟨rfl, hng⟩⟩)
end
end
section
/-! the class's candidates, fail, enter -/
/-- least number from c on, n of them looked at, with P -/
def wm_lf (P : Nat → Bool) : Nat → Nat → Int32
  | 0, _ => -1
  | n + 1, c => if P c then nI c else wm_lf P n (c + 1)
theorem wm_lf_or (P : Nat → Bool) : ∀ n c, wm_lf P n c = -1 ∨ ∃ k, c ≤ k ∧ k < c + n ∧ P k = true ∧ wm_lf P n c = nI k
  | 0, _ => Or.inl rfl
  | n + 1, c => by
    by_cases h : P c = true
    · exact Or.inr ⟨c, Nat.le_refl _, by omega, h, if_pos h⟩
    · simp only [wm_lf, if_neg h]
      rcases wm_lf_or P n (c + 1) with e | ⟨k, k1, k2, k3, k4⟩
      · exact Or.inl e
      · exact Or.inr ⟨k, by omega, by omega, k3, k4⟩
def wm_cd (cs : Nat → Nat → Nat) (pred : Nat) (K : Int32) (c : Nat) : Bool := decide (cs c 0 = pred ∧ (K < 0 ∨ wm_key (cs c) < 0 ∨ K = wm_key (cs c)))
section
variable {f_clauseCap f_heapCap f_frameCap f_choiceCap f_querySlot f_firstNode f_draftLen f_draftOpen f_draftAtoms f_programUsed f_clauses f_trailLen f_depth f_choiceCount f_status f_solutions f_steps f_complete f_pairTop f_writeTop f_answerLen f_goalLen : Int32} {a_draft a_code a_skip a_local a_slotStart a_slotLen a_slotAtoms a_slotVars a_slotNodes a_slotWeight a_slotKey a_atomPlace a_nodeFn a_nodeLink a_nodeArg a_trail a_frameSlot a_frameBase a_contFrame a_contAtom a_selFrame a_selAtom a_nodeTop a_trailAt a_heapAt a_pendingAt a_choiceDepth a_choiceNext a_pairLeft a_pairRight a_colour a_dfsNode a_dfsArg a_writing a_writeStack a_varNumber : Nat → Int32}
variable {cs : Nat → Nat → Nat} {ln sl ss ta t : Nat → Nat} {m d : Nat}
theorem wx_lc_22 {post : Int32 → Prop} {pred : Nat} {K : Int32} (hm : m ≤ 32) (hcl : f_clauses = nI m) (hpr : pred < 80)
    (hS : wm_SLs m cs ln ss a_code a_skip a_local a_slotStart a_slotLen a_slotAtoms a_slotVars a_slotNodes a_slotWeight a_slotKey a_atomPlace) :
    ∀ n c k : Nat, m - c < n → m - c = k → post (wm_lf (wm_cd cs pred K) k c) → c ≤ 33 → wX_leastCandidate_22 post (nI pred) K f_clauseCap f_heapCap f_frameCap f_choiceCap f_querySlot f_firstNode f_draftLen f_draftOpen f_draftAtoms f_programUsed f_clauses f_trailLen f_depth f_choiceCount f_status f_solutions f_steps f_complete f_pairTop f_writeTop f_answerLen f_goalLen a_draft a_code a_skip a_local a_slotStart a_slotLen a_slotAtoms a_slotVars a_slotNodes a_slotWeight a_slotKey a_atomPlace a_nodeFn a_nodeLink a_nodeArg a_trail a_frameSlot a_frameBase a_contFrame a_contAtom a_selFrame a_selAtom a_nodeTop a_trailAt a_heapAt a_pendingAt a_choiceDepth a_choiceNext a_pairLeft a_pairRight a_colour a_dfsNode a_dfsArg a_writing a_writeStack a_varNumber n (nI c) := by
  intro n
  induction n with
  | zero => intro c k h; omega
  | succ n ih =>
    intro c k hn hk hp h33
    rcases Nat.lt_or_ge c m with z | z
    · obtain ⟨s1, s2, s3, s4⟩ := hS c (Or.inl z)
      obtain ⟨k', rfl⟩ : ∃ k', k = k' + 1 := ⟨k - 1, by omega⟩
      have c0 := (s4.2.2.2 0 s2.2.1).1
      have ok0 := (s2.1.2.1 0 s2.2.1).1
      have inc : vp_in (nI c) 33 := pk_in c 33 s1
      have hlt : ss c < 288 := by have := s2.2.1; omega
      have next : ¬ wm_cd cs pred K c = true → wX_leastCandidate_22 post (nI pred) K f_clauseCap f_heapCap f_frameCap f_choiceCap f_querySlot f_firstNode f_draftLen f_draftOpen f_draftAtoms f_programUsed f_clauses f_trailLen f_depth f_choiceCount f_status f_solutions f_steps f_complete f_pairTop f_writeTop f_answerLen f_goalLen a_draft a_code a_skip a_local a_slotStart a_slotLen a_slotAtoms a_slotVars a_slotNodes a_slotWeight a_slotKey a_atomPlace a_nodeFn a_nodeLink a_nodeArg a_trail a_frameSlot a_frameBase a_contFrame a_contAtom a_selFrame a_selAtom a_nodeTop a_trailAt a_heapAt a_pendingAt a_choiceDepth a_choiceNext a_pairLeft a_pairRight a_colour a_dfsNode a_dfsArg a_writing a_writeStack a_varNumber n (nI (c + 1)) := fun h => by
        simp only [wm_lf, if_neg h] at hp
        exact ih (c + 1) k' (by omega) (by omega) hp (by omega)
      have here : wm_cd cs pred K c = true → post (nI c) := fun h => by
        simp only [wm_lf, if_pos h] at hp
        exact hp
      refine wm_leF m c z (And.intro inc (And.intro (pk_in (ss c) 288 hlt (wm_rx s4.1.1)) ?_)) hcl rfl (by omega)
      have hb : cs c 0 < 2 ^ 31 := by unfold wm_ok at ok0; omega
      refine pk_eq (cs c 0) pred (fun e => ?_) (fun e => ?_) (wm_rx c0 (wm_rx s4.1.1)) rfl hb (by omega)
      · refine And.intro inc (nm_r (wm_rx s4.2.1.2.2.2) ?_)
        by_cases q1 : K < 0
        · exact br_t q1 (here (by simp [wm_cd, e, q1]))
        · refine br_f q1 ?_
          by_cases q2 : wm_key (cs c) < 0
          · exact br_t q2 (here (by simp [wm_cd, e, q2]))
          · refine br_f q2 ?_
            by_cases q3 : K = wm_key (cs c)
            · exact br_t q3 (here (by simp only [wm_cd, decide_eq_true_eq]; exact ⟨e, Or.inr (Or.inr q3)⟩))
            · refine br_f q3 (nm_r (nI_1 c) (next ?_))
              simp only [wm_cd, decide_eq_true_eq]
              rintro ⟨-, h | h | h⟩
              · exact q1 h
              · exact q2 h
              · exact q3 h
      · refine nm_r (nI_1 c) (next ?_)
        simp only [wm_cd, decide_eq_true_eq]
        exact fun h => e h.1
    · have : k = 0 := by omega
      subst this
      exact wm_leT m c z hp hcl
/-- the key of the goal -/
def wm_gk (F ρ : Nat → Nat) (pred n0 : Nat) : Int32 := if wm_ar pred = 0 then -1 else wm_fI (F (ρ n0))
theorem wx_goalKey {post : Int32 → Prop} {T : Nat} {F : Nat → Nat} {G : Nat → Nat → Nat} {ρ δ : Nat → Nat} {f j : Nat} (hd : f_depth = nI d) (hd' : d ≤ 128) (hS : wm_SLs m cs ln ss a_code a_skip a_local a_slotStart a_slotLen a_slotAtoms a_slotVars a_slotNodes a_slotWeight a_slotKey a_atomPlace) (hsl : ∀ i, i ≤ d → (sl i < m ∨ sl i = 32))
    (hF : wm_FRM cs ln sl d ta a_frameSlot a_frameBase a_nodeTop a_heapAt a_pendingAt a_trailAt) (hC : wm_CNT cs ln sl d a_contFrame a_contAtom a_selFrame a_selAtom) (hT : wm_TO cs ln sl d) (hg : (wm_gl cs ln sl d).head? = some (f, j))
    (hgx : wm_GX (wm_bs cs ln sl (d + 1)) F G a_nodeFn a_nodeArg) (hu : wm_UF (wm_bs cs ln sl (d + 1)) a_nodeLink ρ δ) (hdl : ∀ n, δ n ≤ 272)
    (hp : post (wm_gk F ρ (cs (sl f) (wm_pq cs ln sl f j)) (wm_nc cs ln sl f (wm_aq cs ln sl f (wm_pq cs ln sl f j) 0)))) : wpX_goalKey post (f_clauseCap, f_heapCap, f_frameCap, f_choiceCap, f_querySlot, f_firstNode, f_draftLen, f_draftOpen, f_draftAtoms, f_programUsed, f_clauses, f_trailLen, f_depth, f_choiceCount, f_status, f_solutions, f_steps, f_complete, f_pairTop, f_writeTop, f_answerLen, f_goalLen, a_draft, a_code, a_skip, a_local, a_slotStart, a_slotLen, a_slotAtoms, a_slotVars, a_slotNodes, a_slotWeight, a_slotKey, a_atomPlace, a_nodeFn, a_nodeLink, a_nodeArg, a_trail, a_frameSlot, a_frameBase, a_contFrame, a_contAtom, a_selFrame, a_selAtom, a_nodeTop, a_trailAt, a_heapAt, a_pendingAt, a_choiceDepth, a_choiceNext, a_pairLeft, a_pairRight, a_colour, a_dfsNode, a_dfsArg, a_writing, a_writeStack, a_varNumber) (nI (ss (sl f) + wm_pq cs ln sl f j)) := by
  obtain ⟨g1, g2, g3, g4⟩ := wm_goal hT (Nat.le_refl _) hg
  obtain ⟨u1, u2, u3, u4⟩ := hS _ (hsl f g1)
  obtain ⟨c1, c2, c3⟩ := u4.2.2.2 _ g3
  have a4 := wm_ar4 (cs (sl f) (wm_pq cs ln sl f j))
  refine And.intro (pk_in (ss (sl f) + wm_pq cs ln sl f j) 288 (by omega)) (wx_ar _ (u2.1.2.1 _ g3).1 (wm_rx c1) ?_)
  unfold wm_gk at hp
  by_cases z : wm_ar (cs (sl f) (wm_pq cs ln sl f j)) = 0
  · rw [if_pos z] at hp
    exact wm_eqT _ 0 z hp
  · rw [if_neg z] at hp
    obtain ⟨p1, p2, p3⟩ := wm_ap_lt (k := 0) u2.2.2 g3 (by omega)
    obtain ⟨e1, e2, e3⟩ := u4.2.2.2 _ p2
    have lt : wm_nc cs ln sl f (wm_aq cs ln sl f (wm_pq cs ln sl f j) 0) < wm_bs cs ln sl (d + 1) := wm_nc_lt (cs := cs) (ln := ln) (sl := sl) u2.1 g1 p2 p3
    refine wm_eqF (wm_ar (cs (sl f) (wm_pq cs ln sl f j))) 0 z (wx_goalBase hd hd' hF hC hg (wx_nodeAt u2.1 p2 p3 e1 e3 u3 (nI_1 _) rfl (wx_deref hu hgx.1.2 lt (hdl _) rfl ?_)))
    obtain ⟨rT, -, -, -⟩ := wm_UF_rt hu lt
    have := hgx.1.2
    refine And.intro (pk_in (ρ (wm_nc cs ln sl f (wm_aq cs ln sl f (wm_pq cs ln sl f j) 0))) 272 (Nat.lt_of_lt_of_le rT this)) ?_
    have e := (hgx.2.1 _ rT).1
    show post (a_nodeFn (nI (ρ (wm_nc cs ln sl f (wm_aq cs ln sl f (wm_pq cs ln sl f j) 0)))).toNatClampNeg)
    rw [wm_rx e rfl (by have h1 : ρ (wm_nc cs ln sl f (wm_aq cs ln sl f (wm_pq cs ln sl f j) 0)) < wm_bs cs ln sl (d + 1) := rT
                        omega)]
    exact hp
theorem wx_leastCandidate {post : Int32 → Prop} {T : Nat} {F : Nat → Nat} {G : Nat → Nat → Nat} {ρ δ : Nat → Nat} {f j c : Nat} {x : Int32} (hx : x = nI c) (hc : c ≤ 33) (hm : m ≤ 32) (hcl : f_clauses = nI m) (hd : f_depth = nI d) (hd' : d ≤ 128) (hS : wm_SLs m cs ln ss a_code a_skip a_local a_slotStart a_slotLen a_slotAtoms a_slotVars a_slotNodes a_slotWeight a_slotKey a_atomPlace) (hsl : ∀ i, i ≤ d → (sl i < m ∨ sl i = 32))
    (hF : wm_FRM cs ln sl d ta a_frameSlot a_frameBase a_nodeTop a_heapAt a_pendingAt a_trailAt) (hC : wm_CNT cs ln sl d a_contFrame a_contAtom a_selFrame a_selAtom) (hT : wm_TO cs ln sl d) (hg : (wm_gl cs ln sl d).head? = some (f, j))
    (hgx : wm_GX (wm_bs cs ln sl (d + 1)) F G a_nodeFn a_nodeArg) (hu : wm_UF (wm_bs cs ln sl (d + 1)) a_nodeLink ρ δ) (hdl : ∀ n, δ n ≤ 272)
    (hp : post (wm_lf (wm_cd cs (cs (sl f) (wm_pq cs ln sl f j)) (wm_gk F ρ (cs (sl f) (wm_pq cs ln sl f j)) (wm_nc cs ln sl f (wm_aq cs ln sl f (wm_pq cs ln sl f j) 0)))) (m - c) c)) : wpX_leastCandidate post (f_clauseCap, f_heapCap, f_frameCap, f_choiceCap, f_querySlot, f_firstNode, f_draftLen, f_draftOpen, f_draftAtoms, f_programUsed, f_clauses, f_trailLen, f_depth, f_choiceCount, f_status, f_solutions, f_steps, f_complete, f_pairTop, f_writeTop, f_answerLen, f_goalLen, a_draft, a_code, a_skip, a_local, a_slotStart, a_slotLen, a_slotAtoms, a_slotVars, a_slotNodes, a_slotWeight, a_slotKey, a_atomPlace, a_nodeFn, a_nodeLink, a_nodeArg, a_trail, a_frameSlot, a_frameBase, a_contFrame, a_contAtom, a_selFrame, a_selAtom, a_nodeTop, a_trailAt, a_heapAt, a_pendingAt, a_choiceDepth, a_choiceNext, a_pairLeft, a_pairRight, a_colour, a_dfsNode, a_dfsArg, a_writing, a_writeStack, a_varNumber) x := by
  subst hx
  obtain ⟨g1, g2, g3, g4⟩ := wm_goal hT (Nat.le_refl _) hg
  obtain ⟨u1, u2, u3, u4⟩ := hS _ (hsl f g1)
  obtain ⟨c1, c2, c3⟩ := u4.2.2.2 _ g3
  unfold wpX_leastCandidate
  refine wx_goalPlace hd hd' hS hsl hF hC hg ?_
  refine And.intro (pk_in (ss (sl f) + wm_pq cs ln sl f j) 288 (by omega)) (nm_r (wm_rx c1) ?_)
  refine wx_goalKey (T := T) hd hd' hS hsl hF hC hT hg hgx hu hdl ?_
  refine ⟨m - c + 1, ?_⟩
  exact wx_lc_22 hm hcl ((u2.1.2.1 _ g3).2 g4) hS _ _ _ (by omega) rfl hp hc
theorem wx_undo_7 {post : SX → Prop} {tl mk : Nat} (htl : f_trailLen = nI tl) (hlen : tl ≤ 256) (hmk : mk ≤ tl) (htr : ∀ i, i < tl → a_trail i = nI (t i)) (h272 : ∀ i, i < tl → t i < 272) :
    ∀ (n i : Nat) (a_nodeLink : Nat → Int32), mk ≤ i → i ≤ tl → i - mk < n →
    (∀ L' : Nat → Int32, (∀ q, ((∃ p, mk ≤ p ∧ p < i ∧ t p = q) → L' q = -1) ∧ ((∀ p, mk ≤ p → p < i → t p ≠ q) → L' q = a_nodeLink q)) → post (f_clauseCap, f_heapCap, f_frameCap, f_choiceCap, f_querySlot, f_firstNode, f_draftLen, f_draftOpen, f_draftAtoms, f_programUsed, f_clauses, (nI mk), f_depth, f_choiceCount, f_status, f_solutions, f_steps, f_complete, f_pairTop, f_writeTop, f_answerLen, f_goalLen, a_draft, a_code, a_skip, a_local, a_slotStart, a_slotLen, a_slotAtoms, a_slotVars, a_slotNodes, a_slotWeight, a_slotKey, a_atomPlace, a_nodeFn, L', a_nodeArg, a_trail, a_frameSlot, a_frameBase, a_contFrame, a_contAtom, a_selFrame, a_selAtom, a_nodeTop, a_trailAt, a_heapAt, a_pendingAt, a_choiceDepth, a_choiceNext, a_pairLeft, a_pairRight, a_colour, a_dfsNode, a_dfsArg, a_writing, a_writeStack, a_varNumber)) →
    wX_undoTrail_7 post (nI mk) f_clauseCap f_heapCap f_frameCap f_choiceCap f_querySlot f_firstNode f_draftLen f_draftOpen f_draftAtoms f_programUsed f_clauses f_trailLen f_depth f_choiceCount f_status f_solutions f_steps f_complete f_pairTop f_writeTop f_answerLen f_goalLen n (nI i + (-1)) a_draft a_code a_skip a_local a_slotStart a_slotLen a_slotAtoms a_slotVars a_slotNodes a_slotWeight a_slotKey a_atomPlace a_nodeFn a_nodeLink a_nodeArg a_trail a_frameSlot a_frameBase a_contFrame a_contAtom a_selFrame a_selAtom a_nodeTop a_trailAt a_heapAt a_pendingAt a_choiceDepth a_choiceNext a_pairLeft a_pairRight a_colour a_dfsNode a_dfsArg a_writing a_writeStack a_varNumber := by
  intro n
  induction n with
  | zero => intro i _ h1 h2 h3; omega
  | succ n ih =>
    intro i a_nodeLink h1 h2 h3 hp
    by_cases c : i = mk
    · subst c
      refine br_t (wm_m1s (by omega)) ?_
      have := hp a_nodeLink (fun q => ⟨fun ⟨p, y1, y2, y3⟩ => by omega, fun _ => rfl⟩)
      refine pk_le tl i (fun h => ?_) (fun h => this) htl
      have e : f_trailLen = nI i := by rw [htl]; exact congrArg nI (by omega)
      rw [e]; exact this
    · obtain ⟨i, rfl⟩ : ∃ q, i = q + 1 := ⟨i - 1, by omega⟩
      rw [pk_m1]
      have e := htr i (by omega)
      have lt := h272 i (by omega)
      refine wm_ltF i mk (by omega) (And.intro (pk_in i 272 (by omega)) (And.intro (pk_in (t i) 272 lt (wm_rx e)) (nm_r (wm_ux rfl (wm_rx e)) (nm_e (ih i _ (by omega) (by omega) (by omega) ?_)))))
      intro L' hL
      refine hp L' (fun q => ?_)
      obtain ⟨y1, y2⟩ := hL q
      by_cases w : ∃ p, mk ≤ p ∧ p < i ∧ t p = q
      · exact ⟨fun _ => y1 w, fun z => by obtain ⟨p, p1, p2, p3⟩ := w; exact absurd p3 (z p p1 (by omega))⟩
      · have y2' := y2 (fun p p1 p2 p3 => w ⟨p, p1, p2, p3⟩)
        by_cases e2 : q = t i
        · subst e2
          rw [pk_us] at y2'
          exact ⟨fun _ => y2', fun z => absurd rfl (z i (by omega) (by omega))⟩
        · rw [pk_un e2] at y2'
          refine ⟨fun ⟨p, p1, p2, p3⟩ => ?_, fun _ => y2'⟩
          rcases Nat.lt_or_ge p i with v | v
          · exact absurd ⟨p, p1, v, p3⟩ w
          · have : p = i := by omega
            subst this; exact absurd p3.symm e2
theorem wx_undoTrail {post : SX → Prop} {tl mk : Nat} {x : Int32} (hx : x = nI mk) (htl : f_trailLen = nI tl) (hlen : tl ≤ 256) (hmk : mk ≤ tl) (htr : ∀ i, i < tl → a_trail i = nI (t i)) (h272 : ∀ i, i < tl → t i < 272)
    (hp : ∀ L' : Nat → Int32, (∀ q, ((∃ p, mk ≤ p ∧ p < tl ∧ t p = q) → L' q = -1) ∧ ((∀ p, mk ≤ p → p < tl → t p ≠ q) → L' q = a_nodeLink q)) → post (f_clauseCap, f_heapCap, f_frameCap, f_choiceCap, f_querySlot, f_firstNode, f_draftLen, f_draftOpen, f_draftAtoms, f_programUsed, f_clauses, (nI mk), f_depth, f_choiceCount, f_status, f_solutions, f_steps, f_complete, f_pairTop, f_writeTop, f_answerLen, f_goalLen, a_draft, a_code, a_skip, a_local, a_slotStart, a_slotLen, a_slotAtoms, a_slotVars, a_slotNodes, a_slotWeight, a_slotKey, a_atomPlace, a_nodeFn, L', a_nodeArg, a_trail, a_frameSlot, a_frameBase, a_contFrame, a_contAtom, a_selFrame, a_selAtom, a_nodeTop, a_trailAt, a_heapAt, a_pendingAt, a_choiceDepth, a_choiceNext, a_pairLeft, a_pairRight, a_colour, a_dfsNode, a_dfsArg, a_writing, a_writeStack, a_varNumber)) :
    wpX_undoTrail post (f_clauseCap, f_heapCap, f_frameCap, f_choiceCap, f_querySlot, f_firstNode, f_draftLen, f_draftOpen, f_draftAtoms, f_programUsed, f_clauses, f_trailLen, f_depth, f_choiceCount, f_status, f_solutions, f_steps, f_complete, f_pairTop, f_writeTop, f_answerLen, f_goalLen, a_draft, a_code, a_skip, a_local, a_slotStart, a_slotLen, a_slotAtoms, a_slotVars, a_slotNodes, a_slotWeight, a_slotKey, a_atomPlace, a_nodeFn, a_nodeLink, a_nodeArg, a_trail, a_frameSlot, a_frameBase, a_contFrame, a_contAtom, a_selFrame, a_selAtom, a_nodeTop, a_trailAt, a_heapAt, a_pendingAt, a_choiceDepth, a_choiceNext, a_pairLeft, a_pairRight, a_colour, a_dfsNode, a_dfsArg, a_writing, a_writeStack, a_varNumber) x := by
  subst hx
  refine nm_r (e' := nI tl + (-1)) ?_ ⟨tl - mk + 1, wx_undo_7 htl hlen hmk htr h272 _ _ _ hmk (Nat.le_refl _) (by omega) hp⟩
  rw [htl]
  show nI tl - 1 = nI tl + (-1)
  rw [Int32.sub_eq_add_neg]
theorem wx_fail_0 {post : SX → Prop} (hq : f_choiceCount = 0) (hp : post (f_clauseCap, f_heapCap, f_frameCap, f_choiceCap, f_querySlot, f_firstNode, f_draftLen, f_draftOpen, f_draftAtoms, f_programUsed, f_clauses, f_trailLen, 0, f_choiceCount, 3, f_solutions, f_steps, f_complete, f_pairTop, f_writeTop, (-1), (-1), a_draft, a_code, a_skip, a_local, a_slotStart, a_slotLen, a_slotAtoms, a_slotVars, a_slotNodes, a_slotWeight, a_slotKey, a_atomPlace, a_nodeFn, a_nodeLink, a_nodeArg, a_trail, a_frameSlot, a_frameBase, a_contFrame, a_contAtom, a_selFrame, a_selAtom, a_nodeTop, a_trailAt, a_heapAt, a_pendingAt, a_choiceDepth, a_choiceNext, a_pairLeft, a_pairRight, a_colour, a_dfsNode, a_dfsArg, a_writing, a_writeStack, a_varNumber)) : wpX_fail post (f_clauseCap, f_heapCap, f_frameCap, f_choiceCap, f_querySlot, f_firstNode, f_draftLen, f_draftOpen, f_draftAtoms, f_programUsed, f_clauses, f_trailLen, f_depth, f_choiceCount, f_status, f_solutions, f_steps, f_complete, f_pairTop, f_writeTop, f_answerLen, f_goalLen, a_draft, a_code, a_skip, a_local, a_slotStart, a_slotLen, a_slotAtoms, a_slotVars, a_slotNodes, a_slotWeight, a_slotKey, a_atomPlace, a_nodeFn, a_nodeLink, a_nodeArg, a_trail, a_frameSlot, a_frameBase, a_contFrame, a_contAtom, a_selFrame, a_selAtom, a_nodeTop, a_trailAt, a_heapAt, a_pendingAt, a_choiceDepth, a_choiceNext, a_pairLeft, a_pairRight, a_colour, a_dfsNode, a_dfsArg, a_writing, a_writeStack, a_varNumber) := by
  subst hq
  exact br_t rfl hp
theorem wx_fail_s {post : SX → Prop} {q j tl : Nat} {G : Nat → Nat → Nat} {F : Nat → Nat} (hq : f_choiceCount = nI (q + 1)) (hq' : q < 64) (hj : a_choiceDepth q = nI j) (hjd : j ≤ d) (hd' : d ≤ 128) (hF : wm_FRM cs ln sl d ta a_frameSlot a_frameBase a_nodeTop a_heapAt a_pendingAt a_trailAt)
    (htl : f_trailLen = nI tl) (hR : wm_TRL cs ln sl d ta t F G a_nodeLink a_trail tl)
    (hp : ∀ L' : Nat → Int32, wm_TRL cs ln sl j ta t F G L' a_trail (ta j) → (∀ c, c < 16 → L' c = a_nodeLink c) → post (f_clauseCap, f_heapCap, f_frameCap, f_choiceCap, f_querySlot, f_firstNode, f_draftLen, f_draftOpen, f_draftAtoms, f_programUsed, f_clauses, (nI (ta j)), (nI j), f_choiceCount, 1, f_solutions, f_steps, f_complete, f_pairTop, f_writeTop, (-1), (-1), a_draft, a_code, a_skip, a_local, a_slotStart, a_slotLen, a_slotAtoms, a_slotVars, a_slotNodes, a_slotWeight, a_slotKey, a_atomPlace, a_nodeFn, L', a_nodeArg, a_trail, a_frameSlot, a_frameBase, a_contFrame, a_contAtom, a_selFrame, a_selAtom, a_nodeTop, a_trailAt, a_heapAt, a_pendingAt, a_choiceDepth, a_choiceNext, a_pairLeft, a_pairRight, a_colour, a_dfsNode, a_dfsArg, a_writing, a_writeStack, a_varNumber)) : wpX_fail post (f_clauseCap, f_heapCap, f_frameCap, f_choiceCap, f_querySlot, f_firstNode, f_draftLen, f_draftOpen, f_draftAtoms, f_programUsed, f_clauses, f_trailLen, f_depth, f_choiceCount, f_status, f_solutions, f_steps, f_complete, f_pairTop, f_writeTop, f_answerLen, f_goalLen, a_draft, a_code, a_skip, a_local, a_slotStart, a_slotLen, a_slotAtoms, a_slotVars, a_slotNodes, a_slotWeight, a_slotKey, a_atomPlace, a_nodeFn, a_nodeLink, a_nodeArg, a_trail, a_frameSlot, a_frameBase, a_contFrame, a_contAtom, a_selFrame, a_selAtom, a_nodeTop, a_trailAt, a_heapAt, a_pendingAt, a_choiceDepth, a_choiceNext, a_pairLeft, a_pairRight, a_colour, a_dfsNode, a_dfsArg, a_writing, a_writeStack, a_varNumber) := by
  subst hq
  obtain ⟨r1, r2, r3, r4⟩ := hR
  have l256 := wm_TL_256 r2
  have tj := (r1 j hjd).1
  refine wm_eqF (q + 1) 0 (by omega) (And.intro (pk_in q 64 hq' (nI_pred q)) (nm_r (wm_rx hj (nI_pred q)) (And.intro (pk_in j 129 (by omega)) (wx_undoTrail (t := t) (wm_rx (hF j hjd).2.2.2) htl l256 tj r3 (fun i hi => (r2.1 i hi).2.1) (fun L' hL => hp L' ?_ ?_)))))
  · have hu : ∀ T, wm_Und T a_nodeLink t (ta j) tl L' := fun T n _ => hL n
    refine ⟨wm_Tr_und r1 hjd (fun i hi => wm_bs_le (by omega)) (fun i hi => r4 i j hi hjd) (hu _), wm_TL_und r2 hjd tj (hu _), fun i hi => r3 i (by omega), fun i k h1 h2 => r4 i k h1 (by omega)⟩
  · intro c hc
    exact (hL c).2 (fun p p1 p2 e => by have := (r2.1 p p2).1; omega)
end
end
section
/-! the class's enter, openQuery and small questions -/
section
variable {f_clauseCap f_heapCap f_frameCap f_choiceCap f_querySlot f_firstNode f_draftLen f_draftOpen f_draftAtoms f_programUsed f_clauses f_trailLen f_depth f_choiceCount f_status f_solutions f_steps f_complete f_pairTop f_writeTop f_answerLen f_goalLen : Int32} {a_draft a_code a_skip a_local a_slotStart a_slotLen a_slotAtoms a_slotVars a_slotNodes a_slotWeight a_slotKey a_atomPlace a_nodeFn a_nodeLink a_nodeArg a_trail a_frameSlot a_frameBase a_contFrame a_contAtom a_selFrame a_selAtom a_nodeTop a_trailAt a_heapAt a_pendingAt a_choiceDepth a_choiceNext a_pairLeft a_pairRight a_colour a_dfsNode a_dfsArg a_writing a_writeStack a_varNumber : Nat → Int32}
variable {cs : Nat → Nat → Nat} {ln sl ss ta t : Nat → Nat} {m d : Nat}
theorem wx_enter_165' {post : SX → Prop} {tl : Nat} (hd : f_depth = nI d) (hd' : d + 1 ≤ 128) (hS : wm_SLs m cs ln ss a_code a_skip a_local a_slotStart a_slotLen a_slotAtoms a_slotVars a_slotNodes a_slotWeight a_slotKey a_atomPlace) (hsl : ∀ i, i ≤ d + 1 → (sl i < m ∨ sl i = 32))
    (hne : wm_gl cs ln sl d ≠ []) (htl : f_trailLen = nI tl)
    (h1 : ∀ j, j ≤ d + 1 → a_frameSlot j = nI (sl j) ∧ a_frameBase j = nI (wm_bs cs ln sl j)) (h2 : ∀ j, j ≤ d → a_nodeTop j = nI (wm_bs cs ln sl (j + 1)) ∧ a_heapAt j = nI (wm_hp cs ln sl j) ∧ a_pendingAt j = nI (wm_gl cs ln sl j).length ∧ a_trailAt j = nI (ta j))
    (h3 : ∀ j, j ≤ d + 1 → wm_RP cs ln sl j (a_contFrame j) (a_contAtom j) (wm_cl cs ln sl j)) (h4 : ∀ j, j ≤ d + 1 → wm_RP cs ln sl j (a_selFrame j) (a_selAtom j) (wm_gl cs ln sl j))
    (hp : ∀ nt tA hA pA : Nat → Int32, wm_FRM cs ln sl (d + 1) (wm_u ta (d + 1) tl) a_frameSlot a_frameBase nt hA pA tA → wm_CNT cs ln sl (d + 1) a_contFrame a_contAtom a_selFrame a_selAtom →
      (wm_gl cs ln sl (d + 1) = [] → post (f_clauseCap, f_heapCap, f_frameCap, f_choiceCap, f_querySlot, f_firstNode, f_draftLen, f_draftOpen, f_draftAtoms, f_programUsed, f_clauses, f_trailLen, (nI (d + 1)), f_choiceCount, 2, (f_solutions + 1), f_steps, f_complete, f_pairTop, f_writeTop, f_answerLen, f_goalLen, a_draft, a_code, a_skip, a_local, a_slotStart, a_slotLen, a_slotAtoms, a_slotVars, a_slotNodes, a_slotWeight, a_slotKey, a_atomPlace, a_nodeFn, a_nodeLink, a_nodeArg, a_trail, a_frameSlot, a_frameBase, a_contFrame, a_contAtom, a_selFrame, a_selAtom, nt, tA, hA, pA, a_choiceDepth, a_choiceNext, a_pairLeft, a_pairRight, a_colour, a_dfsNode, a_dfsArg, a_writing, a_writeStack, a_varNumber)) ∧ (wm_gl cs ln sl (d + 1) ≠ [] → post (f_clauseCap, f_heapCap, f_frameCap, f_choiceCap, f_querySlot, f_firstNode, f_draftLen, f_draftOpen, f_draftAtoms, f_programUsed, f_clauses, f_trailLen, (nI (d + 1)), f_choiceCount, f_status, f_solutions, f_steps, f_complete, f_pairTop, f_writeTop, f_answerLen, f_goalLen, a_draft, a_code, a_skip, a_local, a_slotStart, a_slotLen, a_slotAtoms, a_slotVars, a_slotNodes, a_slotWeight, a_slotKey, a_atomPlace, a_nodeFn, a_nodeLink, a_nodeArg, a_trail, a_frameSlot, a_frameBase, a_contFrame, a_contAtom, a_selFrame, a_selAtom, nt, tA, hA, pA, a_choiceDepth, a_choiceNext, a_pairLeft, a_pairRight, a_colour, a_dfsNode, a_dfsArg, a_writing, a_writeStack, a_varNumber))) :
    wX_enter_165 post (nI (sl (d + 1))) (nI (d + 1)) f_clauseCap f_heapCap f_frameCap f_choiceCap f_querySlot f_firstNode f_draftLen f_draftOpen f_draftAtoms f_programUsed f_clauses f_trailLen f_depth f_choiceCount f_status f_solutions f_steps f_complete f_pairTop f_writeTop f_answerLen f_goalLen a_draft a_code a_skip a_local a_slotStart a_slotLen a_slotAtoms a_slotVars a_slotNodes a_slotWeight a_slotKey a_atomPlace a_nodeFn a_nodeLink a_nodeArg a_trail a_frameSlot a_frameBase a_contFrame a_contAtom a_selFrame a_selAtom a_nodeTop a_trailAt a_heapAt a_pendingAt a_choiceDepth a_choiceNext a_pairLeft a_pairRight a_colour a_dfsNode a_dfsArg a_writing a_writeStack a_varNumber := by
  subst hd htl
  obtain ⟨s1, s2, s3, s4⟩ := hS _ (hsl (d + 1) (Nat.le_refl _))
  obtain ⟨x1, x2, x3, x4⟩ := h2 d (Nat.le_refl _)
  have ind : vp_in (nI d) 129 := pk_in d 129 (by omega)
  have ind1 : vp_in (nI (d + 1)) 129 := pk_in (d + 1) 129 (by omega)
  have ins : vp_in (nI (sl (d + 1))) 33 := pk_in (sl (d + 1)) 33 s1
  have e1 : a_nodeTop (nI d).toNatClampNeg + a_slotNodes (nI (sl (d + 1))).toNatClampNeg = nI (wm_bs cs ln sl (d + 1 + 1)) := by
    rw [wm_rx x1, wm_rx s4.2.1.2.1, nI_add]; rfl
  have e2 : a_heapAt (nI d).toNatClampNeg + a_slotWeight (nI (sl (d + 1))).toNatClampNeg = nI (wm_hp cs ln sl (d + 1)) := by
    rw [wm_rx x2, wm_rx s4.2.1.2.2.1, nI_add]; rfl
  have e3 : ((a_pendingAt (nI d).toNatClampNeg - 1) + a_slotAtoms (nI (sl (d + 1))).toNatClampNeg) - 1 = nI (wm_gl cs ln sl (d + 1)).length := by
    have ha := wm_na_pos (C := cs (sl (d + 1))) s2.2.1
    obtain ⟨A, hA⟩ : ∃ A, wm_na (cs (sl (d + 1))) (ln (sl (d + 1))) = A + 1 := ⟨wm_na (cs (sl (d + 1))) (ln (sl (d + 1))) - 1, by omega⟩
    obtain ⟨g0, gs, hgl⟩ : ∃ g0 gs, wm_gl cs ln sl d = g0 :: gs := by
      cases hh : wm_gl cs ln sl d with
      | nil => exact absurd hh hne
      | cons a b => exact ⟨a, b, rfl⟩
    rw [wm_rx x3, wm_rx s4.1.2.2, hA, hgl, List.length_cons, nI_pred, nI_add, ← Nat.add_assoc, nI_pred]
    simp only [wm_gl, hgl, List.tail_cons, List.length_append, wm_sg, wm_sc_len, wm_nA, hA]
    exact congrArg nI (by omega)
  refine And.intro ind (And.intro ins (And.intro ind1 (nm_r (wm_ux e1) (And.intro ind1 (nm_r (wm_ux rfl) (And.intro ind (And.intro ins (And.intro ind1 (nm_r (wm_ux e2) (And.intro ind (And.intro ins (And.intro ind1 (nm_r (wm_ux e3) (And.intro ind1 ?_))))))))))))))
  have key := hp (upd a_nodeTop (d + 1) (nI (wm_bs cs ln sl (d + 1 + 1)))) (upd a_trailAt (d + 1) (nI tl)) (upd a_heapAt (d + 1) (nI (wm_hp cs ln sl (d + 1)))) (upd a_pendingAt (d + 1) (nI (wm_gl cs ln sl (d + 1)).length)) (fun j hj => ?_) (fun j hj => ⟨h4 j hj, h3 j hj⟩)
  · rcases h4 (d + 1) (Nat.le_refl _) with ⟨q1, q2⟩ | ⟨f, a, q1, q2, q3, q4, q5⟩
    · exact wm_geM (wm_rx q1) (nm_e (key.1 q2))
    · exact wm_leT 0 f (Nat.zero_le _) (key.2 (by rw [q5, wm_sg_cons q4]; exact List.cons_ne_nil _ _)) rfl (wm_rx q1)
  · rcases Nat.lt_or_ge d j with z | z
    · have : j = d + 1 := by omega
      subst this
      rw [pk_us, pk_us, pk_us, pk_us, wm_us]
      exact ⟨⟨(h1 _ hj).1, (h1 _ hj).2, rfl⟩, rfl, rfl, rfl⟩
    · rw [pk_un (by omega), pk_un (by omega), pk_un (by omega), pk_un (by omega), wm_un (by omega)]
      obtain ⟨y1, y2, y3, y4⟩ := h2 j z
      exact ⟨⟨(h1 _ hj).1, (h1 _ hj).2, y1⟩, y2, y3, y4⟩
theorem wx_enter_114 {post : SX → Prop} {tl : Nat} (hd : f_depth = nI d) (hd' : d + 1 ≤ 128) (hS : wm_SLs m cs ln ss a_code a_skip a_local a_slotStart a_slotLen a_slotAtoms a_slotVars a_slotNodes a_slotWeight a_slotKey a_atomPlace) (hsl : ∀ i, i ≤ d + 1 → (sl i < m ∨ sl i = 32))
    (hne : wm_gl cs ln sl d ≠ []) (htl : f_trailLen = nI tl)
    (h1 : ∀ j, j ≤ d + 1 → a_frameSlot j = nI (sl j) ∧ a_frameBase j = nI (wm_bs cs ln sl j)) (h2 : ∀ j, j ≤ d → a_nodeTop j = nI (wm_bs cs ln sl (j + 1)) ∧ a_heapAt j = nI (wm_hp cs ln sl j) ∧ a_pendingAt j = nI (wm_gl cs ln sl j).length ∧ a_trailAt j = nI (ta j))
    (h3 : ∀ j, j ≤ d + 1 → wm_RP cs ln sl j (a_contFrame j) (a_contAtom j) (wm_cl cs ln sl j)) (h4 : ∀ j, j ≤ d → wm_RP cs ln sl j (a_selFrame j) (a_selAtom j) (wm_gl cs ln sl j))
    (hp : ∀ sf sa nt tA hA pA : Nat → Int32, wm_FRM cs ln sl (d + 1) (wm_u ta (d + 1) tl) a_frameSlot a_frameBase nt hA pA tA → wm_CNT cs ln sl (d + 1) a_contFrame a_contAtom sf sa →
      (wm_gl cs ln sl (d + 1) = [] → post (f_clauseCap, f_heapCap, f_frameCap, f_choiceCap, f_querySlot, f_firstNode, f_draftLen, f_draftOpen, f_draftAtoms, f_programUsed, f_clauses, f_trailLen, (nI (d + 1)), f_choiceCount, 2, (f_solutions + 1), f_steps, f_complete, f_pairTop, f_writeTop, f_answerLen, f_goalLen, a_draft, a_code, a_skip, a_local, a_slotStart, a_slotLen, a_slotAtoms, a_slotVars, a_slotNodes, a_slotWeight, a_slotKey, a_atomPlace, a_nodeFn, a_nodeLink, a_nodeArg, a_trail, a_frameSlot, a_frameBase, a_contFrame, a_contAtom, sf, sa, nt, tA, hA, pA, a_choiceDepth, a_choiceNext, a_pairLeft, a_pairRight, a_colour, a_dfsNode, a_dfsArg, a_writing, a_writeStack, a_varNumber)) ∧ (wm_gl cs ln sl (d + 1) ≠ [] → post (f_clauseCap, f_heapCap, f_frameCap, f_choiceCap, f_querySlot, f_firstNode, f_draftLen, f_draftOpen, f_draftAtoms, f_programUsed, f_clauses, f_trailLen, (nI (d + 1)), f_choiceCount, f_status, f_solutions, f_steps, f_complete, f_pairTop, f_writeTop, f_answerLen, f_goalLen, a_draft, a_code, a_skip, a_local, a_slotStart, a_slotLen, a_slotAtoms, a_slotVars, a_slotNodes, a_slotWeight, a_slotKey, a_atomPlace, a_nodeFn, a_nodeLink, a_nodeArg, a_trail, a_frameSlot, a_frameBase, a_contFrame, a_contAtom, sf, sa, nt, tA, hA, pA, a_choiceDepth, a_choiceNext, a_pairLeft, a_pairRight, a_colour, a_dfsNode, a_dfsArg, a_writing, a_writeStack, a_varNumber))) :
    wX_enter_114 post (nI (sl (d + 1))) (nI (d + 1)) f_clauseCap f_heapCap f_frameCap f_choiceCap f_querySlot f_firstNode f_draftLen f_draftOpen f_draftAtoms f_programUsed f_clauses f_trailLen f_depth f_choiceCount f_status f_solutions f_steps f_complete f_pairTop f_writeTop f_answerLen f_goalLen a_draft a_code a_skip a_local a_slotStart a_slotLen a_slotAtoms a_slotVars a_slotNodes a_slotWeight a_slotKey a_atomPlace a_nodeFn a_nodeLink a_nodeArg a_trail a_frameSlot a_frameBase a_contFrame a_contAtom a_selFrame a_selAtom a_nodeTop a_trailAt a_heapAt a_pendingAt a_choiceDepth a_choiceNext a_pairLeft a_pairRight a_colour a_dfsNode a_dfsArg a_writing a_writeStack a_varNumber := by
  obtain ⟨s1, s2, s3, s4⟩ := hS _ (hsl (d + 1) (Nat.le_refl _))
  have h8 : wm_na (cs (sl (d + 1))) (ln (sl (d + 1))) ≤ 8 := s2.1.2.2
  have ind1 : vp_in (nI (d + 1)) 129 := pk_in (d + 1) 129 (by omega)
  refine And.intro (pk_in (sl (d + 1)) 33 s1) ?_
  refine pk_le (wm_na (cs (sl (d + 1))) (ln (sl (d + 1)))) 1 (fun h => ?_) (fun h => ?_) (wm_rx s4.1.2.2)
  · refine And.intro ind1 (And.intro ind1 (nm_r (wm_ux (wm_rx rfl)) (And.intro ind1 (And.intro ind1 (nm_r (wm_ux (wm_rx rfl)) (wx_enter_165' hd hd' hS hsl hne htl h1 h2 h3 (fun j hj => ?_) (hp _ _)))))))
    rcases Nat.lt_or_ge d j with z | z
    · have : j = d + 1 := by omega
      subst this
      rw [pk_us, pk_us]
      have e : wm_gl cs ln sl (d + 1) = wm_cl cs ln sl (d + 1) := by
        simp only [wm_gl, wm_cl]
        rw [wm_sg_nil (by unfold wm_nA; omega), List.nil_append]
      rw [e]; exact h3 _ hj
    · rw [pk_un (by omega), pk_un (by omega)]; exact h4 j z
  · refine And.intro ind1 (nm_r (wm_ux rfl) (And.intro ind1 (nm_r (wm_ux rfl) (wx_enter_165' hd hd' hS hsl hne htl h1 h2 h3 (fun j hj => ?_) (hp _ _)))))
    rcases Nat.lt_or_ge d j with z | z
    · have : j = d + 1 := by omega
      subst this
      rw [pk_us, pk_us]
      exact Or.inr ⟨d + 1, 1, rfl, rfl, Nat.le_refl _, h, rfl⟩
    · rw [pk_un (by omega), pk_un (by omega)]; exact h4 j z
theorem wx_enter {post : SX → Prop} {x : Int32} {tl f j : Nat} (hx : x = nI (sl (d + 1))) (hd : f_depth = nI d) (hd' : d + 1 ≤ 128) (hS : wm_SLs m cs ln ss a_code a_skip a_local a_slotStart a_slotLen a_slotAtoms a_slotVars a_slotNodes a_slotWeight a_slotKey a_atomPlace) (hsl : ∀ i, i ≤ d + 1 → (sl i < m ∨ sl i = 32))
    (hF : wm_FRM cs ln sl d ta a_frameSlot a_frameBase a_nodeTop a_heapAt a_pendingAt a_trailAt) (hC : wm_CNT cs ln sl d a_contFrame a_contAtom a_selFrame a_selAtom) (hg : (wm_gl cs ln sl d).head? = some (f, j)) (htl : f_trailLen = nI tl)
    (hp : ∀ fs fb cf ca sf sa nt tA hA pA : Nat → Int32, wm_FRM cs ln sl (d + 1) (wm_u ta (d + 1) tl) fs fb nt hA pA tA → wm_CNT cs ln sl (d + 1) cf ca sf sa →
      (wm_gl cs ln sl (d + 1) = [] → post (f_clauseCap, f_heapCap, f_frameCap, f_choiceCap, f_querySlot, f_firstNode, f_draftLen, f_draftOpen, f_draftAtoms, f_programUsed, f_clauses, f_trailLen, (nI (d + 1)), f_choiceCount, 2, (f_solutions + 1), f_steps, f_complete, f_pairTop, f_writeTop, (-1), (-1), a_draft, a_code, a_skip, a_local, a_slotStart, a_slotLen, a_slotAtoms, a_slotVars, a_slotNodes, a_slotWeight, a_slotKey, a_atomPlace, a_nodeFn, a_nodeLink, a_nodeArg, a_trail, fs, fb, cf, ca, sf, sa, nt, tA, hA, pA, a_choiceDepth, a_choiceNext, a_pairLeft, a_pairRight, a_colour, a_dfsNode, a_dfsArg, a_writing, a_writeStack, a_varNumber)) ∧
      (wm_gl cs ln sl (d + 1) ≠ [] → post (f_clauseCap, f_heapCap, f_frameCap, f_choiceCap, f_querySlot, f_firstNode, f_draftLen, f_draftOpen, f_draftAtoms, f_programUsed, f_clauses, f_trailLen, (nI (d + 1)), f_choiceCount, f_status, f_solutions, f_steps, f_complete, f_pairTop, f_writeTop, (-1), (-1), a_draft, a_code, a_skip, a_local, a_slotStart, a_slotLen, a_slotAtoms, a_slotVars, a_slotNodes, a_slotWeight, a_slotKey, a_atomPlace, a_nodeFn, a_nodeLink, a_nodeArg, a_trail, fs, fb, cf, ca, sf, sa, nt, tA, hA, pA, a_choiceDepth, a_choiceNext, a_pairLeft, a_pairRight, a_colour, a_dfsNode, a_dfsArg, a_writing, a_writeStack, a_varNumber))) : wpX_enter post (f_clauseCap, f_heapCap, f_frameCap, f_choiceCap, f_querySlot, f_firstNode, f_draftLen, f_draftOpen, f_draftAtoms, f_programUsed, f_clauses, f_trailLen, f_depth, f_choiceCount, f_status, f_solutions, f_steps, f_complete, f_pairTop, f_writeTop, f_answerLen, f_goalLen, a_draft, a_code, a_skip, a_local, a_slotStart, a_slotLen, a_slotAtoms, a_slotVars, a_slotNodes, a_slotWeight, a_slotKey, a_atomPlace, a_nodeFn, a_nodeLink, a_nodeArg, a_trail, a_frameSlot, a_frameBase, a_contFrame, a_contAtom, a_selFrame, a_selAtom, a_nodeTop, a_trailAt, a_heapAt, a_pendingAt, a_choiceDepth, a_choiceNext, a_pairLeft, a_pairRight, a_colour, a_dfsNode, a_dfsArg, a_writing, a_writeStack, a_varNumber) x := by
  subst hx
  have hd0 := hd
  subst hd
  obtain ⟨s1, s2, s3, s4⟩ := hS _ (hsl (d + 1) (Nat.le_refl _))
  have hne : wm_gl cs ln sl d ≠ [] := fun h => by rw [h] at hg; cases hg
  have ind : vp_in (nI d) 129 := pk_in d 129 (by omega)
  have ind1 : vp_in (nI (d + 1)) 129 := pk_in (d + 1) 129 (by omega)
  rcases (hC d (Nat.le_refl _)).1 with ⟨-, e⟩ | ⟨f', a, e1, e2, e3, e4, e5⟩
  · rw [e] at hg; cases hg
  · rw [e5, wm_sg_cons e4] at hg
    cases hg
    obtain ⟨u1, u2, u3, u4⟩ := hS _ (hsl f (by omega))
    have u8 : wm_na (cs (sl f)) (ln (sl f)) ≤ 8 := u2.1.2.2
    have inf : vp_in (nI f) 129 := pk_in f 129 (by omega)
    have e4' : j < wm_na (cs (sl f)) (ln (sl f)) := e4
    have efs : upd a_frameSlot (d + 1) (nI (sl (d + 1))) (nI f).toNatClampNeg = nI (sl f) := wm_rx ((pk_un (by omega)).trans (hF f e3).1.1)
    have ecl : wm_cl cs ln sl (d + 1) = wm_sg cs ln sl f (j + 1) ++ wm_cl cs ln sl f := by
      simp only [wm_cl, e5, wm_sg_cons e4, List.cons_append, List.tail_cons]
    have h1 : ∀ i, i ≤ d + 1 → upd a_frameSlot (d + 1) (nI (sl (d + 1))) i = nI (sl i) ∧ upd a_frameBase (d + 1) (nI (wm_bs cs ln sl (d + 1))) i = nI (wm_bs cs ln sl i) := fun i hi => by
      rcases Nat.lt_or_ge d i with z | z
      · have : i = d + 1 := by omega
        subst this; exact ⟨pk_us, pk_us⟩
      · rw [pk_un (by omega), pk_un (by omega)]; exact ⟨(hF i z).1.1, (hF i z).1.2.1⟩
    have h2 : ∀ i, i ≤ d → a_nodeTop i = nI (wm_bs cs ln sl (i + 1)) ∧ a_heapAt i = nI (wm_hp cs ln sl i) ∧ a_pendingAt i = nI (wm_gl cs ln sl i).length ∧ a_trailAt i = nI (ta i) := fun i hi => ⟨(hF i hi).1.2.2, (hF i hi).2⟩
    have h4 : ∀ i, i ≤ d → wm_RP cs ln sl i (a_selFrame i) (a_selAtom i) (wm_gl cs ln sl i) := fun i hi => (hC i hi).1
    refine nm_r (nI_1 d) (And.intro ind (nm_r (wm_rx e1) (And.intro ind (nm_r (e' := nI (j + 1)) (by rw [wm_rx e2, nI_1]) (And.intro ind1 (nm_r (wm_ux rfl) (And.intro ind (And.intro ind1 (nm_r (wm_ux (wm_rx (hF d (Nat.le_refl _)).1.2.2)) (And.intro inf (And.intro (pk_in (sl f) 33 u1 efs) ?_)))))))))))
    refine pk_le (wm_na (cs (sl f)) (ln (sl f))) (j + 1) (fun h => ?_) (fun h => ?_) (wm_rx u4.1.2.2 efs) rfl (by omega) (by omega)
    · refine And.intro inf (And.intro ind1 (nm_r (wm_ux (wm_rx rfl)) (And.intro inf (And.intro ind1 (nm_r (wm_ux (wm_rx rfl)) (wx_enter_114 rfl hd' hS hsl hne htl h1 h2 (fun i hi => ?_) h4 (hp _ _ _ _)))))))
      rcases Nat.lt_or_ge d i with z | z
      · have : i = d + 1 := by omega
        subst this
        rw [pk_us, pk_us, ecl, wm_sg_nil h, List.nil_append]
        rcases (hC f e3).2 with q | ⟨f2, a2, q1, q2, q3, q4, q5⟩
        · exact Or.inl q
        · exact Or.inr ⟨f2, a2, q1, q2, by omega, q4, q5⟩
      · rw [pk_un (by omega), pk_un (by omega)]; exact (hC i z).2
    · refine And.intro ind1 (nm_r (wm_ux rfl) (And.intro ind1 (nm_r (wm_ux rfl) (wx_enter_114 rfl hd' hS hsl hne htl h1 h2 (fun i hi => ?_) h4 (hp _ _ _ _)))))
      rcases Nat.lt_or_ge d i with z | z
      · have : i = d + 1 := by omega
        subst this
        rw [pk_us, pk_us, ecl]
        exact Or.inr ⟨f, j + 1, rfl, rfl, by omega, h, rfl⟩
      · rw [pk_un (by omega), pk_un (by omega)]; exact (hC i z).2
theorem wx_openQuery {post : SX → Prop} (h0 : sl 0 = 32) (hta : ta 0 = 0) (hC : wm_WC (cs 32) (ln 32)) (hs : 256 + ln 32 ≤ 288) (hS : wm_SX (cs 32) (ln 32) 32 256 a_code a_skip a_local a_slotStart a_slotLen a_slotAtoms a_slotVars a_slotNodes a_slotWeight a_slotKey a_atomPlace) (hb : 16 + wm_N (cs 32) (ln 32) ≤ 272)
    (hp : ∀ fs fb cf ca sf sa nt tA hA pA fn lk arg : Nat → Int32, wm_FRM cs ln sl 0 ta fs fb nt hA pA tA → wm_CNT cs ln sl 0 cf ca sf sa → wm_GC (cs 32) (ln 32) 16 fn lk arg → wm_GF 16 (wm_N (cs 32) (ln 32)) a_nodeFn a_nodeLink a_nodeArg fn lk arg →
      post (f_clauseCap, f_heapCap, f_frameCap, f_choiceCap, f_querySlot, f_firstNode, f_draftLen, f_draftOpen, f_draftAtoms, f_programUsed, f_clauses, f_trailLen, f_depth, f_choiceCount, f_status, f_solutions, f_steps, f_complete, f_pairTop, f_writeTop, f_answerLen, f_goalLen, a_draft, a_code, a_skip, a_local, a_slotStart, a_slotLen, a_slotAtoms, a_slotVars, a_slotNodes, a_slotWeight, a_slotKey, a_atomPlace, fn, lk, arg, a_trail, fs, fb, cf, ca, sf, sa, nt, tA, hA, pA, a_choiceDepth, a_choiceNext, a_pairLeft, a_pairRight, a_colour, a_dfsNode, a_dfsArg, a_writing, a_writeStack, a_varNumber)) : wpX_openQuery post (f_clauseCap, f_heapCap, f_frameCap, f_choiceCap, f_querySlot, f_firstNode, f_draftLen, f_draftOpen, f_draftAtoms, f_programUsed, f_clauses, f_trailLen, f_depth, f_choiceCount, f_status, f_solutions, f_steps, f_complete, f_pairTop, f_writeTop, f_answerLen, f_goalLen, a_draft, a_code, a_skip, a_local, a_slotStart, a_slotLen, a_slotAtoms, a_slotVars, a_slotNodes, a_slotWeight, a_slotKey, a_atomPlace, a_nodeFn, a_nodeLink, a_nodeArg, a_trail, a_frameSlot, a_frameBase, a_contFrame, a_contAtom, a_selFrame, a_selAtom, a_nodeTop, a_trailAt, a_heapAt, a_pendingAt, a_choiceDepth, a_choiceNext, a_pairLeft, a_pairRight, a_colour, a_dfsNode, a_dfsArg, a_writing, a_writeStack, a_varNumber) := by
  refine nm_e (nm_e (nm_e (nm_e (nm_e (nm_e (nm_e (nm_e (nm_e (nm_e (wx_buildCopy (sl := 32) (b := 16) rfl rfl hC hs hb (by omega) hS (fun fn lk arg g1 g2 => hp _ _ _ _ _ _ _ _ _ _ fn lk arg ?_ ?_ g1 g2)))))))))))
  · intro j hj
    have : j = 0 := by omega
    subst this
    rw [pk_us, pk_us, pk_us, pk_us, pk_us, pk_us, h0, hta]
    refine ⟨⟨rfl, rfl, ?_⟩, ?_, ?_, rfl⟩
    · rw [hS.2.1.2.1, show (16 : Int32) = nI 16 from rfl, nI_add]
      simp only [wm_bs, h0]
    · rw [hS.2.1.2.2.1]; simp only [wm_hp, h0]
    · rw [hS.1.2.2]
      simp only [wm_gl, wm_sg, wm_sc_len, wm_nA, h0, Nat.sub_zero]
  · intro j hj
    have : j = 0 := by omega
    subst this
    rw [pk_us, pk_us, pk_us, pk_us]
    refine ⟨Or.inr ⟨0, 0, rfl, rfl, Nat.le_refl _, ?_, ?_⟩, Or.inl ⟨rfl, rfl⟩⟩
    · unfold wm_nA; rw [h0]; exact wm_na_pos hC.2.1
    · simp only [wm_gl, wm_cl, List.append_nil]
end
end
section
/-! the reference: codes, sources, weights, draft -/
theorem wm_opn {o a : Nat} (h : 0 < o) : nI o + (nI a - 1) = nI (o - 1 + a) := by
  obtain ⟨q, rfl⟩ : ∃ q, o = q + 1 := ⟨o - 1, by omega⟩
  rw [Nat.add_sub_cancel, show nI (q + a) = nI q + nI a from (nI_add q a).symm, show nI (q + 1) = nI q + 1 from (nI_1 q).symm]
  generalize nI q = x
  generalize nI a = y
  grind
/-- what a source of codes holds -/
def wm_YS (w : Int32) (C : Nat → Nat) (n : Nat) (draftCount clauses queryCount : Int32) (draft clauseCodes clauseLength query : Nat → Int32) : Prop :=
  n ≤ 32 ∧ ((w = -2 ∧ draftCount = nI n ∧ ∀ k, k < n → draft k = nI (C k)) ∨ (w = -1 ∧ queryCount = nI n ∧ ∀ k, k < n → query k = nI (C k)) ∨
    ∃ c m, w = nI c ∧ c < m ∧ m ≤ 32 ∧ clauses = nI m ∧ clauseLength c = nI n ∧ ∀ k, k < n → clauseCodes (32 * c + k) = nI (C k))
section
variable {g_clauseCap g_heapCap g_frameCap g_choiceCap g_draftCount g_clauses g_queryCount g_status g_depth g_choiceCount g_solutions g_steps g_complete g_compoundCount g_equations g_goalCount : Int32} {b_draft b_clauseCodes b_clauseLength b_query b_trace b_choiceDepths b_choiceNexts b_code b_link b_compound b_finite b_left b_right b_goals b_atomPlace b_stack b_seen : Nat → Int32}
theorem wy_ar {post : Int32 → Prop} {x : Int32} (c : Nat) (hc : wm_ok c) (hx : x = nI c) (hp : post (nI (wm_ar c))) : wpY_arityOf post (g_clauseCap, g_heapCap, g_frameCap, g_choiceCap, g_draftCount, g_clauses, g_queryCount, g_status, g_depth, g_choiceCount, g_solutions, g_steps, g_complete, g_compoundCount, g_equations, g_goalCount, b_draft, b_clauseCodes, b_clauseLength, b_query, b_trace, b_choiceDepths, b_choiceNexts, b_code, b_link, b_compound, b_finite, b_left, b_right, b_goals, b_atomPlace, b_stack, b_seen) x := by
  subst hx
  rcases hc with h | h
  · refine wm_leF 128 c (by omega) (wm_leT 0 c (Nat.zero_le _) (And.intro (by decide) ?_))
    rw [show (16 : Int32) = nI 16 from rfl, pk_div (by omega) (by omega) (by omega)]
    rw [wm_ar_c h] at hp
    exact hp
  · refine wm_leT 128 c (by omega) ?_
    rw [wm_ar_v (by omega)] at hp
    exact hp
theorem wy_sourceLength {post : Int32 → Prop} {w : Int32} {C : Nat → Nat} {n : Nat} (h : wm_YS w C n g_draftCount g_clauses g_queryCount b_draft b_clauseCodes b_clauseLength b_query) (hp : post (nI n)) : wpY_sourceLength post (g_clauseCap, g_heapCap, g_frameCap, g_choiceCap, g_draftCount, g_clauses, g_queryCount, g_status, g_depth, g_choiceCount, g_solutions, g_steps, g_complete, g_compoundCount, g_equations, g_goalCount, b_draft, b_clauseCodes, b_clauseLength, b_query, b_trace, b_choiceDepths, b_choiceNexts, b_code, b_link, b_compound, b_finite, b_left, b_right, b_goals, b_atomPlace, b_stack, b_seen) w := by
  obtain ⟨h32, ⟨rfl, e, -⟩ | ⟨rfl, e, -⟩ | ⟨c, m, rfl, h1, h2, e, e2, -⟩⟩ := h
  · refine br_t rfl ?_
    rw [e]; exact hp
  · refine br_f (by decide) (br_t rfl ?_)
    rw [e]; exact hp
  · have n2 : ¬ nI c = -2 := fun z => by
      have := nI_pos' (n := c) (by omega)
      rw [z] at this; exact absurd this (by decide)
    refine br_f n2 (br_f (wm_nm1 (by omega)) (wm_ltF c 0 (Nat.zero_le _) (wm_leF m c h1 (wm_ltT c 32 (by omega) (And.intro (pk_in c 32 (by omega)) ?_)) e)))
    rw [wm_rx e2]; exact hp
theorem wy_source {post : Int32 → Prop} {w : Int32} {C : Nat → Nat} {n k : Nat} {x : Int32} (h : wm_YS w C n g_draftCount g_clauses g_queryCount b_draft b_clauseCodes b_clauseLength b_query) (hx : x = nI k) (hk : k < n) (hp : post (nI (C k))) : wpY_source post (g_clauseCap, g_heapCap, g_frameCap, g_choiceCap, g_draftCount, g_clauses, g_queryCount, g_status, g_depth, g_choiceCount, g_solutions, g_steps, g_complete, g_compoundCount, g_equations, g_goalCount, b_draft, b_clauseCodes, b_clauseLength, b_query, b_trace, b_choiceDepths, b_choiceNexts, b_code, b_link, b_compound, b_finite, b_left, b_right, b_goals, b_atomPlace, b_stack, b_seen) w x := by
  subst hx
  unfold wpY_source
  refine wy_sourceLength h ?_
  obtain ⟨h32, h⟩ := h
  refine wm_ltF k 0 (Nat.zero_le _) (wm_leF n k hk (wm_ltT k 32 (by omega) ?_))
  rcases h with ⟨rfl, e, e2⟩ | ⟨rfl, e, e2⟩ | ⟨c, m, rfl, h1, h2, e, e3, e2⟩
  · refine br_t rfl (And.intro (pk_in k 32 (by omega)) ?_)
    rw [wm_rx (e2 k hk)]; exact hp
  · refine br_f (by decide) (br_t rfl (And.intro (pk_in k 32 (by omega)) ?_))
    rw [wm_rx (e2 k hk)]; exact hp
  · have n2 : ¬ nI c = -2 := fun z => by
      have := nI_pos' (n := c) (by omega)
      rw [z] at this; exact absurd this (by decide)
    have ex : 32 * nI c + nI k = nI (32 * c + k) := by
      rw [show (32 : Int32) = nI 32 from rfl, pk_mul, nI_add]
    refine br_f n2 (br_f (wm_nm1 (by omega)) (And.intro (pk_in (32 * c + k) 1024 (by omega) ex) ?_))
    rw [wm_rx (e2 k hk) ex]; exact hp
theorem wy_sourceN {post : Int32 → Prop} {w : Int32} {C : Nat → Nat} {n : Nat} {x : Int32} (h : wm_YS w C n g_draftCount g_clauses g_queryCount b_draft b_clauseCodes b_clauseLength b_query) (hk : x < 0 ∨ nI n ≤ x) (hp : post (-1)) : wpY_source post (g_clauseCap, g_heapCap, g_frameCap, g_choiceCap, g_draftCount, g_clauses, g_queryCount, g_status, g_depth, g_choiceCount, g_solutions, g_steps, g_complete, g_compoundCount, g_equations, g_goalCount, b_draft, b_clauseCodes, b_clauseLength, b_query, b_trace, b_choiceDepths, b_choiceNexts, b_code, b_link, b_compound, b_finite, b_left, b_right, b_goals, b_atomPlace, b_stack, b_seen) w x := by
  unfold wpY_source
  refine wy_sourceLength h ?_
  by_cases c : x < 0
  · exact br_t c hp
  · exact br_f c (br_t (hk.resolve_left c) hp)
theorem wy_occurs_9 {post : Int32 → Prop} {w : Int32} {C : Nat → Nat} {n v : Nat} (h : wm_YS w C n g_draftCount g_clauses g_queryCount b_draft b_clauseCodes b_clauseLength b_query) (hok : ∀ k, k < n → wm_ok (C k)) (hv : v < 8)
    (h1 : wm_oc C n v = true → post 1) (h0 : ¬ wm_oc C n v = true → post 0) :
    ∀ m k : Nat, k ≤ n → n < m + k → ¬ wm_oc C k v = true → wY_occurs_9 post w (nI (128 + v)) (nI n) g_clauseCap g_heapCap g_frameCap g_choiceCap g_draftCount g_clauses g_queryCount g_status g_depth g_choiceCount g_solutions g_steps g_complete g_compoundCount g_equations g_goalCount b_draft b_clauseCodes b_clauseLength b_query b_trace b_choiceDepths b_choiceNexts b_code b_link b_compound b_finite b_left b_right b_goals b_atomPlace b_stack b_seen m (nI k) := by
  have h32 := h.1
  intro m
  induction m with
  | zero => intro k a b; omega
  | succ m ih =>
    intro k a b c
    by_cases e : k = n
    · subst e
      exact wm_leT k k (Nat.le_refl _) (h0 c)
    · have ok := hok k (by omega)
      refine wm_leF n k (by omega) (wy_source h rfl (by omega) ?_)
      refine pk_eq (C k) (128 + v) (fun z => ?_) (fun z => nm_r (nI_1 k) (ih (k + 1) (by omega) (by omega) ?_)) rfl rfl (by unfold wm_ok at ok; omega)
      · exact h1 (wm_oc_iff.mpr ⟨k, by omega, z⟩)
      · simp only [wm_oc, Bool.or_eq_true, decide_eq_true_eq]
        rintro (q | q)
        · exact c q
        · exact z q
theorem wy_occurs {post : Int32 → Prop} {w x : Int32} {C : Nat → Nat} {n v : Nat} (h : wm_YS w C n g_draftCount g_clauses g_queryCount b_draft b_clauseCodes b_clauseLength b_query) (hok : ∀ k, k < n → wm_ok (C k)) (hv : v < 8) (hx : x = nI (128 + v))
    (h1 : wm_oc C n v = true → post 1) (h0 : ¬ wm_oc C n v = true → post 0) : wpY_occurs post (g_clauseCap, g_heapCap, g_frameCap, g_choiceCap, g_draftCount, g_clauses, g_queryCount, g_status, g_depth, g_choiceCount, g_solutions, g_steps, g_complete, g_compoundCount, g_equations, g_goalCount, b_draft, b_clauseCodes, b_clauseLength, b_query, b_trace, b_choiceDepths, b_choiceNexts, b_code, b_link, b_compound, b_finite, b_left, b_right, b_goals, b_atomPlace, b_stack, b_seen) w x := by
  subst hx
  unfold wpY_occurs
  refine wy_sourceLength h ?_
  exact ⟨n + 1, wy_occurs_9 (k := 0) h hok hv h1 h0 (n + 1) (Nat.zero_le _) (by omega) (by simp [wm_oc])⟩
theorem wy_weight_48 {post : Int32 → Prop} {w : Int32} {C : Nat → Nat} {n : Nat} (h : wm_YS w C n g_draftCount g_clauses g_queryCount b_draft b_clauseCodes b_clauseLength b_query) (hok : ∀ k, k < n → wm_ok (C k)) (hp : post (nI (wm_W C n))) :
    ∀ (m k : Nat) (x2 x4 x5 : Int32), k ≤ n → n < m + k → x2 = nI (wm_vs C n + wm_wt C k) → x4 = nI (wm_op C k) → x5 = nI k → wY_weight_48 post w (nI n) g_clauseCap g_heapCap g_frameCap g_choiceCap g_draftCount g_clauses g_queryCount g_status g_depth g_choiceCount g_solutions g_steps g_complete g_compoundCount g_equations g_goalCount b_draft b_clauseCodes b_clauseLength b_query b_trace b_choiceDepths b_choiceNexts b_code b_link b_compound b_finite b_left b_right b_goals b_atomPlace b_stack b_seen m x2 x4 x5 := by
  have h32 := h.1
  intro m
  induction m with
  | zero => intro k _ _ _ a b; omega
  | succ m ih =>
    intro k x2 x4 x5 a b e2 e4 e5
    subst e2 e4 e5
    by_cases e : k = n
    · subst e
      exact wm_leT k k (Nat.le_refl _) hp
    · have a4 := wm_ar4 (C k)
      have ho := wm_op_le C k
      refine wm_leF n k (by omega) (wy_source h rfl (by omega) (wy_ar (C k) (hok k (by omega)) rfl ?_))
      by_cases o : wm_op C k = 0
      · have hps : ¬ wm_ps C k = true := by rw [wm_ps_t]; omega
        refine wm_eqT (wm_op C k) 0 o (nm_r (nI_1 k) (ih (k + 1) _ _ _ (by omega) (by omega) ?_ ?_ rfl))
        · simp only [wm_wt, if_neg hps, Nat.add_zero]
        · rw [wm_op_s, o]; exact congrArg nI (by omega)
      · refine wm_eqF (wm_op C k) 0 o ?_
        refine pk_lt (wm_ar (C k)) 1 (fun z => ?_) (fun z => ?_)
        · have hps : ¬ wm_ps C k = true := by rw [wm_ps_t]; omega
          refine nm_r (wm_opn (by omega)) (nm_r (nI_1 k) (ih (k + 1) _ _ _ (by omega) (by omega) ?_ rfl rfl))
          simp only [wm_wt, if_neg hps, Nat.add_zero]
        · have hps : wm_ps C k = true := by rw [wm_ps_t]; omega
          refine nm_e (nm_r (wm_opn (by omega)) (nm_r (nI_1 k) (ih (k + 1) _ _ _ (by omega) (by omega) ?_ rfl rfl)))
          simp only [wm_wt, if_pos hps]
          rw [show (1 : Int32) = nI 1 from rfl, nI_add, nI_add, Nat.add_assoc]
theorem wy_weight_4 {post : Int32 → Prop} {w : Int32} {C : Nat → Nat} {n : Nat} (h : wm_YS w C n g_draftCount g_clauses g_queryCount b_draft b_clauseCodes b_clauseLength b_query) (hok : ∀ k, k < n → wm_ok (C k)) (hp : post (nI (wm_W C n))) :
    ∀ m v : Nat, v ≤ 8 → 8 < m + v → wY_weight_4 post w g_clauseCap g_heapCap g_frameCap g_choiceCap g_draftCount g_clauses g_queryCount g_status g_depth g_choiceCount g_solutions g_steps g_complete g_compoundCount g_equations g_goalCount b_draft b_clauseCodes b_clauseLength b_query b_trace b_choiceDepths b_choiceNexts b_code b_link b_compound b_finite b_left b_right b_goals b_atomPlace b_stack b_seen m (nI (wm_rk C n v)) (nI v) := by
  intro m
  induction m with
  | zero => intro v a b; omega
  | succ m ih =>
    intro v a b
    by_cases e : v = 8
    · subst e
      refine wm_leT 8 8 (Nat.le_refl _) (wy_sourceLength h ⟨n + 1, wy_weight_48 (k := 0) h hok hp _ _ _ _ (Nat.zero_le _) (by omega) rfl rfl rfl⟩)
    · refine wm_leF 8 v (by omega) (wy_occurs (v := v) h hok (by omega) (by rw [show (128 : Int32) = nI 128 from rfl, nI_add]) (fun z => ?_) (fun z => ?_))
      · refine wm_eqF 1 0 (by omega) (nm_r (e' := nI (wm_rk C n (v + 1))) ?_ (nm_r (nI_1 v) (ih (v + 1) (by omega) (by omega))))
        unfold wm_rk; rw [wm_cn_t z, nI_1]
      · refine wm_eqT 0 0 rfl (nm_r (nI_1 v) ?_)
        have := ih (v + 1) (by omega) (by omega)
        rw [show wm_rk C n (v + 1) = wm_rk C n v from wm_cn_f z] at this
        exact this
theorem wy_weight {post : Int32 → Prop} {w : Int32} {C : Nat → Nat} {n : Nat} (h : wm_YS w C n g_draftCount g_clauses g_queryCount b_draft b_clauseCodes b_clauseLength b_query) (hok : ∀ k, k < n → wm_ok (C k)) (hp : post (nI (wm_W C n))) : wpY_weight post (g_clauseCap, g_heapCap, g_frameCap, g_choiceCap, g_draftCount, g_clauses, g_queryCount, g_status, g_depth, g_choiceCount, g_solutions, g_steps, g_complete, g_compoundCount, g_equations, g_goalCount, b_draft, b_clauseCodes, b_clauseLength, b_query, b_trace, b_choiceDepths, b_choiceNexts, b_code, b_link, b_compound, b_finite, b_left, b_right, b_goals, b_atomPlace, b_stack, b_seen) w :=
  ⟨9, wy_weight_4 (v := 0) h hok hp 9 (by omega) (by omega)⟩
theorem wy_draftOpen_4 {post : Int32 → Prop} {C : Nat → Nat} {n : Nat} (hn : g_draftCount = nI n) (h32 : n ≤ 32) (hd : ∀ k, k < n → b_draft k = nI (C k)) (hok : ∀ k, k < n → wm_ok (C k)) (hp : post (nI (wm_op C n))) :
    ∀ (m k : Nat) (x1 : Int32), k ≤ n → n < m + k → x1 = nI (wm_op C k) → wY_draftOpen_4 post g_clauseCap g_heapCap g_frameCap g_choiceCap g_draftCount g_clauses g_queryCount g_status g_depth g_choiceCount g_solutions g_steps g_complete g_compoundCount g_equations g_goalCount b_draft b_clauseCodes b_clauseLength b_query b_trace b_choiceDepths b_choiceNexts b_code b_link b_compound b_finite b_left b_right b_goals b_atomPlace b_stack b_seen m x1 (nI k) := by
  intro m
  induction m with
  | zero => intro k _ a b; omega
  | succ m ih =>
    intro k x1 a b e1
    subst e1
    by_cases e : k = n
    · subst e
      exact wm_leT k k (Nat.le_refl _) hp hn
    · have a4 := wm_ar4 (C k)
      have ho := wm_op_le C k
      refine wm_leF n k (by omega) (wm_leF 32 k (by omega) (And.intro (pk_in k 32 (by omega)) (wy_ar (C k) (hok k (by omega)) (wm_rx (hd k (by omega))) ?_))) hn
      by_cases o : wm_op C k = 0
      · refine wm_eqT (wm_op C k) 0 o (nm_r (nI_1 k) (ih (k + 1) _ (by omega) (by omega) ?_))
        rw [wm_op_s, o]; exact congrArg nI (by omega)
      · exact wm_eqF (wm_op C k) 0 o (nm_r (wm_opn (by omega)) (nm_r (nI_1 k) (ih (k + 1) _ (by omega) (by omega) rfl)))
theorem wy_draftOpen {post : Int32 → Prop} {C : Nat → Nat} {n : Nat} (hn : g_draftCount = nI n) (h32 : n ≤ 32) (hd : ∀ k, k < n → b_draft k = nI (C k)) (hok : ∀ k, k < n → wm_ok (C k)) (hp : post (nI (wm_op C n))) : wpY_draftOpen post (g_clauseCap, g_heapCap, g_frameCap, g_choiceCap, g_draftCount, g_clauses, g_queryCount, g_status, g_depth, g_choiceCount, g_solutions, g_steps, g_complete, g_compoundCount, g_equations, g_goalCount, b_draft, b_clauseCodes, b_clauseLength, b_query, b_trace, b_choiceDepths, b_choiceNexts, b_code, b_link, b_compound, b_finite, b_left, b_right, b_goals, b_atomPlace, b_stack, b_seen) :=
  ⟨n + 1, wy_draftOpen_4 (k := 0) hn h32 hd hok hp _ _ (Nat.zero_le _) (by omega) rfl⟩
theorem wy_draftAtoms_6 {post : Int32 → Prop} {C : Nat → Nat} {n : Nat} (hn : g_draftCount = nI n) (h32 : n ≤ 32) (hd : ∀ k, k < n → b_draft k = nI (C k)) (hok : ∀ k, k < n → wm_ok (C k)) (hp : post (nI (wm_na C n))) :
    ∀ (m k : Nat) (x1 x2 : Int32), k ≤ n → n < m + k → x1 = nI (wm_op C k) → x2 = nI (wm_na C k) → wY_draftAtoms_6 post g_clauseCap g_heapCap g_frameCap g_choiceCap g_draftCount g_clauses g_queryCount g_status g_depth g_choiceCount g_solutions g_steps g_complete g_compoundCount g_equations g_goalCount b_draft b_clauseCodes b_clauseLength b_query b_trace b_choiceDepths b_choiceNexts b_code b_link b_compound b_finite b_left b_right b_goals b_atomPlace b_stack b_seen m x1 x2 (nI k) := by
  intro m
  induction m with
  | zero => intro k _ _ a b; omega
  | succ m ih =>
    intro k x1 x2 a b e1 e2
    subst e1 e2
    by_cases e : k = n
    · subst e
      exact wm_leT k k (Nat.le_refl _) hp hn
    · have a4 := wm_ar4 (C k)
      have ho := wm_op_le C k
      refine wm_leF n k (by omega) (wm_leF 32 k (by omega) (And.intro (pk_in k 32 (by omega)) (wy_ar (C k) (hok k (by omega)) (wm_rx (hd k (by omega))) ?_))) hn
      by_cases o : wm_op C k = 0
      · refine wm_eqT (wm_op C k) 0 o (nm_e (nm_r (nI_1 k) (ih (k + 1) _ _ (by omega) (by omega) ?_ ?_)))
        · rw [wm_op_s, o]; exact congrArg nI (by omega)
        · unfold wm_na; rw [wm_cn_t (wm_pa_t.mpr o), nI_1]
      · refine wm_eqF (wm_op C k) 0 o (nm_r (wm_opn (by omega)) (nm_r (nI_1 k) (ih (k + 1) _ _ (by omega) (by omega) rfl ?_)))
        unfold wm_na; rw [wm_cn_f (fun z => o (wm_pa_t.mp z))]
theorem wy_draftAtoms {post : Int32 → Prop} {C : Nat → Nat} {n : Nat} (hn : g_draftCount = nI n) (h32 : n ≤ 32) (hd : ∀ k, k < n → b_draft k = nI (C k)) (hok : ∀ k, k < n → wm_ok (C k)) (hp : post (nI (wm_na C n))) : wpY_draftAtoms post (g_clauseCap, g_heapCap, g_frameCap, g_choiceCap, g_draftCount, g_clauses, g_queryCount, g_status, g_depth, g_choiceCount, g_solutions, g_steps, g_complete, g_compoundCount, g_equations, g_goalCount, b_draft, b_clauseCodes, b_clauseLength, b_query, b_trace, b_choiceDepths, b_choiceNexts, b_code, b_link, b_compound, b_finite, b_left, b_right, b_goals, b_atomPlace, b_stack, b_seen) :=
  ⟨n + 1, wy_draftAtoms_6 (k := 0) hn h32 hd hok hp _ _ _ (Nat.zero_le _) (by omega) rfl rfl⟩
/-- terms in the laid out copies -/
theorem wy_skip_7 {post : Int32 → Prop} {C : Nat → Nat} {n d k : Nat} (hC : wm_WC C n) (hd : 32 * d + 32 ≤ 4128) (hc : ∀ k, k < n → b_code (32 * d + k) = nI (C k)) (hk : k < n) (ho : 0 < wm_op C k) (hp : post (nI (32 * d + wm_en C n k))) :
    ∀ (m i : Nat) (x2 x3 : Int32), k + i ≤ wm_en C n k → wm_en C n k < m + (k + i) → x2 = nI (wm_op C (k + i) + 1 - wm_op C k) → x3 = nI (32 * d + (k + i)) → wY_skip_7 post g_clauseCap g_heapCap g_frameCap g_choiceCap g_draftCount g_clauses g_queryCount g_status g_depth g_choiceCount g_solutions g_steps g_complete g_compoundCount g_equations g_goalCount b_draft b_clauseCodes b_clauseLength b_query b_trace b_choiceDepths b_choiceNexts b_code b_link b_compound b_finite b_left b_right b_goals b_atomPlace b_stack b_seen m x2 x3 (nI i) := by
  obtain ⟨p1, p2, p3, p4⟩ := wm_en_spec hC.2.2 hk
  have h32 := hC.1.1
  have k0 : 0 < k := by
    rcases Nat.eq_zero_or_pos k with z | z
    · subst z; simp [wm_op] at ho
    · exact z
  intro m
  induction m with
  | zero => intro i _ _ a b; omega
  | succ m ih =>
    intro i x2 x3 a b e2 e3
    subst e2 e3
    refine wm_leF 32 i (by omega) ?_
    by_cases e : k + i = wm_en C n k
    · have e0 : wm_op C (k + i) + 1 - wm_op C k = 0 := by rw [e, p3]; omega
      refine wm_leT (wm_op C (k + i) + 1 - wm_op C k) 0 (by omega) ?_
      rw [e]; exact hp
    · have hge : wm_op C k ≤ wm_op C (k + i) := by
        rcases Nat.eq_zero_or_pos i with z | z
        · subst z; exact Nat.le_refl _
        · have := p4 (k + i) (by omega) (by omega)
          omega
      have ho2 := wm_op_le C (k + i)
      have a4 := wm_ar4 (C (k + i))
      refine wm_leF (wm_op C (k + i) + 1 - wm_op C k) 0 (by omega) (wm_ltF (32 * d + (k + i)) 0 (Nat.zero_le _) (wm_leF 4128 (32 * d + (k + i)) (by omega) (And.intro (pk_in (32 * d + (k + i)) 4128 (by omega)) (wy_ar (C (k + i)) (hC.1.2.1 _ (by omega)).1 (wm_rx (hc _ (by omega))) (nm_e (nm_r (nI_1 _) (nm_r (nI_1 i) (ih (i + 1) _ _ (by omega) (by omega) ?_ rfl))))))))
      rw [wm_opn (by omega)]
      apply congrArg nI
      rw [← Nat.add_assoc, wm_op_s]
      omega
theorem wy_skip {post : Int32 → Prop} {C : Nat → Nat} {n d k : Nat} {x : Int32} (hC : wm_WC C n) (hd : 32 * d + 32 ≤ 4128) (hc : ∀ k, k < n → b_code (32 * d + k) = nI (C k)) (hk : k < n) (ho : 0 < wm_op C k) (hx : x = nI (32 * d + k)) (hp : post (nI (32 * d + wm_en C n k))) : wpY_skip post (g_clauseCap, g_heapCap, g_frameCap, g_choiceCap, g_draftCount, g_clauses, g_queryCount, g_status, g_depth, g_choiceCount, g_solutions, g_steps, g_complete, g_compoundCount, g_equations, g_goalCount, b_draft, b_clauseCodes, b_clauseLength, b_query, b_trace, b_choiceDepths, b_choiceNexts, b_code, b_link, b_compound, b_finite, b_left, b_right, b_goals, b_atomPlace, b_stack, b_seen) x := by
  subst hx
  obtain ⟨p1, p2, p3, p4⟩ := wm_en_spec hC.2.2 hk
  refine ⟨wm_en C n k + 1, wy_skip_7 (i := 0) hC hd hc hk ho hp _ _ _ (by omega) (by omega) ?_ rfl⟩
  rw [show k + 0 = k from rfl, show wm_op C k + 1 - wm_op C k = 1 by omega]; rfl
theorem wy_argument_7 {post : Int32 → Prop} {C : Nat → Nat} {n d k j : Nat} (hC : wm_WC C n) (hd : 32 * d + 32 ≤ 4128) (hc : ∀ k, k < n → b_code (32 * d + k) = nI (C k)) (hk : k < n) (hj : j ≤ wm_ar (C k)) (hp : post (nI (32 * d + wm_ap C n k j))) :
    ∀ m i : Nat, i ≤ j → j < m + i → wY_argument_7 post (nI j) g_clauseCap g_heapCap g_frameCap g_choiceCap g_draftCount g_clauses g_queryCount g_status g_depth g_choiceCount g_solutions g_steps g_complete g_compoundCount g_equations g_goalCount b_draft b_clauseCodes b_clauseLength b_query b_trace b_choiceDepths b_choiceNexts b_code b_link b_compound b_finite b_left b_right b_goals b_atomPlace b_stack b_seen m (nI (32 * d + wm_ap C n k i)) (nI i) := by
  have a4 := wm_ar4 (C k)
  intro m
  induction m with
  | zero => intro i a b; omega
  | succ m ih =>
    intro i a b
    by_cases e : i = j
    · subst e; exact wm_leT i i (Nat.le_refl _) hp
    · obtain ⟨p1, p2, p3⟩ := wm_ap_lt hC.2.2 hk (show i < wm_ar (C k) by omega)
      exact wm_leF j i (by omega) (wm_leF 4 i (by omega) (wy_skip hC hd hc p2 p3 rfl (nm_r (nI_1 i) (ih (i + 1) (by omega) (by omega)))))
theorem wy_argument {post : Int32 → Prop} {C : Nat → Nat} {n d k j : Nat} {x y : Int32} (hC : wm_WC C n) (hd : 32 * d + 32 ≤ 4128) (hc : ∀ k, k < n → b_code (32 * d + k) = nI (C k)) (hk : k < n) (hj : j ≤ wm_ar (C k)) (hx : x = nI (32 * d + k)) (hy : y = nI j) (hp : post (nI (32 * d + wm_ap C n k j))) : wpY_argument post (g_clauseCap, g_heapCap, g_frameCap, g_choiceCap, g_draftCount, g_clauses, g_queryCount, g_status, g_depth, g_choiceCount, g_solutions, g_steps, g_complete, g_compoundCount, g_equations, g_goalCount, b_draft, b_clauseCodes, b_clauseLength, b_query, b_trace, b_choiceDepths, b_choiceNexts, b_code, b_link, b_compound, b_finite, b_left, b_right, b_goals, b_atomPlace, b_stack, b_seen) x y := by
  subst hx hy
  exact nm_r (nI_1 (32 * d + k)) ⟨j + 1, wy_argument_7 (i := 0) hC hd hc hk hj hp _ (Nat.zero_le _) (by omega)⟩
end
/-- the id of a place -/
def wm_id (C : Nat → Nat) (d k : Nat) : Nat := if 128 ≤ C k then 4128 + 8 * d + (C k - 128) else 32 * d + k
section
variable {g_clauseCap g_heapCap g_frameCap g_choiceCap g_draftCount g_clauses g_queryCount g_status g_depth g_choiceCount g_solutions g_steps g_complete g_compoundCount g_equations g_goalCount : Int32} {b_draft b_clauseCodes b_clauseLength b_query b_trace b_choiceDepths b_choiceNexts b_code b_link b_compound b_finite b_left b_right b_goals b_atomPlace b_stack b_seen : Nat → Int32}
theorem wy_idAt {post : Int32 → Prop} {C : Nat → Nat} {n d k : Nat} {x : Int32} (hV : wm_VD C n) (hd : 32 * d + 32 ≤ 4128) (hc : ∀ k, k < n → b_code (32 * d + k) = nI (C k)) (hk : k < n) (hx : x = nI (32 * d + k)) (hp : post (nI (wm_id C d k))) : wpY_idAt post (g_clauseCap, g_heapCap, g_frameCap, g_choiceCap, g_draftCount, g_clauses, g_queryCount, g_status, g_depth, g_choiceCount, g_solutions, g_steps, g_complete, g_compoundCount, g_equations, g_goalCount, b_draft, b_clauseCodes, b_clauseLength, b_query, b_trace, b_choiceDepths, b_choiceNexts, b_code, b_link, b_compound, b_finite, b_left, b_right, b_goals, b_atomPlace, b_stack, b_seen) x := by
  subst hx
  have h32 := hV.1
  refine wm_ltF (32 * d + k) 0 (Nat.zero_le _) (wm_ltT (32 * d + k) 4128 (by omega) (And.intro (pk_in (32 * d + k) 4128 (by omega)) (nm_r (wm_rx (hc k hk)) ?_)))
  unfold wm_id at hp
  rcases (hV.2.1 k hk).1 with z | z
  · rw [if_neg (by omega)] at hp
    exact wm_ltT (C k) 128 (by omega) hp
  · rw [if_pos z.1] at hp
    refine wm_ltF (C k) 128 z.1 (wm_leF 136 (C k) z.2 (And.intro (by decide) ?_))
    rw [show (32 : Int32) = nI 32 from rfl, pk_div (by omega) (by omega) (by omega), show (8 : Int32) = nI 8 from rfl, pk_mul, show (4128 : Int32) = nI 4128 from rfl, nI_add, show (128 : Int32) = nI 128 from rfl, pk_sub z.1, nI_add]
    have e : 4128 + (32 * d + k) / 32 * 8 + (C k - 128) = 4128 + 8 * d + (C k - 128) := by omega
    rw [e]; exact hp
theorem wy_find_4 {post : Int32 → Prop} {ρ δ : Nat → Nat} (h : wm_UF 5160 b_link ρ δ) :
    ∀ m n i : Nat, n < 5160 → i + δ n ≤ 5160 → δ n < m → post (nI (ρ n)) → wY_find_4 post g_clauseCap g_heapCap g_frameCap g_choiceCap g_draftCount g_clauses g_queryCount g_status g_depth g_choiceCount g_solutions g_steps g_complete g_compoundCount g_equations g_goalCount b_draft b_clauseCodes b_clauseLength b_query b_trace b_choiceDepths b_choiceNexts b_code b_link b_compound b_finite b_left b_right b_goals b_atomPlace b_stack b_seen m (nI n) (nI i) := by
  intro m
  induction m with
  | zero => intro n i h1 h2 h3; omega
  | succ m ih =>
    intro n i h1 h2 h3 hp
    by_cases c : i = 5160
    · refine wm_leT 5160 i (by omega) ?_
      rcases h n h1 with ⟨a, b, d⟩ | ⟨m', hm, a, b, d⟩
      · rw [b] at hp; exact hp
      · omega
    · refine wm_leF 5160 i (by omega) (And.intro (pk_in n 5160 (by omega)) ?_)
      rcases h n h1 with ⟨a, b, d⟩ | ⟨m', hm, a, b, d⟩
      · rw [b] at hp; exact wm_ltM (wm_rx a) hp
      · rw [b] at hp
        exact wm_ltF m' 0 (Nat.zero_le _) (And.intro (pk_in n 5160 (by omega)) (nm_r (wm_rx a) (nm_r (nI_1 i) (ih m' (i + 1) hm (by omega) (by omega) hp)))) (wm_rx a)
theorem wy_find {post : Int32 → Prop} {ρ δ : Nat → Nat} {x : Int32} {n : Nat} (h : wm_UF 5160 b_link ρ δ) (hn : n < 5160) (hd : δ n ≤ 5160) (hx : x = nI n) (hp : post (nI (ρ n))) : wpY_find post (g_clauseCap, g_heapCap, g_frameCap, g_choiceCap, g_draftCount, g_clauses, g_queryCount, g_status, g_depth, g_choiceCount, g_solutions, g_steps, g_complete, g_compoundCount, g_equations, g_goalCount, b_draft, b_clauseCodes, b_clauseLength, b_query, b_trace, b_choiceDepths, b_choiceNexts, b_code, b_link, b_compound, b_finite, b_left, b_right, b_goals, b_atomPlace, b_stack, b_seen) x := by
  subst hx
  exact ⟨δ n + 1, wy_find_4 (i := 0) h _ _ hn (by omega) (by omega) hp⟩
end
end
section
/-! pure: the reference's ids and the class's nodes -/
section
variable (cs : Nat → Nat → Nat) (ln sl : Nat → Nat)
def wm_ph (id : Nat) : Nat := if id < 4128 then wm_nc cs ln sl (id / 32) (id % 32) else wm_bs cs ln sl ((id - 4128) / 8) + wm_rk (cs (sl ((id - 4128) / 8))) (ln (sl ((id - 4128) / 8))) ((id - 4128) % 8)
def wm_vp (D id : Nat) : Prop := ∃ j k, j ≤ D ∧ k < ln (sl j) ∧ 0 < wm_op (cs (sl j)) k ∧ cs (sl j) k < 128 ∧ id = 32 * j + k
def wm_vv (D id : Nat) : Prop := ∃ j v, j ≤ D ∧ v < 8 ∧ wm_oc (cs (sl j)) (ln (sl j)) v = true ∧ id = 4128 + 8 * j + v
def wm_vi (D id : Nat) : Prop := wm_vp cs ln sl D id ∨ wm_vv cs ln sl D id
def wm_yi (d k : Nat) : Nat := wm_id (cs (sl d)) d k
def wm_YC (D : Nat) (code : Nat → Int32) : Prop := ∀ j, j ≤ D → ∀ k, k < ln (sl j) → code (32 * j + k) = nI (cs (sl j) k)
end
section
variable {cs : Nat → Nat → Nat} {ln sl : Nat → Nat} {D : Nat}
theorem wm_ph_p {j k : Nat} (hj : j ≤ 128) (hk : k < 32) : wm_ph cs ln sl (32 * j + k) = wm_nc cs ln sl j k := by
  unfold wm_ph
  rw [if_pos (by omega), show (32 * j + k) / 32 = j by omega, show (32 * j + k) % 32 = k by omega]
theorem wm_ph_v {j v : Nat} (hv : v < 8) : wm_ph cs ln sl (4128 + 8 * j + v) = wm_bs cs ln sl j + wm_rk (cs (sl j)) (ln (sl j)) v := by
  unfold wm_ph
  rw [if_neg (by omega), show (4128 + 8 * j + v - 4128) / 8 = j by omega, show (4128 + 8 * j + v - 4128) % 8 = v by omega]
variable (hW : ∀ j, j ≤ D → wm_WC (cs (sl j)) (ln (sl j))) (hD : D ≤ 128)
theorem wm_yi_ok (hW : ∀ j, j ≤ D → wm_WC (cs (sl j)) (ln (sl j))) (hD : D ≤ 128) {j k : Nat} (hj : j ≤ D) (hk : k < ln (sl j)) (ho : 0 < wm_op (cs (sl j)) k) : wm_vi cs ln sl D (wm_yi cs sl j k) ∧ wm_ph cs ln sl (wm_yi cs sl j k) = wm_nc cs ln sl j k := by
  have h32 := (hW j hj).1.1
  unfold wm_yi wm_id
  rcases wm_cases (hW j hj).1 hk with z | z | z
  · rw [if_pos z.1]
    refine ⟨Or.inr ⟨j, cs (sl j) k - 128, hj, by omega, wm_oc_iff.mpr ⟨k, hk, by omega⟩, rfl⟩, ?_⟩
    rw [wm_ph_v (by omega)]
    exact (wm_nd_v z.1).symm
  · rw [if_neg (by omega)]
    exact ⟨Or.inl ⟨j, k, hj, hk, ho, by omega, rfl⟩, wm_ph_p (by omega) (by omega)⟩
  · rw [if_neg (by omega)]
    exact ⟨Or.inl ⟨j, k, hj, hk, ho, by omega, rfl⟩, wm_ph_p (by omega) (by omega)⟩
/-- where an id lies -/
theorem wm_vi_w (hW : ∀ j, j ≤ D → wm_WC (cs (sl j)) (ln (sl j))) (hD : D ≤ 128) {id : Nat} (h : wm_vi cs ln sl D id) :
    (id < 4128 ∧ ∃ j k, j ≤ D ∧ k < ln (sl j) ∧ 0 < wm_op (cs (sl j)) k ∧ id = 32 * j + k ∧ wm_ph cs ln sl id = wm_nc cs ln sl j k ∧ ((cs (sl j) k < 16 ∧ wm_nc cs ln sl j k = cs (sl j) k) ∨ (16 ≤ cs (sl j) k ∧ cs (sl j) k < 80 ∧ wm_ps (cs (sl j)) k = true ∧ wm_ph cs ln sl id = wm_bs cs ln sl j + (wm_vs (cs (sl j)) (ln (sl j)) + wm_st (cs (sl j)) k) ∧ wm_ph cs ln sl id < wm_bs cs ln sl (j + 1)))) ∨
    (4128 ≤ id ∧ id < 5160 ∧ ∃ j v, j ≤ D ∧ v < 8 ∧ wm_oc (cs (sl j)) (ln (sl j)) v = true ∧ id = 4128 + 8 * j + v ∧ wm_ph cs ln sl id = wm_bs cs ln sl j + wm_rk (cs (sl j)) (ln (sl j)) v ∧ wm_rk (cs (sl j)) (ln (sl j)) v < wm_vs (cs (sl j)) (ln (sl j)) ∧ wm_ph cs ln sl id < wm_bs cs ln sl (j + 1)) := by
  rcases h with ⟨j, k, hj, hk, ho, hc, rfl⟩ | ⟨j, v, hj, hv, ho, rfl⟩
  · have h32 := (hW j hj).1.1
    refine Or.inl ⟨by omega, j, k, hj, hk, ho, rfl, wm_ph_p (by omega) (by omega), ?_⟩
    rw [wm_ph_p (by omega) (by omega)]
    rcases wm_cases (hW j hj).1 hk with z | z | z
    · omega
    · have hp := wm_ps_t.mpr ⟨ho, z.2.2⟩
      exact Or.inr ⟨z.1, z.2.1, hp, wm_nd_s z.2.2, (wm_ps_rng hk hp).2⟩
    · exact Or.inl ⟨z.1, wm_nd_c z.1⟩
  · have hr := wm_rk_lt hv ho
    refine Or.inr ⟨by omega, by omega, j, v, hj, hv, ho, rfl, wm_ph_v hv, hr, ?_⟩
    rw [wm_ph_v hv]
    show _ < wm_bs cs ln sl j + wm_N _ _
    unfold wm_N; omega
theorem wm_vi_lt (hW : ∀ j, j ≤ D → wm_WC (cs (sl j)) (ln (sl j))) (hD : D ≤ 128) {id : Nat} (h : wm_vi cs ln sl D id) : id < 5160 ∧ wm_ph cs ln sl id < wm_bs cs ln sl (D + 1) := by
  have b16 := wm_bs16 (cs := cs) (ln := ln) (sl := sl) (D + 1)
  rcases wm_vi_w hW hD h with ⟨h1, j, k, hj, hk, ho, e, e2, h3⟩ | ⟨h1, h2, j, v, hj, hv, ho, e, e2, h3, h4⟩
  · have := wm_bs_le (cs := cs) (ln := ln) (sl := sl) (d := j + 1) (e := D + 1) (by omega)
    rcases h3 with ⟨h4, h5⟩ | ⟨h4, h5, h6, h7, h8⟩ <;> omega
  · have := wm_bs_le (cs := cs) (ln := ln) (sl := sl) (d := j + 1) (e := D + 1) (by omega)
    omega
/-- two ids of one node are one, or constants -/
theorem wm_ph_inj (hW : ∀ j, j ≤ D → wm_WC (cs (sl j)) (ln (sl j))) (hD : D ≤ 128) {i i' : Nat} (h : wm_vi cs ln sl D i) (h' : wm_vi cs ln sl D i') (e : wm_ph cs ln sl i = wm_ph cs ln sl i') (h16 : 16 ≤ wm_ph cs ln sl i) : i = i' := by
  have same : ∀ {j j' n : Nat}, wm_bs cs ln sl j ≤ n → n < wm_bs cs ln sl (j + 1) → wm_bs cs ln sl j' ≤ n → n < wm_bs cs ln sl (j' + 1) → j = j' := fun {j j' n} a b c d => by
    rcases Nat.lt_trichotomy j j' with z | z | z
    · have := wm_bs_le (cs := cs) (ln := ln) (sl := sl) (d := j + 1) (e := j') (by omega); omega
    · exact z
    · have := wm_bs_le (cs := cs) (ln := ln) (sl := sl) (d := j' + 1) (e := j) (by omega); omega
  rcases wm_vi_w hW hD h with ⟨a1, j, k, a2, a3, a4, a5, a6, a7⟩ | ⟨a1, a2, j, v, a3, a4, a5, a6, a7, a8, a9⟩
  · rcases a7 with ⟨b1, b2⟩ | ⟨b1, b2, b3, b4, b5⟩
    · omega
    · rcases wm_vi_w hW hD h' with ⟨c1, j', k', c2, c3, c4, c5, c6, c7⟩ | ⟨c1, c2, j', v', c3, c4, c5, c6, c7, c8, c9⟩
      · rcases c7 with ⟨d1, d2⟩ | ⟨d1, d2, d3, d4, d5⟩
        · omega
        · have ej := same (j := j) (j' := j') (n := wm_ph cs ln sl i) (by omega) b5 (by omega) (by omega)
          subst ej
          have es : wm_st (cs (sl j)) k = wm_st (cs (sl j)) k' := by omega
          have ek : k = k' := wm_cn_inj b3 d3 es
          omega
      · have ej := same (j := j) (j' := j') (n := wm_ph cs ln sl i) (by omega) b5 (by omega) (by omega)
        subst ej
        omega
  · rcases wm_vi_w hW hD h' with ⟨c1, j', k', c2, c3, c4, c5, c6, c7⟩ | ⟨c1, c2, j', v', c3, c4, c5, c6, c7, c8, c9⟩
    · rcases c7 with ⟨d1, d2⟩ | ⟨d1, d2, d3, d4, d5⟩
      · omega
      · have ej := same (j := j) (j' := j') (n := wm_ph cs ln sl i) (by omega) a9 (by omega) (by omega)
        subst ej
        omega
    · have ej := same (j := j) (j' := j') (n := wm_ph cs ln sl i) (by omega) a9 (by omega) (by omega)
      subst ej
      have ev : v = v' := wm_rk_inj a5 c5 (by omega)
      omega
/-- the functor of an id -/
theorem wm_vi_F (hW : ∀ j, j ≤ D → wm_WC (cs (sl j)) (ln (sl j))) (hD : D ≤ 128) {F : Nat → Nat} {G : Nat → Nat → Nat} (hc : wm_CP cs ln sl D F G) {id : Nat} (h : wm_vi cs ln sl D id) :
    (id < 4128 ∧ ∃ j k, j ≤ D ∧ k < ln (sl j) ∧ id = 32 * j + k ∧ 0 < wm_op (cs (sl j)) k ∧ F (wm_ph cs ln sl id) = cs (sl j) k ∧ cs (sl j) k < 80 ∧ (cs (sl j) k < 16 → wm_ph cs ln sl id = cs (sl j) k) ∧ (16 ≤ cs (sl j) k → 16 ≤ wm_ph cs ln sl id) ∧ (∀ i, i < wm_ar (cs (sl j) k) → G (wm_ph cs ln sl id) i = wm_ph cs ln sl (wm_yi cs sl j (wm_aq cs ln sl j k i)) ∧ wm_vi cs ln sl D (wm_yi cs sl j (wm_aq cs ln sl j k i)))) ∨
    (4128 ≤ id ∧ id < 5160 ∧ F (wm_ph cs ln sl id) = 128 ∧ 16 ≤ wm_ph cs ln sl id) := by
  rcases wm_vi_w hW hD h with ⟨a1, j, k, a2, a3, a4, a5, a6, a7⟩ | ⟨a1, a2, j, v, a3, a4, a5, a6, a7, a8, a9⟩
  · obtain ⟨f1, f2, f3⟩ := (hc.2 j a2).2 k a3 a4
    have b16 := wm_bs16 (cs := cs) (ln := ln) (sl := sl) j
    refine Or.inl ⟨a1, j, k, a2, a3, a5, a4, ?_, ?_, ?_, ?_, fun i hi => ?_⟩
    · rw [a6]; exact f1 (by rcases a7 with ⟨b1, b2⟩ | ⟨b1, b2, b3, b4, b5⟩ <;> omega)
    · rcases a7 with ⟨b1, b2⟩ | ⟨b1, b2, b3, b4, b5⟩ <;> omega
    · intro z
      rcases a7 with ⟨b1, b2⟩ | ⟨b1, b2, b3, b4, b5⟩ <;> omega
    · intro z
      rcases a7 with ⟨b1, b2⟩ | ⟨b1, b2, b3, b4, b5⟩ <;> omega
    · obtain ⟨p1, p2, p3⟩ := wm_ap_lt (hW j a2).2.2 a3 hi
      obtain ⟨y1, y2⟩ := wm_yi_ok hW hD a2 p2 p3
      refine ⟨?_, y1⟩
      rw [a6, f3 i hi]; exact y2.symm
  · have b16 := wm_bs16 (cs := cs) (ln := ln) (sl := sl) j
    refine Or.inr ⟨a1, a2, ?_, by omega⟩
    rw [a7]
    exact (hc.2 j a3).1 _ a8
end
/-- the state of solving: e equations done of E -/
def wm_SI (cs : Nat → Nat → Nat) (ln sl : Nat → Nat) (D : Nat) (F : Nat → Nat) (G : Nat → Nat → Nat) (r δ ρ el er t : Nat → Nat) (tl e E : Nat) (link left right : Nat → Int32) : Prop :=
  wm_UF 5160 link r δ ∧ ((∀ n, δ n ≤ tl) ∧ ∀ i, ¬ wm_vi cs ln sl D i → r i = i) ∧ (∀ i, wm_vi cs ln sl D i → wm_vi cs ln sl D (r i) ∧ ρ (wm_ph cs ln sl i) = wm_ph cs ln sl (r i)) ∧
  (∀ i, i < E → left i = nI (el i) ∧ right i = nI (er i) ∧ wm_vi cs ln sl D (el i) ∧ wm_vi cs ln sl D (er i)) ∧
  wm_In (wm_bs cs ln sl (D + 1)) F G (wm_qs cs ln sl D) ρ (fun x y => ∃ i, e ≤ i ∧ i < E ∧ wm_ph cs ln sl (el i) = x ∧ wm_ph cs ln sl (er i) = y) ∧
  (e ≤ E ∧ E ≤ 4 * D + 4 * tl) ∧ (∀ i, i < tl → wm_vi cs ln sl D (t i) ∧ 16 ≤ wm_ph cs ln sl (t i) ∧ ¬ link (t i) = -1) ∧ (∀ i j, i < tl → j < tl → t i = t j → i = j)
section
variable {cs : Nat → Nat → Nat} {ln sl : Nat → Nat} {D : Nat} {F : Nat → Nat} {G : Nat → Nat → Nat} {r δ ρ el er t : Nat → Nat} {tl e E : Nat} {link left right : Nat → Int32}
theorem wm_SI_256 (hW : ∀ j, j ≤ D → wm_WC (cs (sl j)) (ln (sl j))) (hD : D ≤ 128) (hT : wm_bs cs ln sl (D + 1) ≤ 272) (h : wm_SI cs ln sl D F G r δ ρ el er t tl e E link left right) : tl ≤ 256 := by
  obtain ⟨h1, h2, h3, h4, h5, h6, h7, h8⟩ := h
  refine wm_pig 256 tl (fun i => wm_ph cs ln sl (t i) - 16) (fun i hi => ?_) (fun i j hi hj e => ?_)
  · have a := h7 i hi
    have b := (wm_vi_lt hW hD a.1).2
    show wm_ph cs ln sl (t i) - 16 < 256
    omega
  · have a := h7 i hi
    have b := h7 j hj
    have e' : wm_ph cs ln sl (t i) - 16 = wm_ph cs ln sl (t j) - 16 := e
    exact h8 i j hi hj (wm_ph_inj hW hD a.1 b.1 (by omega) a.2.1)
theorem wm_SI_skip (hW : ∀ j, j ≤ D → wm_WC (cs (sl j)) (ln (sl j))) (hD : D ≤ 128) (h : wm_SI cs ln sl D F G r δ ρ el er t tl e E link left right) (he : e < E) (hh : wm_ph cs ln sl (r (el e)) = wm_ph cs ln sl (r (er e))) : wm_SI cs ln sl D F G r δ ρ el er t tl (e + 1) E link left right := by
  obtain ⟨h1, h2, h3, h4, h5, h6, h7, h8⟩ := h
  obtain ⟨x1, x2, x3, x4⟩ := h4 e he
  refine ⟨h1, h2, h3, h4, wm_In_skip h5 ⟨e, Nat.le_refl _, he, rfl, rfl⟩ ?_ ?_ ?_, ⟨by omega, h6.2⟩, h7, h8⟩
  · rw [(h3 _ x3).2, (h3 _ x4).2]; exact hh
  · rintro u v ⟨i, p1, p2, p3, p4⟩
    by_cases c : i = e
    · subst c; exact Or.inl ⟨p3.symm, p4.symm⟩
    · exact Or.inr ⟨i, by omega, p2, p3, p4⟩
  · rintro u v ⟨i, p1, p2, p3, p4⟩
    exact ⟨i, by omega, p2, p3, p4⟩
theorem wm_SI_link (hW : ∀ j, j ≤ D → wm_WC (cs (sl j)) (ln (sl j))) (hD : D ≤ 128) (hG : ∀ a, a < wm_bs cs ln sl (D + 1) → ∀ k, k < wm_ar (F a) → G a k < wm_bs cs ln sl (D + 1)) (h : wm_SI cs ln sl D F G r δ ρ el er t tl e E link left right) (he : e < E)
    {x y : Nat} (hxy : (el e = x ∧ er e = y) ∨ (el e = y ∧ er e = x)) (hne : r x ≠ r y) (h16 : 16 ≤ wm_ph cs ln sl (r x)) (hF : ¬ F (wm_ph cs ln sl (r x)) < 80 ∨ F (wm_ph cs ln sl (r x)) = F (wm_ph cs ln sl (r y)))
    {left' right' : Nat → Int32} {nl nr : Nat → Nat} (hold : ∀ i, i < E → left' i = left i ∧ right' i = right i)
    (hnew : ∀ k, k < wm_ar (F (wm_ph cs ln sl (r x))) → left' (E + k) = nI (nl k) ∧ right' (E + k) = nI (nr k) ∧ wm_vi cs ln sl D (nl k) ∧ wm_vi cs ln sl D (nr k) ∧ wm_ph cs ln sl (nl k) = G (wm_ph cs ln sl (r x)) k ∧ wm_ph cs ln sl (nr k) = G (wm_ph cs ln sl (r y)) k) :
    ∃ r' δ' ρ' el' er' t', wm_SI cs ln sl D F G r' δ' ρ' el' er' t' (tl + 1) (e + 1) (E + wm_ar (F (wm_ph cs ln sl (r x)))) (upd link (r x) (nI (r y))) left' right' := by
  obtain ⟨h1, h2, h3, h4, h5, h6, h7, h8⟩ := h
  obtain ⟨x1, x2, x3, x4⟩ := h4 e he
  have vx : wm_vi cs ln sl D x := by rcases hxy with ⟨a, b⟩ | ⟨a, b⟩ <;> first | exact a ▸ x3 | exact b ▸ x4
  have vy : wm_vi cs ln sl D y := by rcases hxy with ⟨a, b⟩ | ⟨a, b⟩ <;> first | exact b ▸ x4 | exact a ▸ x3
  have lx := wm_vi_lt hW hD vx
  have ly := wm_vi_lt hW hD vy
  obtain ⟨ux1, ux2, ux3, -⟩ := wm_UF_rt h1 lx.1
  obtain ⟨uy1, uy2, uy3, -⟩ := wm_UF_rt h1 ly.1
  have a4 := wm_ar4 (F (wm_ph cs ln sl (r x)))
  refine ⟨fun n => if r n = r x then r y else r n, fun n => if r n = r x then δ n + 1 else δ n, fun n => if ρ n = wm_ph cs ln sl (r x) then wm_ph cs ln sl (r y) else ρ n, fun i => if i < E then el i else nl (i - E), fun i => if i < E then er i else nr (i - E), fun i => if i = tl then r x else t i, wm_UF_union h1 (by omega) ux1 uy1 ux2 uy2 hne, ⟨fun n => ?_, fun i hi => ?_⟩, fun i hi => ?_, fun i hi => ?_, ?_, ⟨by omega, by omega⟩, fun i hi => ?_, fun i j hi hj eij => ?_⟩
  · have := h2.1 n
    show (if r n = r x then δ n + 1 else δ n) ≤ tl + 1
    split <;> omega
  · have ri := h2.2 i hi
    show (if r i = r x then r y else r i) = i
    rw [ri, if_neg (fun z => hi (by rw [z]; exact (h3 x vx).1))]
  · obtain ⟨q1, q2⟩ := h3 i hi
    show wm_vi cs ln sl D (if r i = r x then r y else r i) ∧ (if ρ (wm_ph cs ln sl i) = wm_ph cs ln sl (r x) then wm_ph cs ln sl (r y) else ρ (wm_ph cs ln sl i)) = wm_ph cs ln sl (if r i = r x then r y else r i)
    by_cases c : r i = r x
    · rw [if_pos c, q2, c, if_pos rfl]; exact ⟨(h3 y vy).1, rfl⟩
    · rw [if_neg c]
      refine ⟨q1, ?_⟩
      rw [if_neg (fun z => c ?_)]
      · exact q2
      · rw [q2] at z
        exact (wm_ph_inj hW hD (h3 x vx).1 q1 z.symm h16).symm
  · show left' i = nI (if i < E then el i else nl (i - E)) ∧ right' i = nI (if i < E then er i else nr (i - E)) ∧ wm_vi cs ln sl D (if i < E then el i else nl (i - E)) ∧ wm_vi cs ln sl D (if i < E then er i else nr (i - E))
    by_cases c : i < E
    · rw [if_pos c, if_pos c, (hold i c).1, (hold i c).2]; exact h4 i c
    · rw [if_neg c, if_neg c]
      obtain ⟨n1, n2, n3, n4, -⟩ := hnew (i - E) (by omega)
      rw [show E + (i - E) = i by omega] at n1 n2
      exact ⟨n1, n2, n3, n4⟩
  · have ex : ρ (wm_ph cs ln sl x) = wm_ph cs ln sl (r x) := (h3 x vx).2
    have ey : ρ (wm_ph cs ln sl y) = wm_ph cs ln sl (r y) := (h3 y vy).2
    refine wm_In_union (x := wm_ph cs ln sl x) (y := wm_ph cs ln sl y) (u0 := wm_ph cs ln sl (el e)) (v0 := wm_ph cs ln sl (er e)) h5 hG ⟨e, Nat.le_refl _, he, rfl, rfl⟩ ?_ ex ey hF (fun u v => ?_) (fun u v => ?_) (fun k hk => ?_)
    · rcases hxy with ⟨a, b⟩ | ⟨a, b⟩
      · exact Or.inl ⟨by rw [a], by rw [b]⟩
      · exact Or.inr ⟨by rw [a], by rw [b]⟩
    · rintro ⟨i, p1, p2, p3, p4⟩
      by_cases c : i = e
      · subst c; exact Or.inl ⟨p3.symm, p4.symm⟩
      · refine Or.inr ⟨i, by omega, by omega, ?_, ?_⟩
        · show wm_ph cs ln sl (if i < E then el i else nl (i - E)) = u
          rw [if_pos p2]; exact p3
        · show wm_ph cs ln sl (if i < E then er i else nr (i - E)) = v
          rw [if_pos p2]; exact p4
    · rintro ⟨i, p1, p2, p3, p4⟩
      have p3' : wm_ph cs ln sl (if i < E then el i else nl (i - E)) = u := p3
      have p4' : wm_ph cs ln sl (if i < E then er i else nr (i - E)) = v := p4
      by_cases c : i < E
      · rw [if_pos c] at p3' p4'
        exact Or.inl ⟨i, by omega, c, p3', p4'⟩
      · rw [if_neg c] at p3' p4'
        obtain ⟨-, -, -, -, n5, n6⟩ := hnew (i - E) (by omega)
        exact Or.inr ⟨i - E, by omega, by rw [← p3', n5], by rw [← p4', n6]⟩
    · obtain ⟨-, -, -, -, n5, n6⟩ := hnew k hk
      refine ⟨E + k, by omega, by omega, ?_, ?_⟩
      · show wm_ph cs ln sl (if E + k < E then el (E + k) else nl (E + k - E)) = _
        rw [if_neg (by omega), Nat.add_sub_cancel_left, n5]
      · show wm_ph cs ln sl (if E + k < E then er (E + k) else nr (E + k - E)) = _
        rw [if_neg (by omega), Nat.add_sub_cancel_left, n6]
  · show wm_vi cs ln sl D (if i = tl then r x else t i) ∧ 16 ≤ wm_ph cs ln sl (if i = tl then r x else t i) ∧ ¬ upd link (r x) (nI (r y)) (if i = tl then r x else t i) = -1
    by_cases c : i = tl
    · rw [if_pos c, pk_us]; exact ⟨(h3 x vx).1, h16, wm_nm1 (by omega)⟩
    · rw [if_neg c]
      obtain ⟨q1, q2, q3⟩ := h7 i (by omega)
      rw [pk_un (fun z => q3 (by rw [z]; exact ux2))]
      exact ⟨q1, q2, q3⟩
  · have e' : (if i = tl then r x else t i) = (if j = tl then r x else t j) := eij
    by_cases c : i = tl
    · by_cases d : j = tl
      · omega
      · rw [if_pos c, if_neg d] at e'
        exact absurd ux2 (by rw [e']; exact (h7 j (by omega)).2.2)
    · by_cases d : j = tl
      · rw [if_neg c, if_pos d] at e'
        exact absurd ux2 (by rw [← e']; exact (h7 i (by omega)).2.2)
      · rw [if_neg c, if_neg d] at e'
        exact h8 i j (by omega) (by omega) e'
end
end
section
/-! the reference's equations and solve -/
section
variable {g_clauseCap g_heapCap g_frameCap g_choiceCap g_draftCount g_clauses g_queryCount g_status g_depth g_choiceCount g_solutions g_steps g_complete g_compoundCount g_equations g_goalCount : Int32} {b_draft b_clauseCodes b_clauseLength b_query b_trace b_choiceDepths b_choiceNexts b_code b_link b_compound b_finite b_left b_right b_goals b_atomPlace b_stack b_seen : Nat → Int32}
theorem wy_equate {post : SY → Prop} {C C' : Nat → Nat} {n n' d d' k k' E : Nat} {x y : Int32} (hE : g_equations = nI E) (hE' : E < 8192) (hV : wm_VD C n) (hV' : wm_VD C' n') (hd : 32 * d + 32 ≤ 4128) (hd' : 32 * d' + 32 ≤ 4128)
    (hc : ∀ k, k < n → b_code (32 * d + k) = nI (C k)) (hc' : ∀ k, k < n' → b_code (32 * d' + k) = nI (C' k)) (hk : k < n) (hk' : k' < n') (hx : x = nI (32 * d + k)) (hy : y = nI (32 * d' + k'))
    (hp : post (g_clauseCap, g_heapCap, g_frameCap, g_choiceCap, g_draftCount, g_clauses, g_queryCount, g_status, g_depth, g_choiceCount, g_solutions, g_steps, g_complete, g_compoundCount, (nI (E + 1)), g_goalCount, b_draft, b_clauseCodes, b_clauseLength, b_query, b_trace, b_choiceDepths, b_choiceNexts, b_code, b_link, b_compound, b_finite, (upd b_left E (nI (wm_id C d k))), (upd b_right E (nI (wm_id C' d' k'))), b_goals, b_atomPlace, b_stack, b_seen)) : wpY_equate post (g_clauseCap, g_heapCap, g_frameCap, g_choiceCap, g_draftCount, g_clauses, g_queryCount, g_status, g_depth, g_choiceCount, g_solutions, g_steps, g_complete, g_compoundCount, g_equations, g_goalCount, b_draft, b_clauseCodes, b_clauseLength, b_query, b_trace, b_choiceDepths, b_choiceNexts, b_code, b_link, b_compound, b_finite, b_left, b_right, b_goals, b_atomPlace, b_stack, b_seen) x y := by
  subst hE
  refine wm_leF 8192 E hE' (wy_idAt hV hd hc hk hx (wy_idAt hV' hd' hc' hk' hy (And.intro (pk_in E 8192 hE') (nm_r (wm_ux rfl) (And.intro (pk_in E 8192 hE') (nm_r (wm_ux rfl) (nm_r (nI_1 E) hp)))))))
theorem wy_eqa_14 {post : SY → Prop} {C C' : Nat → Nat} {n n' d d' k k' E : Nat} (hC : wm_WC C n) (hC' : wm_WC C' n') (hd : 32 * d + 32 ≤ 4128) (hd' : 32 * d' + 32 ≤ 4128)
    (hc : ∀ k, k < n → b_code (32 * d + k) = nI (C k)) (hc' : ∀ k, k < n' → b_code (32 * d' + k) = nI (C' k)) (hk : k < n) (hk' : k' < n') (he : C k = C' k') (hE : E + 4 ≤ 8192) :
    ∀ (m j : Nat) (g_equations : Int32) (b_left b_right : Nat → Int32), j ≤ wm_ar (C k) → wm_ar (C k) < m + j → g_equations = nI (E + j) → (∀ i, i < j → b_left (E + i) = nI (wm_id C d (wm_ap C n k i)) ∧ b_right (E + i) = nI (wm_id C' d' (wm_ap C' n' k' i))) →
    (∀ l r : Nat → Int32, (∀ i, i < wm_ar (C k) → l (E + i) = nI (wm_id C d (wm_ap C n k i)) ∧ r (E + i) = nI (wm_id C' d' (wm_ap C' n' k' i))) → (∀ i, i < E → l i = b_left i ∧ r i = b_right i) → post (g_clauseCap, g_heapCap, g_frameCap, g_choiceCap, g_draftCount, g_clauses, g_queryCount, g_status, g_depth, g_choiceCount, g_solutions, g_steps, g_complete, g_compoundCount, (nI (E + wm_ar (C k))), g_goalCount, b_draft, b_clauseCodes, b_clauseLength, b_query, b_trace, b_choiceDepths, b_choiceNexts, b_code, b_link, b_compound, b_finite, l, r, b_goals, b_atomPlace, b_stack, b_seen)) →
    wY_equateArguments_14 post (nI (32 * d + k)) (nI (32 * d' + k')) (nI (wm_ar (C k))) m (nI j) g_clauseCap g_heapCap g_frameCap g_choiceCap g_draftCount g_clauses g_queryCount g_status g_depth g_choiceCount g_solutions g_steps g_complete g_compoundCount g_equations g_goalCount b_draft b_clauseCodes b_clauseLength b_query b_trace b_choiceDepths b_choiceNexts b_code b_link b_compound b_finite b_left b_right b_goals b_atomPlace b_stack b_seen := by
  have a4 := wm_ar4 (C k)
  intro m
  induction m with
  | zero => intro j _ _ _ a b; omega
  | succ m ih =>
    intro j g_equations b_left b_right a b hq hl hp
    by_cases e : j = wm_ar (C k)
    · refine wm_leT (wm_ar (C k)) j (by omega) ?_
      rw [hq, e]
      rw [e] at hl
      exact hp _ _ hl (fun _ _ => ⟨rfl, rfl⟩)
    · obtain ⟨p1, p2, p3⟩ := wm_ap_lt hC.2.2 hk (show j < wm_ar (C k) by omega)
      obtain ⟨q1, q2, q3⟩ := wm_ap_lt hC'.2.2 hk' (show j < wm_ar (C' k') by rw [← he]; omega)
      refine wm_leF (wm_ar (C k)) j (by omega) (wy_argument hC hd hc hk (show j ≤ wm_ar (C k) by omega) rfl rfl (wy_argument hC' hd' hc' hk' (show j ≤ wm_ar (C' k') by rw [← he]; omega) rfl rfl (wy_equate hq (by omega) hC.1 hC'.1 hd hd' hc hc' p2 q2 rfl rfl (nm_r (nI_1 j) (ih (j + 1) _ _ _ (by omega) (by omega) rfl ?_ ?_)))))
      · intro i hi
        by_cases c : i = j
        · subst c; rw [pk_us, pk_us]; exact ⟨rfl, rfl⟩
        · rw [pk_un (by omega), pk_un (by omega)]; exact hl i (by omega)
      · intro l r y1 y2
        refine hp l r y1 (fun i hi => ?_)
        have := y2 i hi
        rw [pk_un (by omega), pk_un (by omega)] at this
        exact this
theorem wy_equateArguments {post : SY → Prop} {C C' : Nat → Nat} {n n' d d' k k' E : Nat} {x y : Int32} (hC : wm_WC C n) (hC' : wm_WC C' n') (hd : 32 * d + 32 ≤ 4128) (hd' : 32 * d' + 32 ≤ 4128)
    (hc : ∀ k, k < n → b_code (32 * d + k) = nI (C k)) (hc' : ∀ k, k < n' → b_code (32 * d' + k) = nI (C' k)) (hk : k < n) (hk' : k' < n') (he : C k = C' k') (hq : g_equations = nI E) (hE : E + 4 ≤ 8192) (hx : x = nI (32 * d + k)) (hy : y = nI (32 * d' + k'))
    (hp : ∀ l r : Nat → Int32, (∀ i, i < wm_ar (C k) → l (E + i) = nI (wm_id C d (wm_ap C n k i)) ∧ r (E + i) = nI (wm_id C' d' (wm_ap C' n' k' i))) → (∀ i, i < E → l i = b_left i ∧ r i = b_right i) → post (g_clauseCap, g_heapCap, g_frameCap, g_choiceCap, g_draftCount, g_clauses, g_queryCount, g_status, g_depth, g_choiceCount, g_solutions, g_steps, g_complete, g_compoundCount, (nI (E + wm_ar (C k))), g_goalCount, b_draft, b_clauseCodes, b_clauseLength, b_query, b_trace, b_choiceDepths, b_choiceNexts, b_code, b_link, b_compound, b_finite, l, r, b_goals, b_atomPlace, b_stack, b_seen)) :
    wpY_equateArguments post (g_clauseCap, g_heapCap, g_frameCap, g_choiceCap, g_draftCount, g_clauses, g_queryCount, g_status, g_depth, g_choiceCount, g_solutions, g_steps, g_complete, g_compoundCount, g_equations, g_goalCount, b_draft, b_clauseCodes, b_clauseLength, b_query, b_trace, b_choiceDepths, b_choiceNexts, b_code, b_link, b_compound, b_finite, b_left, b_right, b_goals, b_atomPlace, b_stack, b_seen) x y := by
  subst hx hy
  have h32 := hC.1.1
  refine And.intro (pk_in (32 * d + k) 4128 (by omega)) (wy_ar (C k) (hC.1.2.1 k hk).1 (wm_rx (hc k hk)) ⟨wm_ar (C k) + 1, ?_⟩)
  exact wy_eqa_14 (j := 0) hC hC' hd hd' hc hc' hk hk' he hE _ _ _ _ (Nat.zero_le _) (by omega) hq (fun i hi => by omega) hp
end
/-- the solved links of the reference -/
def wm_YR (cs : Nat → Nat → Nat) (ln sl : Nat → Nat) (D : Nat) (F : Nat → Nat) (G : Nat → Nat → Nat) (r δ ρ : Nat → Nat) (link : Nat → Int32) : Prop :=
  wm_UF 5160 link r δ ∧ ((∀ n, δ n ≤ 256) ∧ ∀ i, ¬ wm_vi cs ln sl D i → r i = i) ∧ (∀ i, wm_vi cs ln sl D i → wm_vi cs ln sl D (r i) ∧ ρ (wm_ph cs ln sl i) = wm_ph cs ln sl (r i)) ∧ wm_Sv (wm_bs cs ln sl (D + 1)) F G (wm_qs cs ln sl D) ρ
section
variable {g_clauseCap g_heapCap g_frameCap g_choiceCap g_draftCount g_clauses g_queryCount g_status g_depth g_choiceCount g_solutions g_steps g_complete g_compoundCount g_equations g_goalCount : Int32} {b_draft b_clauseCodes b_clauseLength b_query b_trace b_choiceDepths b_choiceNexts b_code b_link b_compound b_finite b_left b_right b_goals b_atomPlace b_stack b_seen : Nat → Int32}
variable {cs : Nat → Nat → Nat} {ln sl : Nat → Nat} {D : Nat} {F : Nat → Nat} {G : Nat → Nat → Nat}
theorem wy_solve_2 {post : Int32 → SY → Prop} (hW : ∀ j, j ≤ D → wm_WC (cs (sl j)) (ln (sl j))) (hD : D ≤ 128) (hT : wm_bs cs ln sl (D + 1) ≤ 272) (hG : ∀ a, a < wm_bs cs ln sl (D + 1) → ∀ k, k < wm_ar (F a) → G a k < wm_bs cs ln sl (D + 1)) (hcp : wm_CP cs ln sl D F G) (hyc : wm_YC cs ln sl D b_code)
    (h1 : ∀ (E : Int32) (r δ ρ : Nat → Nat) (link left right : Nat → Int32), wm_YR cs ln sl D F G r δ ρ link → post 1 (g_clauseCap, g_heapCap, g_frameCap, g_choiceCap, g_draftCount, g_clauses, g_queryCount, g_status, g_depth, g_choiceCount, g_solutions, g_steps, g_complete, g_compoundCount, E, g_goalCount, b_draft, b_clauseCodes, b_clauseLength, b_query, b_trace, b_choiceDepths, b_choiceNexts, b_code, link, b_compound, b_finite, left, right, b_goals, b_atomPlace, b_stack, b_seen))
    (h0 : ∀ (E : Int32) (link left right : Nat → Int32), ¬ wm_Gd (wm_bs cs ln sl (D + 1)) F G (wm_qs cs ln sl D) → post 0 (g_clauseCap, g_heapCap, g_frameCap, g_choiceCap, g_draftCount, g_clauses, g_queryCount, g_status, g_depth, g_choiceCount, g_solutions, g_steps, g_complete, g_compoundCount, E, g_goalCount, b_draft, b_clauseCodes, b_clauseLength, b_query, b_trace, b_choiceDepths, b_choiceNexts, b_code, link, b_compound, b_finite, left, right, b_goals, b_atomPlace, b_stack, b_seen)) :
    ∀ (m e E tl : Nat) (r δ ρ el er t : Nat → Nat) (g_equations : Int32) (b_link b_left b_right : Nat → Int32), 8192 < m + e → g_equations = nI E → wm_SI cs ln sl D F G r δ ρ el er t tl e E b_link b_left b_right → wY_solve_2 post m (nI e) g_clauseCap g_heapCap g_frameCap g_choiceCap g_draftCount g_clauses g_queryCount g_status g_depth g_choiceCount g_solutions g_steps g_complete g_compoundCount g_equations g_goalCount b_draft b_clauseCodes b_clauseLength b_query b_trace b_choiceDepths b_choiceNexts b_code b_link b_compound b_finite b_left b_right b_goals b_atomPlace b_stack b_seen := by
  intro m
  induction m with
  | zero =>
    intro e E tl r δ ρ el er t _ _ _ _ hm _ hI
    have := wm_SI_256 hW hD hT hI
    obtain ⟨-, -, -, -, -, h6, -⟩ := hI
    omega
  | succ m ih =>
    intro e E tl r δ ρ el er t g_equations b_link b_left b_right hm hE hI
    have l256 := wm_SI_256 hW hD hT hI
    have hI' := hI
    obtain ⟨i1, i2, i3, i4, i5, i6, i7, i8⟩ := hI'
    refine wm_leF 8192 e (by omega) ?_
    by_cases c : e = E
    · subst c
      refine wm_leT e e (Nat.le_refl _) (h1 _ r δ ρ _ _ _ ⟨i1, ⟨fun n => Nat.le_trans (i2.1 n) l256, i2.2⟩, i3, ?_⟩) hE
      exact wm_In_sv i5 (by rintro x y ⟨i, p1, p2, -⟩; omega)
    · have he : e < E := by omega
      obtain ⟨x1, x2, x3, x4⟩ := i4 e he
      obtain ⟨v3, w3⟩ := i3 _ x3
      obtain ⟨v4, w4⟩ := i3 _ x4
      have hne8 : vp_in (nI e) 8192 := pk_in e 8192 (by omega)
      have lt3 := wm_vi_lt hW hD v3
      have lt4 := wm_vi_lt hW hD v4
      have d3 := i2.1 (el e)
      have d4 := i2.1 (er e)
      refine wm_leF E e he (And.intro hne8 (wy_find i1 (wm_vi_lt hW hD x3).1 (by omega) (wm_rx x1) (And.intro hne8 (wy_find i1 (wm_vi_lt hW hD x4).1 (by omega) (wm_rx x2) ?_)))) hE
      refine pk_eq (r (el e)) (r (er e)) (fun hr => nm_r (nI_1 e) ?_) (fun hr => ?_)
      · exact ih (e + 1) E tl r δ ρ el er t _ _ _ _ (by omega) hE (wm_SI_skip hW hD hI he (by rw [hr]))
      · rcases wm_vi_F hW hD hcp v3 with ⟨a1, j, k, a2, a3, a4, a5, a6, a7, a8, a9, a10⟩ | ⟨a1, a2, a3, a4⟩
        · refine wm_ltT (r (el e)) 4128 a1 ?_
          rcases wm_vi_F hW hD hcp v4 with ⟨b1, j', k', b2, b3, b4, b5, b6, b7, b8, b9, b10⟩ | ⟨b1, b2, b3, b4⟩
          · have ca : b_code (r (el e)) = nI (cs (sl j) k) := by rw [a4]; exact hyc j a2 k a3
            have cb : b_code (r (er e)) = nI (cs (sl j') k') := by rw [b4]; exact hyc j' b2 k' b3
            have ina : vp_in (nI (r (el e))) 4128 := pk_in (r (el e)) 4128 a1
            have inb : vp_in (nI (r (er e))) 4128 := pk_in (r (er e)) 4128 b1
            refine wm_ltT (r (er e)) 4128 b1 (And.intro ina (And.intro inb ?_))
            refine pk_eq (cs (sl j) k) (cs (sl j') k') (fun hcd => And.intro ina ?_) (fun hcd => ?_) (wm_rx ca) (wm_rx cb)
            · refine pk_lt (cs (sl j) k) 16 (fun h16 => nm_r (nI_1 e) ?_) (fun h16 => ?_) (wm_rx ca)
              · exact ih (e + 1) E tl r δ ρ el er t _ _ _ _ (by omega) hE (wm_SI_skip hW hD hI he (by rw [a8 h16, b8 (by omega), hcd]))
              · refine And.intro (pk_in (r (el e)) 5160 lt3.1) (nm_r (wm_ux rfl) (wy_equateArguments (C := cs (sl j)) (n := ln (sl j)) (C' := cs (sl j')) (n' := ln (sl j')) (E := E) (hW j a2) (hW j' b2) (by omega) (by omega) (hyc j a2) (hyc j' b2) a3 b3 hcd hE (by omega) (by rw [a4]) (by rw [b4]) (fun l rr y1 y2 => nm_r (nI_1 e) ?_)))
                have eF : F (wm_ph cs ln sl (r (el e))) = F (wm_ph cs ln sl (r (er e))) := by rw [a6, b6, hcd]
                obtain ⟨r', δ', ρ', el', er', t', hS⟩ := wm_SI_link (left' := l) (right' := rr) (nl := fun q => wm_yi cs sl j (wm_aq cs ln sl j k q)) (nr := fun q => wm_yi cs sl j' (wm_aq cs ln sl j' k' q)) hW hD hG hI he (Or.inl ⟨rfl, rfl⟩) hr (a9 h16) (Or.inr eF) y2 (fun q hq => by
                  rw [a6] at hq
                  obtain ⟨z1, z2⟩ := y1 q hq
                  obtain ⟨z3, z4⟩ := a10 q hq
                  obtain ⟨z5, z6⟩ := b10 q (by rw [← hcd]; exact hq)
                  exact ⟨z1, z2, z4, z6, z3.symm, z5.symm⟩)
                rw [a6] at hS
                exact ih (e + 1) _ (tl + 1) r' δ' ρ' el' er' t' _ _ _ _ (by omega) rfl hS
            · refine h0 _ _ _ _ (wm_clash i5 ⟨e, Nat.le_refl _, he, rfl, rfl⟩ ?_ ?_ ?_)
              · rw [w3, a6]; exact a7
              · rw [w4, b6]; exact b7
              · rw [w3, w4, a6, b6]; exact hcd
          · have nF : ¬ F (wm_ph cs ln sl (r (er e))) < 80 := by omega
            refine wm_ltF (r (er e)) 4128 b1 (And.intro (pk_in (r (er e)) 5160 b2) (nm_r (wm_ux rfl) (nm_r (nI_1 e) ?_)))
            obtain ⟨r', δ', ρ', el', er', t', hS⟩ := wm_SI_link (left' := b_left) (right' := b_right) (nl := fun q => q) (nr := fun q => q) hW hD hG hI he (Or.inr ⟨rfl, rfl⟩) (fun z => hr z.symm) b4 (Or.inl nF) (fun _ _ => ⟨rfl, rfl⟩) (fun q hq => absurd (wm_ar80 hq) nF)
            rw [b3, wm_ar_v (by omega), Nat.add_zero] at hS
            exact ih (e + 1) E (tl + 1) r' δ' ρ' el' er' t' _ _ _ _ (by omega) hE hS
        · have nF : ¬ F (wm_ph cs ln sl (r (el e))) < 80 := by omega
          refine wm_ltF (r (el e)) 4128 a1 (And.intro (pk_in (r (el e)) 5160 a2) (nm_r (wm_ux rfl) (nm_r (nI_1 e) ?_)))
          obtain ⟨r', δ', ρ', el', er', t', hS⟩ := wm_SI_link (left' := b_left) (right' := b_right) (nl := fun q => q) (nr := fun q => q) hW hD hG hI he (Or.inl ⟨rfl, rfl⟩) hr a4 (Or.inl nF) (fun _ _ => ⟨rfl, rfl⟩) (fun q hq => absurd (wm_ar80 hq) nF)
          rw [a3, wm_ar_v (by omega), Nat.add_zero] at hS
          exact ih (e + 1) E (tl + 1) r' δ' ρ' el' er' t' _ _ _ _ (by omega) hE hS
theorem wy_solve {post : Int32 → SY → Prop} {E : Nat} {el er : Nat → Nat} (hW : ∀ j, j ≤ D → wm_WC (cs (sl j)) (ln (sl j))) (hD : D ≤ 128) (hT : wm_bs cs ln sl (D + 1) ≤ 272) (hG : ∀ a, a < wm_bs cs ln sl (D + 1) → ∀ k, k < wm_ar (F a) → G a k < wm_bs cs ln sl (D + 1)) (hcp : wm_CP cs ln sl D F G) (hyc : wm_YC cs ln sl D b_code)
    (hE : g_equations = nI E) (hl : ∀ n, n < 5160 → b_link n = -1) (hEq : ∀ i, i < E → b_left i = nI (el i) ∧ b_right i = nI (er i) ∧ wm_vi cs ln sl D (el i) ∧ wm_vi cs ln sl D (er i)) (hE4 : E ≤ 4 * D)
    (hQ : ∀ x y, wm_qs cs ln sl D x y ↔ ∃ i, i < E ∧ wm_ph cs ln sl (el i) = x ∧ wm_ph cs ln sl (er i) = y)
    (h1 : ∀ (E : Int32) (r δ ρ : Nat → Nat) (link left right : Nat → Int32), wm_YR cs ln sl D F G r δ ρ link → post 1 (g_clauseCap, g_heapCap, g_frameCap, g_choiceCap, g_draftCount, g_clauses, g_queryCount, g_status, g_depth, g_choiceCount, g_solutions, g_steps, g_complete, g_compoundCount, E, g_goalCount, b_draft, b_clauseCodes, b_clauseLength, b_query, b_trace, b_choiceDepths, b_choiceNexts, b_code, link, b_compound, b_finite, left, right, b_goals, b_atomPlace, b_stack, b_seen))
    (h0 : ∀ (E : Int32) (link left right : Nat → Int32), ¬ wm_Gd (wm_bs cs ln sl (D + 1)) F G (wm_qs cs ln sl D) → post 0 (g_clauseCap, g_heapCap, g_frameCap, g_choiceCap, g_draftCount, g_clauses, g_queryCount, g_status, g_depth, g_choiceCount, g_solutions, g_steps, g_complete, g_compoundCount, E, g_goalCount, b_draft, b_clauseCodes, b_clauseLength, b_query, b_trace, b_choiceDepths, b_choiceNexts, b_code, link, b_compound, b_finite, left, right, b_goals, b_atomPlace, b_stack, b_seen)) : wpY_solve post (g_clauseCap, g_heapCap, g_frameCap, g_choiceCap, g_draftCount, g_clauses, g_queryCount, g_status, g_depth, g_choiceCount, g_solutions, g_steps, g_complete, g_compoundCount, g_equations, g_goalCount, b_draft, b_clauseCodes, b_clauseLength, b_query, b_trace, b_choiceDepths, b_choiceNexts, b_code, b_link, b_compound, b_finite, b_left, b_right, b_goals, b_atomPlace, b_stack, b_seen) := by
  refine ⟨8193, wy_solve_2 (e := 0) hW hD hT hG hcp hyc h1 h0 8193 E 0 (fun n => n) (fun _ => 0) (fun n => n) el er (fun _ => 0) _ _ _ _ (by omega) hE ⟨fun n hn => Or.inl ⟨hl n hn, rfl, rfl⟩, ⟨fun n => Nat.le_refl _, fun i _ => rfl⟩, fun i hi => ⟨hi, rfl⟩, hEq, ?_, ⟨Nat.zero_le _, by omega⟩, fun i hi => by omega, fun i j hi => by omega⟩⟩
  have e : (fun x y => ∃ i, 0 ≤ i ∧ i < E ∧ wm_ph cs ln sl (el i) = x ∧ wm_ph cs ln sl (er i) = y) = wm_qs cs ln sl D := by
    funext x y
    apply propext
    rw [hQ x y]
    exact ⟨fun ⟨i, _, p⟩ => ⟨i, p⟩, fun ⟨i, p⟩ => ⟨i, Nat.zero_le _, p⟩⟩
  rw [e]
  exact wm_In_0 (fun a b h => by
    obtain ⟨i, h1, h2, h3⟩ := (hQ a b).mp h
    obtain ⟨-, -, h4, h5⟩ := hEq i h1
    rw [← h2, ← h3]
    exact ⟨(wm_vi_lt hW hD h4).2, (wm_vi_lt hW hD h5).2⟩)
end
end
section
/-! the reference's occurs check -/
section
variable (cs : Nat → Nat → Nat) (ln sl : Nat → Nat)
/-- compound places, their codes, the ids of their arguments -/
def wm_co (D p : Nat) : Prop := ∃ j k, j ≤ D ∧ k < ln (sl j) ∧ wm_ps (cs (sl j)) k = true ∧ p = 32 * j + k
def wm_cdp (p : Nat) : Nat := cs (sl (p / 32)) (p % 32)
def wm_chd (p i : Nat) : Nat := wm_yi cs sl (p / 32) (wm_aq cs ln sl (p / 32) (p % 32) i)
def wm_FI (D : Nat) (r : Nat → Nat) (link fin : Nat → Int32) (rr : Nat → Nat) (B : Nat) : Prop :=
  ∀ p, wm_co cs ln sl D p → ¬ fin p = 0 → rr p < B ∧ link p = -1 ∧ ∀ i, i < wm_ar (wm_cdp cs sl p) → wm_co cs ln sl D (r (wm_chd cs ln sl p i)) → ¬ fin (r (wm_chd cs ln sl p i)) = 0 ∧ rr (r (wm_chd cs ln sl p i)) < rr p
def wm_NF (D : Nat) (r : Nat → Nat) (link fin : Nat → Int32) (p : Nat) : Prop := link p = -1 → fin p = 0 → ∃ i, i < wm_ar (wm_cdp cs sl p) ∧ wm_co cs ln sl D (r (wm_chd cs ln sl p i)) ∧ fin (r (wm_chd cs ln sl p i)) = 0
end
section
variable {cs : Nat → Nat → Nat} {ln sl : Nat → Nat} {D : Nat} {F : Nat → Nat} {G : Nat → Nat → Nat}
theorem wm_co_w (hW : ∀ j, j ≤ D → wm_WC (cs (sl j)) (ln (sl j))) (hD : D ≤ 128) {p : Nat} (h : wm_co cs ln sl D p) :
    p < 4128 ∧ wm_vi cs ln sl D p ∧ p / 32 ≤ D ∧ p % 32 < ln (sl (p / 32)) ∧ 0 < wm_op (cs (sl (p / 32))) (p % 32) ∧ p = 32 * (p / 32) + p % 32 ∧ 16 ≤ wm_cdp cs sl p ∧ wm_cdp cs sl p < 80 ∧ 0 < wm_ar (wm_cdp cs sl p) := by
  obtain ⟨j, k, h1, h2, h3, rfl⟩ := h
  have h32 := (hW j h1).1.1
  have e1 : (32 * j + k) / 32 = j := by omega
  have e2 : (32 * j + k) % 32 = k := by omega
  unfold wm_cdp
  rw [e1, e2]
  have hp := wm_ps_t.mp h3
  have h80 := wm_ar80 hp.2
  have := hp.2
  rw [wm_ar_c h80] at this
  exact ⟨by omega, Or.inl ⟨j, k, h1, h2, hp.1, by omega, rfl⟩, h1, h2, hp.1, rfl, by omega, h80, hp.2⟩
theorem wm_co_F (hW : ∀ j, j ≤ D → wm_WC (cs (sl j)) (ln (sl j))) (hD : D ≤ 128) (hcp : wm_CP cs ln sl D F G) {p : Nat} (h : wm_co cs ln sl D p) :
    F (wm_ph cs ln sl p) = wm_cdp cs sl p ∧ 16 ≤ wm_ph cs ln sl p ∧ ∀ i, i < wm_ar (wm_cdp cs sl p) → G (wm_ph cs ln sl p) i = wm_ph cs ln sl (wm_chd cs ln sl p i) ∧ wm_vi cs ln sl D (wm_chd cs ln sl p i) := by
  obtain ⟨a1, a2, a3, a4, a5, a6, a7, a8, a9⟩ := wm_co_w hW hD h
  rcases wm_vi_F hW hD hcp a2 with ⟨b1, j, k, b2, b3, b4, b5, b6, b7, b8, b9, b10⟩ | ⟨b1, b2, b3, b4⟩
  · have h32 := (hW j b2).1.1
    have e1 : p / 32 = j := by omega
    have e2 : p % 32 = k := by omega
    unfold wm_cdp at a7 ⊢
    unfold wm_chd
    rw [e1, e2] at a7 ⊢
    exact ⟨b6, b9 a7, b10⟩
  · omega
theorem wm_co_of (hW : ∀ j, j ≤ D → wm_WC (cs (sl j)) (ln (sl j))) (hD : D ≤ 128) (hcp : wm_CP cs ln sl D F G) {p : Nat} (h : wm_vi cs ln sl D p) (h16 : 16 ≤ F (wm_ph cs ln sl p)) (h80 : F (wm_ph cs ln sl p) < 80) : wm_co cs ln sl D p := by
  rcases wm_vi_F hW hD hcp h with ⟨b1, j, k, b2, b3, b4, b5, b6, b7, b8, b9, b10⟩ | ⟨b1, b2, b3, b4⟩
  · refine ⟨j, k, b2, b3, wm_ps_t.mpr ⟨b5, ?_⟩, b4⟩
    rw [wm_ar_c b7]; omega
  · omega
variable {r δ ρ : Nat → Nat} {link : Nat → Int32}
/-- all finite: a rank -/
theorem wm_fin_rank (hW : ∀ j, j ≤ D → wm_WC (cs (sl j)) (ln (sl j))) (hD : D ≤ 128) (hcp : wm_CP cs ln sl D F G) (hf : ∀ n, n < wm_bs cs ln sl (D + 1) → (F n < 80 ∨ F n = 128) ∧ (n < 16 → F n = n) ∧ (16 ≤ n → 16 ≤ F n)) (hR : wm_YR cs ln sl D F G r δ ρ link) {fin : Nat → Int32} {rr : Nat → Nat} {B : Nat}
    (hI : wm_FI cs ln sl D r link fin rr B) (hall : ∀ p, wm_co cs ln sl D p → link p = -1 → ¬ fin p = 0) : wm_Gd (wm_bs cs ln sl (D + 1)) F G (wm_qs cs ln sl D) := by
  obtain ⟨u1, u2, u3, u4⟩ := hR
  -- rank of a root node
  have ex : ∃ rk : Nat → Nat, (∀ p, wm_co cs ln sl D p → rk (wm_ph cs ln sl p) = rr p + 1) ∧ (∀ n, (¬ ∃ p, wm_co cs ln sl D p ∧ wm_ph cs ln sl p = n) → rk n = 0) := by
    refine ⟨fun n => @dite Nat (∃ p, wm_co cs ln sl D p ∧ wm_ph cs ln sl p = n) (Classical.propDecidable _) (fun h => rr (Classical.choose h) + 1) (fun _ => 0), fun p hp => ?_, fun n hn => ?_⟩
    · have hx : ∃ p', wm_co cs ln sl D p' ∧ wm_ph cs ln sl p' = wm_ph cs ln sl p := ⟨p, hp, rfl⟩
      show @dite Nat (∃ p', wm_co cs ln sl D p' ∧ wm_ph cs ln sl p' = wm_ph cs ln sl p) (Classical.propDecidable _) (fun h => rr (Classical.choose h) + 1) (fun _ => 0) = rr p + 1
      rw [dif_pos hx]
      have c1 := Classical.choose_spec hx
      have e : Classical.choose hx = p := wm_ph_inj hW hD (wm_co_w hW hD c1.1).2.1 (wm_co_w hW hD hp).2.1 c1.2 (wm_co_F hW hD hcp c1.1).2.1
      rw [e]
    · show @dite Nat (∃ p', wm_co cs ln sl D p' ∧ wm_ph cs ln sl p' = n) (Classical.propDecidable _) (fun h => rr (Classical.choose h) + 1) (fun _ => 0) = 0
      rw [dif_neg hn]
  obtain ⟨rk, k1, k2⟩ := ex
  have T := wm_bs cs ln sl (D + 1)
  refine ⟨ρ, fun n => rk (ρ n), u4, fun a ha => ?_, fun a ha k hk => ?_⟩
  · show rk (ρ (ρ a)) = rk (ρ a)
    rw [(u4.1 a ha).2.1]
  · show rk (ρ (G a k)) < rk (ρ a)
    obtain ⟨ra, rb, rc⟩ := u4.1 a ha
    have h80 := wm_ar80 hk
    have eF := rc h80
    rw [u4.2.2.1 a ha k hk]
    -- the root is the node of a compound place
    have f16 : 16 ≤ F (ρ a) := by
      rcases Nat.lt_or_ge (F (ρ a)) 16 with z | z
      · rw [← eF, wm_ar_c (by omega)] at hk; omega
      · exact z
    have n16 : 16 ≤ ρ a := by
      rcases Nat.lt_or_ge (ρ a) 16 with z | z
      · have := (hf _ ra).2.1 z; omega
      · exact z
    rcases wm_cov ra with z | ⟨d, x1, x2, x3⟩
    · omega
    · rcases wm_cov1 x2 x3 with ⟨v, y1, y2, y3, y4⟩ | ⟨q, y1, y2, y3⟩
      · have e := (hcp.2 d x1).1 _ y4
        rw [← y3] at e; omega
      · have h32 := (hW d x1).1.1
        have cop : wm_co cs ln sl D (32 * d + q) := ⟨d, q, x1, y1, y2, rfl⟩
        have php : wm_ph cs ln sl (32 * d + q) = ρ a := by rw [wm_ph_p (by omega) (by omega)]; exact y3.symm
        obtain ⟨w1, w2, w3⟩ := wm_co_F hW hD hcp cop
        obtain ⟨v1, v2⟩ := u3 _ (wm_co_w hW hD cop).2.1
        rw [php, rb] at v2
        have er : r (32 * d + q) = 32 * d + q := wm_ph_inj hW hD v1 (wm_co_w hW hD cop).2.1 (by rw [php]; exact v2.symm) (by rw [← v2]; exact n16)
        have lr : link (32 * d + q) = -1 := by
          have := (wm_UF_rt u1 (wm_vi_lt hW hD (wm_co_w hW hD cop).2.1).1).2.1
          rw [er] at this; exact this
        obtain ⟨g1, -, g3⟩ := hI _ cop (hall _ cop lr)
        rw [php] at w1 w3
        have hk' : k < wm_ar (wm_cdp cs sl (32 * d + q)) := by rw [← w1, eF]; exact hk
        obtain ⟨c1, c2⟩ := w3 k hk'
        rw [c1, (u3 _ c2).2, ← php, k1 _ cop]
        by_cases cc : wm_co cs ln sl D (r (wm_chd cs ln sl (32 * d + q) k))
        · rw [k1 _ cc]
          have := (g3 k hk' cc).2
          omega
        · have z0 := k2 (wm_ph cs ln sl (r (wm_chd cs ln sl (32 * d + q) k))) (fun ⟨p', e1, e2⟩ => cc (by
            have := wm_ph_inj hW hD (wm_co_w hW hD e1).2.1 (u3 _ c2).1 e2 (wm_co_F hW hD hcp e1).2.1
            rw [← this]; exact e1))
          omega
/-- one not finite, and no further: no rank -/
theorem wm_fin_no (hW : ∀ j, j ≤ D → wm_WC (cs (sl j)) (ln (sl j))) (hD : D ≤ 128) (hcp : wm_CP cs ln sl D F G) (hR : wm_YR cs ln sl D F G r δ ρ link) {fin : Nat → Int32}
    (hN : ∀ p, wm_co cs ln sl D p → wm_NF cs ln sl D r link fin p) {p0 : Nat} (h0 : wm_co cs ln sl D p0) (h1 : link p0 = -1) (h2 : fin p0 = 0) : ¬ wm_Gd (wm_bs cs ln sl (D + 1)) F G (wm_qs cs ln sl D) := by
  intro hgd
  obtain ⟨u1, u2, u3, u4⟩ := hR
  obtain ⟨rk, hr1, hr2⟩ := wm_gd_rk hgd u4
  have key : ∀ n p, rk (wm_ph cs ln sl p) < n → wm_co cs ln sl D p → link p = -1 → fin p = 0 → False := by
    intro n
    induction n with
    | zero => intro p h; omega
    | succ n ih =>
      intro p hn hc hl hf
      obtain ⟨i, i1, i2, i3⟩ := hN p hc hl hf
      obtain ⟨w1, w2, w3⟩ := wm_co_F hW hD hcp hc
      obtain ⟨c1, c2⟩ := w3 i i1
      have lt := (wm_vi_lt hW hD (wm_co_w hW hD hc).2.1).2
      have a := hr2 _ lt i (by rw [w1]; exact i1)
      have b := hr1 _ (wm_vi_lt hW hD c2).2
      rw [c1] at a
      rw [(u3 _ c2).2] at b
      exact ih _ (by omega) i2 (wm_UF_rt u1 (wm_vi_lt hW hD c2).1).2.1 i3
  exact key _ p0 (Nat.lt_succ_self _) h0 h1 h2
end
section
variable {g_clauseCap g_heapCap g_frameCap g_choiceCap g_draftCount g_clauses g_queryCount g_status g_depth g_choiceCount g_solutions g_steps g_complete g_compoundCount g_equations g_goalCount : Int32} {b_draft b_clauseCodes b_clauseLength b_query b_trace b_choiceDepths b_choiceNexts b_code b_link b_compound b_finite b_left b_right b_goals b_atomPlace b_stack b_seen : Nat → Int32}
variable {cs : Nat → Nat → Nat} {ln sl : Nat → Nat} {D : Nat} {F : Nat → Nat} {G : Nat → Nat → Nat} {r δ ρ : Nat → Nat}
theorem wy_af_13 {post : Int32 → Prop} {p : Nat} (hW : ∀ j, j ≤ D → wm_WC (cs (sl j)) (ln (sl j))) (hD : D ≤ 128) (hcp : wm_CP cs ln sl D F G) (hyc : wm_YC cs ln sl D b_code) (hR : wm_YR cs ln sl D F G r δ ρ b_link) (hp : wm_co cs ln sl D p)
    (h1 : (∀ i, i < wm_ar (wm_cdp cs sl p) → wm_co cs ln sl D (r (wm_chd cs ln sl p i)) → ¬ b_finite (r (wm_chd cs ln sl p i)) = 0) → post 1)
    (h0 : (∃ i, i < wm_ar (wm_cdp cs sl p) ∧ wm_co cs ln sl D (r (wm_chd cs ln sl p i)) ∧ b_finite (r (wm_chd cs ln sl p i)) = 0) → post 0) :
    ∀ m k : Nat, k ≤ wm_ar (wm_cdp cs sl p) → wm_ar (wm_cdp cs sl p) < m + k → (∀ i, i < k → wm_co cs ln sl D (r (wm_chd cs ln sl p i)) → ¬ b_finite (r (wm_chd cs ln sl p i)) = 0) →
      wY_argumentsFinite_13 post (nI p) (nI (wm_ar (wm_cdp cs sl p))) g_clauseCap g_heapCap g_frameCap g_choiceCap g_draftCount g_clauses g_queryCount g_status g_depth g_choiceCount g_solutions g_steps g_complete g_compoundCount g_equations g_goalCount b_draft b_clauseCodes b_clauseLength b_query b_trace b_choiceDepths b_choiceNexts b_code b_link b_compound b_finite b_left b_right b_goals b_atomPlace b_stack b_seen m (nI k) := by
  obtain ⟨a1, a2, a3, a4, a5, a6, a7, a8, a9⟩ := wm_co_w hW hD hp
  obtain ⟨w1, w2, w3⟩ := wm_co_F hW hD hcp hp
  obtain ⟨u1, u2, u3, u4⟩ := hR
  have q4 := wm_ar4 (wm_cdp cs sl p)
  intro m
  induction m with
  | zero => intro k a b; omega
  | succ m ih =>
    intro k a b hd
    by_cases e : k = wm_ar (wm_cdp cs sl p)
    · subst e; exact wm_leT _ _ (Nat.le_refl _) (h1 hd)
    · have hk : k < wm_ar (wm_cdp cs sl p) := by omega
      obtain ⟨c1, c2⟩ := w3 k hk
      obtain ⟨v1, v2⟩ := u3 _ c2
      obtain ⟨p1, p2, p3⟩ := wm_ap_lt (hW _ a3).2.2 a4 hk
      have next : (wm_co cs ln sl D (r (wm_chd cs ln sl p k)) → ¬ b_finite (r (wm_chd cs ln sl p k)) = 0) → wY_argumentsFinite_13 post (nI p) (nI (wm_ar (wm_cdp cs sl p))) g_clauseCap g_heapCap g_frameCap g_choiceCap g_draftCount g_clauses g_queryCount g_status g_depth g_choiceCount g_solutions g_steps g_complete g_compoundCount g_equations g_goalCount b_draft b_clauseCodes b_clauseLength b_query b_trace b_choiceDepths b_choiceNexts b_code b_link b_compound b_finite b_left b_right b_goals b_atomPlace b_stack b_seen m (nI (k + 1)) := fun h =>
        ih (k + 1) (by omega) (by omega) (fun i hi => by
          by_cases ei : i = k
          · subst ei; exact h
          · exact hd i (by omega))
      have dl := u2.1 (wm_chd cs ln sl p k)
      refine wm_leF (wm_ar (wm_cdp cs sl p)) k hk (wy_argument (d := p / 32) (k := p % 32) (j := k) (hW _ a3) (by omega) (hyc _ a3) a4 (Nat.le_of_lt hk) (congrArg nI a6) rfl (wy_idAt (hW _ a3).1 (by omega) (hyc _ a3) p2 rfl (wy_find (n := wm_chd cs ln sl p k) u1 (wm_vi_lt hW hD c2).1 (by omega) rfl ?_)))
      rcases wm_vi_F hW hD hcp v1 with ⟨b1, j, q, b2, b3, b4, b5, b6, b7, b8, b9, b10⟩ | ⟨b1, b2, b3, b4⟩
      · have cb : b_code (r (wm_chd cs ln sl p k)) = nI (cs (sl j) q) := by rw [b4]; exact hyc j b2 q b3
        have inb : vp_in (nI (r (wm_chd cs ln sl p k))) 4128 := pk_in (r (wm_chd cs ln sl p k)) 4128 b1
        refine wm_leF 4128 (r (wm_chd cs ln sl p k)) b1 (And.intro inb ?_)
        refine pk_lt (cs (sl j) q) 16 (fun z => nm_r (nI_1 k) (next (fun hc => ?_))) (fun z => And.intro inb ?_) (wm_rx cb)
        · have := wm_co_w hW hD hc
          have e2 := (wm_co_F hW hD hcp hc).1
          omega
        · have hco : wm_co cs ln sl D (r (wm_chd cs ln sl p k)) := wm_co_of hW hD hcp v1 (by omega) (by omega)
          by_cases hz : b_finite (r (wm_chd cs ln sl p k)) = 0
          · exact br_t (wm_rx hz) (h0 ⟨k, hk, hco, hz⟩)
          · refine br_f (fun hh => hz ?_) (nm_r (nI_1 k) (next (fun _ => hz)))
            rw [← hh, nI_clamp (by omega)]
      · refine wm_leT 4128 (r (wm_chd cs ln sl p k)) b1 (nm_r (nI_1 k) (next (fun hc => ?_)))
        have := wm_co_w hW hD hc
        omega
theorem wy_argumentsFinite {post : Int32 → Prop} {p : Nat} {x : Int32} (hx : x = nI p) (hW : ∀ j, j ≤ D → wm_WC (cs (sl j)) (ln (sl j))) (hD : D ≤ 128) (hcp : wm_CP cs ln sl D F G) (hyc : wm_YC cs ln sl D b_code) (hR : wm_YR cs ln sl D F G r δ ρ b_link) (hp : wm_co cs ln sl D p)
    (h1 : (∀ i, i < wm_ar (wm_cdp cs sl p) → wm_co cs ln sl D (r (wm_chd cs ln sl p i)) → ¬ b_finite (r (wm_chd cs ln sl p i)) = 0) → post 1)
    (h0 : (∃ i, i < wm_ar (wm_cdp cs sl p) ∧ wm_co cs ln sl D (r (wm_chd cs ln sl p i)) ∧ b_finite (r (wm_chd cs ln sl p i)) = 0) → post 0) : wpY_argumentsFinite post (g_clauseCap, g_heapCap, g_frameCap, g_choiceCap, g_draftCount, g_clauses, g_queryCount, g_status, g_depth, g_choiceCount, g_solutions, g_steps, g_complete, g_compoundCount, g_equations, g_goalCount, b_draft, b_clauseCodes, b_clauseLength, b_query, b_trace, b_choiceDepths, b_choiceNexts, b_code, b_link, b_compound, b_finite, b_left, b_right, b_goals, b_atomPlace, b_stack, b_seen) x := by
  subst hx
  obtain ⟨a1, a2, a3, a4, a5, a6, a7, a8, a9⟩ := wm_co_w hW hD hp
  have cp : b_code p = nI (wm_cdp cs sl p) := by
    have := hyc _ a3 _ a4
    rw [← a6] at this
    exact this
  refine And.intro (pk_in p 4128 a1) (wy_ar (wm_cdp cs sl p) (Or.inl a8) (wm_rx cp) ⟨wm_ar (wm_cdp cs sl p) + 1, ?_⟩)
  exact wy_af_13 (k := 0) hW hD hcp hyc hR hp h1 h0 _ (Nat.zero_le _) (by omega) (fun i hi => by omega)
end
end
section
/-! the reference's allFinite -/
theorem wm_cn_mono {P Q : Nat → Bool} : ∀ {n : Nat}, (∀ k, k < n → P k = true → Q k = true) → wm_cn P n ≤ wm_cn Q n
  | 0, _ => Nat.le_refl _
  | n + 1, h => by
    have ih := wm_cn_mono (P := P) (Q := Q) (n := n) (fun k hk => h k (by omega))
    by_cases p : P n = true
    · rw [wm_cn_t p, wm_cn_t (h n (by omega) p)]; omega
    · rw [wm_cn_f p]
      by_cases q : Q n = true
      · rw [wm_cn_t q]; omega
      · rw [wm_cn_f q]; exact ih
theorem wm_cn_grow {P Q : Nat → Bool} {a : Nat} (hp : ¬ P a = true) (hq : Q a = true) : ∀ {n : Nat}, (∀ k, k < n → P k = true → Q k = true) → a < n → wm_cn P n + 1 ≤ wm_cn Q n
  | 0, _, h => absurd h (Nat.not_lt_zero _)
  | n + 1, h, ha => by
    rcases Nat.lt_or_ge a n with z | z
    · have ih := wm_cn_grow hp hq (n := n) (fun k hk => h k (by omega)) z
      by_cases p : P n = true
      · rw [wm_cn_t p, wm_cn_t (h n (by omega) p)]; omega
      · rw [wm_cn_f p]
        by_cases q : Q n = true
        · rw [wm_cn_t q]; omega
        · rw [wm_cn_f q]; exact ih
    · have e : a = n := by omega
      subst e
      rw [wm_cn_f hp, wm_cn_t hq]
      have := wm_cn_mono (P := P) (Q := Q) (n := a) (fun k hk => h k (by omega))
      omega
/-- how many of the compounds are known to be finite -/
def wm_cf (cp : Nat → Nat) (fin : Nat → Int32) (cc : Nat) : Nat := wm_cn (fun i => decide (¬ fin (cp i) = 0)) cc
/-- the list of the compounds -/
def wm_CL (cs : Nat → Nat → Nat) (ln sl : Nat → Nat) (D : Nat) (cp : Nat → Nat) (cc : Nat) (compound : Nat → Int32) : Prop :=
  cc ≤ 4128 ∧ (∀ i, i < cc → compound i = nI (cp i) ∧ wm_co cs ln sl D (cp i)) ∧ (∀ p, wm_co cs ln sl D p → ∃ i, i < cc ∧ cp i = p)
section
variable {g_clauseCap g_heapCap g_frameCap g_choiceCap g_draftCount g_clauses g_queryCount g_status g_depth g_choiceCount g_solutions g_steps g_complete g_compoundCount g_equations g_goalCount : Int32} {b_draft b_clauseCodes b_clauseLength b_query b_trace b_choiceDepths b_choiceNexts b_code b_link b_compound b_finite b_left b_right b_goals b_atomPlace b_stack b_seen : Nat → Int32}
variable {cs : Nat → Nat → Nat} {ln sl : Nat → Nat} {D : Nat} {F : Nat → Nat} {G : Nat → Nat → Nat} {r δ ρ cp : Nat → Nat} {cc : Nat}
theorem wy_fin_121 {post : Int32 → SY → Prop} (hW : ∀ j, j ≤ D → wm_WC (cs (sl j)) (ln (sl j))) (hD : D ≤ 128) (hcc : g_compoundCount = nI cc) (hL : wm_CL cs ln sl D cp cc b_compound) (hu : wm_UF 5160 b_link r δ)
    (h1 : (∀ i, i < cc → b_link (cp i) = -1 → ¬ b_finite (cp i) = 0) → post 1 (g_clauseCap, g_heapCap, g_frameCap, g_choiceCap, g_draftCount, g_clauses, g_queryCount, g_status, g_depth, g_choiceCount, g_solutions, g_steps, g_complete, g_compoundCount, g_equations, g_goalCount, b_draft, b_clauseCodes, b_clauseLength, b_query, b_trace, b_choiceDepths, b_choiceNexts, b_code, b_link, b_compound, b_finite, b_left, b_right, b_goals, b_atomPlace, b_stack, b_seen)) (h0 : (∃ i, i < cc ∧ b_link (cp i) = -1 ∧ b_finite (cp i) = 0) → post 0 (g_clauseCap, g_heapCap, g_frameCap, g_choiceCap, g_draftCount, g_clauses, g_queryCount, g_status, g_depth, g_choiceCount, g_solutions, g_steps, g_complete, g_compoundCount, g_equations, g_goalCount, b_draft, b_clauseCodes, b_clauseLength, b_query, b_trace, b_choiceDepths, b_choiceNexts, b_code, b_link, b_compound, b_finite, b_left, b_right, b_goals, b_atomPlace, b_stack, b_seen)) :
    ∀ m i : Nat, i ≤ cc → cc < m + i → (∀ q, q < i → b_link (cp q) = -1 → ¬ b_finite (cp q) = 0) → wY_allFinite_121 post g_clauseCap g_heapCap g_frameCap g_choiceCap g_draftCount g_clauses g_queryCount g_status g_depth g_choiceCount g_solutions g_steps g_complete g_compoundCount g_equations g_goalCount b_draft b_clauseCodes b_clauseLength b_query b_trace b_choiceDepths b_choiceNexts b_code b_link b_compound b_finite b_left b_right b_goals b_atomPlace b_stack b_seen m (nI i) := by
  obtain ⟨l1, l2, l3⟩ := hL
  intro m
  induction m with
  | zero => intro i a b; omega
  | succ m ih =>
    intro i a b hd
    by_cases e : i = cc
    · subst e; exact wm_leT i i (Nat.le_refl _) (h1 hd) hcc
    · obtain ⟨x1, x2⟩ := l2 i (by omega)
      obtain ⟨a1, a2, -⟩ := wm_co_w hW hD x2
      have next : (b_link (cp i) = -1 → ¬ b_finite (cp i) = 0) → wY_allFinite_121 post g_clauseCap g_heapCap g_frameCap g_choiceCap g_draftCount g_clauses g_queryCount g_status g_depth g_choiceCount g_solutions g_steps g_complete g_compoundCount g_equations g_goalCount b_draft b_clauseCodes b_clauseLength b_query b_trace b_choiceDepths b_choiceNexts b_code b_link b_compound b_finite b_left b_right b_goals b_atomPlace b_stack b_seen m (nI (i + 1)) := fun h =>
        ih (i + 1) (by omega) (by omega) (fun q hq => by
          by_cases eq : q = i
          · subst eq; exact h
          · exact hd q (by omega))
      refine wm_leF cc i (by omega) (And.intro (pk_in i 4128 (by omega)) (nm_r (wm_rx x1) (And.intro (pk_in (cp i) 5160 (by omega)) ?_))) hcc
      rcases hu (cp i) (by omega) with ⟨z1, -, -⟩ | ⟨m', z1, z2, -⟩
      · refine wm_geM (wm_rx z1) (And.intro (pk_in (cp i) 4128 a1) ?_)
        by_cases hz : b_finite (cp i) = 0
        · exact br_t (wm_rx hz) (h0 ⟨i, by omega, z1, hz⟩)
        · refine br_f (fun hh => hz ?_) (nm_r (nI_1 i) (next (fun _ => hz)))
          rw [← hh, nI_clamp (by omega)]
      · refine wm_leT 0 m' (Nat.zero_le _) (nm_r (nI_1 i) (next (fun hh => ?_))) rfl (wm_rx z2)
        rw [z2] at hh; exact absurd hh (wm_nm1 (by omega))
theorem wy_fin_48 {post : Int32 → SY → Prop} {J : Int32 → Int32 → (Nat → Int32) → (Nat → Int32) → (Nat → Int32) → (Nat → Int32) → (Nat → Int32) → (Nat → Int32) → (Nat → Int32) → (Nat → Int32) → (Nat → Int32) → (Nat → Int32) → (Nat → Int32) → (Nat → Int32) → (Nat → Int32) → (Nat → Int32) → (Nat → Int32) → (Nat → Int32) → (Nat → Int32) →  Prop} {pass : Nat} (hW : ∀ j, j ≤ D → wm_WC (cs (sl j)) (ln (sl j))) (hD : D ≤ 128) (hcp : wm_CP cs ln sl D F G) (hyc : wm_YC cs ln sl D b_code) (hR : wm_YR cs ln sl D F G r δ ρ b_link) (hcc : g_compoundCount = nI cc) (hL : wm_CL cs ln sl D cp cc b_compound)
    (hJ : ∀ (x1 : Int32) (rr : Nat → Nat) (B : Nat) (fin : Nat → Int32), wm_FI cs ln sl D r b_link fin rr B → ((x1 = 0 ∧ ∀ i, i < cc → wm_NF cs ln sl D r b_link fin (cp i)) ∨ (x1 = 1 ∧ pass + 1 ≤ wm_cf cp fin cc)) → J x1 (nI (pass + 1)) b_draft b_clauseCodes b_clauseLength b_query b_trace b_choiceDepths b_choiceNexts b_code b_link b_compound fin b_left b_right b_goals b_atomPlace b_stack b_seen) :
    ∀ (m i : Nat) (x1 : Int32) (rr : Nat → Nat) (B : Nat) (b_finite : Nat → Int32), i ≤ cc → cc < m + i → wm_FI cs ln sl D r b_link b_finite rr B → ((x1 = 0 ∧ pass ≤ wm_cf cp b_finite cc ∧ ∀ q, q < i → wm_NF cs ln sl D r b_link b_finite (cp q)) ∨ (x1 = 1 ∧ pass + 1 ≤ wm_cf cp b_finite cc)) →
      wY_allFinite_48 post J (nI pass) g_clauseCap g_heapCap g_frameCap g_choiceCap g_draftCount g_clauses g_queryCount g_status g_depth g_choiceCount g_solutions g_steps g_complete g_compoundCount g_equations g_goalCount m x1 (nI i) b_draft b_clauseCodes b_clauseLength b_query b_trace b_choiceDepths b_choiceNexts b_code b_link b_compound b_finite b_left b_right b_goals b_atomPlace b_stack b_seen := by
  have hL' := hL
  obtain ⟨l1, l2, l3⟩ := hL'
  have hu := hR.1
  intro m
  induction m with
  | zero => intro i _ _ _ _ a b; omega
  | succ m ih =>
    intro i x1 rr B b_finite a b hI hcase
    by_cases e : i = cc
    · subst e
      refine wm_leT i i (Nat.le_refl _) (nm_r (nI_1 pass) (hJ x1 rr B _ hI ?_)) hcc
      rcases hcase with ⟨y1, y2, y3⟩ | y
      · exact Or.inl ⟨y1, y3⟩
      · exact Or.inr y
    · obtain ⟨q1, q2⟩ := l2 i (by omega)
      obtain ⟨a1, a2, -⟩ := wm_co_w hW hD q2
      have next : wm_NF cs ln sl D r b_link b_finite (cp i) → wY_allFinite_48 post J (nI pass) g_clauseCap g_heapCap g_frameCap g_choiceCap g_draftCount g_clauses g_queryCount g_status g_depth g_choiceCount g_solutions g_steps g_complete g_compoundCount g_equations g_goalCount m x1 (nI (i + 1)) b_draft b_clauseCodes b_clauseLength b_query b_trace b_choiceDepths b_choiceNexts b_code b_link b_compound b_finite b_left b_right b_goals b_atomPlace b_stack b_seen := fun h =>
        ih (i + 1) x1 rr B _ (by omega) (by omega) hI (by
          rcases hcase with ⟨y1, y2, y3⟩ | y
          · refine Or.inl ⟨y1, y2, fun q hq => ?_⟩
            by_cases eq : q = i
            · subst eq; exact h
            · exact y3 q (by omega)
          · exact Or.inr y)
      refine wm_leF cc i (by omega) (And.intro (pk_in i 4128 (by omega)) (nm_r (wm_rx q1) (And.intro (pk_in (cp i) 5160 (by omega)) ?_))) hcc
      rcases hu (cp i) (by omega) with ⟨z1, -, -⟩ | ⟨m', z1, z2, -⟩
      · have in4 : vp_in (nI (cp i)) 4128 := pk_in (cp i) 4128 a1
        refine wm_geM (wm_rx z1) (And.intro in4 ?_)
        by_cases hz : b_finite (cp i) = 0
        · refine br_t (wm_rx hz) (wy_argumentsFinite rfl hW hD hcp hyc hR q2 (fun h => ?_) (fun h => ?_))
          · have hn1 : vp_nar .boolean 1 = 1 := rfl
            have ne1 : ¬ (1 : Int32) = 0 := by decide
            refine wm_eqF 1 0 (by omega) (And.intro in4 (nm_r (wm_ux hn1) (nm_r (nI_1 i) (ih (i + 1) 1 (wm_u rr (cp i) B) (B + 1) _ (by omega) (by omega) ?_ ?_))))
            · intro p hp hf
              by_cases ep : p = cp i
              · subst ep
                refine ⟨by rw [wm_us]; omega, z1, fun k hk hc => ?_⟩
                have hfk := h k hk hc
                have nk : r (wm_chd cs ln sl (cp i) k) ≠ cp i := fun z => hfk (by rw [z]; exact hz)
                rw [pk_un nk, wm_us, wm_un nk]
                exact ⟨hfk, (hI _ hc hfk).1⟩
              · rw [pk_un ep] at hf
                obtain ⟨w1, w2, w3⟩ := hI p hp hf
                refine ⟨by rw [wm_un ep]; omega, w2, fun k hk hc => ?_⟩
                obtain ⟨v1, v2⟩ := w3 k hk hc
                have nk : r (wm_chd cs ln sl p k) ≠ cp i := fun z => v1 (by rw [z]; exact hz)
                rw [pk_un nk, wm_un ep, wm_un nk]
                exact ⟨v1, v2⟩
            · right
              refine ⟨rfl, ?_⟩
              have gr : wm_cf cp b_finite cc + 1 ≤ wm_cf cp (upd b_finite (cp i) 1) cc := by
                refine wm_cn_grow (a := i) (by simp [hz]) ?_ (fun k hk hk2 => ?_) (by omega)
                · show decide (¬ upd b_finite (cp i) 1 (cp i) = 0) = true
                  rw [pk_us]; exact decide_eq_true ne1
                · have hk3 : ¬ b_finite (cp k) = 0 := of_decide_eq_true hk2
                  apply decide_eq_true
                  by_cases ek : cp k = cp i
                  · rw [ek, pk_us]; exact ne1
                  · rw [pk_un ek]; exact hk3
              rcases hcase with ⟨y1, y2, y3⟩ | ⟨y1, y2⟩ <;> omega
          · exact wm_eqT 0 0 rfl (nm_r (nI_1 i) (next (fun _ _ => h)))
        · refine br_f (fun hh => hz ?_) (nm_r (nI_1 i) (next (fun _ h => absurd h hz)))
          rw [← hh, nI_clamp (by omega)]
      · refine wm_leT 0 m' (Nat.zero_le _) (nm_r (nI_1 i) (next (fun hh => ?_))) rfl (wm_rx z2)
        rw [z2] at hh; exact absurd hh (wm_nm1 (by omega))
theorem wy_fin_32 {post : Int32 → SY → Prop} (hW : ∀ j, j ≤ D → wm_WC (cs (sl j)) (ln (sl j))) (hD : D ≤ 128) (hcp : wm_CP cs ln sl D F G) (hf : ∀ n, n < wm_bs cs ln sl (D + 1) → (F n < 80 ∨ F n = 128) ∧ (n < 16 → F n = n) ∧ (16 ≤ n → 16 ≤ F n)) (hyc : wm_YC cs ln sl D b_code) (hR : wm_YR cs ln sl D F G r δ ρ b_link) (hcc : g_compoundCount = nI cc) (hL : wm_CL cs ln sl D cp cc b_compound)
    (h1 : ∀ fin : Nat → Int32, wm_Gd (wm_bs cs ln sl (D + 1)) F G (wm_qs cs ln sl D) → post 1 (g_clauseCap, g_heapCap, g_frameCap, g_choiceCap, g_draftCount, g_clauses, g_queryCount, g_status, g_depth, g_choiceCount, g_solutions, g_steps, g_complete, g_compoundCount, g_equations, g_goalCount, b_draft, b_clauseCodes, b_clauseLength, b_query, b_trace, b_choiceDepths, b_choiceNexts, b_code, b_link, b_compound, fin, b_left, b_right, b_goals, b_atomPlace, b_stack, b_seen)) (h0 : ∀ fin : Nat → Int32, ¬ wm_Gd (wm_bs cs ln sl (D + 1)) F G (wm_qs cs ln sl D) → post 0 (g_clauseCap, g_heapCap, g_frameCap, g_choiceCap, g_draftCount, g_clauses, g_queryCount, g_status, g_depth, g_choiceCount, g_solutions, g_steps, g_complete, g_compoundCount, g_equations, g_goalCount, b_draft, b_clauseCodes, b_clauseLength, b_query, b_trace, b_choiceDepths, b_choiceNexts, b_code, b_link, b_compound, fin, b_left, b_right, b_goals, b_atomPlace, b_stack, b_seen)) :
    ∀ (m pass : Nat) (x1 : Int32) (rr : Nat → Nat) (B : Nat) (b_finite : Nat → Int32), cc + 1 < m + pass → pass ≤ cc + 1 → wm_FI cs ln sl D r b_link b_finite rr B → ((x1 = 0 ∧ ∀ i, i < cc → wm_NF cs ln sl D r b_link b_finite (cp i)) ∨ (x1 = 1 ∧ pass ≤ wm_cf cp b_finite cc)) →
      wY_allFinite_32 post g_clauseCap g_heapCap g_frameCap g_choiceCap g_draftCount g_clauses g_queryCount g_status g_depth g_choiceCount g_solutions g_steps g_complete g_compoundCount g_equations g_goalCount m x1 (nI pass) b_draft b_clauseCodes b_clauseLength b_query b_trace b_choiceDepths b_choiceNexts b_code b_link b_compound b_finite b_left b_right b_goals b_atomPlace b_stack b_seen := by
  have hL' := hL
  obtain ⟨l1, l2, l3⟩ := hL'
  intro m
  induction m with
  | zero => intro pass _ _ _ _ a b; omega
  | succ m ih =>
    intro pass x1 rr B b_finite a b hI hcase
    have cfl : wm_cf cp b_finite cc ≤ cc := wm_cn_n _ _
    have fin : (x1 = 0 ∧ ∀ i, i < cc → wm_NF cs ln sl D r b_link b_finite (cp i)) → ∃ n, wY_allFinite_121 post g_clauseCap g_heapCap g_frameCap g_choiceCap g_draftCount g_clauses g_queryCount g_status g_depth g_choiceCount g_solutions g_steps g_complete g_compoundCount g_equations g_goalCount b_draft b_clauseCodes b_clauseLength b_query b_trace b_choiceDepths b_choiceNexts b_code b_link b_compound b_finite b_left b_right b_goals b_atomPlace b_stack b_seen n 0 := fun ⟨_, hN⟩ => by
      refine ⟨cc + 1, wy_fin_121 (i := 0) hW hD hcc hL hR.1 (fun h => h1 _ ?_) (fun ⟨i, i1, i2, i3⟩ => h0 _ ?_) _ (Nat.zero_le _) (by omega) (fun q hq => by omega)⟩
      · refine wm_fin_rank hW hD hcp hf hR hI (fun p hp hl => ?_)
        obtain ⟨i, i1, i2⟩ := l3 p hp
        rw [← i2] at hl ⊢; exact h i i1 hl
      · refine wm_fin_no hW hD hcp hR (fun p hp => ?_) (l2 i i1).2 i2 i3
        obtain ⟨i', j1, j2⟩ := l3 p hp
        rw [← j2]; exact hN i' j1
    refine pk_lt cc pass (fun h => ?_) (fun h => ?_) hcc
    · rcases hcase with y | ⟨y1, y2⟩
      · exact fin y
      · omega
    · rcases hcase with y | ⟨y1, y2⟩
      · exact br_t y.1 (fin y)
      · subst y1
        refine br_f (by decide) ⟨cc + 1, wy_fin_48 (i := 0) hW hD hcp hyc hR hcc hL (fun x1 rr' B' fin' g1 g2 => ?_) _ _ rr B _ (Nat.zero_le _) (by omega) hI (Or.inl ⟨rfl, y2, fun q hq => by omega⟩)⟩
        exact ih (pass + 1) x1 rr' B' fin' (by omega) (by omega) g1 g2
theorem wy_fin_2 {post : Int32 → SY → Prop} (hW : ∀ j, j ≤ D → wm_WC (cs (sl j)) (ln (sl j))) (hD : D ≤ 128) (hcp : wm_CP cs ln sl D F G) (hf : ∀ n, n < wm_bs cs ln sl (D + 1) → (F n < 80 ∨ F n = 128) ∧ (n < 16 → F n = n) ∧ (16 ≤ n → 16 ≤ F n)) (hyc : wm_YC cs ln sl D b_code) (hR : wm_YR cs ln sl D F G r δ ρ b_link) (hcc : g_compoundCount = nI cc) (hL : wm_CL cs ln sl D cp cc b_compound)
    (h1 : ∀ fin : Nat → Int32, wm_Gd (wm_bs cs ln sl (D + 1)) F G (wm_qs cs ln sl D) → post 1 (g_clauseCap, g_heapCap, g_frameCap, g_choiceCap, g_draftCount, g_clauses, g_queryCount, g_status, g_depth, g_choiceCount, g_solutions, g_steps, g_complete, g_compoundCount, g_equations, g_goalCount, b_draft, b_clauseCodes, b_clauseLength, b_query, b_trace, b_choiceDepths, b_choiceNexts, b_code, b_link, b_compound, fin, b_left, b_right, b_goals, b_atomPlace, b_stack, b_seen)) (h0 : ∀ fin : Nat → Int32, ¬ wm_Gd (wm_bs cs ln sl (D + 1)) F G (wm_qs cs ln sl D) → post 0 (g_clauseCap, g_heapCap, g_frameCap, g_choiceCap, g_draftCount, g_clauses, g_queryCount, g_status, g_depth, g_choiceCount, g_solutions, g_steps, g_complete, g_compoundCount, g_equations, g_goalCount, b_draft, b_clauseCodes, b_clauseLength, b_query, b_trace, b_choiceDepths, b_choiceNexts, b_code, b_link, b_compound, fin, b_left, b_right, b_goals, b_atomPlace, b_stack, b_seen)) :
    ∀ (m i : Nat) (b_finite : Nat → Int32), i ≤ cc → cc < m + i → (∀ q, q < i → b_finite (cp q) = 0) → wY_allFinite_2 post g_clauseCap g_heapCap g_frameCap g_choiceCap g_draftCount g_clauses g_queryCount g_status g_depth g_choiceCount g_solutions g_steps g_complete g_compoundCount g_equations g_goalCount m (nI i) b_draft b_clauseCodes b_clauseLength b_query b_trace b_choiceDepths b_choiceNexts b_code b_link b_compound b_finite b_left b_right b_goals b_atomPlace b_stack b_seen := by
  have hL' := hL
  obtain ⟨l1, l2, l3⟩ := hL'
  intro m
  induction m with
  | zero => intro i _ a b; omega
  | succ m ih =>
    intro i b_finite a b hz
    by_cases e : i = cc
    · subst e
      refine wm_leT i i (Nat.le_refl _) ⟨i + 2, wy_fin_32 (pass := 0) hW hD hcp hf hyc hR hcc hL h1 h0 _ _ (fun _ => 0) 0 _ (by omega) (by omega) (fun p hp hnf => ?_) (Or.inr ⟨rfl, Nat.zero_le _⟩)⟩ hcc
      obtain ⟨q, q1, q2⟩ := l3 p hp
      exact absurd (by rw [← q2]; exact hz q q1) hnf
    · obtain ⟨q1, q2⟩ := l2 i (by omega)
      obtain ⟨a1, a2, -⟩ := wm_co_w hW hD q2
      have hn0 : vp_nar .boolean 0 = 0 := rfl
      refine wm_leF cc i (by omega) (And.intro (pk_in i 4128 (by omega)) (And.intro (pk_in (cp i) 4128 a1 (wm_rx q1)) (nm_r (wm_ux hn0 (wm_rx q1)) (nm_r (nI_1 i) (ih (i + 1) _ (by omega) (by omega) (fun q hq => ?_)))))) hcc
      by_cases eq : cp q = cp i
      · rw [eq]; exact pk_us
      · rw [pk_un eq]
        refine hz q ?_
        rcases Nat.lt_or_ge q i with w | w
        · exact w
        · have : q = i := by omega
          subst this; exact absurd rfl eq
theorem wy_allFinite {post : Int32 → SY → Prop} (hW : ∀ j, j ≤ D → wm_WC (cs (sl j)) (ln (sl j))) (hD : D ≤ 128) (hcp : wm_CP cs ln sl D F G) (hf : ∀ n, n < wm_bs cs ln sl (D + 1) → (F n < 80 ∨ F n = 128) ∧ (n < 16 → F n = n) ∧ (16 ≤ n → 16 ≤ F n)) (hyc : wm_YC cs ln sl D b_code) (hR : wm_YR cs ln sl D F G r δ ρ b_link) (hcc : g_compoundCount = nI cc) (hL : wm_CL cs ln sl D cp cc b_compound)
    (h1 : ∀ fin : Nat → Int32, wm_Gd (wm_bs cs ln sl (D + 1)) F G (wm_qs cs ln sl D) → post 1 (g_clauseCap, g_heapCap, g_frameCap, g_choiceCap, g_draftCount, g_clauses, g_queryCount, g_status, g_depth, g_choiceCount, g_solutions, g_steps, g_complete, g_compoundCount, g_equations, g_goalCount, b_draft, b_clauseCodes, b_clauseLength, b_query, b_trace, b_choiceDepths, b_choiceNexts, b_code, b_link, b_compound, fin, b_left, b_right, b_goals, b_atomPlace, b_stack, b_seen)) (h0 : ∀ fin : Nat → Int32, ¬ wm_Gd (wm_bs cs ln sl (D + 1)) F G (wm_qs cs ln sl D) → post 0 (g_clauseCap, g_heapCap, g_frameCap, g_choiceCap, g_draftCount, g_clauses, g_queryCount, g_status, g_depth, g_choiceCount, g_solutions, g_steps, g_complete, g_compoundCount, g_equations, g_goalCount, b_draft, b_clauseCodes, b_clauseLength, b_query, b_trace, b_choiceDepths, b_choiceNexts, b_code, b_link, b_compound, fin, b_left, b_right, b_goals, b_atomPlace, b_stack, b_seen)) : wpY_allFinite post (g_clauseCap, g_heapCap, g_frameCap, g_choiceCap, g_draftCount, g_clauses, g_queryCount, g_status, g_depth, g_choiceCount, g_solutions, g_steps, g_complete, g_compoundCount, g_equations, g_goalCount, b_draft, b_clauseCodes, b_clauseLength, b_query, b_trace, b_choiceDepths, b_choiceNexts, b_code, b_link, b_compound, b_finite, b_left, b_right, b_goals, b_atomPlace, b_stack, b_seen) :=
  ⟨cc + 1, wy_fin_2 (i := 0) hW hD hcp hf hyc hR hcc hL h1 h0 _ _ (Nat.zero_le _) (by omega) (fun q hq => by omega)⟩
end
end
section
/-! the reference's build -/
/-- an array as a stack, uppermost first -/
def wm_sk (a : Nat → Int32) : Nat → List Int32
  | 0 => []
  | c + 1 => a c :: wm_sk a c
theorem wm_sk_congr {a b : Nat → Int32} : ∀ {c : Nat}, (∀ i, i < c → a i = b i) → wm_sk a c = wm_sk b c
  | 0, _ => rfl
  | c + 1, h => by simp only [wm_sk, h c (by omega), wm_sk_congr (a := a) (b := b) (c := c) (fun i hi => h i (by omega))]
theorem wm_sk_push {a : Nat → Int32} {c : Nat} {v : Int32} : wm_sk (upd a c v) (c + 1) = v :: wm_sk a c := by
  simp only [wm_sk, pk_us]
  rw [wm_sk_congr (fun i hi => pk_un (by omega))]
theorem wm_sk_len {a : Nat → Int32} : ∀ {c : Nat}, (wm_sk a c).length = c
  | 0 => rfl
  | c + 1 => by simp only [wm_sk, List.length_cons, wm_sk_len]
/-- the place of a goal in the laid out copies -/
def wm_gp (cs : Nat → Nat → Nat) (ln sl : Nat → Nat) (x : Nat × Nat) : Nat := 32 * x.1 + wm_pq cs ln sl x.1 x.2
theorem wm_gl_len {cs : Nat → Nat → Nat} {ln sl : Nat → Nat} {D : Nat} (hW : ∀ j, j ≤ D → wm_WC (cs (sl j)) (ln (sl j))) : ∀ d, d ≤ D → (wm_gl cs ln sl d).length ≤ 8 + 7 * d
  | 0, h => by
    have : wm_na (cs (sl 0)) (ln (sl 0)) ≤ 8 := (hW 0 h).1.2.2
    simp only [wm_gl, wm_sg, wm_sc_len, wm_nA]; omega
  | d + 1, h => by
    have ih := wm_gl_len hW d (by omega)
    have : wm_na (cs (sl (d + 1))) (ln (sl (d + 1))) ≤ 8 := (hW _ h).1.2.2
    simp only [wm_gl, wm_sg, List.length_append, wm_sc_len, wm_nA, List.length_tail]; omega
section
variable {g_clauseCap g_heapCap g_frameCap g_choiceCap g_draftCount g_clauses g_queryCount g_status g_depth g_choiceCount g_solutions g_steps g_complete g_compoundCount g_equations g_goalCount : Int32} {b_draft b_clauseCodes b_clauseLength b_query b_trace b_choiceDepths b_choiceNexts b_code b_link b_compound b_finite b_left b_right b_goals b_atomPlace b_stack b_seen : Nat → Int32}
theorem wy_layOut_21 {post : Int32 → SY → Prop} {w : Int32} {C : Nat → Nat} {n j cc : Nat} (hY : wm_YS w C n g_draftCount g_clauses g_queryCount b_draft b_clauseCodes b_clauseLength b_query) (hC : wm_WC C n) (hj : 32 * j + 32 ≤ 4128) (hcc : cc ≤ 32 * j)
    (hp : ∀ code place comp : Nat → Int32, (∀ k, k < n → code (32 * j + k) = nI (C k)) → (∀ p, (p < 32 * j ∨ 32 * j + n ≤ p) → code p = b_code p) → (∀ i, i < wm_na C n → place i = nI (32 * j + wm_pl C n i)) → (∀ i, i < cc → comp i = b_compound i) → (∀ k, k < n → wm_ps C k = true → comp (cc + wm_st C k) = nI (32 * j + k)) →
      post (nI (wm_na C n)) (g_clauseCap, g_heapCap, g_frameCap, g_choiceCap, g_draftCount, g_clauses, g_queryCount, g_status, g_depth, g_choiceCount, g_solutions, g_steps, g_complete, (nI (cc + wm_st C n)), g_equations, g_goalCount, b_draft, b_clauseCodes, b_clauseLength, b_query, b_trace, b_choiceDepths, b_choiceNexts, code, b_link, comp, b_finite, b_left, b_right, b_goals, place, b_stack, b_seen)) :
    ∀ (m k : Nat) (x5 x6 : Int32) (g_compoundCount : Int32) (b_code' b_atomPlace' b_compound' : Nat → Int32), k ≤ n → n < m + k → x5 = nI (wm_op C k) → x6 = nI (wm_na C k) → g_compoundCount = nI (cc + wm_st C k) → (∀ i, i < k → b_code' (32 * j + i) = nI (C i)) → (∀ p, (p < 32 * j ∨ 32 * j + n ≤ p) → b_code' p = b_code p) →
      (∀ i, i < k → wm_op C i = 0 → b_atomPlace' (wm_na C i) = nI (32 * j + i)) → (∀ i, i < cc → b_compound' i = b_compound i) → (∀ i, i < k → wm_ps C i = true → b_compound' (cc + wm_st C i) = nI (32 * j + i)) →
      wY_layOut_21 post w (nI (32 * j)) (nI n) g_clauseCap g_heapCap g_frameCap g_choiceCap g_draftCount g_clauses g_queryCount g_status g_depth g_choiceCount g_solutions g_steps g_complete g_equations g_goalCount m x5 x6 (nI k) g_compoundCount b_draft b_clauseCodes b_clauseLength b_query b_trace b_choiceDepths b_choiceNexts b_code' b_link b_compound' b_finite b_left b_right b_goals b_atomPlace' b_stack b_seen := by
  have h32 := hC.1.1
  have h8 : wm_na C n ≤ 8 := hC.1.2.2
  intro m
  induction m with
  | zero => intro k _ _ _ _ _ _ a b; omega
  | succ m ih =>
    intro k x5 x6 g_compoundCount code place comp a b e5 e6 ec hco hfr hpl hcl hcn
    subst e5 e6 ec
    by_cases e : k = n
    · subst e
      refine wm_leT k k (Nat.le_refl _) (hp code place comp hco hfr (fun i hi => ?_) hcl hcn)
      obtain ⟨p1, p2⟩ := wm_pl_lt hC.2.2 hi
      have p3 := (wm_pl_spec hC.2.2 i (by omega)).2.2
      have := hpl _ p1 p2
      rw [p3] at this
      exact this
    · have hk : k < n := by omega
      have a4 := wm_ar4 (C k)
      have ho := wm_op_le C k
      have hst : wm_st C k ≤ k := wm_cn_n _ _
      have na8 : wm_na C k ≤ wm_na C n := wm_cn_le _ (by omega)
      have code2 : ∀ i, i < k + 1 → upd code (32 * j + k) (nI (C k)) (32 * j + i) = nI (C i) := fun i hi => by
        by_cases q : i = k
        · subst q; exact pk_us
        · rw [pk_un (by omega)]; exact hco i (by omega)
      have fr2 : ∀ p, (p < 32 * j ∨ 32 * j + n ≤ p) → upd code (32 * j + k) (nI (C k)) p = b_code p := fun p hp' => by
        rw [pk_un (by omega)]; exact hfr p hp'
      refine wm_leF n k (by omega) (wm_leF 32 k (by omega) (nm_r (nI_add _ _) (wy_source hY rfl hk (wy_ar (C k) (hC.1.2.1 k hk).1 rfl (And.intro (pk_in (32 * j + k) 4128 (by omega)) (nm_r (wm_ux rfl) ?_))))))
      by_cases o : wm_op C k = 0
      · have hps : ¬ wm_ps C k = true := by rw [wm_ps_t]; omega
        have hlt : wm_na C k < wm_na C n := wm_cn_lt (wm_pa_t.mpr o) hk
        refine wm_eqT (wm_op C k) 0 o (wm_leF 8 (wm_na C k) (by omega) (And.intro (pk_in (wm_na C k) 8 (by omega)) (nm_r (wm_ux rfl) (nm_e (nm_r (nI_1 k) (ih (k + 1) _ _ _ _ _ _ (by omega) (by omega) ?_ ?_ ?_ code2 fr2 ?_ hcl ?_))))))
        · rw [wm_op_s, o]; exact congrArg nI (by omega)
        · unfold wm_na; rw [wm_cn_t (wm_pa_t.mpr o), nI_1]
        · unfold wm_st; rw [wm_cn_f hps]
        · intro i hi hoi
          by_cases q : i = k
          · subst q; exact pk_us
          · have : wm_na C i < wm_na C k := wm_cn_lt (wm_pa_t.mpr hoi) (by omega)
            rw [pk_un (by omega)]; exact hpl i (by omega) hoi
        · intro i hi hpi
          by_cases q : i = k
          · subst q; exact absurd hpi hps
          · exact hcn i (by omega) hpi
      · have ena : wm_na C (k + 1) = wm_na C k := wm_cn_f (fun z => o (wm_pa_t.mp z))
        have pl2 : ∀ i, i < k + 1 → wm_op C i = 0 → place (wm_na C i) = nI (32 * j + i) := fun i hi hoi => by
          by_cases q : i = k
          · subst q; exact absurd hoi o
          · exact hpl i (by omega) hoi
        refine wm_eqF (wm_op C k) 0 o ?_
        refine pk_lt (wm_ar (C k)) 1 (fun z => ?_) (fun z => ?_)
        · have hps : ¬ wm_ps C k = true := by rw [wm_ps_t]; omega
          refine nm_r (wm_opn (by omega)) (nm_r (nI_1 k) (ih (k + 1) _ _ _ _ _ _ (by omega) (by omega) rfl (by rw [ena]) ?_ code2 fr2 pl2 hcl ?_))
          · unfold wm_st; rw [wm_cn_f hps]
          · intro i hi hpi
            by_cases q : i = k
            · subst q; exact absurd hpi hps
            · exact hcn i (by omega) hpi
        · have hps : wm_ps C k = true := by rw [wm_ps_t]; omega
          refine wm_leF 4128 (cc + wm_st C k) (by omega) (And.intro (pk_in (cc + wm_st C k) 4128 (by omega)) (nm_r (wm_ux rfl) (nm_r (e' := nI (cc + wm_st C (k + 1))) ?_ (nm_r (wm_opn (by omega)) (nm_r (nI_1 k) (ih (k + 1) _ _ _ _ _ _ (by omega) (by omega) rfl (by rw [ena]) rfl code2 fr2 pl2 ?_ ?_))))))
          · unfold wm_st; rw [wm_cn_t hps, nI_1]; rfl
          · intro i hi
            rw [pk_un (by omega)]; exact hcl i hi
          · intro i hi hpi
            by_cases q : i = k
            · subst q; exact pk_us
            · have : wm_st C i < wm_st C k := wm_cn_lt hpi (by omega)
              rw [pk_un (by omega)]; exact hcn i (by omega) hpi
theorem wy_layOut {post : Int32 → SY → Prop} {w x : Int32} {C : Nat → Nat} {n j cc : Nat} (hx : x = nI j) (hY : wm_YS w C n g_draftCount g_clauses g_queryCount b_draft b_clauseCodes b_clauseLength b_query) (hC : wm_WC C n) (hj : 32 * j + 32 ≤ 4128) (hcc : cc ≤ 32 * j) (hg : g_compoundCount = nI cc)
    (hp : ∀ code place comp : Nat → Int32, (∀ k, k < n → code (32 * j + k) = nI (C k)) → (∀ p, (p < 32 * j ∨ 32 * j + n ≤ p) → code p = b_code p) → (∀ i, i < wm_na C n → place i = nI (32 * j + wm_pl C n i)) → (∀ i, i < cc → comp i = b_compound i) → (∀ k, k < n → wm_ps C k = true → comp (cc + wm_st C k) = nI (32 * j + k)) →
      post (nI (wm_na C n)) (g_clauseCap, g_heapCap, g_frameCap, g_choiceCap, g_draftCount, g_clauses, g_queryCount, g_status, g_depth, g_choiceCount, g_solutions, g_steps, g_complete, (nI (cc + wm_st C n)), g_equations, g_goalCount, b_draft, b_clauseCodes, b_clauseLength, b_query, b_trace, b_choiceDepths, b_choiceNexts, code, b_link, comp, b_finite, b_left, b_right, b_goals, place, b_stack, b_seen)) : wpY_layOut post (g_clauseCap, g_heapCap, g_frameCap, g_choiceCap, g_draftCount, g_clauses, g_queryCount, g_status, g_depth, g_choiceCount, g_solutions, g_steps, g_complete, g_compoundCount, g_equations, g_goalCount, b_draft, b_clauseCodes, b_clauseLength, b_query, b_trace, b_choiceDepths, b_choiceNexts, b_code, b_link, b_compound, b_finite, b_left, b_right, b_goals, b_atomPlace, b_stack, b_seen) x w := by
  subst hx
  refine nm_r (e' := nI (32 * j)) (by rw [show (32 : Int32) = nI 32 from rfl, pk_mul]) ?_
  refine wy_sourceLength hY ⟨n + 1, ?_⟩
  exact wy_layOut_21 (k := 0) hY hC hj hcc hp _ _ _ _ _ _ _ (Nat.zero_le _) (by omega) rfl rfl hg (fun i hi => by omega) (fun _ _ => rfl) (fun i hi => by omega) (fun _ _ => rfl) (fun i hi => by omega)
variable {cs : Nat → Nat → Nat} {ln sl : Nat → Nat} {D : Nat} {F : Nat → Nat} {G : Nat → Nat → Nat}
theorem wy_putGoals_4 {post : SY → Prop} {f fi : Nat} {L0 : List Int32} (hpl : ∀ a, a < wm_nA cs ln sl f → b_atomPlace a = nI (wm_gp cs ln sl (f, a))) (hA : wm_nA cs ln sl f ≤ 8) (hL : L0.length + 8 ≤ 1023)
    (hp : ∀ goals : Nat → Int32, wm_sk goals (wm_nA cs ln sl f - fi + L0.length) = (wm_sg cs ln sl f fi).map (fun x => nI (wm_gp cs ln sl x)) ++ L0 → post (g_clauseCap, g_heapCap, g_frameCap, g_choiceCap, g_draftCount, g_clauses, g_queryCount, g_status, g_depth, g_choiceCount, g_solutions, g_steps, g_complete, g_compoundCount, g_equations, (nI (wm_nA cs ln sl f - fi + L0.length)), b_draft, b_clauseCodes, b_clauseLength, b_query, b_trace, b_choiceDepths, b_choiceNexts, b_code, b_link, b_compound, b_finite, b_left, b_right, goals, b_atomPlace, b_stack, b_seen)) :
    ∀ (i m : Nat) (g_goalCount : Int32) (b_goals : Nat → Int32), fi + i ≤ wm_nA cs ln sl f → i < m → g_goalCount = nI (wm_nA cs ln sl f - (fi + i) + L0.length) → wm_sk b_goals (wm_nA cs ln sl f - (fi + i) + L0.length) = (wm_sg cs ln sl f (fi + i)).map (fun x => nI (wm_gp cs ln sl x)) ++ L0 →
      wY_putGoals_4 post (nI fi) g_clauseCap g_heapCap g_frameCap g_choiceCap g_draftCount g_clauses g_queryCount g_status g_depth g_choiceCount g_solutions g_steps g_complete g_compoundCount g_equations m (nI (fi + i) + (-1)) g_goalCount b_draft b_clauseCodes b_clauseLength b_query b_trace b_choiceDepths b_choiceNexts b_code b_link b_compound b_finite b_left b_right b_goals b_atomPlace b_stack b_seen := by
  intro i
  induction i with
  | zero =>
    intro m g_goalCount b_goals a b hg hk
    obtain ⟨m, rfl⟩ : ∃ q, m = q + 1 := ⟨m - 1, by omega⟩
    subst hg
    exact br_t (wm_m1s (by omega)) (hp b_goals hk)
  | succ i ih =>
    intro m g_goalCount b_goals a b hg hk
    obtain ⟨m, rfl⟩ : ∃ q, m = q + 1 := ⟨m - 1, by omega⟩
    subst hg
    rw [show fi + (i + 1) = (fi + i) + 1 from rfl, pk_m1]
    have e : wm_nA cs ln sl f - (fi + i) + L0.length = wm_nA cs ln sl f - (fi + i + 1) + L0.length + 1 := by omega
    have hk : wm_sk b_goals (wm_nA cs ln sl f - (fi + i + 1) + L0.length) = (wm_sg cs ln sl f (fi + i + 1)).map (fun x => nI (wm_gp cs ln sl x)) ++ L0 := hk
    refine wm_ltF (fi + i) fi (by omega) (wm_leF 1024 (wm_nA cs ln sl f - (fi + i + 1) + L0.length) (by omega) (And.intro (pk_in (fi + i) 8 (by omega)) (And.intro (pk_in (wm_nA cs ln sl f - (fi + i + 1) + L0.length) 1024 (by omega)) (nm_r (wm_ux (wm_rx (hpl (fi + i) (by omega)))) (nm_r (nI_1 _) (nm_e (ih m _ _ (by omega) (by omega) ?_ ?_)))))))
    · rw [e]
    · rw [e, wm_sk_push, hk, wm_sg_cons (show fi + i < wm_nA cs ln sl f by omega)]
      rfl
theorem wy_putGoals {post : SY → Prop} {f fi : Nat} {x y : Int32} {L0 : List Int32} (hx : x = nI fi) (hy : y = nI (wm_nA cs ln sl f)) (hfi : fi ≤ wm_nA cs ln sl f) (h0 : 0 < wm_nA cs ln sl f) (hpl : ∀ a, a < wm_nA cs ln sl f → b_atomPlace a = nI (wm_gp cs ln sl (f, a))) (hA : wm_nA cs ln sl f ≤ 8) (hL : L0.length + 8 ≤ 1023)
    (hg : g_goalCount = nI L0.length) (hk : wm_sk b_goals L0.length = L0)
    (hp : ∀ goals : Nat → Int32, wm_sk goals (wm_nA cs ln sl f - fi + L0.length) = (wm_sg cs ln sl f fi).map (fun x => nI (wm_gp cs ln sl x)) ++ L0 → post (g_clauseCap, g_heapCap, g_frameCap, g_choiceCap, g_draftCount, g_clauses, g_queryCount, g_status, g_depth, g_choiceCount, g_solutions, g_steps, g_complete, g_compoundCount, g_equations, (nI (wm_nA cs ln sl f - fi + L0.length)), b_draft, b_clauseCodes, b_clauseLength, b_query, b_trace, b_choiceDepths, b_choiceNexts, b_code, b_link, b_compound, b_finite, b_left, b_right, goals, b_atomPlace, b_stack, b_seen)) : wpY_putGoals post (g_clauseCap, g_heapCap, g_frameCap, g_choiceCap, g_draftCount, g_clauses, g_queryCount, g_status, g_depth, g_choiceCount, g_solutions, g_steps, g_complete, g_compoundCount, g_equations, g_goalCount, b_draft, b_clauseCodes, b_clauseLength, b_query, b_trace, b_choiceDepths, b_choiceNexts, b_code, b_link, b_compound, b_finite, b_left, b_right, b_goals, b_atomPlace, b_stack, b_seen) x y := by
  subst hx hy
  have e0 : wm_nA cs ln sl f - (fi + (wm_nA cs ln sl f - fi)) + L0.length = L0.length := by omega
  refine nm_r (e' := nI (fi + (wm_nA cs ln sl f - fi)) + (-1)) ?_ ⟨wm_nA cs ln sl f - fi + 1, wy_putGoals_4 hpl hA hL hp (wm_nA cs ln sl f - fi) _ _ _ (by omega) (by omega) (by rw [e0]; exact hg) ?_⟩
  · rw [show fi + (wm_nA cs ln sl f - fi) = wm_nA cs ln sl f by omega]
    obtain ⟨q, hq⟩ : ∃ q, wm_nA cs ln sl f = q + 1 := ⟨wm_nA cs ln sl f - 1, by omega⟩
    rw [hq, nI_pred, pk_m1]
  · rw [e0, hk, wm_sg_nil (by omega)]; rfl
end
end
section
/-! the reference's build, whole -/
section
variable (cs : Nat → Nat → Nat) (ln sl : Nat → Nat) (D : Nat) (F : Nat → Nat) (G : Nat → Nat → Nat)
/-- what build rests on -/
def wm_BH (draftCount clauses queryCount : Int32) (draft clauseCodes clauseLength query trace : Nat → Int32) : Prop :=
  (D ≤ 128 ∧ wm_TO cs ln sl D ∧ wm_CP cs ln sl D F G ∧ wm_bs cs ln sl (D + 1) ≤ 272) ∧ (∀ a, a < wm_bs cs ln sl (D + 1) → ∀ k, k < wm_ar (F a) → G a k < wm_bs cs ln sl (D + 1)) ∧
  (∀ n, n < wm_bs cs ln sl (D + 1) → (F n < 80 ∨ F n = 128) ∧ (n < 16 → F n = n) ∧ (16 ≤ n → 16 ≤ F n)) ∧ wm_YS (-1) (cs (sl 0)) (ln (sl 0)) draftCount clauses queryCount draft clauseCodes clauseLength query ∧
  (∀ i, i < D → trace i = nI (sl (i + 1)) ∧ wm_YS (nI (sl (i + 1))) (cs (sl (i + 1))) (ln (sl (i + 1))) draftCount clauses queryCount draft clauseCodes clauseLength query)
/-- copies 0 to i are laid out -/
def wm_BI (i E cc : Nat) (code comp left right goals link : Nat → Int32) : Prop :=
  wm_YC cs ln sl i code ∧ wm_sk goals (wm_gl cs ln sl i).length = (wm_gl cs ln sl i).map (fun x => nI (wm_gp cs ln sl x)) ∧ (∀ n, n < 5160 → link n = -1) ∧
  (∃ el er : Nat → Nat, (∀ e, e < E → left e = nI (el e) ∧ right e = nI (er e) ∧ wm_vi cs ln sl D (el e) ∧ wm_vi cs ln sl D (er e)) ∧ (∀ x y, wm_qs cs ln sl i x y ↔ ∃ e, e < E ∧ wm_ph cs ln sl (el e) = x ∧ wm_ph cs ln sl (er e) = y)) ∧ E ≤ 4 * i ∧
  (∃ cp : Nat → Nat, cc ≤ 32 * (i + 1) ∧ (∀ e, e < cc → comp e = nI (cp e) ∧ wm_co cs ln sl i (cp e)) ∧ (∀ p, wm_co cs ln sl i p → ∃ e, e < cc ∧ cp e = p))
/-- the configuration that build leaves -/
def wm_YB (gc : Int32) (code link goals : Nat → Int32) : Prop :=
  wm_YC cs ln sl D code ∧ gc = nI (wm_gl cs ln sl D).length ∧ wm_sk goals (wm_gl cs ln sl D).length = (wm_gl cs ln sl D).map (fun x => nI (wm_gp cs ln sl x)) ∧ ∃ r δ ρ, wm_YR cs ln sl D F G r δ ρ link
def wm_BO (r : Int32) (gc : Int32) (code link goals : Nat → Int32) : Prop :=
  (r = 1 ∧ wm_YB cs ln sl D F G gc code link goals ∧ wm_Gd (wm_bs cs ln sl (D + 1)) F G (wm_qs cs ln sl D)) ∨ (r = 0 ∧ ¬ wm_Gd (wm_bs cs ln sl (D + 1)) F G (wm_qs cs ln sl D))
end
/-- the compounds behind a further copy -/
theorem wm_comp_ext {cs : Nat → Nat → Nat} {ln sl : Nat → Nat} {cc i : Nat} {cp : Nat → Nat} {comp comp' : Nat → Int32} (h32 : ln (sl i) ≤ 32) (hi : i ≤ 128)
    (h1 : ∀ e, e < cc → comp e = nI (cp e) ∧ cp e < 4128 ∧ ∃ j k, j < i ∧ k < ln (sl j) ∧ wm_ps (cs (sl j)) k = true ∧ cp e = 32 * j + k) (h2 : ∀ j k, j < i → k < ln (sl j) → wm_ps (cs (sl j)) k = true → ∃ e, e < cc ∧ cp e = 32 * j + k)
    (h3 : ∀ e, e < cc → comp' e = comp e) (h4 : ∀ k, k < ln (sl i) → wm_ps (cs (sl i)) k = true → comp' (cc + wm_st (cs (sl i)) k) = nI (32 * i + k)) :
    ∃ cp' : Nat → Nat, (∀ e, e < cc + wm_st (cs (sl i)) (ln (sl i)) → comp' e = nI (cp' e) ∧ wm_co cs ln sl i (cp' e)) ∧ (∀ p, wm_co cs ln sl i p → ∃ e, e < cc + wm_st (cs (sl i)) (ln (sl i)) ∧ cp' e = p) := by
  refine ⟨fun e => (comp' e).toNatClampNeg, fun e he => ?_, fun p hp => ?_⟩
  · show comp' e = nI (comp' e).toNatClampNeg ∧ wm_co cs ln sl i (comp' e).toNatClampNeg
    rcases Nat.lt_or_ge e cc with z | z
    · obtain ⟨a1, a2, j, k, a3, a4, a5, a6⟩ := h1 e z
      rw [h3 e z, a1, nI_clamp (by omega)]
      exact ⟨rfl, j, k, by omega, a4, a5, a6⟩
    · obtain ⟨k, b1, b2, b3⟩ := wm_cn_sur (P := wm_ps (cs (sl i))) (n := ln (sl i)) (m := e - cc) (by unfold wm_st at he; omega)
      have e1 : cc + wm_st (cs (sl i)) k = e := by unfold wm_st; omega
      have e2 := h4 k b1 b2
      rw [e1] at e2
      rw [e2, nI_clamp (by omega)]
      exact ⟨rfl, i, k, Nat.le_refl _, b1, b2, rfl⟩
  · obtain ⟨j, k, a1, a2, a3, rfl⟩ := hp
    show ∃ e, e < _ ∧ (comp' e).toNatClampNeg = _
    rcases Nat.lt_or_ge j i with z | z
    · obtain ⟨e, e1, e2⟩ := h2 j k z a2 a3
      obtain ⟨b1, b2, -⟩ := h1 e e1
      refine ⟨e, by omega, ?_⟩
      rw [h3 e e1, b1, nI_clamp (by omega)]; exact e2
    · have : j = i := by omega
      subst this
      refine ⟨cc + wm_st (cs (sl j)) k, ?_, ?_⟩
      · have : wm_st (cs (sl j)) k < wm_st (cs (sl j)) (ln (sl j)) := wm_cn_lt a3 a2
        omega
      · rw [h4 k a2 a3, nI_clamp (by omega)]
section
variable {g_clauseCap g_heapCap g_frameCap g_choiceCap g_draftCount g_clauses g_queryCount g_status g_depth g_choiceCount g_solutions g_steps g_complete g_compoundCount g_equations g_goalCount : Int32} {b_draft b_clauseCodes b_clauseLength b_query b_trace b_choiceDepths b_choiceNexts b_code b_link b_compound b_finite b_left b_right b_goals b_atomPlace b_stack b_seen : Nat → Int32}
variable {cs : Nat → Nat → Nat} {ln sl : Nat → Nat} {D : Nat} {F : Nat → Nat} {G : Nat → Nat → Nat}
theorem wy_build_155 {post : Int32 → SY → Prop} {E cc : Nat} (hH : wm_BH cs ln sl D F G g_draftCount g_clauses g_queryCount b_draft b_clauseCodes b_clauseLength b_query b_trace) (hg : g_goalCount = nI (wm_gl cs ln sl D).length) (hE : g_equations = nI E) (hcc : g_compoundCount = nI cc) (hI : wm_BI cs ln sl D D E cc b_code b_compound b_left b_right b_goals b_link)
    (hp : ∀ (r eq : Int32) (link fin left right : Nat → Int32), wm_BO cs ln sl D F G r g_goalCount b_code link b_goals → post r (g_clauseCap, g_heapCap, g_frameCap, g_choiceCap, g_draftCount, g_clauses, g_queryCount, g_status, g_depth, g_choiceCount, g_solutions, g_steps, g_complete, g_compoundCount, eq, g_goalCount, b_draft, b_clauseCodes, b_clauseLength, b_query, b_trace, b_choiceDepths, b_choiceNexts, b_code, link, b_compound, fin, left, right, b_goals, b_atomPlace, b_stack, b_seen)) :
    wY_build_155 post g_clauseCap g_heapCap g_frameCap g_choiceCap g_draftCount g_clauses g_queryCount g_status g_depth g_choiceCount g_solutions g_steps g_complete g_compoundCount g_equations g_goalCount b_draft b_clauseCodes b_clauseLength b_query b_trace b_choiceDepths b_choiceNexts b_code b_link b_compound b_finite b_left b_right b_goals b_atomPlace b_stack b_seen := by
  obtain ⟨⟨hD, hTO, hcp, hT⟩, hG, hf, -, -⟩ := hH
  have hW := hTO.1
  obtain ⟨i1, i2, i3, ⟨el, er, i4, i5⟩, i6, ⟨cp, i7, i8, i9⟩⟩ := hI
  have nb : narrow .boolean (.int (1 : Int32)) = .int 1 := rfl
  have nb0 : narrow .boolean (.int (0 : Int32)) = .int 0 := rfl
  unfold wY_build_155
  refine wy_solve (el := el) (er := er) hW hD hT hG hcp i1 hE i3 i4 i6 i5 (fun eq r δ ρ link left right hR => ?_) (fun eq link left right hn => ?_)
  · refine wm_eqF 1 0 (by omega) ?_
    refine wy_allFinite (cp := cp) (cc := cc) hW hD hcp hf i1 hR hcc ⟨by omega, i8, i9⟩ (fun fin hgd => And.intro nb (hp 1 eq link fin left right (Or.inl ⟨rfl, ⟨i1, hg, i2, r, δ, ρ, hR⟩, hgd⟩))) (fun fin hn => And.intro nb0 (hp 0 eq link fin left right (Or.inr ⟨rfl, hn⟩)))
  · exact wm_eqT 0 0 rfl (hp 0 eq link _ left right (Or.inr ⟨rfl, hn⟩))
theorem wy_build_52 {post : Int32 → SY → Prop} (hd : g_depth = nI D) (hH : wm_BH cs ln sl D F G g_draftCount g_clauses g_queryCount b_draft b_clauseCodes b_clauseLength b_query b_trace)
    (hp : ∀ (r eq cc gc : Int32) (code comp link fin left right goals place : Nat → Int32), wm_BO cs ln sl D F G r gc code link goals → post r (g_clauseCap, g_heapCap, g_frameCap, g_choiceCap, g_draftCount, g_clauses, g_queryCount, g_status, g_depth, g_choiceCount, g_solutions, g_steps, g_complete, cc, eq, gc, b_draft, b_clauseCodes, b_clauseLength, b_query, b_trace, b_choiceDepths, b_choiceNexts, code, link, comp, fin, left, right, goals, place, b_stack, b_seen)) :
    ∀ (m i E cc : Nat) (g_goalCount g_equations g_compoundCount : Int32) (b_code b_compound b_left b_right b_goals b_link b_atomPlace : Nat → Int32), D < m + i → i ≤ D → g_goalCount = nI (wm_gl cs ln sl i).length → g_equations = nI E → g_compoundCount = nI cc → wm_BI cs ln sl D i E cc b_code b_compound b_left b_right b_goals b_link →
      wY_build_52 post m (nI i) g_clauseCap g_heapCap g_frameCap g_choiceCap g_draftCount g_clauses g_queryCount g_status g_depth g_choiceCount g_solutions g_steps g_complete g_compoundCount g_equations g_goalCount b_draft b_clauseCodes b_clauseLength b_query b_trace b_choiceDepths b_choiceNexts b_code b_link b_compound b_finite b_left b_right b_goals b_atomPlace b_stack b_seen := by
  have hH' := hH
  obtain ⟨⟨hD, hTO, hcp, hT⟩, hG, hf, hq0, htr⟩ := hH'
  have hW := hTO.1
  intro m
  induction m with
  | zero => intro i E cc _ _ _ _ _ _ _ _ _ _ a b; omega
  | succ m ih =>
    intro i E cc g_goalCount g_equations g_compoundCount b_code b_compound b_left b_right b_goals b_link b_atomPlace a b hg hE hcc hI
    by_cases e : i = D
    · subst e
      exact wm_leT i i (Nat.le_refl _) (wy_build_155 hH hg hE hcc hI (fun r eq link fin left right ho => hp r eq _ _ _ _ link fin left right _ _ ho)) hd
    · obtain ⟨i1, i2, i3, ⟨el, er, i4, i5⟩, i6, ⟨cp, i7, i8, i9⟩⟩ := hI
      obtain ⟨f, j, g1, g2⟩ := hTO.2 i (by omega)
      obtain ⟨gf, gj, gk, go⟩ := wm_goal hTO (by omega : i ≤ D) g1
      obtain ⟨gs, hgl⟩ : ∃ gs, wm_gl cs ln sl i = (f, j) :: gs := by
        cases hh : wm_gl cs ln sl i with
        | nil => rw [hh] at g1; cases g1
        | cons x y => rw [hh] at g1; cases g1; exact ⟨y, rfl⟩
      have glen := wm_gl_len hW i b
      rw [hgl] at i2 glen hg
      rw [List.length_cons] at i2 glen hg
      rw [List.map_cons] at i2
      have i2a : b_goals gs.length = nI (wm_gp cs ln sl (f, j)) := by
        simp only [wm_sk] at i2
        exact (List.cons.inj i2).1
      have i2b : wm_sk b_goals gs.length = gs.map (fun x => nI (wm_gp cs ln sl x)) := by
        simp only [wm_sk] at i2
        exact (List.cons.inj i2).2
      have wf := hW f (by omega)
      have wi := hW (i + 1) (by omega)
      have f32 := wf.1.1
      have i32 := wi.1.1
      obtain ⟨t1, t2⟩ := htr i (by omega)
      have gpe : wm_gp cs ln sl (f, j) = 32 * f + wm_pq cs ln sl f j := rfl
      refine wm_leF D i (by omega) (wm_leF 128 i (by omega) (wm_eqF (gs.length + 1) 0 (by omega) (nm_r (e' := nI gs.length) (by rw [hg, nI_pred]) (And.intro (pk_in gs.length 1024 (by omega)) (nm_r (wm_rx i2a) (nm_r (e' := nI (32 * (i + 1))) (by rw [nI_1, show (32 : Int32) = nI 32 from rfl, pk_mul]) (And.intro (pk_in i 128 (by omega)) ?_))))) hg)) hd
      rw [wm_rx t1, nI_1]
      refine wy_layOut (j := i + 1) rfl t2 wi (by omega) i7 hcc (fun code place comp c1 c2 c3 c4 c5 => ?_)
      have yc : wm_YC cs ln sl (i + 1) code := fun q hq k hk => by
        rcases Nat.lt_or_ge i q with z | z
        · have : q = i + 1 := by omega
          subst this; exact c1 k hk
        · have q32 := (hW q (by omega)).1.1
          rw [c2 _ (by omega)]; exact i1 q z k hk
      have ecode : code (32 * f + wm_pq cs ln sl f j) = nI (cs (sl f) (wm_pq cs ln sl f j)) := yc f (by omega) _ gk
      have ehead : code (32 * (i + 1)) = nI (cs (sl (i + 1)) 0) := c1 0 wi.2.1
      refine And.intro (pk_in (32 * f + wm_pq cs ln sl f j) 4128 (by omega)) (And.intro (pk_in (32 * (i + 1)) 4128 (by omega)) ?_)
      refine wm_eqT (cs (sl f) (wm_pq cs ln sl f j)) (cs (sl (i + 1)) 0) g2 ?_ (wm_rx ecode) (wm_rx ehead)
      refine wy_equateArguments (C := cs (sl f)) (n := ln (sl f)) (d := f) (k := wm_pq cs ln sl f j) (C' := cs (sl (i + 1))) (n' := ln (sl (i + 1))) (d' := i + 1) (k' := 0) (E := E) wf wi (by omega) (by omega) (yc f (by omega)) (yc (i + 1) (Nat.le_refl _)) gk wi.2.1 g2 hE (by omega) rfl rfl (fun l rr y1 y2 => ?_)
      have na8 : wm_nA cs ln sl (i + 1) ≤ 8 := wi.1.2.2
      have na0 : 0 < wm_nA cs ln sl (i + 1) := wm_na_pos wi.2.1
      have gsl : (gs.map (fun x => nI (wm_gp cs ln sl x))).length = gs.length := List.length_map _
      refine wy_putGoals (f := i + 1) (fi := 1) (L0 := gs.map (fun x => nI (wm_gp cs ln sl x))) rfl rfl (by omega) na0 (fun a ha => c3 a ha) na8 (by omega) (by rw [gsl]) (by rw [gsl]; exact i2b) (fun goals hgo => nm_e ?_)
      have glS : wm_gl cs ln sl (i + 1) = wm_sg cs ln sl (i + 1) 1 ++ gs := by
        simp only [wm_gl, hgl, List.tail_cons]
      have glSl : (wm_gl cs ln sl (i + 1)).length = wm_nA cs ln sl (i + 1) - 1 + gs.length := by
        rw [glS, List.length_append]; unfold wm_sg; rw [wm_sc_len]
      have a4 := wm_ar4 (cs (sl f) (wm_pq cs ln sl f j))
      obtain ⟨cp', k1, k2⟩ := wm_comp_ext (cs := cs) (ln := ln) (sl := sl) (cc := cc) (i := i + 1) (cp := cp) (comp := b_compound) (comp' := comp) i32 (by omega) (fun e he => by
        obtain ⟨z1, z2⟩ := i8 e he
        have z3 := (wm_co_w (fun q hq => hW q (by omega)) (by omega : i ≤ 128) z2).1
        obtain ⟨jj, kk, q1, q2, q3, q4⟩ := z2
        exact ⟨z1, z3, jj, kk, by omega, q2, q3, q4⟩) (fun jj kk h1 h2 h3 => i9 _ ⟨jj, kk, by omega, h2, h3, rfl⟩) c4 c5
      have stle : wm_st (cs (sl (i + 1))) (ln (sl (i + 1))) ≤ ln (sl (i + 1)) := wm_cn_n _ _
      refine ih (i + 1) (E + wm_ar (cs (sl f) (wm_pq cs ln sl f j))) (cc + wm_st (cs (sl (i + 1))) (ln (sl (i + 1)))) _ _ _ _ _ _ _ _ _ _ (by omega) (by omega) ?_ rfl rfl ⟨yc, ?_, i3, ⟨fun e => if e < E then el e else wm_yi cs sl f (wm_aq cs ln sl f (wm_pq cs ln sl f j) (e - E)), fun e => if e < E then er e else wm_yi cs sl (i + 1) (wm_aq cs ln sl (i + 1) 0 (e - E)), fun e he => ?_, fun x y => ?_⟩, by omega, ⟨cp', by omega, k1, k2⟩⟩
      · rw [glSl, gsl]
      · rw [glSl, glS, List.map_append, ← gsl]; exact hgo
      · show l e = nI (if e < E then el e else wm_yi cs sl f (wm_aq cs ln sl f (wm_pq cs ln sl f j) (e - E))) ∧ rr e = nI (if e < E then er e else wm_yi cs sl (i + 1) (wm_aq cs ln sl (i + 1) 0 (e - E))) ∧ wm_vi cs ln sl D (if e < E then el e else wm_yi cs sl f (wm_aq cs ln sl f (wm_pq cs ln sl f j) (e - E))) ∧ wm_vi cs ln sl D (if e < E then er e else wm_yi cs sl (i + 1) (wm_aq cs ln sl (i + 1) 0 (e - E)))
        by_cases c : e < E
        · rw [if_pos c, if_pos c, (y2 e c).1, (y2 e c).2]; exact i4 e c
        · rw [if_neg c, if_neg c]
          obtain ⟨w1, w2⟩ := y1 (e - E) (by omega)
          rw [show E + (e - E) = e by omega] at w1 w2
          obtain ⟨p1, p2, p3⟩ := wm_ap_lt wf.2.2 gk (show e - E < wm_ar (cs (sl f) (wm_pq cs ln sl f j)) by omega)
          obtain ⟨q1, q2, q3⟩ := wm_ap_lt wi.2.2 wi.2.1 (show e - E < wm_ar (cs (sl (i + 1)) 0) by rw [← g2]; omega)
          exact ⟨w1, w2, (wm_yi_ok hW hD (by omega) p2 p3).1, (wm_yi_ok hW hD (by omega) q2 q3).1⟩
      · rw [wm_qs_s]
        constructor
        · rintro (h | h)
          · obtain ⟨e, e1, e2, e3⟩ := (i5 x y).mp h
            refine ⟨e, by omega, ?_, ?_⟩
            · show wm_ph cs ln sl (if e < E then el e else _) = x
              rw [if_pos e1]; exact e2
            · show wm_ph cs ln sl (if e < E then er e else _) = y
              rw [if_pos e1]; exact e3
          · obtain ⟨f', j', h0, k, h1, h2, h3⟩ := h
            rw [g1] at h0
            cases h0
            obtain ⟨p1, p2, p3⟩ := wm_ap_lt wf.2.2 gk (show k < wm_ar (cs (sl f) (wm_pq cs ln sl f j)) by rw [g2]; exact h1)
            obtain ⟨q1, q2, q3⟩ := wm_ap_lt wi.2.2 wi.2.1 h1
            refine ⟨E + k, by rw [g2]; omega, ?_, ?_⟩
            · show wm_ph cs ln sl (if E + k < E then el (E + k) else wm_yi cs sl f (wm_aq cs ln sl f (wm_pq cs ln sl f j) (E + k - E))) = x
              rw [if_neg (by omega), Nat.add_sub_cancel_left, h2]
              exact (wm_yi_ok hW hD (by omega) p2 p3).2
            · show wm_ph cs ln sl (if E + k < E then er (E + k) else wm_yi cs sl (i + 1) (wm_aq cs ln sl (i + 1) 0 (E + k - E))) = y
              rw [if_neg (by omega), Nat.add_sub_cancel_left, h3]
              exact (wm_yi_ok hW hD (by omega) q2 q3).2
        · rintro ⟨e, e1, e2, e3⟩
          have e2' : wm_ph cs ln sl (if e < E then el e else wm_yi cs sl f (wm_aq cs ln sl f (wm_pq cs ln sl f j) (e - E))) = x := e2
          have e3' : wm_ph cs ln sl (if e < E then er e else wm_yi cs sl (i + 1) (wm_aq cs ln sl (i + 1) 0 (e - E))) = y := e3
          by_cases c : e < E
          · rw [if_pos c] at e2' e3'
            exact Or.inl ((i5 x y).mpr ⟨e, c, e2', e3'⟩)
          · rw [if_neg c] at e2' e3'
            have hk : e - E < wm_ar (cs (sl (i + 1)) 0) := by rw [← g2]; omega
            obtain ⟨p1, p2, p3⟩ := wm_ap_lt wf.2.2 gk (show e - E < wm_ar (cs (sl f) (wm_pq cs ln sl f j)) by omega)
            obtain ⟨q1, q2, q3⟩ := wm_ap_lt wi.2.2 wi.2.1 hk
            refine Or.inr ⟨f, j, g1, e - E, hk, ?_, ?_⟩
            · rw [← e2']; exact (wm_yi_ok hW hD (by omega) p2 p3).2
            · rw [← e3']; exact (wm_yi_ok hW hD (by omega) q2 q3).2
theorem wy_build_2 {post : Int32 → SY → Prop} (hd : g_depth = nI D) (hH : wm_BH cs ln sl D F G g_draftCount g_clauses g_queryCount b_draft b_clauseCodes b_clauseLength b_query b_trace)
    (hp : ∀ (r eq cc gc : Int32) (code comp link fin left right goals place : Nat → Int32), wm_BO cs ln sl D F G r gc code link goals → post r (g_clauseCap, g_heapCap, g_frameCap, g_choiceCap, g_draftCount, g_clauses, g_queryCount, g_status, g_depth, g_choiceCount, g_solutions, g_steps, g_complete, cc, eq, gc, b_draft, b_clauseCodes, b_clauseLength, b_query, b_trace, b_choiceDepths, b_choiceNexts, code, link, comp, fin, left, right, goals, place, b_stack, b_seen)) :
    ∀ (m i : Nat) (b_link : Nat → Int32), i ≤ 5160 → 5160 < m + i → (∀ n, n < i → b_link n = -1) → wY_build_2 post g_clauseCap g_heapCap g_frameCap g_choiceCap g_draftCount g_clauses g_queryCount g_status g_depth g_choiceCount g_solutions g_steps g_complete g_compoundCount g_equations g_goalCount m (nI i) b_draft b_clauseCodes b_clauseLength b_query b_trace b_choiceDepths b_choiceNexts b_code b_link b_compound b_finite b_left b_right b_goals b_atomPlace b_stack b_seen := by
  have hH' := hH
  obtain ⟨⟨hD, hTO, hcp, hT⟩, hG, hf, hq0, htr⟩ := hH'
  have hW := hTO.1
  have w0 := hW 0 (Nat.zero_le _)
  have w32 := w0.1.1
  intro m
  induction m with
  | zero => intro i _ a b; omega
  | succ m ih =>
    intro i b_link a b hl
    by_cases e : i = 5160
    · subst e
      refine wm_leT 5160 5160 (Nat.le_refl _) (wy_layOut (j := 0) (cc := 0) rfl hq0 w0 (by omega) (by omega) rfl (fun code place comp c1 c2 c3 c4 c5 => ?_))
      have na8 : wm_nA cs ln sl 0 ≤ 8 := w0.1.2.2
      have na0 : 0 < wm_nA cs ln sl 0 := wm_na_pos w0.2.1
      refine wy_putGoals (f := 0) (fi := 0) (L0 := []) rfl rfl (by omega) na0 (fun a ha => c3 a ha) na8 (by show 0 + 8 ≤ 1023; omega) rfl rfl (fun goals hgo => ⟨D + 1, ?_⟩)
      obtain ⟨cp', k1, k2⟩ := wm_comp_ext (cs := cs) (ln := ln) (sl := sl) (cc := 0) (i := 0) (cp := fun _ => 0) (comp := b_compound) (comp' := comp) w32 (by omega) (fun e he => by omega) (fun jj kk h1 => by omega) (fun e he => by omega) c5
      have stle : wm_st (cs (sl 0)) (ln (sl 0)) ≤ ln (sl 0) := wm_cn_n _ _
      have glSl : (wm_gl cs ln sl 0).length = wm_nA cs ln sl 0 - 0 + 0 := by
        simp only [wm_gl, wm_sg, wm_sc_len]; omega
      refine wy_build_52 (i := 0) hd hH hp (D + 1) 0 (0 + wm_st (cs (sl 0)) (ln (sl 0))) _ _ _ _ _ _ _ _ _ _ (by omega) (Nat.zero_le _) (by rw [glSl]; rfl) rfl rfl ⟨fun q hq k hk => ?_, ?_, hl, ⟨fun _ => 0, fun _ => 0, fun e he => by omega, fun x y => ⟨fun ⟨q, hq, _⟩ => by omega, fun ⟨q, hq, _⟩ => by omega⟩⟩, by omega, ⟨cp', by omega, k1, k2⟩⟩
      · have : q = 0 := by omega
        subst this; exact c1 k hk
      · rw [glSl]
        have := hgo
        rw [List.append_nil] at this
        exact this
    · refine wm_leF 5160 i (by omega) (And.intro (pk_in i 5160 (by omega)) (nm_r (wm_ux rfl) (nm_r (nI_1 i) (ih (i + 1) _ (by omega) (by omega) (fun n hn => ?_)))))
      by_cases c : n = i
      · subst c; exact pk_us
      · rw [pk_un c]; exact hl n (by omega)
theorem wy_build {post : Int32 → SY → Prop} (hd : g_depth = nI D) (hH : wm_BH cs ln sl D F G g_draftCount g_clauses g_queryCount b_draft b_clauseCodes b_clauseLength b_query b_trace)
    (hp : ∀ (r eq cc gc : Int32) (code comp link fin left right goals place : Nat → Int32), wm_BO cs ln sl D F G r gc code link goals → post r (g_clauseCap, g_heapCap, g_frameCap, g_choiceCap, g_draftCount, g_clauses, g_queryCount, g_status, g_depth, g_choiceCount, g_solutions, g_steps, g_complete, cc, eq, gc, b_draft, b_clauseCodes, b_clauseLength, b_query, b_trace, b_choiceDepths, b_choiceNexts, code, link, comp, fin, left, right, goals, place, b_stack, b_seen)) : wpY_build post (g_clauseCap, g_heapCap, g_frameCap, g_choiceCap, g_draftCount, g_clauses, g_queryCount, g_status, g_depth, g_choiceCount, g_solutions, g_steps, g_complete, g_compoundCount, g_equations, g_goalCount, b_draft, b_clauseCodes, b_clauseLength, b_query, b_trace, b_choiceDepths, b_choiceNexts, b_code, b_link, b_compound, b_finite, b_left, b_right, b_goals, b_atomPlace, b_stack, b_seen) :=
  ⟨5161, wy_build_2 (i := 0) hd hH hp 5161 _ (by omega) (by omega) (fun n hn => by omega)⟩
end
end
section
/-! the reference's candidates and heap -/
section
variable {g_clauseCap g_heapCap g_frameCap g_choiceCap g_draftCount g_clauses g_queryCount g_status g_depth g_choiceCount g_solutions g_steps g_complete g_compoundCount g_equations g_goalCount : Int32} {b_draft b_clauseCodes b_clauseLength b_query b_trace b_choiceDepths b_choiceNexts b_code b_link b_compound b_finite b_left b_right b_goals b_atomPlace b_stack b_seen : Nat → Int32}
variable {cs : Nat → Nat → Nat} {ln sl : Nat → Nat} {D m : Nat} {F : Nat → Nat} {G : Nat → Nat → Nat} {r δ ρ : Nat → Nat}
/-- the clauses in the reference -/
def wm_YP (m : Nat) (cs : Nat → Nat → Nat) (ln : Nat → Nat) (clauseCodes clauseLength : Nat → Int32) : Prop :=
  m ≤ 32 ∧ ∀ c, c < m → wm_WC (cs c) (ln c) ∧ clauseLength c = nI (ln c) ∧ ∀ k, k < ln c → clauseCodes (32 * c + k) = nI (cs c k)
theorem wm_YP_YS {dcnt qc cl : Int32} {dr cC cL qu : Nat → Int32} {c : Nat} (h : wm_YP m cs ln cC cL) (hcl : cl = nI m) (hc : c < m) : wm_YS (nI c) (cs c) (ln c) dcnt cl qc dr cC cL qu :=
  ⟨(h.2 c hc).1.1.1, Or.inr (Or.inr ⟨c, m, rfl, hc, h.1, hcl, (h.2 c hc).2.1, (h.2 c hc).2.2⟩)⟩
theorem wy_candidate {post : Int32 → Prop} {f j c : Nat} {x : Int32} (hx : x = nI c) (hc : c < m) (hcl : g_clauses = nI m) (hP : wm_YP m cs ln b_clauseCodes b_clauseLength) (hT : wm_TO cs ln sl D) (hD : D ≤ 128) (hcp : wm_CP cs ln sl D F G) (hyc : wm_YC cs ln sl D b_code) (hR : wm_YR cs ln sl D F G r δ ρ b_link)
    (hg : g_goalCount = nI (wm_gl cs ln sl D).length) (hk : wm_sk b_goals (wm_gl cs ln sl D).length = (wm_gl cs ln sl D).map (fun x => nI (wm_gp cs ln sl x))) (hh : (wm_gl cs ln sl D).head? = some (f, j))
    (h1 : wm_cd cs (cs (sl f) (wm_pq cs ln sl f j)) (wm_gk F ρ (cs (sl f) (wm_pq cs ln sl f j)) (wm_nc cs ln sl f (wm_aq cs ln sl f (wm_pq cs ln sl f j) 0))) c = true → post 1)
    (h0 : ¬ wm_cd cs (cs (sl f) (wm_pq cs ln sl f j)) (wm_gk F ρ (cs (sl f) (wm_pq cs ln sl f j)) (wm_nc cs ln sl f (wm_aq cs ln sl f (wm_pq cs ln sl f j) 0))) c = true → post 0) : wpY_candidate post (g_clauseCap, g_heapCap, g_frameCap, g_choiceCap, g_draftCount, g_clauses, g_queryCount, g_status, g_depth, g_choiceCount, g_solutions, g_steps, g_complete, g_compoundCount, g_equations, g_goalCount, b_draft, b_clauseCodes, b_clauseLength, b_query, b_trace, b_choiceDepths, b_choiceNexts, b_code, b_link, b_compound, b_finite, b_left, b_right, b_goals, b_atomPlace, b_stack, b_seen) x := by
  subst hx
  have hW := hT.1
  obtain ⟨gf, gj, gk, go⟩ := wm_goal hT (Nat.le_refl _) hh
  have glen := wm_gl_len hW D (Nat.le_refl _)
  obtain ⟨gs, hgl⟩ : ∃ gs, wm_gl cs ln sl D = (f, j) :: gs := by
    cases hz : wm_gl cs ln sl D with
    | nil => rw [hz] at hh; cases hh
    | cons x y => rw [hz] at hh; cases hh; exact ⟨y, rfl⟩
  rw [hgl] at hg hk glen
  rw [List.length_cons] at hg hk glen
  rw [List.map_cons] at hk
  have hka : b_goals gs.length = nI (wm_gp cs ln sl (f, j)) := by
    simp only [wm_sk] at hk
    exact (List.cons.inj hk).1
  have gpe : wm_gp cs ln sl (f, j) = 32 * f + wm_pq cs ln sl f j := rfl
  have wf := hW f gf
  have f32 := wf.1.1
  have wc := (hP.2 c hc).1
  have ys := wm_YP_YS (dcnt := g_draftCount) (qc := g_queryCount) (dr := b_draft) (qu := b_query) hP hcl hc
  have eg : g_goalCount - 1 = nI gs.length := by rw [hg, nI_pred]
  have ecode : b_code (32 * f + wm_pq cs ln sl f j) = nI (cs (sl f) (wm_pq cs ln sl f j)) := hyc f gf _ gk
  have p80 : cs (sl f) (wm_pq cs ln sl f j) < 80 := (wf.1.2.1 _ gk).2 go
  have c0ok := (wc.1.2.1 0 wc.2.1).1
  have c0b : cs c 0 < 2 ^ 31 := by unfold wm_ok at c0ok; omega
  refine wm_ltT 0 (gs.length + 1) (by omega) (And.intro (pk_in gs.length 1024 (by omega) eg) (nm_r (wm_rx hka eg) (wy_source ys rfl wc.2.1 (And.intro (pk_in (32 * f + wm_pq cs ln sl f j) 4128 (by omega)) ?_)))) rfl hg
  refine pk_eq (cs c 0) (cs (sl f) (wm_pq cs ln sl f j)) (fun e => ?_) (fun e => h0 (by simp only [wm_cd, decide_eq_true_eq]; exact fun z => e z.1)) rfl (wm_rx ecode) c0b
  refine wy_ar (cs c 0) c0ok rfl ?_
  rw [e]
  have a4 := wm_ar4 (cs (sl f) (wm_pq cs ln sl f j))
  by_cases za : wm_ar (cs (sl f) (wm_pq cs ln sl f j)) = 0
  · refine wm_eqT _ 0 za (h1 ?_)
    simp only [wm_cd, decide_eq_true_eq]
    refine ⟨e, Or.inl ?_⟩
    unfold wm_gk; rw [if_pos za]; exact wm_m1lt
  · refine wm_eqF (wm_ar (cs (sl f) (wm_pq cs ln sl f j))) 0 za ?_
    obtain ⟨p1, p2, p3⟩ := wm_ap_lt (k := 0) wf.2.2 gk (by omega)
    obtain ⟨y1, y2⟩ := wm_yi_ok hW hD gf p2 p3
    obtain ⟨u1, u2, u3, u4⟩ := hR
    have y1' : wm_vi cs ln sl D (wm_yi cs sl f (wm_aq cs ln sl f (wm_pq cs ln sl f j) 0)) := y1
    obtain ⟨v1, v2⟩ := u3 _ y1'
    have dl := u2.1 (wm_yi cs sl f (wm_aq cs ln sl f (wm_pq cs ln sl f j) 0))
    have y2' : wm_ph cs ln sl (wm_yi cs sl f (wm_aq cs ln sl f (wm_pq cs ln sl f j) 0)) = wm_nc cs ln sl f (wm_aq cs ln sl f (wm_pq cs ln sl f j) 0) := y2
    rw [y2'] at v2
    have eK : wm_gk F ρ (cs (sl f) (wm_pq cs ln sl f j)) (wm_nc cs ln sl f (wm_aq cs ln sl f (wm_pq cs ln sl f j) 0)) = wm_fI (F (wm_ph cs ln sl (r (wm_yi cs sl f (wm_aq cs ln sl f (wm_pq cs ln sl f j) 0))))) := by
      unfold wm_gk; rw [if_neg za, v2]
    refine wy_idAt (k := wm_pq cs ln sl f j + 1) wf.1 (by omega) (hyc f gf) p2 (nI_1 _) (wy_find (n := wm_yi cs sl f (wm_aq cs ln sl f (wm_pq cs ln sl f j) 0)) u1 (wm_vi_lt hW hD y1').1 (by omega) rfl ?_)
    rcases wm_vi_F hW hD hcp v1 with ⟨b1, jj, q, b2, b3, b4, b5, b6, b7, b8, b9, b10⟩ | ⟨b1, b2, b3, b4⟩
    · have cb : b_code (r (wm_yi cs sl f (wm_aq cs ln sl f (wm_pq cs ln sl f j) 0))) = nI (cs (sl jj) q) := by rw [b4]; exact hyc jj b2 q b3
      rw [b6, wm_fI_t b7] at eK
      obtain ⟨q1, q2, q3⟩ := wm_ap_lt (k := 0) wc.2.2 wc.2.1 (show 0 < wm_ar (cs c 0) by rw [e]; omega)
      have q2' : 1 < ln c := q2
      have ok1 := (wc.1.2.1 1 q2').1
      refine wm_ltT (r (wm_yi cs sl f (wm_aq cs ln sl f (wm_pq cs ln sl f j) 0))) 4128 b1 (wy_source ys rfl q2' ?_)
      rcases Nat.lt_or_ge (cs c 1) 128 with z | z
      · have ekey : wm_key (cs c) = nI (cs c 1) := by unfold wm_key; rw [if_pos ⟨by rw [e]; omega, z⟩]
        refine wm_ltT (cs c 1) 128 z (And.intro (pk_in (r (wm_yi cs sl f (wm_aq cs ln sl f (wm_pq cs ln sl f j) 0))) 4128 b1) ?_)
        refine pk_eq (cs c 1) (cs (sl jj) q) (fun e1 => h1 ?_) (fun e1 => h0 ?_) rfl (wm_rx cb)
        · simp only [wm_cd, decide_eq_true_eq, eK, ekey]
          exact ⟨e, Or.inr (Or.inr (by rw [e1]))⟩
        · simp only [wm_cd, decide_eq_true_eq, eK, ekey]
          rintro ⟨-, h | h | h⟩
          · exact nI_pos (by omega) h
          · exact nI_pos (by omega) h
          · exact e1 ((nI_eq (by omega) (by omega)).mp h).symm
      · unfold wm_ok at ok1
        refine wm_ltF (cs c 1) 128 z (h1 ?_)
        simp only [wm_cd, decide_eq_true_eq]
        refine ⟨e, Or.inr (Or.inl ?_)⟩
        unfold wm_key; rw [if_neg (by omega)]; exact wm_m1lt
    · refine wm_ltF (r (wm_yi cs sl f (wm_aq cs ln sl f (wm_pq cs ln sl f j) 0))) 4128 b1 (h1 ?_)
      simp only [wm_cd, decide_eq_true_eq]
      refine ⟨e, Or.inl ?_⟩
      rw [eK, b3, wm_fI_v (by omega)]; exact wm_m1lt
theorem wy_lc_2 {post : Int32 → Prop} {f j : Nat} (hcl : g_clauses = nI m) (hP : wm_YP m cs ln b_clauseCodes b_clauseLength) (hT : wm_TO cs ln sl D) (hD : D ≤ 128) (hcp : wm_CP cs ln sl D F G) (hyc : wm_YC cs ln sl D b_code) (hR : wm_YR cs ln sl D F G r δ ρ b_link)
    (hg : g_goalCount = nI (wm_gl cs ln sl D).length) (hk : wm_sk b_goals (wm_gl cs ln sl D).length = (wm_gl cs ln sl D).map (fun x => nI (wm_gp cs ln sl x))) (hh : (wm_gl cs ln sl D).head? = some (f, j)) :
    ∀ n c k : Nat, m - c < n → m - c = k → c ≤ 33 → post (wm_lf (wm_cd cs (cs (sl f) (wm_pq cs ln sl f j)) (wm_gk F ρ (cs (sl f) (wm_pq cs ln sl f j)) (wm_nc cs ln sl f (wm_aq cs ln sl f (wm_pq cs ln sl f j) 0)))) k c) → wY_leastCandidate_2 post g_clauseCap g_heapCap g_frameCap g_choiceCap g_draftCount g_clauses g_queryCount g_status g_depth g_choiceCount g_solutions g_steps g_complete g_compoundCount g_equations g_goalCount b_draft b_clauseCodes b_clauseLength b_query b_trace b_choiceDepths b_choiceNexts b_code b_link b_compound b_finite b_left b_right b_goals b_atomPlace b_stack b_seen n (nI c) := by
  have hm := hP.1
  intro n
  induction n with
  | zero => intro c k h; omega
  | succ n ih =>
    intro c k hn hk' h33 hp
    rcases Nat.lt_or_ge c m with z | z
    · obtain ⟨k', rfl⟩ : ∃ k', k = k' + 1 := ⟨k - 1, by omega⟩
      refine wm_leF m c z (wy_candidate rfl z hcl hP hT hD hcp hyc hR hg hk hh (fun h => ?_) (fun h => ?_)) hcl
      · simp only [wm_lf, if_pos h] at hp
        exact wm_eqF 1 0 (by omega) hp
      · simp only [wm_lf, if_neg h] at hp
        exact wm_eqT 0 0 rfl (nm_r (nI_1 c) (ih (c + 1) k' (by omega) (by omega) (by omega) hp))
    · have : k = 0 := by omega
      subst this
      exact wm_leT m c z hp hcl
theorem wy_leastCandidate {post : Int32 → Prop} {f j c : Nat} {x : Int32} (hx : x = nI c) (hc : c ≤ 33) (hcl : g_clauses = nI m) (hP : wm_YP m cs ln b_clauseCodes b_clauseLength) (hT : wm_TO cs ln sl D) (hD : D ≤ 128) (hcp : wm_CP cs ln sl D F G) (hyc : wm_YC cs ln sl D b_code) (hR : wm_YR cs ln sl D F G r δ ρ b_link)
    (hg : g_goalCount = nI (wm_gl cs ln sl D).length) (hk : wm_sk b_goals (wm_gl cs ln sl D).length = (wm_gl cs ln sl D).map (fun x => nI (wm_gp cs ln sl x))) (hh : (wm_gl cs ln sl D).head? = some (f, j))
    (hp : post (wm_lf (wm_cd cs (cs (sl f) (wm_pq cs ln sl f j)) (wm_gk F ρ (cs (sl f) (wm_pq cs ln sl f j)) (wm_nc cs ln sl f (wm_aq cs ln sl f (wm_pq cs ln sl f j) 0)))) (m - c) c)) : wpY_leastCandidate post (g_clauseCap, g_heapCap, g_frameCap, g_choiceCap, g_draftCount, g_clauses, g_queryCount, g_status, g_depth, g_choiceCount, g_solutions, g_steps, g_complete, g_compoundCount, g_equations, g_goalCount, b_draft, b_clauseCodes, b_clauseLength, b_query, b_trace, b_choiceDepths, b_choiceNexts, b_code, b_link, b_compound, b_finite, b_left, b_right, b_goals, b_atomPlace, b_stack, b_seen) x := by
  subst hx
  exact ⟨m - c + 1, wy_lc_2 hcl hP hT hD hcp hyc hR hg hk hh _ _ _ (by omega) rfl hc hp⟩
theorem wy_heapUsed_25 {post : Int32 → Prop} (hd : g_depth = nI D) (hD : D ≤ 128) (hW : ∀ j, j ≤ D → wm_WC (cs (sl j)) (ln (sl j))) (htr : ∀ i, i < D → b_trace i = nI (sl (i + 1)) ∧ wm_YS (nI (sl (i + 1))) (cs (sl (i + 1))) (ln (sl (i + 1))) g_draftCount g_clauses g_queryCount b_draft b_clauseCodes b_clauseLength b_query)
    (hp : post (nI (wm_hp cs ln sl D))) : ∀ n i : Nat, i ≤ D → D < n + i → wY_heapUsed_25 post g_clauseCap g_heapCap g_frameCap g_choiceCap g_draftCount g_clauses g_queryCount g_status g_depth g_choiceCount g_solutions g_steps g_complete g_compoundCount g_equations g_goalCount b_draft b_clauseCodes b_clauseLength b_query b_trace b_choiceDepths b_choiceNexts b_code b_link b_compound b_finite b_left b_right b_goals b_atomPlace b_stack b_seen n (nI (wm_hp cs ln sl i)) (nI i) := by
  intro n
  induction n with
  | zero => intro i a b; omega
  | succ n ih =>
    intro i a b
    by_cases e : i = D
    · subst e; exact wm_leT i i (Nat.le_refl _) hp hd
    · obtain ⟨t1, t2⟩ := htr i (by omega)
      refine wm_leF D i (by omega) (wm_leF 128 i (by omega) (And.intro (pk_in i 128 (by omega)) ?_)) hd
      rw [wm_rx t1]
      exact wy_weight t2 (fun k hk => ((hW (i + 1) (by omega)).1.2.1 k hk).1) (nm_r (e' := nI (wm_hp cs ln sl (i + 1))) (by rw [nI_add]; rfl) (nm_r (nI_1 i) (ih (i + 1) (by omega) (by omega))))
theorem wy_heapUsed {post : Int32 → Prop} (hs0 : ¬ g_status = 0) (hs3 : ¬ g_status = 3) (hd : g_depth = nI D) (hD : D ≤ 128) (hW : ∀ j, j ≤ D → wm_WC (cs (sl j)) (ln (sl j))) (hq : wm_YS (-1) (cs (sl 0)) (ln (sl 0)) g_draftCount g_clauses g_queryCount b_draft b_clauseCodes b_clauseLength b_query)
    (htr : ∀ i, i < D → b_trace i = nI (sl (i + 1)) ∧ wm_YS (nI (sl (i + 1))) (cs (sl (i + 1))) (ln (sl (i + 1))) g_draftCount g_clauses g_queryCount b_draft b_clauseCodes b_clauseLength b_query)
    (hp : post (nI (wm_hp cs ln sl D))) : wpY_heapUsed post (g_clauseCap, g_heapCap, g_frameCap, g_choiceCap, g_draftCount, g_clauses, g_queryCount, g_status, g_depth, g_choiceCount, g_solutions, g_steps, g_complete, g_compoundCount, g_equations, g_goalCount, b_draft, b_clauseCodes, b_clauseLength, b_query, b_trace, b_choiceDepths, b_choiceNexts, b_code, b_link, b_compound, b_finite, b_left, b_right, b_goals, b_atomPlace, b_stack, b_seen) := by
  refine br_f hs0 (br_f hs3 (wy_weight hq (fun k hk => ((hW 0 (Nat.zero_le _)).1.2.1 k hk).1) ⟨D + 1, wy_heapUsed_25 (i := 0) hd hD hW htr hp _ (Nat.zero_le _) (by omega)⟩))
end
end
section
/-! pure: the writing of terms -/
def wm_ix (m : Nat) : List Nat → Nat
  | [] => 0
  | x :: l => if x = m then 0 else wm_ix m l + 1
def wm_as (F : Nat → Nat) (G : Nat → Nat → Nat) (m : Nat) : Nat → Nat → List Nat
  | _, 0 => []
  | k, c + 1 => G m k :: wm_as F G m (k + 1) c
/-- the arguments of node m -/
def wm_args (F : Nat → Nat) (G : Nat → Nat → Nat) (m : Nat) : List Nat := wm_as F G m 0 (wm_ar (F m))
def wm_seen (seen : List Nat) (m : Nat) : List Nat := if wm_ix m seen < seen.length then seen else seen ++ [m]
/-- at most n tokens from the stack s, the variables of seen having been named -/
def wm_wr (F : Nat → Nat) (G : Nat → Nat → Nat) (ρ : Nat → Nat) : Nat → List Nat → List Nat → List Nat
  | 0, _, _ => []
  | _ + 1, [], _ => []
  | n + 1, x :: s, seen => if F (ρ x) < 80 then F (ρ x) :: wm_wr F G ρ n (wm_args F G (ρ x) ++ s) seen else (128 + wm_ix (ρ x) seen) :: wm_wr F G ρ n s (wm_seen seen (ρ x))
def wm_tk : List Nat → Nat → Int32
  | [], _ => -1
  | t :: _, 0 => nI t
  | _ :: l, i + 1 => wm_tk l i
theorem wm_ix_le {m : Nat} : ∀ {l : List Nat}, wm_ix m l ≤ l.length
  | [] => Nat.le_refl _
  | x :: l => by
    simp only [wm_ix, List.length_cons]
    split
    · omega
    · have := wm_ix_le (m := m) (l := l); omega
theorem wm_ix_in {m : Nat} : ∀ {l : List Nat}, wm_ix m l < l.length → l[wm_ix m l]? = some m
  | [], h => by simp [wm_ix] at h
  | x :: l, h => by
    by_cases c : x = m
    · subst c; simp [wm_ix]
    · simp only [wm_ix, if_neg c, List.length_cons] at h ⊢
      rw [List.getElem?_cons_succ]
      exact wm_ix_in (by omega)
theorem wm_ix_not {m : Nat} : ∀ {l : List Nat}, ¬ wm_ix m l < l.length → m ∉ l
  | [], _ => by simp
  | x :: l, h => by
    by_cases c : x = m
    · subst c; simp [wm_ix] at h
    · simp only [wm_ix, if_neg c, List.length_cons] at h
      have := wm_ix_not (m := m) (l := l) (by omega)
      simp only [List.mem_cons]
      rintro (z | z)
      · exact c z.symm
      · exact this z
theorem wm_ix_app {m x : Nat} : ∀ {l : List Nat}, wm_ix m (l ++ [x]) = if wm_ix m l < l.length then wm_ix m l else if x = m then l.length else l.length + 1
  | [] => by
    simp only [wm_ix, List.nil_append, List.length_nil]
    by_cases c : x = m <;> simp [c]
  | y :: l => by
    by_cases c : y = m
    · simp [wm_ix, c]
    · have ih := wm_ix_app (m := m) (x := x) (l := l)
      simp only [wm_ix, if_neg c, List.cons_append, List.length_cons, ih]
      by_cases d : wm_ix m l < l.length
      · rw [if_pos d, if_pos (by omega : wm_ix m l + 1 < l.length + 1)]
      · rw [if_neg d, if_neg (by omega : ¬ wm_ix m l + 1 < l.length + 1)]
        by_cases c2 : x = m
        · rw [if_pos c2, if_pos c2]
        · rw [if_neg c2, if_neg c2]
theorem wm_ix_map {f : Nat → Nat} {m : Nat} : ∀ {l : List Nat}, (∀ a, a ∈ l → f a = f m → a = m) → wm_ix (f m) (l.map f) = wm_ix m l
  | [], _ => rfl
  | x :: l, h => by
    have ih := wm_ix_map (f := f) (m := m) (l := l) (fun a ha => h a (List.mem_cons_of_mem _ ha))
    simp only [wm_ix, List.map_cons, ih]
    by_cases c : x = m
    · rw [if_pos c, if_pos (by rw [c])]
    · rw [if_neg c, if_neg (fun z => c (h x List.mem_cons_self z))]
theorem wm_as_len {F : Nat → Nat} {G : Nat → Nat → Nat} {m : Nat} : ∀ {c k : Nat}, (wm_as F G m k c).length = c
  | 0, _ => rfl
  | c + 1, k => by simp only [wm_as, List.length_cons, wm_as_len]
theorem wm_as_mem {F : Nat → Nat} {G : Nat → Nat → Nat} {m : Nat} : ∀ {c k x : Nat}, x ∈ wm_as F G m k c → ∃ i, k ≤ i ∧ i < k + c ∧ x = G m i
  | 0, _, _, h => by simp [wm_as] at h
  | c + 1, k, x, h => by
    simp only [wm_as, List.mem_cons] at h
    rcases h with h | h
    · exact ⟨k, Nat.le_refl _, by omega, h⟩
    · obtain ⟨i, a, b, e⟩ := wm_as_mem h
      exact ⟨i, by omega, by omega, e⟩
theorem wm_as_map {F : Nat → Nat} {G : Nat → Nat → Nat} {ρ : Nat → Nat} {a b : Nat} : ∀ {c k : Nat}, (∀ i, k ≤ i → i < k + c → ρ (G a i) = ρ (G b i)) → (wm_as F G a k c).map ρ = (wm_as F G b k c).map ρ
  | 0, _, _ => rfl
  | c + 1, k, h => by
    simp only [wm_as, List.map_cons]
    rw [h k (Nat.le_refl _) (by omega), wm_as_map (fun i h1 h2 => h i (by omega) (by omega))]
/-- the tokens depend on the kernel alone -/
theorem wm_wr_eq {T : Nat} {F : Nat → Nat} {G : Nat → Nat → Nat} {Q : Nat → Nat → Prop} {ρ ρ' : Nat → Nat} (h : wm_Sv T F G Q ρ) (h' : wm_Sv T F G Q ρ') (hG : ∀ a, a < T → ∀ k, k < wm_ar (F a) → G a k < T) :
    ∀ (n : Nat) (s s' seen : List Nat), s.map ρ = s'.map ρ → (∀ x, x ∈ s → x < T) → (∀ x, x ∈ s' → x < T) → (∀ x, x ∈ seen → x < T ∧ ρ x = x) → wm_wr F G ρ n s seen = wm_wr F G ρ' n s' (seen.map ρ')
  | 0, _, _, _, _, _, _, _ => rfl
  | n + 1, s, s', seen, hs, h1, h2, h3 => by
    cases s with
    | nil =>
      cases s' with
      | nil => rfl
      | cons y t => simp at hs
    | cons x s =>
      cases s' with
      | nil => simp at hs
      | cons y t =>
        rw [List.map_cons, List.map_cons] at hs
        obtain ⟨e1, e2⟩ := List.cons.inj hs
        have hx := h1 x List.mem_cons_self
        have hy := h2 y List.mem_cons_self
        have e3 : ρ' x = ρ' y := wm_uq h h' hx hy e1
        have rx := h.1 x hx
        have ry := h'.1 y hy
        have e4 : ρ' (ρ x) = ρ' y := by rw [wm_uq1 h h' hx]; exact e3
        simp only [wm_wr]
        by_cases c : F (ρ x) < 80
        · have eF : F (ρ' y) = F (ρ x) := by rw [← e3]; exact wm_fn h h' hx c
          rw [if_pos c, if_pos (by rw [eF]; exact c), eF]
          congr 1
          have e5 : ρ (ρ x) = ρ (ρ' y) := by
            rw [rx.2.1, wm_uq1 h' h hy]; exact e1
          refine wm_wr_eq h h' hG n _ _ seen ?_ (fun z hz => ?_) (fun z hz => ?_) h3
          · rw [List.map_append, List.map_append, e2]
            congr 1
            unfold wm_args
            rw [eF]
            exact wm_as_map (fun i _ hi => (wm_Sv_cl h).2.2 (ρ x) (ρ' y) rx.1 ry.1 e5 eF.symm i (by omega))
          · rcases List.mem_append.mp hz with w | w
            · obtain ⟨i, -, i2, rfl⟩ := wm_as_mem w
              exact hG _ rx.1 i (by omega)
            · exact h1 z (List.mem_cons_of_mem _ w)
          · rcases List.mem_append.mp hz with w | w
            · obtain ⟨i, -, i2, rfl⟩ := wm_as_mem w
              exact hG _ ry.1 i (by omega)
            · exact h2 z (List.mem_cons_of_mem _ w)
        · have eF : ¬ F (ρ' y) < 80 := fun z => c (by
            have := wm_fn h' h hy z
            rw [← e1] at this; omega)
          rw [if_neg c, if_neg eF]
          have inj : ∀ a, a ∈ seen → ρ' a = ρ' (ρ x) → a = ρ x := fun a ha z => by
            have w := wm_uq h' h (h3 a ha).1 rx.1 z
            rw [(h3 a ha).2, rx.2.1] at w
            exact w
          have ei : wm_ix (ρ' y) (seen.map ρ') = wm_ix (ρ x) seen := by
            rw [← e4]; exact wm_ix_map inj
          rw [ei]
          congr 1
          have es : wm_seen (seen.map ρ') (ρ' y) = (wm_seen seen (ρ x)).map ρ' := by
            unfold wm_seen
            rw [ei, List.length_map]
            split
            · rfl
            · rw [List.map_append, List.map_cons, List.map_nil, e4]
          rw [es]
          refine wm_wr_eq h h' hG n _ _ _ e2 (fun z hz => h1 z (List.mem_cons_of_mem _ hz)) (fun z hz => h2 z (List.mem_cons_of_mem _ hz)) (fun z hz => ?_)
          unfold wm_seen at hz
          split at hz
          · exact h3 z hz
          · rcases List.mem_append.mp hz with w | w
            · exact h3 z w
            · rw [List.mem_singleton.mp w]; exact ⟨rx.1, rx.2.1⟩
theorem wm_wr_len {F : Nat → Nat} {G : Nat → Nat → Nat} {ρ : Nat → Nat} : ∀ (n : Nat) (s seen : List Nat), (wm_wr F G ρ n s seen).length ≤ n
  | 0, _, _ => Nat.le_refl _
  | n + 1, [], _ => Nat.zero_le _
  | n + 1, x :: s, seen => by
    simp only [wm_wr]
    split
    · have := wm_wr_len (F := F) (G := G) (ρ := ρ) n (wm_args F G (ρ x) ++ s) seen
      simp only [List.length_cons]; omega
    · have := wm_wr_len (F := F) (G := G) (ρ := ρ) n s (wm_seen seen (ρ x))
      simp only [List.length_cons]; omega
/-- the tokens lie in an array from place p on -/
def wm_at (a : Nat → Int32) (p : Nat) : List Nat → Prop
  | [] => True
  | t :: l => a p = nI t ∧ wm_at a (p + 1) l
theorem wm_at_congr {a b : Nat → Int32} : ∀ {l : List Nat} {p : Nat}, (∀ i, p ≤ i → i < p + l.length → b i = a i) → wm_at a p l → wm_at b p l
  | [], _, _, _ => trivial
  | t :: l, p, h, ha => by
    simp only [List.length_cons] at h
    exact ⟨by rw [h p (Nat.le_refl _) (by omega)]; exact ha.1, wm_at_congr (fun i h1 h2 => h i (by omega) (by omega)) ha.2⟩
theorem wm_at_tk {a : Nat → Int32} : ∀ {l : List Nat} {p i : Nat}, wm_at a p l → i < l.length → wm_tk l i = a (p + i)
  | [], _, _, _, h => by simp at h
  | t :: l, p, 0, ha, _ => ha.1.symm
  | t :: l, p, i + 1, ha, h => by
    simp only [wm_tk]
    rw [wm_at_tk ha.2 (by simp only [List.length_cons] at h; omega), show p + 1 + i = p + (i + 1) by omega]
theorem wm_tk_none : ∀ {l : List Nat} {i : Nat}, l.length ≤ i → wm_tk l i = -1
  | [], _, _ => rfl
  | t :: l, 0, h => by simp at h
  | t :: l, i + 1, h => by
    simp only [wm_tk]
    exact wm_tk_none (by simp only [List.length_cons] at h; omega)
end
section
/-! the class's writings -/
theorem wm_sk_tab {ws : Nat → Int32} {h : Nat → Nat} {n : Nat} (hw : ∀ i, i < n → ws i = nI (h (n - 1 - i))) : ∀ c, c ≤ n → wm_sk ws c = (wm_as h (fun _ i => h i) 0 (n - c) c).map nI
  | 0, _ => rfl
  | c + 1, hc => by
    have ih := wm_sk_tab hw c (by omega)
    simp only [wm_sk, wm_as, List.map_cons]
    rw [hw c (by omega), ih, show n - 1 - c = n - (c + 1) by omega, show n - (c + 1) + 1 = n - c by omega]
section
variable {f_clauseCap f_heapCap f_frameCap f_choiceCap f_querySlot f_firstNode f_draftLen f_draftOpen f_draftAtoms f_programUsed f_clauses f_trailLen f_depth f_choiceCount f_status f_solutions f_steps f_complete f_pairTop f_writeTop f_answerLen f_goalLen : Int32} {a_draft a_code a_skip a_local a_slotStart a_slotLen a_slotAtoms a_slotVars a_slotNodes a_slotWeight a_slotKey a_atomPlace a_nodeFn a_nodeLink a_nodeArg a_trail a_frameSlot a_frameBase a_contFrame a_contAtom a_selFrame a_selAtom a_nodeTop a_trailAt a_heapAt a_pendingAt a_choiceDepth a_choiceNext a_pairLeft a_pairRight a_colour a_dfsNode a_dfsArg a_writing a_writeStack a_varNumber : Nat → Int32}
theorem wx_ws_149 {post : Int32 → SX → Prop} {J : Int32 → Int32 → Int32 → Int32 →  (Nat → Int32) → (Nat → Int32) → (Nat → Int32) → (Nat → Int32) → (Nat → Int32) → (Nat → Int32) → (Nat → Int32) → (Nat → Int32) → (Nat → Int32) → (Nat → Int32) → (Nat → Int32) → (Nat → Int32) → (Nat → Int32) → (Nat → Int32) → (Nat → Int32) → (Nat → Int32) → (Nat → Int32) → (Nat → Int32) → (Nat → Int32) → (Nat → Int32) → (Nat → Int32) → (Nat → Int32) → (Nat → Int32) → (Nat → Int32) → (Nat → Int32) → (Nat → Int32) → (Nat → Int32) → (Nat → Int32) → (Nat → Int32) → (Nat → Int32) → (Nat → Int32) → (Nat → Int32) → (Nat → Int32) → (Nat → Int32) → (Nat → Int32) → (Nat → Int32) →  Prop} {T : Nat} {F : Nat → Nat} {G : Nat → Nat → Nat} {off out m0 top : Nat} {x3 : Int32} {s : List Nat} (hg : wm_GX T F G a_nodeFn a_nodeArg) (hm : m0 < T) (htop : top + 4 ≤ 1032)
    (hJ : ∀ ws : Nat → Int32, wm_sk ws (top + wm_ar (F m0)) = (wm_args F G m0 ++ s).map nI → J x3 (nI (out + 1)) (nI (out + 1)) (nI (top + wm_ar (F m0))) a_draft a_code a_skip a_local a_slotStart a_slotLen a_slotAtoms a_slotVars a_slotNodes a_slotWeight a_slotKey a_atomPlace a_nodeFn a_nodeLink a_nodeArg a_trail a_frameSlot a_frameBase a_contFrame a_contAtom a_selFrame a_selAtom a_nodeTop a_trailAt a_heapAt a_pendingAt a_choiceDepth a_choiceNext a_pairLeft a_pairRight a_colour a_dfsNode a_dfsArg a_writing ws a_varNumber) :
    ∀ (i n : Nat) (f_writeTop : Int32) (a_writeStack : Nat → Int32), i ≤ wm_ar (F m0) → i < n → f_writeTop = nI (top + (wm_ar (F m0) - i)) → wm_sk a_writeStack (top + (wm_ar (F m0) - i)) = (wm_as F G m0 i (wm_ar (F m0) - i) ++ s).map nI →
      wX_writeStacked_149 post J (nI off) x3 (nI out) (nI m0) f_clauseCap f_heapCap f_frameCap f_choiceCap f_querySlot f_firstNode f_draftLen f_draftOpen f_draftAtoms f_programUsed f_clauses f_trailLen f_depth f_choiceCount f_status f_solutions f_steps f_complete f_pairTop f_answerLen f_goalLen n (nI i + (-1)) f_writeTop a_draft a_code a_skip a_local a_slotStart a_slotLen a_slotAtoms a_slotVars a_slotNodes a_slotWeight a_slotKey a_atomPlace a_nodeFn a_nodeLink a_nodeArg a_trail a_frameSlot a_frameBase a_contFrame a_contAtom a_selFrame a_selAtom a_nodeTop a_trailAt a_heapAt a_pendingAt a_choiceDepth a_choiceNext a_pairLeft a_pairRight a_colour a_dfsNode a_dfsArg a_writing a_writeStack a_varNumber := by
  have a4 := wm_ar4 (F m0)
  have hT := hg.1.2
  intro i
  induction i with
  | zero =>
    intro n f_writeTop a_writeStack a b ht hk
    obtain ⟨n, rfl⟩ : ∃ q, n = q + 1 := ⟨n - 1, by omega⟩
    subst ht
    exact br_t (by decide) (nm_r (nI_1 out) (nm_r (nI_1 out) (hJ _ hk)))
  | succ i ih =>
    intro n f_writeTop a_writeStack a b ht hk
    obtain ⟨n, rfl⟩ : ∃ q, n = q + 1 := ⟨n - 1, by omega⟩
    subst ht
    rw [pk_m1]
    have ex : nI m0 * 4 + nI i = nI (4 * m0 + i) := by rw [show (4 : Int32) = nI 4 from rfl, pk_mul, nI_add, Nat.mul_comm]
    have e : top + (wm_ar (F m0) - i) = top + (wm_ar (F m0) - (i + 1)) + 1 := by omega
    refine wm_ltF i 0 (Nat.zero_le _) (And.intro (pk_in (4 * m0 + i) 1088 (by omega) ex) (And.intro (pk_in (top + (wm_ar (F m0) - (i + 1))) 1032 (by omega)) (nm_r (wm_ux (wm_rx (hg.2.2 m0 hm i (by omega)).1 ex)) (nm_r (nI_1 _) (nm_e (ih n _ _ (by omega) (by omega) ?_ ?_))))))
    · rw [e]
    · rw [e, wm_sk_push, hk, show wm_ar (F m0) - i = (wm_ar (F m0) - (i + 1)) + 1 by omega]
      rfl
theorem wx_ws_30 {post : Int32 → SX → Prop} {T : Nat} {F : Nat → Nat} {G : Nat → Nat → Nat} {ρ δ : Nat → Nat} {off : Nat} (hg : wm_GX T F G a_nodeFn a_nodeArg) (hu : wm_UF T a_nodeLink ρ δ) (hd : ∀ n, δ n ≤ 272) (hoff : off ≤ 256) :
    ∀ (rem n out top : Nat) (s seen : List Nat) (x3 f_writeTop : Int32) (a_writing a_writeStack a_varNumber : Nat → Int32), out + rem = 256 → rem < n → f_writeTop = nI top → top ≤ 8 + 4 * out → wm_sk a_writeStack top = s.map nI → (∀ x, x ∈ s → x < T) → x3 = nI seen.length → seen.length ≤ out →
      (∀ q, q < 272 → a_varNumber q = if wm_ix q seen < seen.length then nI (wm_ix q seen) else -1) →
      (∀ w ws vn : Nat → Int32, wm_at w (off + out) (wm_wr F G ρ rem s seen) → (∀ p, (p < off + out ∨ off + 256 ≤ p) → w p = a_writing p) → post (nI (out + (wm_wr F G ρ rem s seen).length)) (f_clauseCap, f_heapCap, f_frameCap, f_choiceCap, f_querySlot, f_firstNode, f_draftLen, f_draftOpen, f_draftAtoms, f_programUsed, f_clauses, f_trailLen, f_depth, f_choiceCount, f_status, f_solutions, f_steps, f_complete, f_pairTop, 0, f_answerLen, f_goalLen, a_draft, a_code, a_skip, a_local, a_slotStart, a_slotLen, a_slotAtoms, a_slotVars, a_slotNodes, a_slotWeight, a_slotKey, a_atomPlace, a_nodeFn, a_nodeLink, a_nodeArg, a_trail, a_frameSlot, a_frameBase, a_contFrame, a_contAtom, a_selFrame, a_selAtom, a_nodeTop, a_trailAt, a_heapAt, a_pendingAt, a_choiceDepth, a_choiceNext, a_pairLeft, a_pairRight, a_colour, a_dfsNode, a_dfsArg, w, ws, vn)) →
      wX_writeStacked_30 post (nI off) f_clauseCap f_heapCap f_frameCap f_choiceCap f_querySlot f_firstNode f_draftLen f_draftOpen f_draftAtoms f_programUsed f_clauses f_trailLen f_depth f_choiceCount f_status f_solutions f_steps f_complete f_pairTop f_answerLen f_goalLen n x3 (nI out) (nI out) f_writeTop a_draft a_code a_skip a_local a_slotStart a_slotLen a_slotAtoms a_slotVars a_slotNodes a_slotWeight a_slotKey a_atomPlace a_nodeFn a_nodeLink a_nodeArg a_trail a_frameSlot a_frameBase a_contFrame a_contAtom a_selFrame a_selAtom a_nodeTop a_trailAt a_heapAt a_pendingAt a_choiceDepth a_choiceNext a_pairLeft a_pairRight a_colour a_dfsNode a_dfsArg a_writing a_writeStack a_varNumber := by
  have hG := wm_GX_G hg
  have hT := hg.1.2
  intro rem
  induction rem with
  | zero =>
    intro n out top s seen x3 f_writeTop a_writing a_writeStack a_varNumber h1 h2 h3 h4 h5 h6 h7 h8 h9 hp
    obtain ⟨n, rfl⟩ : ∃ q, n = q + 1 := ⟨n - 1, by omega⟩
    exact wm_leT 256 out (by omega) (hp a_writing a_writeStack a_varNumber trivial (fun _ _ => rfl))
  | succ rem ih =>
    intro n out top s seen x3 f_writeTop a_writing a_writeStack a_varNumber h1 h2 h3 h4 h5 h6 h7 h8 h9 hp
    obtain ⟨n, rfl⟩ : ∃ q, n = q + 1 := ⟨n - 1, by omega⟩
    subst h3 h7
    refine wm_leF 256 out (by omega) ?_
    have hlen : top = s.length := by
      have := congrArg List.length h5
      rw [wm_sk_len, List.length_map] at this
      exact this
    cases s with
    | nil =>
      simp only [List.length_nil] at hlen
      exact wm_leT top 0 (by omega) (hp a_writing a_writeStack a_varNumber trivial (fun _ _ => rfl))
    | cons x s =>
      simp only [List.length_cons] at hlen
      obtain ⟨t, rfl⟩ : ∃ t, top = t + 1 := ⟨top - 1, by omega⟩
      rw [List.map_cons] at h5
      simp only [wm_sk] at h5
      obtain ⟨k1, k2⟩ := List.cons.inj h5
      have hx := h6 x List.mem_cons_self
      obtain ⟨rT, -, -, -⟩ := wm_UF_rt hu hx
      obtain ⟨f1, f2, f3, f4⟩ := hg.2.1 _ rT
      have inr : vp_in (nI (ρ x)) 272 := pk_in (ρ x) 272 (by omega)
      have exo : nI off + nI out = nI (off + out) := nI_add off out
      refine wm_leF (t + 1) 0 (by omega) (nm_r (nI_pred t) (And.intro (pk_in t 1032 (by omega)) (wx_deref hu hT hx (hd _) (wm_rx k1) (And.intro inr (nm_r (wm_rx f1) ?_)))))
      by_cases c : F (ρ x) < 80
      · have ef := wm_fI_t c
        have a4 := wm_ar4 (F (ρ x))
        refine wm_leT 0 (F (ρ x)) (Nat.zero_le _) (And.intro (pk_in (off + out) 512 (by omega) exo) (nm_r (wm_ux (n := off + out) ef exo) (wx_arF (F (ρ x)) rfl (nm_r (e' := nI (wm_ar (F (ρ x))) + (-1)) ?_ ⟨wm_ar (F (ρ x)) + 1, ?_⟩)))) rfl ef
        · rw [Int32.sub_eq_add_neg]
        · refine wx_ws_149 (s := s) (top := t) hg rT (by omega) (fun ws hws => ?_) _ _ _ _ (Nat.le_refl _) (by omega) (by rw [Nat.sub_self]; rfl) (by rw [Nat.sub_self]; exact k2)
          refine ih n (out + 1) _ (wm_args F G (ρ x) ++ s) seen _ _ _ ws _ (by omega) (by omega) rfl (by omega) hws (fun z hz => ?_) rfl (by omega) h9 (fun w ws' vn y1 y2 => ?_)
          · rcases List.mem_append.mp hz with q | q
            · obtain ⟨i, -, i2, rfl⟩ := wm_as_mem q
              exact hG _ rT i (by omega)
            · exact h6 z (List.mem_cons_of_mem _ q)
          · have key := hp w ws' vn
            simp only [wm_wr, if_pos c, List.length_cons] at key
            rw [show out + ((wm_wr F G ρ rem (wm_args F G (ρ x) ++ s) seen).length + 1) = out + 1 + (wm_wr F G ρ rem (wm_args F G (ρ x) ++ s) seen).length by omega] at key
            refine key ⟨?_, y1⟩ (fun p hp' => ?_)
            · rw [y2 _ (by omega), pk_us]
            · rw [y2 p (by omega), pk_un (by omega)]
      · have ef := wm_fI_v c
        have hv := h9 (ρ x) (by omega)
        have ixl := wm_ix_le (m := ρ x) (l := seen)
        have sl' : ∀ z, z ∈ s → z < T := fun z hz => h6 z (List.mem_cons_of_mem _ hz)
        refine wm_geM ef (And.intro inr ?_)
        by_cases q : wm_ix (ρ x) seen < seen.length
        · rw [if_pos q] at hv
          refine wm_leT 0 (wm_ix (ρ x) seen) (Nat.zero_le _) (And.intro inr (And.intro (pk_in (off + out) 512 (by omega) exo) (nm_r (wm_ux (n := off + out) (v' := nI (128 + wm_ix (ρ x) seen)) (by rw [wm_rx hv, show (128 : Int32) = nI 128 from rfl, nI_add]) exo) (nm_r (nI_1 out) (nm_r (nI_1 out) ?_))))) rfl (wm_rx hv)
          refine ih n (out + 1) t s seen _ _ _ _ _ (by omega) (by omega) rfl (by omega) k2 sl' rfl (by omega) h9 (fun w ws' vn y1 y2 => ?_)
          have key := hp w ws' vn
          simp only [wm_wr, if_neg c, wm_seen, if_pos q, List.length_cons] at key
          rw [show out + ((wm_wr F G ρ rem s seen).length + 1) = out + 1 + (wm_wr F G ρ rem s seen).length by omega] at key
          refine key ⟨?_, y1⟩ (fun p hp' => ?_)
          · rw [y2 _ (by omega), pk_us]
          · rw [y2 p (by omega), pk_un (by omega)]
        · rw [if_neg q] at hv
          have hil : wm_ix (ρ x) seen = seen.length := by omega
          have vn2 : ∀ z, z < 272 → upd a_varNumber (ρ x) (nI seen.length) z = if wm_ix z (seen ++ [ρ x]) < (seen ++ [ρ x]).length then nI (wm_ix z (seen ++ [ρ x])) else -1 := fun z hz => by
            rw [wm_ix_app, List.length_append, List.length_singleton]
            by_cases ez : z = ρ x
            · subst ez
              rw [pk_us, if_neg q, if_pos rfl, if_pos (by omega)]
            · rw [pk_un ez, h9 z hz]
              by_cases d : wm_ix z seen < seen.length
              · rw [if_pos d, if_pos d, if_pos (by omega)]
              · have ez' : ¬ ρ x = z := fun e => ez e.symm
                rw [if_neg d, if_neg d, if_neg ez', if_neg (by omega)]
          refine wm_geM (wm_rx hv) (And.intro inr (nm_r (wm_ux (n := ρ x) rfl) (nm_r (nI_1 seen.length) (And.intro inr (And.intro (pk_in (off + out) 512 (by omega) exo) (nm_r (wm_ux (n := off + out) (v' := nI (128 + wm_ix (ρ x) seen)) ?_ exo) (nm_r (nI_1 out) (nm_r (nI_1 out) ?_))))))))
          · rw [wm_rx (n := ρ x) (v := nI seen.length) pk_us, hil, show (128 : Int32) = nI 128 from rfl, nI_add]
          · refine ih n (out + 1) t s (seen ++ [ρ x]) _ _ _ _ _ (by omega) (by omega) rfl (by omega) k2 sl' (by rw [List.length_append, List.length_singleton]) (by rw [List.length_append, List.length_singleton]; omega) vn2 (fun w ws' vn y1 y2 => ?_)
            have key := hp w ws' vn
            simp only [wm_wr, if_neg c, wm_seen, if_neg q, List.length_cons] at key
            rw [show out + ((wm_wr F G ρ rem s (seen ++ [ρ x])).length + 1) = out + 1 + (wm_wr F G ρ rem s (seen ++ [ρ x])).length by omega] at key
            refine key ⟨?_, y1⟩ (fun p hp' => ?_)
            · rw [y2 _ (by omega), pk_us]
            · rw [y2 p (by omega), pk_un (by omega)]
theorem wx_ws_2 {post : Int32 → SX → Prop} {T : Nat} {F : Nat → Nat} {G : Nat → Nat → Nat} {ρ δ : Nat → Nat} {off fr top : Nat} {s : List Nat} (hg : wm_GX T F G a_nodeFn a_nodeArg) (hu : wm_UF T a_nodeLink ρ δ) (hd : ∀ n, δ n ≤ 272) (hoff : off ≤ 256) (hfr : fr ≤ 1)
    (ht : f_writeTop = nI top) (ht8 : top ≤ 8) (hk : wm_sk a_writeStack top = s.map nI) (hs : ∀ x, x ∈ s → x < T)
    (hp : ∀ w ws vn : Nat → Int32, wm_at w (off + fr) (wm_wr F G ρ (256 - fr) s []) → (∀ p, (p < off + fr ∨ off + 256 ≤ p) → w p = a_writing p) → post (nI (fr + (wm_wr F G ρ (256 - fr) s []).length)) (f_clauseCap, f_heapCap, f_frameCap, f_choiceCap, f_querySlot, f_firstNode, f_draftLen, f_draftOpen, f_draftAtoms, f_programUsed, f_clauses, f_trailLen, f_depth, f_choiceCount, f_status, f_solutions, f_steps, f_complete, f_pairTop, 0, f_answerLen, f_goalLen, a_draft, a_code, a_skip, a_local, a_slotStart, a_slotLen, a_slotAtoms, a_slotVars, a_slotNodes, a_slotWeight, a_slotKey, a_atomPlace, a_nodeFn, a_nodeLink, a_nodeArg, a_trail, a_frameSlot, a_frameBase, a_contFrame, a_contAtom, a_selFrame, a_selAtom, a_nodeTop, a_trailAt, a_heapAt, a_pendingAt, a_choiceDepth, a_choiceNext, a_pairLeft, a_pairRight, a_colour, a_dfsNode, a_dfsArg, w, ws, vn)) :
    ∀ (n i : Nat) (a_varNumber : Nat → Int32), i ≤ 272 → 272 < n + i → (∀ q, q < i → a_varNumber q = -1) → wX_writeStacked_2 post (nI off) (nI fr) f_clauseCap f_heapCap f_frameCap f_choiceCap f_querySlot f_firstNode f_draftLen f_draftOpen f_draftAtoms f_programUsed f_clauses f_trailLen f_depth f_choiceCount f_status f_solutions f_steps f_complete f_pairTop f_writeTop f_answerLen f_goalLen n (nI i) a_draft a_code a_skip a_local a_slotStart a_slotLen a_slotAtoms a_slotVars a_slotNodes a_slotWeight a_slotKey a_atomPlace a_nodeFn a_nodeLink a_nodeArg a_trail a_frameSlot a_frameBase a_contFrame a_contAtom a_selFrame a_selAtom a_nodeTop a_trailAt a_heapAt a_pendingAt a_choiceDepth a_choiceNext a_pairLeft a_pairRight a_colour a_dfsNode a_dfsArg a_writing a_writeStack a_varNumber := by
  intro n
  induction n with
  | zero => intro i _ a b; omega
  | succ n ih =>
    intro i a_varNumber a b hv
    by_cases e : i = 272
    · subst e
      refine wm_leT 272 272 (Nat.le_refl _) ⟨257, wx_ws_30 hg hu hd hoff (256 - fr) 257 fr top s [] _ _ _ _ _ (by omega) (by omega) ht (by omega) hk hs rfl (Nat.zero_le _) (fun q hq => ?_) hp⟩
      rw [hv q hq]; simp [wm_ix]
    · refine wm_leF 272 i (by omega) (And.intro (pk_in i 272 (by omega)) (nm_r (wm_ux rfl) (nm_r (nI_1 i) (ih (i + 1) _ (by omega) (by omega) (fun q hq => ?_)))))
      by_cases c : q = i
      · subst c; exact pk_us
      · rw [pk_un c]; exact hv q (by omega)
theorem wx_writeStacked {post : Int32 → SX → Prop} {T : Nat} {F : Nat → Nat} {G : Nat → Nat → Nat} {ρ δ : Nat → Nat} {off fr top : Nat} {x y : Int32} {s : List Nat} (hx : x = nI off) (hy : y = nI fr) (hg : wm_GX T F G a_nodeFn a_nodeArg) (hu : wm_UF T a_nodeLink ρ δ) (hd : ∀ n, δ n ≤ 272) (hoff : off ≤ 256) (hfr : fr ≤ 1)
    (ht : f_writeTop = nI top) (ht8 : top ≤ 8) (hk : wm_sk a_writeStack top = s.map nI) (hs : ∀ x, x ∈ s → x < T)
    (hp : ∀ w ws vn : Nat → Int32, wm_at w (off + fr) (wm_wr F G ρ (256 - fr) s []) → (∀ p, (p < off + fr ∨ off + 256 ≤ p) → w p = a_writing p) → post (nI (fr + (wm_wr F G ρ (256 - fr) s []).length)) (f_clauseCap, f_heapCap, f_frameCap, f_choiceCap, f_querySlot, f_firstNode, f_draftLen, f_draftOpen, f_draftAtoms, f_programUsed, f_clauses, f_trailLen, f_depth, f_choiceCount, f_status, f_solutions, f_steps, f_complete, f_pairTop, 0, f_answerLen, f_goalLen, a_draft, a_code, a_skip, a_local, a_slotStart, a_slotLen, a_slotAtoms, a_slotVars, a_slotNodes, a_slotWeight, a_slotKey, a_atomPlace, a_nodeFn, a_nodeLink, a_nodeArg, a_trail, a_frameSlot, a_frameBase, a_contFrame, a_contAtom, a_selFrame, a_selAtom, a_nodeTop, a_trailAt, a_heapAt, a_pendingAt, a_choiceDepth, a_choiceNext, a_pairLeft, a_pairRight, a_colour, a_dfsNode, a_dfsArg, w, ws, vn)) : wpX_writeStacked post (f_clauseCap, f_heapCap, f_frameCap, f_choiceCap, f_querySlot, f_firstNode, f_draftLen, f_draftOpen, f_draftAtoms, f_programUsed, f_clauses, f_trailLen, f_depth, f_choiceCount, f_status, f_solutions, f_steps, f_complete, f_pairTop, f_writeTop, f_answerLen, f_goalLen, a_draft, a_code, a_skip, a_local, a_slotStart, a_slotLen, a_slotAtoms, a_slotVars, a_slotNodes, a_slotWeight, a_slotKey, a_atomPlace, a_nodeFn, a_nodeLink, a_nodeArg, a_trail, a_frameSlot, a_frameBase, a_contFrame, a_contAtom, a_selFrame, a_selAtom, a_nodeTop, a_trailAt, a_heapAt, a_pendingAt, a_choiceDepth, a_choiceNext, a_pairLeft, a_pairRight, a_colour, a_dfsNode, a_dfsArg, a_writing, a_writeStack, a_varNumber) x y := by
  subst hx hy
  exact ⟨273, wx_ws_2 (i := 0) hg hu hd hoff hfr ht ht8 hk hs hp 273 _ (by omega) (by omega) (fun q hq => by omega)⟩
/-- the nodes of the query's variables, the arguments of the goal -/
def wm_qv (n : Nat) : List Nat := wm_as (fun i => 16 + i) (fun _ i => 16 + i) 0 0 n
theorem wx_wa_10 {post : SX → Prop} {T : Nat} {F : Nat → Nat} {G : Nat → Nat → Nat} {ρ δ : Nat → Nat} {vs : Nat} (hg : wm_GX T F G a_nodeFn a_nodeArg) (hu : wm_UF T a_nodeLink ρ δ) (hd : ∀ n, δ n ≤ 272) (hv8 : vs ≤ 8) (hvT : 16 + vs ≤ T)
    (hp : ∀ w ws vn : Nat → Int32, wm_at w 0 (wm_wr F G ρ 256 (wm_qv vs) []) → (∀ p, 256 ≤ p → w p = a_writing p) → post (f_clauseCap, f_heapCap, f_frameCap, f_choiceCap, f_querySlot, f_firstNode, f_draftLen, f_draftOpen, f_draftAtoms, f_programUsed, f_clauses, f_trailLen, f_depth, f_choiceCount, f_status, f_solutions, f_steps, f_complete, f_pairTop, 0, (nI (wm_wr F G ρ 256 (wm_qv vs) []).length), f_goalLen, a_draft, a_code, a_skip, a_local, a_slotStart, a_slotLen, a_slotAtoms, a_slotVars, a_slotNodes, a_slotWeight, a_slotKey, a_atomPlace, a_nodeFn, a_nodeLink, a_nodeArg, a_trail, a_frameSlot, a_frameBase, a_contFrame, a_contAtom, a_selFrame, a_selAtom, a_nodeTop, a_trailAt, a_heapAt, a_pendingAt, a_choiceDepth, a_choiceNext, a_pairLeft, a_pairRight, a_colour, a_dfsNode, a_dfsArg, w, ws, vn)) :
    ∀ (n v : Nat) (a_writeStack : Nat → Int32), v ≤ vs → vs < n + v → (∀ i, i < vs → vs - 1 - i < v → a_writeStack i = nI (16 + (vs - 1 - i))) → wX_writeAnswer_10 post (nI vs) f_clauseCap f_heapCap f_frameCap f_choiceCap f_querySlot f_firstNode f_draftLen f_draftOpen f_draftAtoms f_programUsed f_clauses f_trailLen f_depth f_choiceCount f_status f_solutions f_steps f_complete f_pairTop f_writeTop f_answerLen f_goalLen n (nI v) a_draft a_code a_skip a_local a_slotStart a_slotLen a_slotAtoms a_slotVars a_slotNodes a_slotWeight a_slotKey a_atomPlace a_nodeFn a_nodeLink a_nodeArg a_trail a_frameSlot a_frameBase a_contFrame a_contAtom a_selFrame a_selAtom a_nodeTop a_trailAt a_heapAt a_pendingAt a_choiceDepth a_choiceNext a_pairLeft a_pairRight a_colour a_dfsNode a_dfsArg a_writing a_writeStack a_varNumber := by
  intro n
  induction n with
  | zero => intro v _ a b; omega
  | succ n ih =>
    intro v a_writeStack a b hw
    by_cases e : v = vs
    · subst e
      refine wm_leT v v (Nat.le_refl _) (wx_writeStacked (off := 0) (fr := 0) (top := v) (s := wm_qv v) rfl rfl hg hu hd (by omega) (by omega) rfl hv8 ?_ (fun x hx => ?_) (fun w ws vn y1 y2 => ?_))
      · have := wm_sk_tab (ws := a_writeStack) (h := fun i => 16 + i) (n := v) (fun i hi => hw i hi (by omega)) v (Nat.le_refl _)
        rw [Nat.sub_self] at this
        exact this
      · obtain ⟨i, -, i2, rfl⟩ := wm_as_mem hx
        show 16 + i < T
        omega
      · have := hp w ws vn y1 (fun p hp' => y2 p (Or.inr (by omega)))
        rw [Nat.zero_add]
        exact this
    · have ex : nI vs - 1 - nI v = nI (vs - 1 - v) := by
        obtain ⟨q, rfl⟩ : ∃ q, vs = q + 1 := ⟨vs - 1, by omega⟩
        rw [nI_pred, pk_sub (by omega), Nat.add_sub_cancel]
      refine wm_leF vs v (by omega) (And.intro (pk_in (vs - 1 - v) 1032 (by omega) ex) (nm_r (wm_ux (n := vs - 1 - v) (v' := nI (16 + v)) (by rw [show (16 : Int32) = nI 16 from rfl, nI_add]) ex) (nm_r (nI_1 v) (ih (v + 1) _ (by omega) (by omega) (fun i hi hi2 => ?_)))))
      by_cases c : i = vs - 1 - v
      · subst c; rw [pk_us]; exact congrArg nI (by omega)
      · rw [pk_un c]; exact hw i hi (by omega)
theorem wx_writeAnswer {post : SX → Prop} {T : Nat} {F : Nat → Nat} {G : Nat → Nat → Nat} {ρ δ : Nat → Nat} {vs : Nat} (hg : wm_GX T F G a_nodeFn a_nodeArg) (hu : wm_UF T a_nodeLink ρ δ) (hd : ∀ n, δ n ≤ 272) (hv8 : vs ≤ 8) (hvT : 16 + vs ≤ T) (hvs : a_slotVars 32 = nI vs)
    (hp : ∀ w ws vn : Nat → Int32, wm_at w 0 (wm_wr F G ρ 256 (wm_qv vs) []) → (∀ p, 256 ≤ p → w p = a_writing p) → post (f_clauseCap, f_heapCap, f_frameCap, f_choiceCap, f_querySlot, f_firstNode, f_draftLen, f_draftOpen, f_draftAtoms, f_programUsed, f_clauses, f_trailLen, f_depth, f_choiceCount, f_status, f_solutions, f_steps, f_complete, f_pairTop, 0, (nI (wm_wr F G ρ 256 (wm_qv vs) []).length), f_goalLen, a_draft, a_code, a_skip, a_local, a_slotStart, a_slotLen, a_slotAtoms, a_slotVars, a_slotNodes, a_slotWeight, a_slotKey, a_atomPlace, a_nodeFn, a_nodeLink, a_nodeArg, a_trail, a_frameSlot, a_frameBase, a_contFrame, a_contAtom, a_selFrame, a_selAtom, a_nodeTop, a_trailAt, a_heapAt, a_pendingAt, a_choiceDepth, a_choiceNext, a_pairLeft, a_pairRight, a_colour, a_dfsNode, a_dfsArg, w, ws, vn)) : wpX_writeAnswer post (f_clauseCap, f_heapCap, f_frameCap, f_choiceCap, f_querySlot, f_firstNode, f_draftLen, f_draftOpen, f_draftAtoms, f_programUsed, f_clauses, f_trailLen, f_depth, f_choiceCount, f_status, f_solutions, f_steps, f_complete, f_pairTop, f_writeTop, f_answerLen, f_goalLen, a_draft, a_code, a_skip, a_local, a_slotStart, a_slotLen, a_slotAtoms, a_slotVars, a_slotNodes, a_slotWeight, a_slotKey, a_atomPlace, a_nodeFn, a_nodeLink, a_nodeArg, a_trail, a_frameSlot, a_frameBase, a_contFrame, a_contAtom, a_selFrame, a_selAtom, a_nodeTop, a_trailAt, a_heapAt, a_pendingAt, a_choiceDepth, a_choiceNext, a_pairLeft, a_pairRight, a_colour, a_dfsNode, a_dfsArg, a_writing, a_writeStack, a_varNumber) :=
  nm_r hvs ⟨vs + 1, wx_wa_10 (v := 0) hg hu hd hv8 hvT hp _ _ (Nat.zero_le _) (by omega) (fun i hi hi2 => by omega)⟩
/-- nodes h 0 .. h (n-1) -/
def wm_ga (h : Nat → Nat) (n : Nat) : List Nat := wm_as h (fun _ i => h i) 0 0 n
theorem wx_wg_29 {post : SX → Prop} {T : Nat} {F : Nat → Nat} {G : Nat → Nat → Nat} {ρ δ : Nat → Nat} {C : Nat → Nat} {n0 s0 b g : Nat} (hg : wm_GX T F G a_nodeFn a_nodeArg) (hu : wm_UF T a_nodeLink ρ δ) (hd : ∀ n, δ n ≤ 272)
    (hC : wm_WC C n0) (hsn : s0 + n0 ≤ 288) (hgn : g < n0) (hc : ∀ k, k < n0 → a_code (s0 + k) = nI (C k) ∧ a_skip (s0 + k) = nI (s0 + wm_en C n0 k) ∧ a_local (s0 + k) = wm_lo C n0 k) (hnd : ∀ k, k < wm_ar (C g) → wm_nd C n0 b (wm_ap C n0 g k) < T)
    (hp : ∀ w ws vn : Nat → Int32, w 256 = nI (C g) → wm_at w 257 (wm_wr F G ρ 255 (wm_ga (fun i => wm_nd C n0 b (wm_ap C n0 g i)) (wm_ar (C g))) []) → (∀ p, p < 256 → w p = a_writing p) → post (f_clauseCap, f_heapCap, f_frameCap, f_choiceCap, f_querySlot, f_firstNode, f_draftLen, f_draftOpen, f_draftAtoms, f_programUsed, f_clauses, f_trailLen, f_depth, f_choiceCount, f_status, f_solutions, f_steps, f_complete, f_pairTop, 0, f_answerLen, (nI (1 + (wm_wr F G ρ 255 (wm_ga (fun i => wm_nd C n0 b (wm_ap C n0 g i)) (wm_ar (C g))) []).length)), a_draft, a_code, a_skip, a_local, a_slotStart, a_slotLen, a_slotAtoms, a_slotVars, a_slotNodes, a_slotWeight, a_slotKey, a_atomPlace, a_nodeFn, a_nodeLink, a_nodeArg, a_trail, a_frameSlot, a_frameBase, a_contFrame, a_contAtom, a_selFrame, a_selAtom, a_nodeTop, a_trailAt, a_heapAt, a_pendingAt, a_choiceDepth, a_choiceNext, a_pairLeft, a_pairRight, a_colour, a_dfsNode, a_dfsArg, w, ws, vn)) :
    ∀ (n k : Nat) (a_writeStack : Nat → Int32), k ≤ wm_ar (C g) → wm_ar (C g) < n + k → (∀ i, i < wm_ar (C g) → wm_ar (C g) - 1 - i < k → a_writeStack i = nI (wm_nd C n0 b (wm_ap C n0 g (wm_ar (C g) - 1 - i)))) →
      wX_writeGoal_29 post (nI (s0 + g)) (nI b) (nI (wm_ar (C g))) f_clauseCap f_heapCap f_frameCap f_choiceCap f_querySlot f_firstNode f_draftLen f_draftOpen f_draftAtoms f_programUsed f_clauses f_trailLen f_depth f_choiceCount f_status f_solutions f_steps f_complete f_pairTop f_writeTop f_answerLen f_goalLen n (nI (s0 + wm_ap C n0 g k)) (nI k) a_draft a_code a_skip a_local a_slotStart a_slotLen a_slotAtoms a_slotVars a_slotNodes a_slotWeight a_slotKey a_atomPlace a_nodeFn a_nodeLink a_nodeArg a_trail a_frameSlot a_frameBase a_contFrame a_contAtom a_selFrame a_selAtom a_nodeTop a_trailAt a_heapAt a_pendingAt a_choiceDepth a_choiceNext a_pairLeft a_pairRight a_colour a_dfsNode a_dfsArg a_writing a_writeStack a_varNumber := by
  have a4 := wm_ar4 (C g)
  intro n
  induction n with
  | zero => intro k _ a b; omega
  | succ n ih =>
    intro k a_writeStack a b' hw
    by_cases e : k = wm_ar (C g)
    · refine wm_leT (wm_ar (C g)) k (by omega) (And.intro (pk_in (s0 + g) 288 (by omega)) (nm_r (e' := upd a_writing 256 (nI (C g))) (by rw [wm_rx (hc g hgn).1]) (wx_writeStacked (off := 256) (fr := 1) (top := wm_ar (C g)) (s := wm_ga (fun i => wm_nd C n0 b (wm_ap C n0 g i)) (wm_ar (C g))) rfl rfl hg hu hd (by omega) (by omega) rfl (by omega) ?_ (fun x hx => ?_) (fun w ws vn y1 y2 => ?_))))
      · have := wm_sk_tab (ws := a_writeStack) (h := fun i => wm_nd C n0 b (wm_ap C n0 g i)) (n := wm_ar (C g)) (fun i hi => hw i hi (by omega)) (wm_ar (C g)) (Nat.le_refl _)
        rw [Nat.sub_self] at this
        exact this
      · obtain ⟨i, -, i2, rfl⟩ := wm_as_mem hx
        exact hnd i (by omega)
      · refine hp w ws vn ?_ y1 (fun p hp' => ?_)
        · rw [y2 256 (by omega), pk_us]
        · rw [y2 p (by omega), pk_un (by omega)]
    · obtain ⟨p1, p2, p3⟩ := wm_ap_lt hC.2.2 hgn (show k < wm_ar (C g) by omega)
      obtain ⟨c1, c2, c3⟩ := hc _ p2
      have ex : nI (wm_ar (C g)) - 1 - nI k = nI (wm_ar (C g) - 1 - k) := by
        obtain ⟨q, hq⟩ : ∃ q, wm_ar (C g) = q + 1 := ⟨wm_ar (C g) - 1, by omega⟩
        rw [hq, nI_pred, pk_sub (by omega), Nat.add_sub_cancel]
      refine wm_leF (wm_ar (C g)) k (by omega) (wx_nodeAt hC.1 p2 p3 c1 c3 hsn rfl rfl (And.intro (pk_in (wm_ar (C g) - 1 - k) 1032 (by omega) ex) (nm_r (wm_ux (n := wm_ar (C g) - 1 - k) rfl ex) (And.intro (pk_in (s0 + wm_ap C n0 g k) 288 (by omega)) (nm_r (wm_rx c2) (nm_r (nI_1 k) (ih (k + 1) _ (by omega) (by omega) (fun i hi hi2 => ?_))))))))
      by_cases c : i = wm_ar (C g) - 1 - k
      · subst c; rw [pk_us, show wm_ar (C g) - 1 - (wm_ar (C g) - 1 - k) = k by omega]
      · rw [pk_un c]; exact hw i hi (by omega)
end
end
section
/-! the reference's writings -/
theorem wm_ga_map {F : Nat → Nat} {G : Nat → Nat → Nat} {h f : Nat → Nat} {m : Nat} : ∀ {c k : Nat}, (∀ i, k ≤ i → i < k + c → f (h i) = G m i) → (wm_as h (fun _ i => h i) 0 k c).map f = wm_as F G m k c
  | 0, _, _ => rfl
  | c + 1, k, hh => by
    simp only [wm_as, List.map_cons]
    rw [hh k (Nat.le_refl _) (by omega), wm_ga_map (F := F) (G := G) (m := m) (fun i h1 h2 => hh i (by omega) (by omega))]
theorem wm_ix_at {m i : Nat} {l : List Nat} (hd : ∀ (i j a : Nat), l[i]? = some a → l[j]? = some a → i = j) (h : l[i]? = some m) : wm_ix m l = i := by
  have hm : m ∈ l := List.mem_of_getElem? h
  have hx : wm_ix m l < l.length := by
    rcases Nat.lt_or_ge (wm_ix m l) l.length with z | z
    · exact z
    · exact absurd hm (wm_ix_not (by omega))
  exact hd _ _ _ (wm_ix_in hx) h
section
variable {g_clauseCap g_heapCap g_frameCap g_choiceCap g_draftCount g_clauses g_queryCount g_status g_depth g_choiceCount g_solutions g_steps g_complete g_compoundCount g_equations g_goalCount : Int32} {b_draft b_clauseCodes b_clauseLength b_query b_trace b_choiceDepths b_choiceNexts b_code b_link b_compound b_finite b_left b_right b_goals b_atomPlace b_stack b_seen : Nat → Int32}
variable {cs : Nat → Nat → Nat} {ln sl : Nat → Nat} {D : Nat} {F : Nat → Nat} {G : Nat → Nat → Nat} {r δ ρ : Nat → Nat}
theorem wy_wr_146 {post : Int32 → SY → Prop} {J : Int32 → Int32 → Int32 →  (Nat → Int32) → (Nat → Int32) → (Nat → Int32) → (Nat → Int32) → (Nat → Int32) → (Nat → Int32) → (Nat → Int32) → (Nat → Int32) → (Nat → Int32) → (Nat → Int32) → (Nat → Int32) → (Nat → Int32) → (Nat → Int32) → (Nat → Int32) → (Nat → Int32) → (Nat → Int32) → (Nat → Int32) →  Prop} {C : Nat → Nat} {n0 j q size : Nat} {x1 x4 x5 x7 : Int32} {ids : List Nat} (hC : wm_WC C n0) (hj : 32 * j + 32 ≤ 4128) (hc : ∀ k, k < n0 → b_code (32 * j + k) = nI (C k)) (hq : q < n0) (hs : size + 4 ≤ 1100)
    (hK : ∀ st : Nat → Int32, wm_sk st (size + wm_ar (C q)) = (wm_ga (fun i => wm_id C j (wm_ap C n0 q i)) (wm_ar (C q)) ++ ids).map nI → wY_written_193 post J x1 (nI (size + wm_ar (C q))) x4 x5 x7 g_clauseCap g_heapCap g_frameCap g_choiceCap g_draftCount g_clauses g_queryCount g_status g_depth g_choiceCount g_solutions g_steps g_complete g_compoundCount g_equations g_goalCount b_draft b_clauseCodes b_clauseLength b_query b_trace b_choiceDepths b_choiceNexts b_code b_link b_compound b_finite b_left b_right b_goals b_atomPlace st b_seen) :
    ∀ (i m : Nat) (x3 : Int32) (b_stack : Nat → Int32), i ≤ wm_ar (C q) → i < m → x3 = nI (size + (wm_ar (C q) - i)) → wm_sk b_stack (size + (wm_ar (C q) - i)) = (wm_as (fun i => wm_id C j (wm_ap C n0 q i)) (fun _ i => wm_id C j (wm_ap C n0 q i)) 0 i (wm_ar (C q) - i) ++ ids).map nI →
      wY_written_146 post J x1 x4 x5 (nI (32 * j + q)) x7 g_clauseCap g_heapCap g_frameCap g_choiceCap g_draftCount g_clauses g_queryCount g_status g_depth g_choiceCount g_solutions g_steps g_complete g_compoundCount g_equations g_goalCount m x3 (nI i + (-1)) b_draft b_clauseCodes b_clauseLength b_query b_trace b_choiceDepths b_choiceNexts b_code b_link b_compound b_finite b_left b_right b_goals b_atomPlace b_stack b_seen := by
  have a4 := wm_ar4 (C q)
  intro i
  induction i with
  | zero =>
    intro m x3 b_stack a b ht hk
    obtain ⟨m, rfl⟩ : ∃ z, m = z + 1 := ⟨m - 1, by omega⟩
    subst ht
    exact br_t (by decide) (hK _ hk)
  | succ i ih =>
    intro m x3 b_stack a b ht hk
    obtain ⟨m, rfl⟩ : ∃ z, m = z + 1 := ⟨m - 1, by omega⟩
    subst ht
    rw [pk_m1]
    obtain ⟨p1, p2, p3⟩ := wm_ap_lt hC.2.2 hq (show i < wm_ar (C q) by omega)
    have e : size + (wm_ar (C q) - i) = size + (wm_ar (C q) - (i + 1)) + 1 := by omega
    refine wm_ltF i 0 (Nat.zero_le _) (wy_argument hC hj hc hq (show i ≤ wm_ar (C q) by omega) rfl rfl (wy_idAt hC.1 hj hc p2 rfl (wm_leF 1100 (size + (wm_ar (C q) - (i + 1))) (by omega) (And.intro (pk_in (size + (wm_ar (C q) - (i + 1))) 1100 (by omega)) (nm_r (wm_ux rfl) (nm_r (nI_1 _) (nm_e (ih m _ _ (by omega) (by omega) ?_ ?_))))))))
    · rw [e]
    · rw [e, wm_sk_push, hk, show wm_ar (C q) - i = (wm_ar (C q) - (i + 1)) + 1 by omega]
      rfl
theorem wy_wr_56 {post : Int32 → SY → Prop} {J : Int32 → Int32 → Int32 →  (Nat → Int32) → (Nat → Int32) → (Nat → Int32) → (Nat → Int32) → (Nat → Int32) → (Nat → Int32) → (Nat → Int32) → (Nat → Int32) → (Nat → Int32) → (Nat → Int32) → (Nat → Int32) → (Nat → Int32) → (Nat → Int32) → (Nat → Int32) → (Nat → Int32) → (Nat → Int32) → (Nat → Int32) →  Prop} {x1 x3 x5 : Int32} {id : Nat} {sd : List Nat} (hid : id < 5160) (hl : sd.length < 256) (hsd : ∀ (i a : Nat), sd[i]? = some a → b_seen i = nI a ∧ a < 5160) (hdis : ∀ (i j a : Nat), sd[i]? = some a → sd[j]? = some a → i = j)
    (h1 : wm_ix id sd < sd.length → wY_written_112 post J x1 x3 (nI sd.length) x5 (nI (wm_ix id sd)) g_clauseCap g_heapCap g_frameCap g_choiceCap g_draftCount g_clauses g_queryCount g_status g_depth g_choiceCount g_solutions g_steps g_complete g_compoundCount g_equations g_goalCount b_draft b_clauseCodes b_clauseLength b_query b_trace b_choiceDepths b_choiceNexts b_code b_link b_compound b_finite b_left b_right b_goals b_atomPlace b_stack b_seen)
    (h0 : ¬ wm_ix id sd < sd.length → wY_written_112 post J x1 x3 (nI (sd.length + 1)) x5 (nI (wm_ix id sd)) g_clauseCap g_heapCap g_frameCap g_choiceCap g_draftCount g_clauses g_queryCount g_status g_depth g_choiceCount g_solutions g_steps g_complete g_compoundCount g_equations g_goalCount b_draft b_clauseCodes b_clauseLength b_query b_trace b_choiceDepths b_choiceNexts b_code b_link b_compound b_finite b_left b_right b_goals b_atomPlace b_stack (upd b_seen sd.length (nI id))) :
    ∀ (m i : Nat) (x8 : Int32), i ≤ sd.length → sd.length < m + i → x8 = nI (if wm_ix id sd < i then wm_ix id sd else sd.length) → wY_written_56 post J x1 x3 (nI sd.length) x5 (nI id) g_clauseCap g_heapCap g_frameCap g_choiceCap g_draftCount g_clauses g_queryCount g_status g_depth g_choiceCount g_solutions g_steps g_complete g_compoundCount g_equations g_goalCount b_draft b_clauseCodes b_clauseLength b_query b_trace b_choiceDepths b_choiceNexts b_code b_link b_compound b_finite b_left b_right b_goals b_atomPlace b_stack b_seen m x8 (nI i) := by
  have hle := wm_ix_le (m := id) (l := sd)
  intro m
  induction m with
  | zero => intro i _ a b; omega
  | succ m ih =>
    intro i x8 a b e8
    by_cases e : i = sd.length
    · subst e
      refine wm_leT sd.length sd.length (Nat.le_refl _) ?_
      by_cases c : wm_ix id sd < sd.length
      · rw [if_pos c] at e8
        subst e8
        exact wm_eqF (wm_ix id sd) sd.length (by omega) (h1 c)
      · rw [if_neg c] at e8
        subst e8
        have ei : wm_ix id sd = sd.length := by omega
        have h0' := h0 c
        rw [ei] at h0'
        exact wm_eqT sd.length sd.length rfl (wm_leF 256 sd.length hl (And.intro (pk_in sd.length 256 hl) (nm_r (wm_ux rfl) (nm_r (nI_1 _) h0'))))
    · have hi : i < sd.length := by omega
      have gi : sd[i]? = some sd[i] := List.getElem?_eq_getElem hi
      obtain ⟨s1, s2⟩ := hsd i _ gi
      refine wm_leF sd.length i hi (And.intro (pk_in i 256 (by omega)) ?_)
      refine pk_eq sd[i] id (fun h => nm_r (nI_1 i) (ih (i + 1) _ (by omega) (by omega) ?_)) (fun h => nm_r (nI_1 i) (ih (i + 1) _ (by omega) (by omega) ?_)) (wm_rx s1)
      · have ex := wm_ix_at hdis (show sd[i]? = some id by rw [gi, h])
        rw [ex, if_pos (by omega)]
      · rw [e8]
        apply congrArg nI
        by_cases c : wm_ix id sd < i
        · rw [if_pos c, if_pos (by omega)]
        · rw [if_neg c]
          by_cases c2 : wm_ix id sd < i + 1
          · have ei : wm_ix id sd = i := by omega
            have := wm_ix_in (m := id) (l := sd) (by omega)
            rw [ei, gi] at this
            exact absurd (Option.some.inj this) h
          · rw [if_neg c2]
theorem wy_wr_8 {post : Int32 → SY → Prop} {k : Nat} (hW : ∀ j, j ≤ D → wm_WC (cs (sl j)) (ln (sl j))) (hD : D ≤ 128) (hcp : wm_CP cs ln sl D F G) (hyc : wm_YC cs ln sl D b_code) (hR : wm_YR cs ln sl D F G r δ ρ b_link) (hk : k < 256) :
    ∀ (rem m n size : Nat) (ids sd : List Nat) (x3 x4 : Int32) (b_stack b_seen : Nat → Int32), n + rem = 256 → n ≤ k → rem < m → x3 = nI size → size ≤ 8 + 4 * n → wm_sk b_stack size = ids.map nI → (∀ x, x ∈ ids → wm_vi cs ln sl D x) → x4 = nI sd.length → sd.length ≤ n →
      (∀ (i a : Nat), sd[i]? = some a → b_seen i = nI a ∧ a < 5160 ∧ wm_vi cs ln sl D a ∧ 16 ≤ wm_ph cs ln sl a) → (∀ (i j a : Nat), sd[i]? = some a → sd[j]? = some a → i = j) →
      (∀ st se : Nat → Int32, post (wm_tk (wm_wr F G ρ rem (ids.map (wm_ph cs ln sl)) (sd.map (wm_ph cs ln sl))) (k - n)) (g_clauseCap, g_heapCap, g_frameCap, g_choiceCap, g_draftCount, g_clauses, g_queryCount, g_status, g_depth, g_choiceCount, g_solutions, g_steps, g_complete, g_compoundCount, g_equations, g_goalCount, b_draft, b_clauseCodes, b_clauseLength, b_query, b_trace, b_choiceDepths, b_choiceNexts, b_code, b_link, b_compound, b_finite, b_left, b_right, b_goals, b_atomPlace, st, se)) →
      wY_written_8 post (nI k) g_clauseCap g_heapCap g_frameCap g_choiceCap g_draftCount g_clauses g_queryCount g_status g_depth g_choiceCount g_solutions g_steps g_complete g_compoundCount g_equations g_goalCount m x3 x4 (nI n) b_draft b_clauseCodes b_clauseLength b_query b_trace b_choiceDepths b_choiceNexts b_code b_link b_compound b_finite b_left b_right b_goals b_atomPlace b_stack b_seen := by
  obtain ⟨u1, u2, u3, u4⟩ := hR
  intro rem
  induction rem with
  | zero => intro m n size ids sd x3 x4 b_stack b_seen h1 h2; omega
  | succ rem ih =>
    intro m n size ids sd x3 x4 b_stack b_seen h1 h2 h3 h4 h5 h6 h7 h8 h9 h10 h11 hp
    obtain ⟨m, rfl⟩ : ∃ z, m = z + 1 := ⟨m - 1, by omega⟩
    subst h4 h8
    refine wm_ltF k n h2 (wm_leF 256 n (by omega) ?_)
    have hlen : size = ids.length := by
      have := congrArg List.length h6
      rw [wm_sk_len, List.length_map] at this
      exact this
    cases ids with
    | nil =>
      simp only [List.length_nil] at hlen
      exact wm_leT size 0 (by omega) (hp b_stack b_seen)
    | cons x ids =>
      simp only [List.length_cons] at hlen
      obtain ⟨t, rfl⟩ : ∃ t, size = t + 1 := ⟨size - 1, by omega⟩
      rw [List.map_cons] at h6
      simp only [wm_sk] at h6
      obtain ⟨k1, k2⟩ := List.cons.inj h6
      have vx := h7 x List.mem_cons_self
      obtain ⟨v1, v2⟩ := u3 _ vx
      have dl := u2.1 x
      have h7' : ∀ z, z ∈ ids → wm_vi cs ln sl D z := fun z hz => h7 z (List.mem_cons_of_mem _ hz)
      refine wm_leF (t + 1) 0 (by omega) (nm_r (pk_m1 t) (And.intro (pk_in t 1100 (by omega)) (wy_find u1 (wm_vi_lt hW hD vx).1 (by omega) (wm_rx k1) ?_)))
      rw [List.map_cons] at hp
      simp only [wm_wr, v2] at hp
      rcases wm_vi_F hW hD hcp v1 with ⟨b1, j, q, b2, b3, b4, b5, b6, b7, b8, b9, b10⟩ | ⟨b1, b2, b3, b4⟩
      · have wj := hW j b2
        have cb : b_code (r x) = nI (cs (sl j) q) := by rw [b4]; exact hyc j b2 q b3
        have a4 := wm_ar4 (cs (sl j) q)
        rw [b6, if_pos b7] at hp
        have eargs : wm_args F G (wm_ph cs ln sl (r x)) = (wm_ga (fun i => wm_id (cs (sl j)) j (wm_ap (cs (sl j)) (ln (sl j)) q i)) (wm_ar (cs (sl j) q))).map (wm_ph cs ln sl) := by
          unfold wm_args wm_ga
          rw [b6]
          exact (wm_ga_map (fun i _ hi => ((b10 i (by omega)).1).symm)).symm
        have er : nI (r x) = nI (32 * j + q) := by rw [← b4]
        refine wm_ltT (r x) 4128 b1 (And.intro (pk_in (r x) 4128 b1) (nm_r (wm_rx cb) (wy_ar (cs (sl j) q) (Or.inl b7) rfl (nm_r (e' := nI (wm_ar (cs (sl j) q)) + (-1)) (by rw [Int32.sub_eq_add_neg]) ⟨wm_ar (cs (sl j) q) + 1, ?_⟩))))
        rw [er]
        refine wy_wr_146 (size := t) (ids := ids) wj (by omega) (hyc j b2) b3 (by omega) (fun st hst => ?_) _ _ _ _ (Nat.le_refl _) (by omega) (by rw [Nat.sub_self]; rfl) (by rw [Nat.sub_self]; exact k2)
        refine pk_eq n k (fun e => ?_) (fun e => nm_r (nI_1 n) ?_)
        · subst e
          rw [Nat.sub_self] at hp
          exact hp st b_seen
        · refine ih m (n + 1) _ (wm_ga (fun i => wm_id (cs (sl j)) j (wm_ap (cs (sl j)) (ln (sl j)) q i)) (wm_ar (cs (sl j) q)) ++ ids) sd _ _ st b_seen (by omega) (by omega) (by omega) rfl (by omega) hst (fun z hz => ?_) rfl (by omega) h10 h11 (fun st' se' => ?_)
          · rcases List.mem_append.mp hz with w | w
            · obtain ⟨i, -, i2, rfl⟩ := wm_as_mem w
              exact (b10 i (by omega)).2
            · exact h7' z w
          · have := hp st' se'
            rw [show k - n = (k - (n + 1)) + 1 by omega] at this
            simp only [wm_tk] at this
            rw [List.map_append, ← eargs]
            exact this
      · have nF : ¬ F (wm_ph cs ln sl (r x)) < 80 := by omega
        rw [if_neg nF] at hp
        have emap : wm_ix (wm_ph cs ln sl (r x)) (sd.map (wm_ph cs ln sl)) = wm_ix (r x) sd := by
          refine wm_ix_map (fun a ha e => ?_)
          obtain ⟨i, hi⟩ := List.getElem?_of_mem ha
          obtain ⟨-, -, w3, w4⟩ := h10 i a hi
          exact wm_ph_inj hW hD w3 v1 e w4
        have ixl := wm_ix_le (m := r x) (l := sd)
        rw [emap] at hp
        unfold wm_seen at hp
        rw [emap, List.length_map] at hp
        refine wm_ltF (r x) 4128 b1 ⟨sd.length + 1, ?_⟩
        refine wy_wr_56 (sd := sd) b2 (by omega) (fun i a ha => ⟨(h10 i a ha).1, (h10 i a ha).2.1⟩) h11 (fun c => ?_) (fun c => ?_) _ 0 _ (Nat.zero_le _) (by omega) (by rw [if_neg (Nat.not_lt_zero _)])
        · rw [if_pos c] at hp
          refine nm_r (e' := nI (128 + wm_ix (r x) sd)) (by rw [show (128 : Int32) = nI 128 from rfl, nI_add]) ?_
          refine pk_eq n k (fun e => ?_) (fun e => nm_r (nI_1 n) ?_)
          · subst e
            rw [Nat.sub_self] at hp
            exact hp b_stack b_seen
          · refine ih m (n + 1) t ids sd _ _ b_stack b_seen (by omega) (by omega) (by omega) rfl (by omega) k2 h7' rfl (by omega) h10 h11 (fun st' se' => ?_)
            have := hp st' se'
            rw [show k - n = (k - (n + 1)) + 1 by omega] at this
            simp only [wm_tk] at this
            exact this
        · rw [if_neg c] at hp
          refine nm_r (e' := nI (128 + wm_ix (r x) sd)) (by rw [show (128 : Int32) = nI 128 from rfl, nI_add]) ?_
          refine pk_eq n k (fun e => ?_) (fun e => nm_r (nI_1 n) ?_)
          · subst e
            rw [Nat.sub_self] at hp
            exact hp b_stack _
          · have nin := wm_ix_not c
            refine ih m (n + 1) t ids (sd ++ [r x]) _ _ b_stack _ (by omega) (by omega) (by omega) rfl (by omega) k2 h7' (by rw [List.length_append, List.length_singleton]) (by rw [List.length_append, List.length_singleton]; omega) (fun i a ha => ?_) (fun i j a ha hb => ?_) (fun st' se' => ?_)
            · rcases Nat.lt_trichotomy i sd.length with z | z | z
              · rw [List.getElem?_append_left z] at ha
                rw [pk_un (by omega)]; exact h10 i a ha
              · subst z
                rw [List.getElem?_concat_length] at ha
                cases ha
                exact ⟨pk_us, b2, v1, b4⟩
              · rw [List.getElem?_eq_none (by rw [List.length_append, List.length_singleton]; omega)] at ha
                cases ha
            · have aux : ∀ i : Nat, (sd ++ [r x])[i]? = some a → (i < sd.length ∧ sd[i]? = some a) ∨ (i = sd.length ∧ a = r x) := fun i hi => by
                rcases Nat.lt_trichotomy i sd.length with z | z | z
                · rw [List.getElem?_append_left z] at hi
                  exact Or.inl ⟨z, hi⟩
                · subst z
                  rw [List.getElem?_concat_length] at hi
                  cases hi
                  exact Or.inr ⟨rfl, rfl⟩
                · rw [List.getElem?_eq_none (by rw [List.length_append, List.length_singleton]; omega)] at hi
                  cases hi
              rcases aux i ha with ⟨y1, y2⟩ | ⟨y1, y2⟩
              · rcases aux j hb with ⟨z1, z2⟩ | ⟨z1, z2⟩
                · exact h11 i j a y2 z2
                · rw [z2] at y2
                  exact absurd (List.mem_of_getElem? y2) nin
              · rcases aux j hb with ⟨z1, z2⟩ | ⟨z1, z2⟩
                · rw [y2] at z2
                  exact absurd (List.mem_of_getElem? z2) nin
                · omega
            · have := hp st' se'
              rw [show k - n = (k - (n + 1)) + 1 by omega] at this
              simp only [wm_tk] at this
              rw [List.map_append]
              exact this
end
end
section
/-! the reference's fail and step -/
section
variable (cs : Nat → Nat → Nat) (ln : Nat → Nat)
/-- the nodes' picture at depth D -/
def wm_GP (sl : Nat → Nat) (D : Nat) (F : Nat → Nat) (G : Nat → Nat → Nat) : Prop :=
  wm_CP cs ln sl D F G ∧ wm_bs cs ln sl (D + 1) ≤ 272 ∧ (∀ a, a < wm_bs cs ln sl (D + 1) → ∀ k, k < wm_ar (F a) → G a k < wm_bs cs ln sl (D + 1)) ∧ (∀ n, n < wm_bs cs ln sl (D + 1) → (F n < 80 ∨ F n = 128) ∧ (n < 16 → F n = n) ∧ (16 ≤ n → 16 ≤ F n))
/-- what stands still in the reference while a query runs -/
def wm_SYs (m hc fc kc : Nat) (heapCap frameCap choiceCap draftCount clauses queryCount : Int32) (draft clauseCodes clauseLength query : Nat → Int32) : Prop :=
  (heapCap = nI hc ∧ frameCap = nI fc ∧ choiceCap = nI kc ∧ hc ≤ 256 ∧ fc ≤ 128 ∧ kc ≤ 64) ∧ clauses = nI m ∧ wm_YP m cs ln clauseCodes clauseLength ∧ wm_YS (-1) (cs 32) (ln 32) draftCount clauses queryCount draft clauseCodes clauseLength query
/-- the live state of the reference -/
def wm_YV (sl cd cx : Nat → Nat) (d q : Nat) (F : Nat → Nat) (G : Nat → Nat → Nat) (depth choiceCount goalCount : Int32) (trace choiceDepths choiceNexts code link goals : Nat → Int32) : Prop :=
  depth = nI d ∧ choiceCount = nI q ∧ (∀ i, i < d → trace i = nI (sl (i + 1))) ∧ (∀ i, i < q → choiceDepths i = nI (cd i) ∧ choiceNexts i = nI (cx i)) ∧ wm_YB cs ln sl d F G goalCount code link goals
end
section
variable {cs : Nat → Nat → Nat} {ln sl : Nat → Nat} {m hc fc kc D : Nat} {F : Nat → Nat} {G : Nat → Nat → Nat}
theorem wm_gp_of {fn lk arg : Nat → Int32} (hW : ∀ j, j ≤ D → wm_WC (cs (sl j)) (ln (sl j))) (h : wm_NDS cs ln sl D fn lk arg) (hT : wm_bs cs ln sl (D + 1) ≤ 272) : wm_GP cs ln sl D (wm_Fn fn) (wm_Gn arg) := by
  obtain ⟨gx, cp⟩ := wm_gx hW h hT
  exact ⟨cp, hT, wm_GX_G gx, fun n hn => (gx.2.1 n hn).2⟩
theorem wm_BH_mk {hC fC kC dcnt cl qc : Int32} {dr cC cL qu tr : Nat → Int32} (hS : wm_SYs cs ln m hc fc kc hC fC kC dcnt cl qc dr cC cL qu) (hD : D ≤ 128) (hT : wm_TO cs ln sl D) (h0 : sl 0 = 32) (hsl : ∀ i, 0 < i → i ≤ D → sl i < m) (hg : wm_GP cs ln sl D F G) (htr : ∀ i, i < D → tr i = nI (sl (i + 1))) :
    wm_BH cs ln sl D F G dcnt cl qc dr cC cL qu tr := by
  obtain ⟨s1, s2, s3, s4⟩ := hS
  obtain ⟨g1, g2, g3, g4⟩ := hg
  exact ⟨⟨hD, hT, g1, g2⟩, g3, g4, by rw [h0]; exact s4, fun i hi => ⟨htr i hi, wm_YP_YS s3 s2 (hsl (i + 1) (by omega) (by omega))⟩⟩
end
section
variable {g_clauseCap g_heapCap g_frameCap g_choiceCap g_draftCount g_clauses g_queryCount g_status g_depth g_choiceCount g_solutions g_steps g_complete g_compoundCount g_equations g_goalCount : Int32} {b_draft b_clauseCodes b_clauseLength b_query b_trace b_choiceDepths b_choiceNexts b_code b_link b_compound b_finite b_left b_right b_goals b_atomPlace b_stack b_seen : Nat → Int32}
variable {cs : Nat → Nat → Nat} {ln sl cd cx : Nat → Nat} {m hc fc kc d q : Nat} {F : Nat → Nat} {G : Nat → Nat → Nat}
theorem wy_fail_0 {post : SY → Prop} (hq : g_choiceCount = 0) (hp : post (g_clauseCap, g_heapCap, g_frameCap, g_choiceCap, g_draftCount, g_clauses, g_queryCount, 3, 0, g_choiceCount, g_solutions, g_steps, g_complete, g_compoundCount, g_equations, g_goalCount, b_draft, b_clauseCodes, b_clauseLength, b_query, b_trace, b_choiceDepths, b_choiceNexts, b_code, b_link, b_compound, b_finite, b_left, b_right, b_goals, b_atomPlace, b_stack, b_seen)) : wpY_fail post (g_clauseCap, g_heapCap, g_frameCap, g_choiceCap, g_draftCount, g_clauses, g_queryCount, g_status, g_depth, g_choiceCount, g_solutions, g_steps, g_complete, g_compoundCount, g_equations, g_goalCount, b_draft, b_clauseCodes, b_clauseLength, b_query, b_trace, b_choiceDepths, b_choiceNexts, b_code, b_link, b_compound, b_finite, b_left, b_right, b_goals, b_atomPlace, b_stack, b_seen) := by
  subst hq
  exact br_f (by decide) hp
theorem wy_fail_s {post : SY → Prop} {j : Nat} (hq : g_choiceCount = nI (q + 1)) (hq' : q < 64) (hj : b_choiceDepths q = nI j) (hH : wm_BH cs ln sl j F G g_draftCount g_clauses g_queryCount b_draft b_clauseCodes b_clauseLength b_query b_trace) (hgd : wm_Gd (wm_bs cs ln sl (j + 1)) F G (wm_qs cs ln sl j))
    (hp : ∀ (eq cc gc : Int32) (code comp link fin left right goals place : Nat → Int32), wm_YB cs ln sl j F G gc code link goals → post (g_clauseCap, g_heapCap, g_frameCap, g_choiceCap, g_draftCount, g_clauses, g_queryCount, 1, (nI j), g_choiceCount, g_solutions, g_steps, g_complete, cc, eq, gc, b_draft, b_clauseCodes, b_clauseLength, b_query, b_trace, b_choiceDepths, b_choiceNexts, code, link, comp, fin, left, right, goals, place, b_stack, b_seen)) : wpY_fail post (g_clauseCap, g_heapCap, g_frameCap, g_choiceCap, g_draftCount, g_clauses, g_queryCount, g_status, g_depth, g_choiceCount, g_solutions, g_steps, g_complete, g_compoundCount, g_equations, g_goalCount, b_draft, b_clauseCodes, b_clauseLength, b_query, b_trace, b_choiceDepths, b_choiceNexts, b_code, b_link, b_compound, b_finite, b_left, b_right, b_goals, b_atomPlace, b_stack, b_seen) := by
  subst hq
  refine wm_ltT 0 (q + 1) (by omega) (And.intro (pk_in q 64 hq' (nI_pred q)) (nm_r (wm_rx hj (nI_pred q)) ?_))
  refine wy_build rfl hH (fun r eq cc gc code comp link fin left right goals place ho => ?_)
  rcases ho with ⟨-, h1, -⟩ | ⟨-, h1⟩
  · exact hp eq cc gc code comp link fin left right goals place h1
  · exact absurd hgd h1
theorem wy_retrying {post : Int32 → Prop} (hd : g_depth = nI d) (hd' : d ≤ 128) (hq : g_choiceCount = nI q) (hq' : q ≤ 64) (hc : ∀ i, i < q → b_choiceDepths i = nI (cd i)) (hcd : ∀ i, i < q → cd i ≤ 128) (h1 : (∃ p, q = p + 1 ∧ cd p = d) → post 1) (h0 : (¬ ∃ p, q = p + 1 ∧ cd p = d) → post 0) : wpY_retrying post (g_clauseCap, g_heapCap, g_frameCap, g_choiceCap, g_draftCount, g_clauses, g_queryCount, g_status, g_depth, g_choiceCount, g_solutions, g_steps, g_complete, g_compoundCount, g_equations, g_goalCount, b_draft, b_clauseCodes, b_clauseLength, b_query, b_trace, b_choiceDepths, b_choiceNexts, b_code, b_link, b_compound, b_finite, b_left, b_right, b_goals, b_atomPlace, b_stack, b_seen) := by
  subst hd hq
  cases q with
  | zero => exact br_f (by decide) (h0 (fun ⟨p, h, _⟩ => by omega))
  | succ q =>
    have := hcd q (by omega)
    refine wm_ltT 0 (q + 1) (by omega) (And.intro (pk_in q 64 (by omega) (nI_pred q)) ?_)
    exact pk_eq (cd q) d (fun e => h1 ⟨q, rfl, e⟩) (fun e => h0 (fun ⟨p, h, h'⟩ => by
      have : p = q := by omega
      subst this; exact e h')) (wm_rx (hc q (by omega)) (nI_pred q))
theorem wy_step_237 {post : SY → Prop} {x : Int32} (hx : x = nI (sl (d + 1))) (hd : g_depth = nI d) (hd' : d < 128) (hH : wm_BH cs ln sl (d + 1) F G g_draftCount g_clauses g_queryCount b_draft b_clauseCodes b_clauseLength b_query (upd b_trace d (nI (sl (d + 1)))))
    (h1 : wm_Gd (wm_bs cs ln sl (d + 1 + 1)) F G (wm_qs cs ln sl (d + 1)) → ∀ (eq cc gc : Int32) (code comp link fin left right goals place : Nat → Int32), wm_YB cs ln sl (d + 1) F G gc code link goals →
      (wm_gl cs ln sl (d + 1) = [] → post (g_clauseCap, g_heapCap, g_frameCap, g_choiceCap, g_draftCount, g_clauses, g_queryCount, 2, (nI (d + 1)), g_choiceCount, (g_solutions + 1), g_steps, g_complete, cc, eq, gc, b_draft, b_clauseCodes, b_clauseLength, b_query, (upd b_trace d (nI (sl (d + 1)))), b_choiceDepths, b_choiceNexts, code, link, comp, fin, left, right, goals, place, b_stack, b_seen)) ∧
      (wm_gl cs ln sl (d + 1) ≠ [] → post (g_clauseCap, g_heapCap, g_frameCap, g_choiceCap, g_draftCount, g_clauses, g_queryCount, g_status, (nI (d + 1)), g_choiceCount, g_solutions, g_steps, g_complete, cc, eq, gc, b_draft, b_clauseCodes, b_clauseLength, b_query, (upd b_trace d (nI (sl (d + 1)))), b_choiceDepths, b_choiceNexts, code, link, comp, fin, left, right, goals, place, b_stack, b_seen)))
    (h0 : ¬ wm_Gd (wm_bs cs ln sl (d + 1 + 1)) F G (wm_qs cs ln sl (d + 1)) → ∀ (eq cc gc : Int32) (code comp link fin left right goals place : Nat → Int32), wpY_fail post (g_clauseCap, g_heapCap, g_frameCap, g_choiceCap, g_draftCount, g_clauses, g_queryCount, g_status, (nI (d + 1)), g_choiceCount, g_solutions, g_steps, g_complete, cc, eq, gc, b_draft, b_clauseCodes, b_clauseLength, b_query, (upd b_trace d (nI (sl (d + 1)))), b_choiceDepths, b_choiceNexts, code, link, comp, fin, left, right, goals, place, b_stack, b_seen)) :
    wY_step_237 post x g_clauseCap g_heapCap g_frameCap g_choiceCap g_draftCount g_clauses g_queryCount g_status g_depth g_choiceCount g_solutions g_steps g_complete g_compoundCount g_equations g_goalCount b_draft b_clauseCodes b_clauseLength b_query b_trace b_choiceDepths b_choiceNexts b_code b_link b_compound b_finite b_left b_right b_goals b_atomPlace b_stack b_seen := by
  subst hx hd
  refine And.intro (pk_in d 128 hd') (nm_r (wm_ux rfl) (nm_r (nI_1 d) ?_))
  refine wy_build rfl hH (fun r eq cc gc code comp link fin left right goals place ho => ?_)
  rcases ho with ⟨rfl, y1, y2⟩ | ⟨rfl, y1⟩
  · obtain ⟨p1, p2⟩ := h1 y2 eq cc gc code comp link fin left right goals place y1
    have hgl := wm_gl_len hH.1.2.1.1 (d + 1) (Nat.le_refl _)
    refine wm_eqF 1 0 (by omega) ?_
    refine pk_eq (wm_gl cs ln sl (d + 1)).length 0 (fun e => nm_e (p1 (List.length_eq_zero_iff.mp e))) (fun e => p2 (fun z => e (by rw [z]; rfl))) y1.2.1
  · exact wm_eqT 0 0 rfl (h0 y1 eq cc gc code comp link fin left right goals place)
end
end
section
/-! the dynamic parts of the relation; fail on both sides -/
def wm_lv (st : Nat) : Prop := st ≠ 0 ∧ st ≠ 3
section
variable (cs : Nat → Nat → Nat) (ln : Nat → Nat)
def wm_CH (sl : Nat → Nat) (m d q : Nat) (cd cx : Nat → Nat) : Prop :=
  (∀ i, i < q → cd i ≤ d ∧ cx i < m ∧ ∃ f j, (wm_gl cs ln sl (cd i)).head? = some (f, j) ∧ cs (sl f) (wm_pq cs ln sl f j) = cs (cx i) 0) ∧ (∀ i i', i < i' → i' < q → cd i ≤ cd i')
def wm_PV (m hc fc kc st d q : Nat) (sl cd cx : Nat → Nat) : Prop :=
  d ≤ fc ∧ q ≤ kc ∧ wm_TO cs ln sl d ∧ sl 0 = 32 ∧ (∀ i, 0 < i → i ≤ d → sl i < m) ∧ wm_hp cs ln sl d ≤ hc ∧ wm_CH cs ln sl m d q cd cx ∧ (st = 2 ↔ wm_gl cs ln sl d = [])
def wm_XV (d q : Nat) (sl ta t cd cx : Nat → Nat) (depth choiceCount trailLen : Int32) (choiceDepth choiceNext frameSlot frameBase nodeTop heapAt pendingAt trailAt contFrame contAtom selFrame selAtom nodeFn nodeLink nodeArg trail : Nat → Int32) : Prop :=
  depth = nI d ∧ choiceCount = nI q ∧ trailLen = nI (ta d) ∧ (∀ i, i < q → choiceDepth i = nI (cd i) ∧ choiceNext i = nI (cx i)) ∧ wm_FRM cs ln sl d ta frameSlot frameBase nodeTop heapAt pendingAt trailAt ∧ wm_CNT cs ln sl d contFrame contAtom selFrame selAtom ∧ wm_NDS cs ln sl d nodeFn nodeLink nodeArg ∧
  wm_TRL cs ln sl d ta t (wm_Fn nodeFn) (wm_Gn nodeArg) nodeLink trail (ta d)
def wm_WA (sl : Nat → Nat) (d : Nat) (F : Nat → Nat) (G : Nat → Nat → Nat) (answerLen : Int32) (writing : Nat → Int32) : Prop :=
  answerLen = -1 ∨ ∃ toks : List Nat, answerLen = nI toks.length ∧ toks.length ≤ 256 ∧ wm_at writing 0 toks ∧ ∀ ρ, wm_Sv (wm_bs cs ln sl (d + 1)) F G (wm_qs cs ln sl d) ρ → toks = wm_wr F G ρ 256 (wm_qv (wm_vs (cs 32) (ln 32))) []
def wm_gn (sl : Nat → Nat) (f j : Nat) : List Nat := wm_ga (fun i => wm_nc cs ln sl f (wm_aq cs ln sl f (wm_pq cs ln sl f j) i)) (wm_ar (cs (sl f) (wm_pq cs ln sl f j)))
def wm_WG (sl : Nat → Nat) (d : Nat) (F : Nat → Nat) (G : Nat → Nat → Nat) (goalLen : Int32) (writing : Nat → Int32) : Prop :=
  goalLen = -1 ∨ ∃ (f j : Nat) (toks : List Nat), (wm_gl cs ln sl d).head? = some (f, j) ∧ goalLen = nI (1 + toks.length) ∧ toks.length ≤ 255 ∧ writing 256 = nI (cs (sl f) (wm_pq cs ln sl f j)) ∧ wm_at writing 257 toks ∧ ∀ ρ, wm_Sv (wm_bs cs ln sl (d + 1)) F G (wm_qs cs ln sl d) ρ → toks = wm_wr F G ρ 255 (wm_gn cs ln sl f j) []
def wm_XD (m hc fc kc st d q : Nat) (so sp : Int32) (sl ta t cd cx : Nat → Nat) (status depth choiceCount trailLen solutions steps answerLen goalLen : Int32) (choiceDepth choiceNext frameSlot frameBase nodeTop heapAt pendingAt trailAt contFrame contAtom selFrame selAtom nodeFn nodeLink nodeArg trail writing : Nat → Int32) : Prop :=
  (st ≤ 6 ∧ status = nI st ∧ solutions = so ∧ steps = sp) ∧ (∀ c, c < 16 → nodeFn c = nI c ∧ nodeLink c = -1) ∧ (¬ wm_lv st → depth = 0 ∧ choiceCount = 0) ∧
  (wm_lv st → wm_PV cs ln m hc fc kc st d q sl cd cx ∧ wm_XV cs ln d q sl ta t cd cx depth choiceCount trailLen choiceDepth choiceNext frameSlot frameBase nodeTop heapAt pendingAt trailAt contFrame contAtom selFrame selAtom nodeFn nodeLink nodeArg trail ∧
    wm_WA cs ln sl d (wm_Fn nodeFn) (wm_Gn nodeArg) answerLen writing ∧ wm_WG cs ln sl d (wm_Fn nodeFn) (wm_Gn nodeArg) goalLen writing)
def wm_YD (st d q : Nat) (so sp : Int32) (sl cd cx : Nat → Nat) (F : Nat → Nat) (G : Nat → Nat → Nat) (status depth choiceCount solutions steps goalCount : Int32) (trace choiceDepths choiceNexts code link goals : Nat → Int32) : Prop :=
  (status = nI st ∧ solutions = so ∧ steps = sp) ∧ (wm_lv st → wm_YV cs ln sl cd cx d q F G depth choiceCount goalCount trace choiceDepths choiceNexts code link goals)
/-- the reference fails along -/
def wm_YF (m hc fc kc st' d d' q : Nat) (so sp : Int32) (sl cd cx : Nat → Nat) (F : Nat → Nat) (G : Nat → Nat → Nat) : Prop :=
  ∀ (g_clauseCap g_heapCap g_frameCap g_choiceCap g_draftCount g_clauses g_queryCount g_status g_depth g_choiceCount g_solutions g_steps g_complete g_compoundCount g_equations g_goalCount : Int32) (b_draft b_clauseCodes b_clauseLength b_query b_trace b_choiceDepths b_choiceNexts b_code b_link b_compound b_finite b_left b_right b_goals b_atomPlace b_stack b_seen : Nat → Int32), wm_SYs cs ln m hc fc kc g_heapCap g_frameCap g_choiceCap g_draftCount g_clauses g_queryCount b_draft b_clauseCodes b_clauseLength b_query → g_choiceCount = nI q → (∀ i, i < q → b_choiceDepths i = nI (cd i) ∧ b_choiceNexts i = nI (cx i)) → (∀ i, i < d → b_trace i = nI (sl (i + 1))) → g_solutions = so → g_steps = sp →
    ∀ post : SY → Prop, (∀ (g_status' g_depth' g_choiceCount' g_solutions' g_steps' g_compoundCount' g_equations' g_goalCount' : Int32) (b_trace' b_choiceDepths' b_choiceNexts' b_code' b_link' b_compound' b_finite' b_left' b_right' b_goals' b_atomPlace' : Nat → Int32), wm_YD cs ln st' d' q so sp sl cd cx F G g_status' g_depth' g_choiceCount' g_solutions' g_steps' g_goalCount' b_trace' b_choiceDepths' b_choiceNexts' b_code' b_link' b_goals' → post (g_clauseCap, g_heapCap, g_frameCap, g_choiceCap, g_draftCount, g_clauses, g_queryCount, g_status', g_depth', g_choiceCount', g_solutions', g_steps', g_complete, g_compoundCount', g_equations', g_goalCount', b_draft, b_clauseCodes, b_clauseLength, b_query, b_trace', b_choiceDepths', b_choiceNexts', b_code', b_link', b_compound', b_finite', b_left', b_right', b_goals', b_atomPlace', b_stack, b_seen)) → wpY_fail post (g_clauseCap, g_heapCap, g_frameCap, g_choiceCap, g_draftCount, g_clauses, g_queryCount, g_status, g_depth, g_choiceCount, g_solutions, g_steps, g_complete, g_compoundCount, g_equations, g_goalCount, b_draft, b_clauseCodes, b_clauseLength, b_query, b_trace, b_choiceDepths, b_choiceNexts, b_code, b_link, b_compound, b_finite, b_left, b_right, b_goals, b_atomPlace, b_stack, b_seen)
end
theorem wm_hp_le {cs : Nat → Nat → Nat} {ln sl : Nat → Nat} {d e : Nat} (h : d ≤ e) : wm_hp cs ln sl d ≤ wm_hp cs ln sl e := by
  induction h with
  | refl => exact Nat.le_refl _
  | step _ ih => exact Nat.le_trans ih (Nat.le_add_right _ _)
theorem wm_XS_gd {T : Nat} {F : Nat → Nat} {G : Nat → Nat → Nat} {Q : Nat → Nat → Prop} {L : Nat → Int32} {B : Nat} (h : wm_XS T F G Q L B) : wm_Gd T F G Q := by
  obtain ⟨ρ, δ, rk, -, -, h3, h4, -⟩ := h
  exact ⟨ρ, rk, h3, h4⟩
section
variable {f_clauseCap f_heapCap f_frameCap f_choiceCap f_querySlot f_firstNode f_draftLen f_draftOpen f_draftAtoms f_programUsed f_clauses f_trailLen f_depth f_choiceCount f_status f_solutions f_steps f_complete f_pairTop f_writeTop f_answerLen f_goalLen : Int32} {a_draft a_code a_skip a_local a_slotStart a_slotLen a_slotAtoms a_slotVars a_slotNodes a_slotWeight a_slotKey a_atomPlace a_nodeFn a_nodeLink a_nodeArg a_trail a_frameSlot a_frameBase a_contFrame a_contAtom a_selFrame a_selAtom a_nodeTop a_trailAt a_heapAt a_pendingAt a_choiceDepth a_choiceNext a_pairLeft a_pairRight a_colour a_dfsNode a_dfsArg a_writing a_writeStack a_varNumber : Nat → Int32}
variable {cs : Nat → Nat → Nat} {ln sl ta t cd cx : Nat → Nat} {m hc fc kc d q tl : Nat} {so sp : Int32}
theorem wz_fail {post : SX → Prop} (hfc : fc ≤ 128) (hkc : kc ≤ 64) (hhc : hc ≤ 256) (hd : d ≤ fc) (hq : q ≤ kc) (hT : wm_TO cs ln sl d) (h0 : sl 0 = 32) (hsl : ∀ i, 0 < i → i ≤ d → sl i < m) (hhp : wm_hp cs ln sl d ≤ hc) (hCH : wm_CH cs ln sl m d q cd cx)
    (hcq : f_choiceCount = nI q) (hch : ∀ i, i < q → a_choiceDepth i = nI (cd i) ∧ a_choiceNext i = nI (cx i)) (hF : wm_FRM cs ln sl d ta a_frameSlot a_frameBase a_nodeTop a_heapAt a_pendingAt a_trailAt) (hC : wm_CNT cs ln sl d a_contFrame a_contAtom a_selFrame a_selAtom)
    (hN : wm_NDS cs ln sl d a_nodeFn a_nodeLink a_nodeArg) (hR : wm_TRL cs ln sl d ta t (wm_Fn a_nodeFn) (wm_Gn a_nodeArg) a_nodeLink a_trail tl) (htl : f_trailLen = nI tl) (hso : f_solutions = so) (hsp : f_steps = sp)
    (hp : ∀ (st' d' : Nat) (f_trailLen' f_depth' f_choiceCount' f_status' f_solutions' f_steps' f_pairTop' f_answerLen' f_goalLen' : Int32) (a_nodeFn' a_nodeLink' a_nodeArg' a_trail' a_frameSlot' a_frameBase' a_contFrame' a_contAtom' a_selFrame' a_selAtom' a_nodeTop' a_trailAt' a_heapAt' a_pendingAt' a_choiceDepth' a_choiceNext' a_pairLeft' a_pairRight' a_colour' a_dfsNode' a_dfsArg' : Nat → Int32), wm_XD cs ln m hc fc kc st' d' q so sp sl ta t cd cx f_status' f_depth' f_choiceCount' f_trailLen' f_solutions' f_steps' f_answerLen' f_goalLen' a_choiceDepth' a_choiceNext' a_frameSlot' a_frameBase' a_nodeTop' a_heapAt' a_pendingAt' a_trailAt' a_contFrame' a_contAtom' a_selFrame' a_selAtom' a_nodeFn' a_nodeLink' a_nodeArg' a_trail' a_writing → wm_YF cs ln m hc fc kc st' d d' q so sp sl cd cx (wm_Fn a_nodeFn') (wm_Gn a_nodeArg') → post (f_clauseCap, f_heapCap, f_frameCap, f_choiceCap, f_querySlot, f_firstNode, f_draftLen, f_draftOpen, f_draftAtoms, f_programUsed, f_clauses, f_trailLen', f_depth', f_choiceCount', f_status', f_solutions', f_steps', f_complete, f_pairTop', f_writeTop, f_answerLen', f_goalLen', a_draft, a_code, a_skip, a_local, a_slotStart, a_slotLen, a_slotAtoms, a_slotVars, a_slotNodes, a_slotWeight, a_slotKey, a_atomPlace, a_nodeFn', a_nodeLink', a_nodeArg', a_trail', a_frameSlot', a_frameBase', a_contFrame', a_contAtom', a_selFrame', a_selAtom', a_nodeTop', a_trailAt', a_heapAt', a_pendingAt', a_choiceDepth', a_choiceNext', a_pairLeft', a_pairRight', a_colour', a_dfsNode', a_dfsArg', a_writing, a_writeStack, a_varNumber)) : wpX_fail post (f_clauseCap, f_heapCap, f_frameCap, f_choiceCap, f_querySlot, f_firstNode, f_draftLen, f_draftOpen, f_draftAtoms, f_programUsed, f_clauses, f_trailLen, f_depth, f_choiceCount, f_status, f_solutions, f_steps, f_complete, f_pairTop, f_writeTop, f_answerLen, f_goalLen, a_draft, a_code, a_skip, a_local, a_slotStart, a_slotLen, a_slotAtoms, a_slotVars, a_slotNodes, a_slotWeight, a_slotKey, a_atomPlace, a_nodeFn, a_nodeLink, a_nodeArg, a_trail, a_frameSlot, a_frameBase, a_contFrame, a_contAtom, a_selFrame, a_selAtom, a_nodeTop, a_trailAt, a_heapAt, a_pendingAt, a_choiceDepth, a_choiceNext, a_pairLeft, a_pairRight, a_colour, a_dfsNode, a_dfsArg, a_writing, a_writeStack, a_varNumber) := by
  cases q with
  | zero =>
    refine wx_fail_0 hcq ?_
    refine hp 3 0 _ _ _ _ _ _ _ _ _ _ _ _ _ _ _ _ _ _ _ _ _ _ _ _ _ _ _ _ _ _ ⟨⟨by omega, rfl, hso, hsp⟩, hN.1, fun _ => ⟨rfl, hcq⟩, fun h => absurd rfl h.2⟩ ?_
    intro g_clauseCap g_heapCap g_frameCap g_choiceCap g_draftCount g_clauses g_queryCount g_status g_depth g_choiceCount g_solutions g_steps g_complete g_compoundCount g_equations g_goalCount b_draft b_clauseCodes b_clauseLength b_query b_trace b_choiceDepths b_choiceNexts b_code b_link b_compound b_finite b_left b_right b_goals b_atomPlace b_stack b_seen hS hqc hcc htr hso' hsp' post' hp'
    exact wy_fail_0 hqc (hp' _ _ _ _ _ _ _ _ _ _ _ _ _ _ _ _ _ _ _ ⟨⟨rfl, hso', hsp'⟩, fun h => absurd rfl h.2⟩)
  | succ p =>
    obtain ⟨c1, c2⟩ := hCH
    obtain ⟨j1, j2, f, j, j3, j4⟩ := c1 p (by omega)
    have b1 := wm_bs_hp (cs := cs) (ln := ln) (sl := sl) (cd p)
    have hpj := wm_hp_le (cs := cs) (ln := ln) (sl := sl) j1
    refine wx_fail_s (cs := cs) (ln := ln) (sl := sl) (ta := ta) (t := t) (d := d) (j := cd p) (tl := tl) hcq (by omega) (hch p (by omega)).1 j1 (by omega) hF htl hR (fun L' r1 r2 => ?_)
    have hTj : wm_TO cs ln sl (cd p) := wm_TO_le j1 hT
    have hNj : wm_NDS cs ln sl (cd p) a_nodeFn L' a_nodeArg := ⟨fun c hc' => ⟨(hN.1 c hc').1, by rw [r2 c hc']; exact (hN.1 c hc').2⟩, fun i hi => hN.2 i (by omega)⟩
    refine hp 1 (cd p) _ _ _ _ _ _ _ _ _ _ _ _ _ _ _ _ _ _ _ _ _ _ _ _ _ _ _ _ _ _ ⟨⟨by omega, rfl, hso, hsp⟩, hNj.1, fun h => absurd ⟨by omega, by omega⟩ h, fun _ => ⟨⟨by omega, hq, hTj, h0, fun i a b => hsl i a (by omega), by omega, ⟨fun i hi => ?_, c2⟩, ?_⟩, ⟨rfl, hcq, rfl, hch, fun i hi => hF i (by omega), fun i hi => hC i (by omega), hNj, r1⟩, Or.inl rfl, Or.inl rfl⟩⟩ ?_
    · obtain ⟨k1, k2⟩ := c1 i hi
      refine ⟨?_, k2⟩
      rcases Nat.lt_or_ge i p with z | z
      · exact c2 i p z (by omega)
      · have : i = p := by omega
        subst this; exact Nat.le_refl _
    · exact ⟨fun h => by omega, fun h => by rw [h] at j3; cases j3⟩
    · have hXS := ((r1.1 (cd p) (Nat.le_refl _)).2 L' (fun n hn => ⟨fun ⟨i, y1, y2, y3⟩ => by omega, fun _ => rfl⟩))
      have hgd : wm_Gd (wm_bs cs ln sl (cd p + 1)) (wm_Fn a_nodeFn) (wm_Gn a_nodeArg) (wm_qs cs ln sl (cd p)) := wm_XS_gd hXS
      have hgp : wm_GP cs ln sl (cd p) (wm_Fn a_nodeFn) (wm_Gn a_nodeArg) := wm_gp_of hTj.1 hNj (by omega)
      intro g_clauseCap g_heapCap g_frameCap g_choiceCap g_draftCount g_clauses g_queryCount g_status g_depth g_choiceCount g_solutions g_steps g_complete g_compoundCount g_equations g_goalCount b_draft b_clauseCodes b_clauseLength b_query b_trace b_choiceDepths b_choiceNexts b_code b_link b_compound b_finite b_left b_right b_goals b_atomPlace b_stack b_seen hS hqc hcc htr hso' hsp' post' hp'
      have hBH := wm_BH_mk (tr := b_trace) hS (by omega : cd p ≤ 128) hTj h0 (fun i a b => hsl i a (by omega)) hgp (fun i hi => htr i (by omega))
      refine wy_fail_s hqc (by omega) (hcc p (by omega)).1 hBH hgd (fun eq cc gc code comp link fin left right goals place hYB => ?_)
      exact hp' _ _ _ _ _ _ _ _ _ _ _ _ _ _ _ _ _ _ _ ⟨⟨rfl, hso', hsp'⟩, fun _ => ⟨rfl, hqc, fun i hi => htr i (by omega), hcc, hYB⟩⟩
end
end
section
/-! the step behind its choice of a clause, on both sides -/
section
variable (cs : Nat → Nat → Nat) (ln : Nat → Nat)
def wm_YG (m hc fc kc st' d d' q : Nat) (so so' sp : Int32) (sl cd cx : Nat → Nat) (F : Nat → Nat) (G : Nat → Nat → Nat) : Prop :=
  ∀ (g_clauseCap g_heapCap g_frameCap g_choiceCap g_draftCount g_clauses g_queryCount g_status g_depth g_choiceCount g_solutions g_steps g_complete g_compoundCount g_equations g_goalCount : Int32) (b_draft b_clauseCodes b_clauseLength b_query b_trace b_choiceDepths b_choiceNexts b_code b_link b_compound b_finite b_left b_right b_goals b_atomPlace b_stack b_seen : Nat → Int32), wm_SYs cs ln m hc fc kc g_heapCap g_frameCap g_choiceCap g_draftCount g_clauses g_queryCount b_draft b_clauseCodes b_clauseLength b_query → g_status = 1 → g_depth = nI d → g_choiceCount = nI q → (∀ i, i < q → b_choiceDepths i = nI (cd i) ∧ b_choiceNexts i = nI (cx i)) → (∀ i, i < d → b_trace i = nI (sl (i + 1))) → g_solutions = so → g_steps = sp →
    ∀ post : SY → Prop, (∀ (g_status' g_depth' g_choiceCount' g_solutions' g_steps' g_compoundCount' g_equations' g_goalCount' : Int32) (b_trace' b_choiceDepths' b_choiceNexts' b_code' b_link' b_compound' b_finite' b_left' b_right' b_goals' b_atomPlace' : Nat → Int32), wm_YD cs ln st' d' q so' sp sl cd cx F G g_status' g_depth' g_choiceCount' g_solutions' g_steps' g_goalCount' b_trace' b_choiceDepths' b_choiceNexts' b_code' b_link' b_goals' → post (g_clauseCap, g_heapCap, g_frameCap, g_choiceCap, g_draftCount, g_clauses, g_queryCount, g_status', g_depth', g_choiceCount', g_solutions', g_steps', g_complete, g_compoundCount', g_equations', g_goalCount', b_draft, b_clauseCodes, b_clauseLength, b_query, b_trace', b_choiceDepths', b_choiceNexts', b_code', b_link', b_compound', b_finite', b_left', b_right', b_goals', b_atomPlace', b_stack, b_seen)) → wY_step_237 post (nI (sl (d + 1))) g_clauseCap g_heapCap g_frameCap g_choiceCap g_draftCount g_clauses g_queryCount g_status g_depth g_choiceCount g_solutions g_steps g_complete g_compoundCount g_equations g_goalCount b_draft b_clauseCodes b_clauseLength b_query b_trace b_choiceDepths b_choiceNexts b_code b_link b_compound b_finite b_left b_right b_goals b_atomPlace b_stack b_seen
end
theorem wm_TRL_s {cs : Nat → Nat → Nat} {ln sl ta t : Nat → Nat} {d : Nat} {F : Nat → Nat} {G : Nat → Nat → Nat} {L tr : Nat → Int32} {tl : Nat} (h : wm_TRL cs ln sl d ta t F G L tr tl) (hx : wm_XS (wm_bs cs ln sl (d + 1 + 1)) F G (wm_qs cs ln sl (d + 1)) L tl) (hb : ∀ i, i < tl → t i < wm_bs cs ln sl (d + 1 + 1)) :
    wm_TRL cs ln sl (d + 1) (wm_u ta (d + 1) tl) t F G L tr (wm_u ta (d + 1) tl (d + 1)) := by
  obtain ⟨h1, h2, h3, h4⟩ := h
  rw [wm_us]
  refine ⟨fun j hj => ?_, ⟨h2.1, h2.2.1, fun j hj i hi => ?_⟩, h3, fun i j hij hj => ?_⟩
  · rcases Nat.lt_or_ge d j with z | z
    · have : j = d + 1 := by omega
      subst this
      rw [wm_us]
      refine ⟨Nat.le_refl _, fun L' hu => ?_⟩
      exact wm_XS_congr (fun _ _ => rfl) (fun _ _ _ _ => rfl) (fun n hn => (hu n hn).2 (fun i a b => by omega)) hx
    · rw [wm_un (by omega)]; exact h1 j z
  · rcases Nat.lt_or_ge d j with z | z
    · have : j = d + 1 := by omega
      subst this
      rw [wm_us] at hi; exact hb i hi
    · rw [wm_un (by omega)] at hi; exact h2.2.2 j z i hi
  · rcases Nat.lt_or_ge d j with z | z
    · have : j = d + 1 := by omega
      subst this
      rw [wm_us]
      rcases Nat.lt_or_ge d i with y | y
      · have : i = d + 1 := by omega
        subst this; rw [wm_us]; exact Nat.le_refl _
      · rw [wm_un (by omega)]; exact (h1 i y).1
    · rw [wm_un (by omega), wm_un (by omega)]; exact h4 i j hij z
section
variable {f_clauseCap f_heapCap f_frameCap f_choiceCap f_querySlot f_firstNode f_draftLen f_draftOpen f_draftAtoms f_programUsed f_clauses f_trailLen f_depth f_choiceCount f_status f_solutions f_steps f_complete f_pairTop f_writeTop f_answerLen f_goalLen : Int32} {a_draft a_code a_skip a_local a_slotStart a_slotLen a_slotAtoms a_slotVars a_slotNodes a_slotWeight a_slotKey a_atomPlace a_nodeFn a_nodeLink a_nodeArg a_trail a_frameSlot a_frameBase a_contFrame a_contAtom a_selFrame a_selAtom a_nodeTop a_trailAt a_heapAt a_pendingAt a_choiceDepth a_choiceNext a_pairLeft a_pairRight a_colour a_dfsNode a_dfsArg a_writing a_writeStack a_varNumber : Nat → Int32}
variable {cs : Nat → Nat → Nat} {ln sl ss ta t cd cx : Nat → Nat} {m hc fc kc d q : Nat} {so sp : Int32}
theorem wz_go {post : SX → Prop} {x : Int32} (hx : x = nI (sl (d + 1))) (hS : wm_SLs m cs ln ss a_code a_skip a_local a_slotStart a_slotLen a_slotAtoms a_slotVars a_slotNodes a_slotWeight a_slotKey a_atomPlace) (hfc : fc ≤ 128) (hkc : kc ≤ 64) (hhc : hc ≤ 256) (hd : d + 1 ≤ fc) (hq : q ≤ kc) (hT : wm_TO cs ln sl (d + 1)) (h0 : sl 0 = 32) (hsl : ∀ i, 0 < i → i ≤ d + 1 → sl i < m) (hhp : wm_hp cs ln sl (d + 1) ≤ hc) (hCH : wm_CH cs ln sl m d q cd cx)
    (hst : f_status = 1) (hdp : f_depth = nI d) (hcq : f_choiceCount = nI q) (hch : ∀ i, i < q → a_choiceDepth i = nI (cd i) ∧ a_choiceNext i = nI (cx i)) (hF : wm_FRM cs ln sl d ta a_frameSlot a_frameBase a_nodeTop a_heapAt a_pendingAt a_trailAt) (hC : wm_CNT cs ln sl d a_contFrame a_contAtom a_selFrame a_selAtom)
    (hN : wm_NDS cs ln sl d a_nodeFn a_nodeLink a_nodeArg) (hR : wm_TRL cs ln sl d ta t (wm_Fn a_nodeFn) (wm_Gn a_nodeArg) a_nodeLink a_trail (ta d)) (htl : f_trailLen = nI (ta d)) (hso : f_solutions = so) (hsp : f_steps = sp)
    (hp : ∀ (st' d' : Nat) (so' : Int32) (ta' t' : Nat → Nat) (f_trailLen' f_depth' f_choiceCount' f_status' f_solutions' f_steps' f_pairTop' f_answerLen' f_goalLen' : Int32) (a_nodeFn' a_nodeLink' a_nodeArg' a_trail' a_frameSlot' a_frameBase' a_contFrame' a_contAtom' a_selFrame' a_selAtom' a_nodeTop' a_trailAt' a_heapAt' a_pendingAt' a_choiceDepth' a_choiceNext' a_pairLeft' a_pairRight' a_colour' a_dfsNode' a_dfsArg' : Nat → Int32), wm_XD cs ln m hc fc kc st' d' q so' sp sl ta' t' cd cx f_status' f_depth' f_choiceCount' f_trailLen' f_solutions' f_steps' f_answerLen' f_goalLen' a_choiceDepth' a_choiceNext' a_frameSlot' a_frameBase' a_nodeTop' a_heapAt' a_pendingAt' a_trailAt' a_contFrame' a_contAtom' a_selFrame' a_selAtom' a_nodeFn' a_nodeLink' a_nodeArg' a_trail' a_writing → wm_YG cs ln m hc fc kc st' d d' q so so' sp sl cd cx (wm_Fn a_nodeFn') (wm_Gn a_nodeArg') → post (f_clauseCap, f_heapCap, f_frameCap, f_choiceCap, f_querySlot, f_firstNode, f_draftLen, f_draftOpen, f_draftAtoms, f_programUsed, f_clauses, f_trailLen', f_depth', f_choiceCount', f_status', f_solutions', f_steps', f_complete, f_pairTop', f_writeTop, f_answerLen', f_goalLen', a_draft, a_code, a_skip, a_local, a_slotStart, a_slotLen, a_slotAtoms, a_slotVars, a_slotNodes, a_slotWeight, a_slotKey, a_atomPlace, a_nodeFn', a_nodeLink', a_nodeArg', a_trail', a_frameSlot', a_frameBase', a_contFrame', a_contAtom', a_selFrame', a_selAtom', a_nodeTop', a_trailAt', a_heapAt', a_pendingAt', a_choiceDepth', a_choiceNext', a_pairLeft', a_pairRight', a_colour', a_dfsNode', a_dfsArg', a_writing, a_writeStack, a_varNumber)) : wX_step_134 post x f_clauseCap f_heapCap f_frameCap f_choiceCap f_querySlot f_firstNode f_draftLen f_draftOpen f_draftAtoms f_programUsed f_clauses f_trailLen f_depth f_choiceCount f_status f_solutions f_steps f_complete f_pairTop f_writeTop f_answerLen f_goalLen a_draft a_code a_skip a_local a_slotStart a_slotLen a_slotAtoms a_slotVars a_slotNodes a_slotWeight a_slotKey a_atomPlace a_nodeFn a_nodeLink a_nodeArg a_trail a_frameSlot a_frameBase a_contFrame a_contAtom a_selFrame a_selAtom a_nodeTop a_trailAt a_heapAt a_pendingAt a_choiceDepth a_choiceNext a_pairLeft a_pairRight a_colour a_dfsNode a_dfsArg a_writing a_writeStack a_varNumber := by
  subst hx
  have hsl32 : ∀ i, i ≤ d + 1 → (sl i < m ∨ sl i = 32) := fun i hi => by
    rcases Nat.eq_zero_or_pos i with z | z
    · subst z; exact Or.inr h0
    · exact Or.inl (hsl i z hi)
  have bT := wm_bs_hp (cs := cs) (ln := ln) (sl := sl) (d + 1)
  obtain ⟨f, j, hg1, hg2⟩ := hT.2 d (by omega)
  unfold wX_step_134
  refine wx_unifyHead (t := t) rfl hdp (by omega) hS hsl32 hF hC hT hN hR htl (by omega) (fun r fn lk arg tr tl pt PL PR col dn da hU => ?_)
  obtain ⟨u1, ⟨t', u2, u3⟩, u4⟩ := hU
  have hN0 : wm_NDS cs ln sl d fn lk arg := ⟨u1.1, fun i hi => u1.2 i (by omega)⟩
  have hgp : wm_GP cs ln sl (d + 1) (wm_Fn fn) (wm_Gn arg) := wm_gp_of hT.1 u1 (by omega)
  rcases u4 with ⟨rfl, hXS⟩ | ⟨rfl, hng⟩
  · refine wm_eqF 1 0 (by omega) ?_
    have hgd := wm_XS_gd hXS
    have chs : wm_CH cs ln sl m (d + 1) q cd cx := ⟨fun i hi => ⟨by have := (hCH.1 i hi).1; omega, (hCH.1 i hi).2⟩, hCH.2⟩
    refine wx_enter (tl := tl) rfl hdp (by omega) hS hsl32 hF hC hg1 rfl (fun fs fb cf ca sf sa nt tA hA pA e1 e2 => ⟨fun hnil => ?_, fun hne => ?_⟩)
    · refine hp 2 (d + 1) (so + 1) (wm_u ta (d + 1) tl) t' _ _ _ _ _ _ _ _ _ _ _ _ _ _ _ _ _ _ _ _ _ _ _ _ _ _ _ _ _ _ ⟨⟨by omega, rfl, by rw [hso], hsp⟩, u1.1, fun h => absurd ⟨by omega, by omega⟩ h, fun _ => ⟨⟨hd, hq, hT, h0, hsl, hhp, chs, fun _ => hnil, fun _ => rfl⟩, ⟨rfl, hcq, by rw [wm_us], hch, e1, e2, u1, wm_TRL_s u2 hXS u3⟩, Or.inl rfl, Or.inl rfl⟩⟩ ?_
      intro g_clauseCap g_heapCap g_frameCap g_choiceCap g_draftCount g_clauses g_queryCount g_status g_depth g_choiceCount g_solutions g_steps g_complete g_compoundCount g_equations g_goalCount b_draft b_clauseCodes b_clauseLength b_query b_trace b_choiceDepths b_choiceNexts b_code b_link b_compound b_finite b_left b_right b_goals b_atomPlace b_stack b_seen hSy ys yd yq ych ytr yso ysp post' hp'
      have hBH := wm_BH_mk (tr := upd b_trace d (nI (sl (d + 1)))) hSy (by omega : d + 1 ≤ 128) hT h0 hsl hgp (fun i hi => by
        by_cases e : i = d
        · subst e; exact pk_us
        · rw [pk_un e]; exact ytr i (by omega))
      refine wy_step_237 rfl yd (by omega) hBH (fun _ eq cc gc code comp link fin left right goals place hYB => ⟨fun _ => ?_, fun h => absurd hnil h⟩) (fun h => absurd hgd h)
      exact hp' _ _ _ _ _ _ _ _ _ _ _ _ _ _ _ _ _ _ _ ⟨⟨rfl, by rw [yso], ysp⟩, fun _ => ⟨rfl, yq, hBH.2.2.2.2 |> fun h i hi => (h i hi).1, ych, hYB⟩⟩
    · refine hp 1 (d + 1) so (wm_u ta (d + 1) tl) t' _ _ _ _ _ _ _ _ _ _ _ _ _ _ _ _ _ _ _ _ _ _ _ _ _ _ _ _ _ _ ⟨⟨by omega, hst, hso, hsp⟩, u1.1, fun h => absurd ⟨by omega, by omega⟩ h, fun _ => ⟨⟨hd, hq, hT, h0, hsl, hhp, chs, fun h => by omega, fun h => absurd h hne⟩, ⟨rfl, hcq, by rw [wm_us], hch, e1, e2, u1, wm_TRL_s u2 hXS u3⟩, Or.inl rfl, Or.inl rfl⟩⟩ ?_
      intro g_clauseCap g_heapCap g_frameCap g_choiceCap g_draftCount g_clauses g_queryCount g_status g_depth g_choiceCount g_solutions g_steps g_complete g_compoundCount g_equations g_goalCount b_draft b_clauseCodes b_clauseLength b_query b_trace b_choiceDepths b_choiceNexts b_code b_link b_compound b_finite b_left b_right b_goals b_atomPlace b_stack b_seen hSy ys yd yq ych ytr yso ysp post' hp'
      have hBH := wm_BH_mk (tr := upd b_trace d (nI (sl (d + 1)))) hSy (by omega : d + 1 ≤ 128) hT h0 hsl hgp (fun i hi => by
        by_cases e : i = d
        · subst e; exact pk_us
        · rw [pk_un e]; exact ytr i (by omega))
      refine wy_step_237 rfl yd (by omega) hBH (fun _ eq cc gc code comp link fin left right goals place hYB => ⟨fun h => absurd h hne, fun _ => ?_⟩) (fun h => absurd hgd h)
      exact hp' _ _ _ _ _ _ _ _ _ _ _ _ _ _ _ _ _ _ _ ⟨⟨ys, yso, ysp⟩, fun _ => ⟨rfl, yq, hBH.2.2.2.2 |> fun h i hi => (h i hi).1, ych, hYB⟩⟩
  · refine wm_eqT 0 0 rfl ?_
    have hpd := wm_hp_le (cs := cs) (ln := ln) (sl := sl) (show d ≤ d + 1 by omega)
    refine wz_fail (t := t') (tl := tl) (so := so) (sp := sp) hfc hkc hhc (by omega) hq (wm_TO_le (by omega) hT) h0 (fun i a b => hsl i a (by omega)) (by omega) hCH hcq hch hF hC hN0 u2 rfl hso hsp (fun st' d' f_trailLen' f_depth' f_choiceCount' f_status' f_solutions' f_steps' f_pairTop' f_answerLen' f_goalLen' a_nodeFn' a_nodeLink' a_nodeArg' a_trail' a_frameSlot' a_frameBase' a_contFrame' a_contAtom' a_selFrame' a_selAtom' a_nodeTop' a_trailAt' a_heapAt' a_pendingAt' a_choiceDepth' a_choiceNext' a_pairLeft' a_pairRight' a_colour' a_dfsNode' a_dfsArg' hXD hYF => hp st' d' so ta t' f_trailLen' f_depth' f_choiceCount' f_status' f_solutions' f_steps' f_pairTop' f_answerLen' f_goalLen' a_nodeFn' a_nodeLink' a_nodeArg' a_trail' a_frameSlot' a_frameBase' a_contFrame' a_contAtom' a_selFrame' a_selAtom' a_nodeTop' a_trailAt' a_heapAt' a_pendingAt' a_choiceDepth' a_choiceNext' a_pairLeft' a_pairRight' a_colour' a_dfsNode' a_dfsArg' hXD ?_)
    intro g_clauseCap g_heapCap g_frameCap g_choiceCap g_draftCount g_clauses g_queryCount g_status g_depth g_choiceCount g_solutions g_steps g_complete g_compoundCount g_equations g_goalCount b_draft b_clauseCodes b_clauseLength b_query b_trace b_choiceDepths b_choiceNexts b_code b_link b_compound b_finite b_left b_right b_goals b_atomPlace b_stack b_seen hSy ys yd yq ych ytr yso ysp post' hp'
    have hBH := wm_BH_mk (tr := upd b_trace d (nI (sl (d + 1)))) hSy (by omega : d + 1 ≤ 128) hT h0 hsl hgp (fun i hi => by
      by_cases e : i = d
      · subst e; exact pk_us
      · rw [pk_un e]; exact ytr i (by omega))
    refine wy_step_237 rfl yd (by omega) hBH (fun h => absurd h hng) (fun _ eq cc gc code comp link fin left right goals place => ?_)
    exact hYF _ _ _ _ _ _ _ _ _ _ _ _ _ _ _ _ _ _ _ _ _ _ _ _ _ _ _ _ _ _ _ _ _ hSy yq ych (fun i hi => by rw [pk_un (by omega)]; exact ytr i hi) yso ysp post' hp'
end
end
section
/-! the front of a step: which clause, is there room -/
theorem wm_lf_k {P : Nat → Bool} {n c k : Nat} (hb : c + n < 2 ^ 31) (hk : k < 2 ^ 31) (h : wm_lf P n c = nI k) : c ≤ k ∧ k < c + n ∧ P k = true := by
  rcases wm_lf_or P n c with z | ⟨k', a, b, p, e⟩
  · rw [z] at h; exact absurd h.symm (wm_nm1 hk)
  · rw [h] at e
    have : k = k' := (nI_eq hk (by omega)).mp e
    subst this; exact ⟨a, b, p⟩
theorem wm_gk_eq {T : Nat} {F : Nat → Nat} {G : Nat → Nat → Nat} {Q : Nat → Nat → Prop} {ρ ρ' : Nat → Nat} {pred n0 : Nat} (h : wm_Sv T F G Q ρ) (h' : wm_Sv T F G Q ρ') (hn : wm_ar pred ≠ 0 → n0 < T) : wm_gk F ρ' pred n0 = wm_gk F ρ pred n0 := by
  unfold wm_gk
  by_cases c : wm_ar pred = 0
  · rw [if_pos c, if_pos c]
  · rw [if_neg c, if_neg c]
    have hn := hn c
    by_cases z : F (ρ n0) < 80
    · rw [wm_fn h h' hn z]
    · have z' : ¬ F (ρ' n0) < 80 := fun y => z (by have := wm_fn h' h hn y; omega)
      rw [wm_fI_v z, wm_fI_v z']
section
variable {f_clauseCap f_heapCap f_frameCap f_choiceCap f_querySlot f_firstNode f_draftLen f_draftOpen f_draftAtoms f_programUsed f_clauses f_trailLen f_depth f_choiceCount f_status f_solutions f_steps f_complete f_pairTop f_writeTop f_answerLen f_goalLen : Int32} {a_draft a_code a_skip a_local a_slotStart a_slotLen a_slotAtoms a_slotVars a_slotNodes a_slotWeight a_slotKey a_atomPlace a_nodeFn a_nodeLink a_nodeArg a_trail a_frameSlot a_frameBase a_contFrame a_contAtom a_selFrame a_selAtom a_nodeTop a_trailAt a_heapAt a_pendingAt a_choiceDepth a_choiceNext a_pairLeft a_pairRight a_colour a_dfsNode a_dfsArg a_writing a_writeStack a_varNumber : Nat → Int32}
variable {cs : Nat → Nat → Nat} {ln sl ss ta t cd cx : Nat → Nat} {m hc fc kc d q : Nat}
theorem wx_isRetrying {post : Int32 → Prop} (hd : f_depth = nI d) (hd' : d ≤ 128) (hq : f_choiceCount = nI q) (hq' : q ≤ 64) (hc : ∀ i, i < q → a_choiceDepth i = nI (cd i)) (hcd : ∀ i, i < q → cd i ≤ 128) (h1 : (∃ p, q = p + 1 ∧ cd p = d) → post 1) (h0 : (¬ ∃ p, q = p + 1 ∧ cd p = d) → post 0) : wpX_isRetrying post (f_clauseCap, f_heapCap, f_frameCap, f_choiceCap, f_querySlot, f_firstNode, f_draftLen, f_draftOpen, f_draftAtoms, f_programUsed, f_clauses, f_trailLen, f_depth, f_choiceCount, f_status, f_solutions, f_steps, f_complete, f_pairTop, f_writeTop, f_answerLen, f_goalLen, a_draft, a_code, a_skip, a_local, a_slotStart, a_slotLen, a_slotAtoms, a_slotVars, a_slotNodes, a_slotWeight, a_slotKey, a_atomPlace, a_nodeFn, a_nodeLink, a_nodeArg, a_trail, a_frameSlot, a_frameBase, a_contFrame, a_contAtom, a_selFrame, a_selAtom, a_nodeTop, a_trailAt, a_heapAt, a_pendingAt, a_choiceDepth, a_choiceNext, a_pairLeft, a_pairRight, a_colour, a_dfsNode, a_dfsArg, a_writing, a_writeStack, a_varNumber) := by
  subst hd hq
  cases q with
  | zero => exact br_t (by decide) (h0 (fun ⟨p, h, _⟩ => by omega))
  | succ q =>
    have := hcd q (by omega)
    refine wm_leF (q + 1) 0 (by omega) (And.intro (pk_in q 64 (by omega) (nI_pred q)) ?_)
    exact pk_eq (cd q) d (fun e => h1 ⟨q, rfl, e⟩) (fun e => h0 (fun ⟨p, h, h'⟩ => by
      have : p = q := by omega
      subst this; exact e h')) (wm_rx (hc q (by omega)) (nI_pred q))
theorem wx_clauseToTry_r {post : Int32 → Prop} {p : Nat} (hd : f_depth = nI d) (hd' : d ≤ 128) (hq : f_choiceCount = nI (p + 1)) (hq' : p + 1 ≤ 64) (hc : ∀ i, i < p + 1 → a_choiceDepth i = nI (cd i) ∧ a_choiceNext i = nI (cx i)) (hcd : ∀ i, i < p + 1 → cd i ≤ 128) (hr : cd p = d) (hp : post (nI (cx p))) : wpX_clauseToTry post (f_clauseCap, f_heapCap, f_frameCap, f_choiceCap, f_querySlot, f_firstNode, f_draftLen, f_draftOpen, f_draftAtoms, f_programUsed, f_clauses, f_trailLen, f_depth, f_choiceCount, f_status, f_solutions, f_steps, f_complete, f_pairTop, f_writeTop, f_answerLen, f_goalLen, a_draft, a_code, a_skip, a_local, a_slotStart, a_slotLen, a_slotAtoms, a_slotVars, a_slotNodes, a_slotWeight, a_slotKey, a_atomPlace, a_nodeFn, a_nodeLink, a_nodeArg, a_trail, a_frameSlot, a_frameBase, a_contFrame, a_contAtom, a_selFrame, a_selAtom, a_nodeTop, a_trailAt, a_heapAt, a_pendingAt, a_choiceDepth, a_choiceNext, a_pairLeft, a_pairRight, a_colour, a_dfsNode, a_dfsArg, a_writing, a_writeStack, a_varNumber) := by
  unfold wpX_clauseToTry
  refine wx_isRetrying (cd := cd) hd hd' hq hq' (fun i hi => (hc i hi).1) hcd (fun _ => ?_) (fun h => absurd ⟨p, rfl, hr⟩ h)
  have e : f_choiceCount - 1 = nI p := by rw [hq, nI_pred]
  refine wm_eqF 1 0 (by omega) (And.intro (pk_in p 64 (by omega) e) ?_)
  rw [wm_rx (hc p (by omega)).2 e]; exact hp
theorem wx_clauseToTry_n {post : Int32 → Prop} {P : Nat → Bool} (hd : f_depth = nI d) (hd' : d ≤ 128) (hq : f_choiceCount = nI q) (hq' : q ≤ 64) (hc : ∀ i, i < q → a_choiceDepth i = nI (cd i)) (hcd : ∀ i, i < q → cd i ≤ 128) (hr : ¬ ∃ p, q = p + 1 ∧ cd p = d) (hlc : ∀ (c : Nat) (post : Int32 → Prop), c ≤ 33 → post (wm_lf P (m - c) c) → wpX_leastCandidate post (f_clauseCap, f_heapCap, f_frameCap, f_choiceCap, f_querySlot, f_firstNode, f_draftLen, f_draftOpen, f_draftAtoms, f_programUsed, f_clauses, f_trailLen, f_depth, f_choiceCount, f_status, f_solutions, f_steps, f_complete, f_pairTop, f_writeTop, f_answerLen, f_goalLen, a_draft, a_code, a_skip, a_local, a_slotStart, a_slotLen, a_slotAtoms, a_slotVars, a_slotNodes, a_slotWeight, a_slotKey, a_atomPlace, a_nodeFn, a_nodeLink, a_nodeArg, a_trail, a_frameSlot, a_frameBase, a_contFrame, a_contAtom, a_selFrame, a_selAtom, a_nodeTop, a_trailAt, a_heapAt, a_pendingAt, a_choiceDepth, a_choiceNext, a_pairLeft, a_pairRight, a_colour, a_dfsNode, a_dfsArg, a_writing, a_writeStack, a_varNumber) (nI c)) (hp : post (wm_lf P m 0)) : wpX_clauseToTry post (f_clauseCap, f_heapCap, f_frameCap, f_choiceCap, f_querySlot, f_firstNode, f_draftLen, f_draftOpen, f_draftAtoms, f_programUsed, f_clauses, f_trailLen, f_depth, f_choiceCount, f_status, f_solutions, f_steps, f_complete, f_pairTop, f_writeTop, f_answerLen, f_goalLen, a_draft, a_code, a_skip, a_local, a_slotStart, a_slotLen, a_slotAtoms, a_slotVars, a_slotNodes, a_slotWeight, a_slotKey, a_atomPlace, a_nodeFn, a_nodeLink, a_nodeArg, a_trail, a_frameSlot, a_frameBase, a_contFrame, a_contAtom, a_selFrame, a_selAtom, a_nodeTop, a_trailAt, a_heapAt, a_pendingAt, a_choiceDepth, a_choiceNext, a_pairLeft, a_pairRight, a_colour, a_dfsNode, a_dfsArg, a_writing, a_writeStack, a_varNumber) := by
  unfold wpX_clauseToTry
  refine wx_isRetrying (cd := cd) hd hd' hq hq' hc hcd (fun h => absurd h hr) (fun _ => ?_)
  exact wm_eqT 0 0 rfl (hlc 0 _ (by omega) hp)
theorem wx_room {post : Int32 → Prop} {c z : Nat} {x y : Int32} (hx : x = nI c) (hy : y = nI z) (hz : z < 2) (hS : wm_SLs m cs ln ss a_code a_skip a_local a_slotStart a_slotLen a_slotAtoms a_slotVars a_slotNodes a_slotWeight a_slotKey a_atomPlace) (hm : c < m) (hd : f_depth = nI d) (hd' : d ≤ 128) (hq : f_choiceCount = nI q) (hq' : q ≤ 64) (e1 : f_frameCap = nI fc) (e2 : f_heapCap = nI hc) (e3 : f_choiceCap = nI kc) (b1 : fc ≤ 128) (b2 : hc ≤ 256) (b3 : kc ≤ 64) (hh : a_heapAt d = nI (wm_hp cs ln sl d)) (hhb : wm_hp cs ln sl d ≤ 256)
    (h4 : fc ≤ d → post 4) (h5 : d < fc → hc < wm_hp cs ln sl d + wm_W (cs c) (ln c) → post 5) (h6 : d < fc → wm_hp cs ln sl d + wm_W (cs c) (ln c) ≤ hc → z ≠ 0 → kc ≤ q → post 6) (h1 : d < fc → wm_hp cs ln sl d + wm_W (cs c) (ln c) ≤ hc → (z ≠ 0 → q < kc) → post 1) : wpX_room post (f_clauseCap, f_heapCap, f_frameCap, f_choiceCap, f_querySlot, f_firstNode, f_draftLen, f_draftOpen, f_draftAtoms, f_programUsed, f_clauses, f_trailLen, f_depth, f_choiceCount, f_status, f_solutions, f_steps, f_complete, f_pairTop, f_writeTop, f_answerLen, f_goalLen, a_draft, a_code, a_skip, a_local, a_slotStart, a_slotLen, a_slotAtoms, a_slotVars, a_slotNodes, a_slotWeight, a_slotKey, a_atomPlace, a_nodeFn, a_nodeLink, a_nodeArg, a_trail, a_frameSlot, a_frameBase, a_contFrame, a_contAtom, a_selFrame, a_selAtom, a_nodeTop, a_trailAt, a_heapAt, a_pendingAt, a_choiceDepth, a_choiceNext, a_pairLeft, a_pairRight, a_colour, a_dfsNode, a_dfsArg, a_writing, a_writeStack, a_varNumber) x y := by
  subst hx hy hd hq e1 e2 e3
  obtain ⟨s1, s2, s3, s4⟩ := hS c (Or.inl hm)
  have w := wm_W_le (cs c) (ln c)
  have l32 := s2.1.1
  refine pk_lt d fc (fun h => ?_) (fun h => h4 h)
  refine And.intro (pk_in d 129 (by omega)) (And.intro (pk_in c 33 s1) ?_)
  refine pk_le (wm_hp cs ln sl d + wm_W (cs c) (ln c)) hc (fun h' => ?_) (fun h' => h5 h h') (by rw [wm_rx hh, wm_rx s4.2.1.2.2.1, nI_add])
  refine pk_eq z 0 (fun e => h1 h h' (fun n => absurd e n)) (fun e => ?_)
  exact pk_lt q kc (fun h2 => h1 h h' (fun _ => h2)) (fun h2 => h6 h h' e h2)
theorem wx_advance {post : SX → Prop} {p : Nat} {x : Int32} (hq : f_choiceCount = nI (p + 1)) (hq' : p < 64) (h1 : ∀ k : Nat, k < 2 ^ 31 → x = nI k → post (f_clauseCap, f_heapCap, f_frameCap, f_choiceCap, f_querySlot, f_firstNode, f_draftLen, f_draftOpen, f_draftAtoms, f_programUsed, f_clauses, f_trailLen, f_depth, f_choiceCount, f_status, f_solutions, f_steps, f_complete, f_pairTop, f_writeTop, f_answerLen, f_goalLen, a_draft, a_code, a_skip, a_local, a_slotStart, a_slotLen, a_slotAtoms, a_slotVars, a_slotNodes, a_slotWeight, a_slotKey, a_atomPlace, a_nodeFn, a_nodeLink, a_nodeArg, a_trail, a_frameSlot, a_frameBase, a_contFrame, a_contAtom, a_selFrame, a_selAtom, a_nodeTop, a_trailAt, a_heapAt, a_pendingAt, a_choiceDepth, (upd a_choiceNext p (nI k)), a_pairLeft, a_pairRight, a_colour, a_dfsNode, a_dfsArg, a_writing, a_writeStack, a_varNumber)) (h0 : x = -1 → post (f_clauseCap, f_heapCap, f_frameCap, f_choiceCap, f_querySlot, f_firstNode, f_draftLen, f_draftOpen, f_draftAtoms, f_programUsed, f_clauses, f_trailLen, f_depth, (nI p), f_status, f_solutions, f_steps, f_complete, f_pairTop, f_writeTop, f_answerLen, f_goalLen, a_draft, a_code, a_skip, a_local, a_slotStart, a_slotLen, a_slotAtoms, a_slotVars, a_slotNodes, a_slotWeight, a_slotKey, a_atomPlace, a_nodeFn, a_nodeLink, a_nodeArg, a_trail, a_frameSlot, a_frameBase, a_contFrame, a_contAtom, a_selFrame, a_selAtom, a_nodeTop, a_trailAt, a_heapAt, a_pendingAt, a_choiceDepth, a_choiceNext, a_pairLeft, a_pairRight, a_colour, a_dfsNode, a_dfsArg, a_writing, a_writeStack, a_varNumber)) (hx : x = -1 ∨ ∃ k : Nat, k < 2 ^ 31 ∧ x = nI k) : wpX_advanceChoice post (f_clauseCap, f_heapCap, f_frameCap, f_choiceCap, f_querySlot, f_firstNode, f_draftLen, f_draftOpen, f_draftAtoms, f_programUsed, f_clauses, f_trailLen, f_depth, f_choiceCount, f_status, f_solutions, f_steps, f_complete, f_pairTop, f_writeTop, f_answerLen, f_goalLen, a_draft, a_code, a_skip, a_local, a_slotStart, a_slotLen, a_slotAtoms, a_slotVars, a_slotNodes, a_slotWeight, a_slotKey, a_atomPlace, a_nodeFn, a_nodeLink, a_nodeArg, a_trail, a_frameSlot, a_frameBase, a_contFrame, a_contAtom, a_selFrame, a_selAtom, a_nodeTop, a_trailAt, a_heapAt, a_pendingAt, a_choiceDepth, a_choiceNext, a_pairLeft, a_pairRight, a_colour, a_dfsNode, a_dfsArg, a_writing, a_writeStack, a_varNumber) x := by
  subst hq
  rcases hx with e | ⟨k, hk, e⟩
  · exact wm_ltM e (nm_r (nI_pred p) (h0 e))
  · subst e
    exact wm_ltF k 0 (Nat.zero_le _) (And.intro (pk_in p 64 hq' (nI_pred p)) (nm_r (wm_ux rfl (nI_pred p)) (h1 k hk rfl)))
end
section
variable {g_clauseCap g_heapCap g_frameCap g_choiceCap g_draftCount g_clauses g_queryCount g_status g_depth g_choiceCount g_solutions g_steps g_complete g_compoundCount g_equations g_goalCount : Int32} {b_draft b_clauseCodes b_clauseLength b_query b_trace b_choiceDepths b_choiceNexts b_code b_link b_compound b_finite b_left b_right b_goals b_atomPlace b_stack b_seen : Nat → Int32}
variable {cs : Nat → Nat → Nat} {ln sl cd cx : Nat → Nat} {m hc fc kc d q : Nat}
theorem wy_step_r {post : SY → Prop} {p : Nat} (hd : g_depth = nI d) (hd' : d ≤ 128) (hq : g_choiceCount = nI (p + 1)) (hq' : p + 1 ≤ 64) (hc : ∀ i, i < p + 1 → b_choiceDepths i = nI (cd i) ∧ b_choiceNexts i = nI (cx i)) (hcd : ∀ i, i < p + 1 → cd i ≤ 128) (hr : cd p = d) (hp : wY_step_30 post 1 (nI (cx p)) g_clauseCap g_heapCap g_frameCap g_choiceCap g_draftCount g_clauses g_queryCount g_status g_depth g_choiceCount g_solutions g_steps g_complete g_compoundCount g_equations g_goalCount b_draft b_clauseCodes b_clauseLength b_query b_trace b_choiceDepths b_choiceNexts b_code b_link b_compound b_finite b_left b_right b_goals b_atomPlace b_stack b_seen) : wpY_step post (g_clauseCap, g_heapCap, g_frameCap, g_choiceCap, g_draftCount, g_clauses, g_queryCount, g_status, g_depth, g_choiceCount, g_solutions, g_steps, g_complete, g_compoundCount, g_equations, g_goalCount, b_draft, b_clauseCodes, b_clauseLength, b_query, b_trace, b_choiceDepths, b_choiceNexts, b_code, b_link, b_compound, b_finite, b_left, b_right, b_goals, b_atomPlace, b_stack, b_seen) := by
  unfold wpY_step
  refine wy_retrying (cd := cd) hd hd' hq hq' (fun i hi => (hc i hi).1) hcd (fun _ => ?_) (fun h => absurd ⟨p, rfl, hr⟩ h)
  have e : g_choiceCount - 1 = nI p := by rw [hq, nI_pred]
  refine wm_eqF 1 0 (by omega) (And.intro (pk_in p 64 (by omega) e) (nm_r (wm_rx (hc p (by omega)).2 e) hp))
theorem wy_step_n {post : SY → Prop} {P : Nat → Bool} (hd : g_depth = nI d) (hd' : d ≤ 128) (hq : g_choiceCount = nI q) (hq' : q ≤ 64) (hc : ∀ i, i < q → b_choiceDepths i = nI (cd i)) (hcd : ∀ i, i < q → cd i ≤ 128) (hr : ¬ ∃ p, q = p + 1 ∧ cd p = d) (hlc : ∀ (c : Nat) (post : Int32 → Prop), c ≤ 33 → post (wm_lf P (m - c) c) → wpY_leastCandidate post (g_clauseCap, g_heapCap, g_frameCap, g_choiceCap, g_draftCount, g_clauses, g_queryCount, g_status, g_depth, g_choiceCount, g_solutions, g_steps, g_complete, g_compoundCount, g_equations, g_goalCount, b_draft, b_clauseCodes, b_clauseLength, b_query, b_trace, b_choiceDepths, b_choiceNexts, b_code, b_link, b_compound, b_finite, b_left, b_right, b_goals, b_atomPlace, b_stack, b_seen) (nI c)) (hp : wY_step_30 post 0 (wm_lf P m 0) g_clauseCap g_heapCap g_frameCap g_choiceCap g_draftCount g_clauses g_queryCount g_status g_depth g_choiceCount g_solutions g_steps g_complete g_compoundCount g_equations g_goalCount b_draft b_clauseCodes b_clauseLength b_query b_trace b_choiceDepths b_choiceNexts b_code b_link b_compound b_finite b_left b_right b_goals b_atomPlace b_stack b_seen) : wpY_step post (g_clauseCap, g_heapCap, g_frameCap, g_choiceCap, g_draftCount, g_clauses, g_queryCount, g_status, g_depth, g_choiceCount, g_solutions, g_steps, g_complete, g_compoundCount, g_equations, g_goalCount, b_draft, b_clauseCodes, b_clauseLength, b_query, b_trace, b_choiceDepths, b_choiceNexts, b_code, b_link, b_compound, b_finite, b_left, b_right, b_goals, b_atomPlace, b_stack, b_seen) := by
  unfold wpY_step
  refine wy_retrying (cd := cd) hd hd' hq hq' hc hcd (fun h => absurd h hr) (fun _ => ?_)
  exact wm_eqT 0 0 rfl (hlc 0 _ (by omega) hp)
theorem wy_step_30n {post : SY → Prop} {x1 : Int32} (hp : wpY_fail post (g_clauseCap, g_heapCap, g_frameCap, g_choiceCap, g_draftCount, g_clauses, g_queryCount, g_status, g_depth, g_choiceCount, g_solutions, (g_steps + 1), g_complete, g_compoundCount, g_equations, g_goalCount, b_draft, b_clauseCodes, b_clauseLength, b_query, b_trace, b_choiceDepths, b_choiceNexts, b_code, b_link, b_compound, b_finite, b_left, b_right, b_goals, b_atomPlace, b_stack, b_seen)) : wY_step_30 post x1 (-1) g_clauseCap g_heapCap g_frameCap g_choiceCap g_draftCount g_clauses g_queryCount g_status g_depth g_choiceCount g_solutions g_steps g_complete g_compoundCount g_equations g_goalCount b_draft b_clauseCodes b_clauseLength b_query b_trace b_choiceDepths b_choiceNexts b_code b_link b_compound b_finite b_left b_right b_goals b_atomPlace b_stack b_seen := br_t rfl (nm_e hp)
theorem wy_step_30 {post : SY → Prop} {P : Nat → Bool} {c z : Nat} {x1 : Int32} (hx1 : x1 = nI z) (hz : z < 2) (hcm : c < m) (hm : m ≤ 32) (hlc : ∀ (c : Nat) (post : Int32 → Prop), c ≤ 33 → post (wm_lf P (m - c) c) → wpY_leastCandidate post (g_clauseCap, g_heapCap, g_frameCap, g_choiceCap, g_draftCount, g_clauses, g_queryCount, g_status, g_depth, g_choiceCount, g_solutions, g_steps, g_complete, g_compoundCount, g_equations, g_goalCount, b_draft, b_clauseCodes, b_clauseLength, b_query, b_trace, b_choiceDepths, b_choiceNexts, b_code, b_link, b_compound, b_finite, b_left, b_right, b_goals, b_atomPlace, b_stack, b_seen) (nI c)) (hst : g_status = 1) (hd : g_depth = nI d) (hd' : d ≤ 128) (hq : g_choiceCount = nI q) (hq' : q ≤ 64)
    (hS : wm_SYs cs ln m hc fc kc g_heapCap g_frameCap g_choiceCap g_draftCount g_clauses g_queryCount b_draft b_clauseCodes b_clauseLength b_query) (hW : ∀ j, j ≤ d → wm_WC (cs (sl j)) (ln (sl j))) (h0 : sl 0 = 32) (hsl : ∀ i, 0 < i → i ≤ d → sl i < m) (htr : ∀ i, i < d → b_trace i = nI (sl (i + 1))) (hhb : wm_hp cs ln sl d ≤ 256)
    (h4 : fc ≤ d → post (g_clauseCap, g_heapCap, g_frameCap, g_choiceCap, g_draftCount, g_clauses, g_queryCount, 4, g_depth, g_choiceCount, g_solutions, g_steps, g_complete, g_compoundCount, g_equations, g_goalCount, b_draft, b_clauseCodes, b_clauseLength, b_query, b_trace, b_choiceDepths, b_choiceNexts, b_code, b_link, b_compound, b_finite, b_left, b_right, b_goals, b_atomPlace, b_stack, b_seen)) (h5 : d < fc → hc < wm_hp cs ln sl d + wm_W (cs c) (ln c) → post (g_clauseCap, g_heapCap, g_frameCap, g_choiceCap, g_draftCount, g_clauses, g_queryCount, 5, g_depth, g_choiceCount, g_solutions, g_steps, g_complete, g_compoundCount, g_equations, g_goalCount, b_draft, b_clauseCodes, b_clauseLength, b_query, b_trace, b_choiceDepths, b_choiceNexts, b_code, b_link, b_compound, b_finite, b_left, b_right, b_goals, b_atomPlace, b_stack, b_seen)) (h6 : d < fc → wm_hp cs ln sl d + wm_W (cs c) (ln c) ≤ hc → z = 0 → wm_lf P (m - (c + 1)) (c + 1) ≠ -1 → kc ≤ q → post (g_clauseCap, g_heapCap, g_frameCap, g_choiceCap, g_draftCount, g_clauses, g_queryCount, 6, g_depth, g_choiceCount, g_solutions, g_steps, g_complete, g_compoundCount, g_equations, g_goalCount, b_draft, b_clauseCodes, b_clauseLength, b_query, b_trace, b_choiceDepths, b_choiceNexts, b_code, b_link, b_compound, b_finite, b_left, b_right, b_goals, b_atomPlace, b_stack, b_seen))
    (h1 : d < fc → wm_hp cs ln sl d + wm_W (cs c) (ln c) ≤ hc → (z = 0 → wm_lf P (m - (c + 1)) (c + 1) ≠ -1 → q < kc) → wY_step_152 post x1 (nI c) (wm_lf P (m - (c + 1)) (c + 1)) g_clauseCap g_heapCap g_frameCap g_choiceCap g_draftCount g_clauses g_queryCount g_status g_depth g_choiceCount g_solutions g_steps g_complete g_compoundCount g_equations g_goalCount b_draft b_clauseCodes b_clauseLength b_query b_trace b_choiceDepths b_choiceNexts b_code b_link b_compound b_finite b_left b_right b_goals b_atomPlace b_stack b_seen) : wY_step_30 post x1 (nI c) g_clauseCap g_heapCap g_frameCap g_choiceCap g_draftCount g_clauses g_queryCount g_status g_depth g_choiceCount g_solutions g_steps g_complete g_compoundCount g_equations g_goalCount b_draft b_clauseCodes b_clauseLength b_query b_trace b_choiceDepths b_choiceNexts b_code b_link b_compound b_finite b_left b_right b_goals b_atomPlace b_stack b_seen := by
  subst hx1
  obtain ⟨⟨e2, e1, e3, b2, b1, b3⟩, s2, s3, s4⟩ := hS
  have wc := (s3.2 c hcm).1
  have w := wm_W_le (cs c) (ln c)
  have l32 := wc.1.1
  have ysc := wm_YP_YS (dcnt := g_draftCount) (qc := g_queryCount) (dr := b_draft) (qu := b_query) s3 s2 hcm
  refine br_f (wm_nm1 (by omega)) ?_
  rw [nI_1]
  refine hlc (c + 1) _ (by omega) ?_
  refine wy_heapUsed (cs := cs) (ln := ln) (sl := sl) (by rw [hst]; decide) (by rw [hst]; decide) hd hd' hW (by rw [h0]; exact s4) (fun i hi => ⟨htr i hi, wm_YP_YS s3 s2 (hsl (i + 1) (by omega) (by omega))⟩) ?_
  refine wy_weight ysc (fun k hk => (wc.1.2.1 k hk).1) ?_
  refine pk_le fc d (fun h => h4 h) (fun h => ?_) e1 hd
  refine wm_ltT d 128 (by omega) ?_ hd
  refine pk_le (wm_hp cs ln sl d + wm_W (cs c) (ln c)) hc (fun h' => ?_) (fun h' => h5 h h') (nI_add _ _) e2
  refine pk_eq z 0 (fun e => ?_) (fun e => h1 h h' (fun z => absurd z e))
  by_cases c2 : wm_lf P (m - (c + 1)) (c + 1) = -1
  · exact br_t c2 (h1 h h' (fun _ n => absurd c2 n))
  · refine br_f c2 ?_
    refine pk_le kc q (fun h2 => h6 h h' e c2 h2) (fun h2 => ?_) e3 hq
    exact wm_ltT q 64 (by omega) (h1 h h' (fun _ _ => h2)) hq
theorem wy_152_n0 {post : SY → Prop} {x2 : Int32} (hp : wY_step_237 post x2 g_clauseCap g_heapCap g_frameCap g_choiceCap g_draftCount g_clauses g_queryCount g_status g_depth g_choiceCount g_solutions (g_steps + 1) g_complete g_compoundCount g_equations g_goalCount b_draft b_clauseCodes b_clauseLength b_query b_trace b_choiceDepths b_choiceNexts b_code b_link b_compound b_finite b_left b_right b_goals b_atomPlace b_stack b_seen) : wY_step_152 post 0 x2 (-1) g_clauseCap g_heapCap g_frameCap g_choiceCap g_draftCount g_clauses g_queryCount g_status g_depth g_choiceCount g_solutions g_steps g_complete g_compoundCount g_equations g_goalCount b_draft b_clauseCodes b_clauseLength b_query b_trace b_choiceDepths b_choiceNexts b_code b_link b_compound b_finite b_left b_right b_goals b_atomPlace b_stack b_seen := nm_e (br_t rfl (br_t rfl hp))
theorem wy_152_n1 {post : SY → Prop} {x2 : Int32} {k : Nat} (hk : k < 2 ^ 31) (hq : g_choiceCount = nI q) (hq' : q < 64) (hp : wY_step_237 post x2 g_clauseCap g_heapCap g_frameCap g_choiceCap g_draftCount g_clauses g_queryCount g_status g_depth (nI (q + 1)) g_solutions (g_steps + 1) g_complete g_compoundCount g_equations g_goalCount b_draft b_clauseCodes b_clauseLength b_query b_trace (upd b_choiceDepths q g_depth) (upd b_choiceNexts q (nI k)) b_code b_link b_compound b_finite b_left b_right b_goals b_atomPlace b_stack b_seen) : wY_step_152 post 0 x2 (nI k) g_clauseCap g_heapCap g_frameCap g_choiceCap g_draftCount g_clauses g_queryCount g_status g_depth g_choiceCount g_solutions g_steps g_complete g_compoundCount g_equations g_goalCount b_draft b_clauseCodes b_clauseLength b_query b_trace b_choiceDepths b_choiceNexts b_code b_link b_compound b_finite b_left b_right b_goals b_atomPlace b_stack b_seen := by
  subst hq
  exact nm_e (br_t rfl (br_f (wm_nm1 hk) (And.intro (pk_in q 64 hq') (nm_r (wm_ux rfl) (And.intro (pk_in q 64 hq') (nm_r (wm_ux rfl) (nm_r (nI_1 q) hp)))))))
theorem wy_152_r0 {post : SY → Prop} {x2 : Int32} {p : Nat} (hq : g_choiceCount = nI (p + 1)) (hp : wY_step_237 post x2 g_clauseCap g_heapCap g_frameCap g_choiceCap g_draftCount g_clauses g_queryCount g_status g_depth (nI p) g_solutions (g_steps + 1) g_complete g_compoundCount g_equations g_goalCount b_draft b_clauseCodes b_clauseLength b_query b_trace b_choiceDepths b_choiceNexts b_code b_link b_compound b_finite b_left b_right b_goals b_atomPlace b_stack b_seen) : wY_step_152 post 1 x2 (-1) g_clauseCap g_heapCap g_frameCap g_choiceCap g_draftCount g_clauses g_queryCount g_status g_depth g_choiceCount g_solutions g_steps g_complete g_compoundCount g_equations g_goalCount b_draft b_clauseCodes b_clauseLength b_query b_trace b_choiceDepths b_choiceNexts b_code b_link b_compound b_finite b_left b_right b_goals b_atomPlace b_stack b_seen := by
  subst hq
  exact nm_e (br_f (by decide) (br_t rfl (nm_r (nI_pred p) hp)))
theorem wy_152_r1 {post : SY → Prop} {x2 : Int32} {k p : Nat} (hk : k < 2 ^ 31) (hq : g_choiceCount = nI (p + 1)) (hq' : p < 64) (hp : wY_step_237 post x2 g_clauseCap g_heapCap g_frameCap g_choiceCap g_draftCount g_clauses g_queryCount g_status g_depth g_choiceCount g_solutions (g_steps + 1) g_complete g_compoundCount g_equations g_goalCount b_draft b_clauseCodes b_clauseLength b_query b_trace b_choiceDepths (upd b_choiceNexts p (nI k)) b_code b_link b_compound b_finite b_left b_right b_goals b_atomPlace b_stack b_seen) : wY_step_152 post 1 x2 (nI k) g_clauseCap g_heapCap g_frameCap g_choiceCap g_draftCount g_clauses g_queryCount g_status g_depth g_choiceCount g_solutions g_steps g_complete g_compoundCount g_equations g_goalCount b_draft b_clauseCodes b_clauseLength b_query b_trace b_choiceDepths b_choiceNexts b_code b_link b_compound b_finite b_left b_right b_goals b_atomPlace b_stack b_seen := by
  subst hq
  exact nm_e (br_f (by decide) (br_f (wm_nm1 hk) (And.intro (pk_in p 64 hq' (nI_pred p)) (nm_r (wm_ux rfl (nI_pred p)) hp))))
end
end
section
/-! one step on both sides -/
def wm_YK (cs : Nat → Nat → Nat) (ln : Nat → Nat) (m hc fc kc d q : Nat) (so sp : Int32) (sl cd cx : Nat → Nat) (F : Nat → Nat) (G : Nat → Nat → Nat) (st' d' q' : Nat) (so' sp' : Int32) (sl' cd' cx' : Nat → Nat) (F' : Nat → Nat) (G' : Nat → Nat → Nat) : Prop :=
  ∀ (g_clauseCap g_heapCap g_frameCap g_choiceCap g_draftCount g_clauses g_queryCount g_status g_depth g_choiceCount g_solutions g_steps g_complete g_compoundCount g_equations g_goalCount : Int32) (b_draft b_clauseCodes b_clauseLength b_query b_trace b_choiceDepths b_choiceNexts b_code b_link b_compound b_finite b_left b_right b_goals b_atomPlace b_stack b_seen : Nat → Int32), wm_SYs cs ln m hc fc kc g_heapCap g_frameCap g_choiceCap g_draftCount g_clauses g_queryCount b_draft b_clauseCodes b_clauseLength b_query → wm_YD cs ln 1 d q so sp sl cd cx F G g_status g_depth g_choiceCount g_solutions g_steps g_goalCount b_trace b_choiceDepths b_choiceNexts b_code b_link b_goals →
    ∀ post : SY → Prop, (∀ (g_status' g_depth' g_choiceCount' g_solutions' g_steps' g_compoundCount' g_equations' g_goalCount' : Int32) (b_trace' b_choiceDepths' b_choiceNexts' b_code' b_link' b_compound' b_finite' b_left' b_right' b_goals' b_atomPlace' : Nat → Int32), wm_YD cs ln st' d' q' so' sp' sl' cd' cx' F' G' g_status' g_depth' g_choiceCount' g_solutions' g_steps' g_goalCount' b_trace' b_choiceDepths' b_choiceNexts' b_code' b_link' b_goals' → post (g_clauseCap, g_heapCap, g_frameCap, g_choiceCap, g_draftCount, g_clauses, g_queryCount, g_status', g_depth', g_choiceCount', g_solutions', g_steps', g_complete, g_compoundCount', g_equations', g_goalCount', b_draft, b_clauseCodes, b_clauseLength, b_query, b_trace', b_choiceDepths', b_choiceNexts', b_code', b_link', b_compound', b_finite', b_left', b_right', b_goals', b_atomPlace', b_stack, b_seen)) → wpY_step post (g_clauseCap, g_heapCap, g_frameCap, g_choiceCap, g_draftCount, g_clauses, g_queryCount, g_status, g_depth, g_choiceCount, g_solutions, g_steps, g_complete, g_compoundCount, g_equations, g_goalCount, b_draft, b_clauseCodes, b_clauseLength, b_query, b_trace, b_choiceDepths, b_choiceNexts, b_code, b_link, b_compound, b_finite, b_left, b_right, b_goals, b_atomPlace, b_stack, b_seen)
/-- a further clause on the trace -/
theorem wm_more {cs : Nat → Nat → Nat} {ln sl : Nat → Nat} {d c f j : Nat} (hT : wm_TO cs ln sl d) (hW : wm_WC (cs c) (ln c)) (hg : (wm_gl cs ln sl d).head? = some (f, j)) (hm : cs (sl f) (wm_pq cs ln sl f j) = cs c 0) :
    wm_TO cs ln (wm_u sl (d + 1) c) (d + 1) ∧ wm_hp cs ln (wm_u sl (d + 1) c) (d + 1) = wm_hp cs ln sl d + wm_W (cs c) (ln c) := by
  have hs : ∀ i, i ≤ d → wm_u sl (d + 1) c i = sl i := fun i hi => wm_un (by omega)
  have hT' := wm_TO_congr hs hT
  have hf := (wm_gl_head hg).1
  refine ⟨⟨fun i hi => ?_, fun i hi => ?_⟩, ?_⟩
  · rcases Nat.lt_or_ge d i with z | z
    · have : i = d + 1 := by omega
      subst this; rw [wm_us]; exact hW
    · exact hT'.1 i z
  · rcases Nat.lt_or_ge i d with z | z
    · exact hT'.2 i z
    · have : i = d := by omega
      subst this
      refine ⟨f, j, ?_, ?_⟩
      · rw [wm_gl_congr hs]; exact hg
      · rw [wm_pq_congr (hs f hf), hs f hf, wm_us]; exact hm
  · simp only [wm_hp]
    rw [wm_hp_congr hs, wm_us]
theorem wm_CH_congr {cs : Nat → Nat → Nat} {ln sl sl' cd cx : Nat → Nat} {m d q : Nat} (hs : ∀ i, i ≤ d → sl' i = sl i) (h : wm_CH cs ln sl m d q cd cx) : wm_CH cs ln sl' m d q cd cx := by
  refine ⟨fun i hi => ?_, h.2⟩
  obtain ⟨a, b, f, j, e1, e2⟩ := h.1 i hi
  have hf := (wm_gl_head e1).1
  refine ⟨a, b, f, j, ?_, ?_⟩
  · rw [wm_gl_congr (fun k hk => hs k (by omega))]; exact e1
  · rw [wm_pq_congr (hs f (by omega)), hs f (by omega)]; exact e2
section
variable {f_clauseCap f_heapCap f_frameCap f_choiceCap f_querySlot f_firstNode f_draftLen f_draftOpen f_draftAtoms f_programUsed f_clauses f_trailLen f_depth f_choiceCount f_status f_solutions f_steps f_complete f_pairTop f_writeTop f_answerLen f_goalLen : Int32} {a_draft a_code a_skip a_local a_slotStart a_slotLen a_slotAtoms a_slotVars a_slotNodes a_slotWeight a_slotKey a_atomPlace a_nodeFn a_nodeLink a_nodeArg a_trail a_frameSlot a_frameBase a_contFrame a_contAtom a_selFrame a_selAtom a_nodeTop a_trailAt a_heapAt a_pendingAt a_choiceDepth a_choiceNext a_pairLeft a_pairRight a_colour a_dfsNode a_dfsArg a_writing a_writeStack a_varNumber : Nat → Int32}
variable {cs : Nat → Nat → Nat} {ln sl ss ta t cd cx : Nat → Nat} {m hc fc kc d q : Nat} {so sp : Int32}
theorem wz_step {post : SX → Prop} (hS : wm_SLs m cs ln ss a_code a_skip a_local a_slotStart a_slotLen a_slotAtoms a_slotVars a_slotNodes a_slotWeight a_slotKey a_atomPlace) (hm : m ≤ 32) (hcl : f_clauses = nI m) (e1 : f_frameCap = nI fc) (e2 : f_heapCap = nI hc) (e3 : f_choiceCap = nI kc) (b1 : fc ≤ 128) (b2 : hc ≤ 256) (b3 : kc ≤ 64) (hX : wm_XD cs ln m hc fc kc 1 d q so sp sl ta t cd cx f_status f_depth f_choiceCount f_trailLen f_solutions f_steps f_answerLen f_goalLen a_choiceDepth a_choiceNext a_frameSlot a_frameBase a_nodeTop a_heapAt a_pendingAt a_trailAt a_contFrame a_contAtom a_selFrame a_selAtom a_nodeFn a_nodeLink a_nodeArg a_trail a_writing)
    (hp : ∀ (st' d' q' : Nat) (so' sp' : Int32) (sl' ta' t' cd' cx' : Nat → Nat) (f_trailLen' f_depth' f_choiceCount' f_status' f_solutions' f_steps' f_pairTop' f_answerLen' f_goalLen' : Int32) (a_nodeFn' a_nodeLink' a_nodeArg' a_trail' a_frameSlot' a_frameBase' a_contFrame' a_contAtom' a_selFrame' a_selAtom' a_nodeTop' a_trailAt' a_heapAt' a_pendingAt' a_choiceDepth' a_choiceNext' a_pairLeft' a_pairRight' a_colour' a_dfsNode' a_dfsArg' : Nat → Int32), wm_XD cs ln m hc fc kc st' d' q' so' sp' sl' ta' t' cd' cx' f_status' f_depth' f_choiceCount' f_trailLen' f_solutions' f_steps' f_answerLen' f_goalLen' a_choiceDepth' a_choiceNext' a_frameSlot' a_frameBase' a_nodeTop' a_heapAt' a_pendingAt' a_trailAt' a_contFrame' a_contAtom' a_selFrame' a_selAtom' a_nodeFn' a_nodeLink' a_nodeArg' a_trail' a_writing → wm_YK cs ln m hc fc kc d q so sp sl cd cx (wm_Fn a_nodeFn) (wm_Gn a_nodeArg) st' d' q' so' sp' sl' cd' cx' (wm_Fn a_nodeFn') (wm_Gn a_nodeArg') → post (f_clauseCap, f_heapCap, f_frameCap, f_choiceCap, f_querySlot, f_firstNode, f_draftLen, f_draftOpen, f_draftAtoms, f_programUsed, f_clauses, f_trailLen', f_depth', f_choiceCount', f_status', f_solutions', f_steps', f_complete, f_pairTop', f_writeTop, f_answerLen', f_goalLen', a_draft, a_code, a_skip, a_local, a_slotStart, a_slotLen, a_slotAtoms, a_slotVars, a_slotNodes, a_slotWeight, a_slotKey, a_atomPlace, a_nodeFn', a_nodeLink', a_nodeArg', a_trail', a_frameSlot', a_frameBase', a_contFrame', a_contAtom', a_selFrame', a_selAtom', a_nodeTop', a_trailAt', a_heapAt', a_pendingAt', a_choiceDepth', a_choiceNext', a_pairLeft', a_pairRight', a_colour', a_dfsNode', a_dfsArg', a_writing, a_writeStack, a_varNumber)) : wpX_step post (f_clauseCap, f_heapCap, f_frameCap, f_choiceCap, f_querySlot, f_firstNode, f_draftLen, f_draftOpen, f_draftAtoms, f_programUsed, f_clauses, f_trailLen, f_depth, f_choiceCount, f_status, f_solutions, f_steps, f_complete, f_pairTop, f_writeTop, f_answerLen, f_goalLen, a_draft, a_code, a_skip, a_local, a_slotStart, a_slotLen, a_slotAtoms, a_slotVars, a_slotNodes, a_slotWeight, a_slotKey, a_atomPlace, a_nodeFn, a_nodeLink, a_nodeArg, a_trail, a_frameSlot, a_frameBase, a_contFrame, a_contAtom, a_selFrame, a_selAtom, a_nodeTop, a_trailAt, a_heapAt, a_pendingAt, a_choiceDepth, a_choiceNext, a_pairLeft, a_pairRight, a_colour, a_dfsNode, a_dfsArg, a_writing, a_writeStack, a_varNumber) := by
  obtain ⟨⟨-, hst, hso, hsp⟩, hcn, -, hl⟩ := hX
  obtain ⟨⟨pd, pq', pT, p0, psl, php, pCH, pst⟩, ⟨xd, xq, xtl, xch, xF, xC, xN, xR⟩, xWA, xWG⟩ := hl ⟨by omega, by omega⟩
  have hst1 : f_status = 1 := hst
  have hbs := wm_bs_hp (cs := cs) (ln := ln) (sl := sl) d
  have hsl32 : ∀ i, i ≤ d → (sl i < m ∨ sl i = 32) := fun i hi => by
    rcases Nat.eq_zero_or_pos i with z | z
    · subst z; exact Or.inr p0
    · exact Or.inl (psl i z hi)
  obtain ⟨f, j, hg⟩ : ∃ f j, (wm_gl cs ln sl d).head? = some (f, j) := by
    cases hh : wm_gl cs ln sl d with
    | nil => exact absurd (pst.mpr hh) (by omega)
    | cons x y => exact ⟨x.1, x.2, rfl⟩
  obtain ⟨gf, gj, gk, go⟩ := wm_goal pT (Nat.le_refl _) hg
  obtain ⟨gx, cp⟩ := wm_gx pT.1 xN (by omega)
  obtain ⟨ρ, δ, rk, o1, o2, o3, -, -, -⟩ := (xR.1 d (Nat.le_refl _)).2 a_nodeLink (fun n hn => ⟨fun ⟨i, y1, y2, y3⟩ => by omega, fun _ => rfl⟩)
  have t256 := wm_TL_256 xR.2.1
  have hXlc : ∀ (c : Nat) (post : Int32 → Prop), c ≤ 33 → post (wm_lf (wm_cd cs (cs (sl f) (wm_pq cs ln sl f j)) (wm_gk (wm_Fn a_nodeFn) ρ (cs (sl f) (wm_pq cs ln sl f j)) (wm_nc cs ln sl f (wm_aq cs ln sl f (wm_pq cs ln sl f j) 0)))) (m - c) c) → wpX_leastCandidate post (f_clauseCap, f_heapCap, f_frameCap, f_choiceCap, f_querySlot, f_firstNode, f_draftLen, f_draftOpen, f_draftAtoms, f_programUsed, f_clauses, f_trailLen, f_depth, f_choiceCount, f_status, f_solutions, f_steps, f_complete, f_pairTop, f_writeTop, f_answerLen, f_goalLen, a_draft, a_code, a_skip, a_local, a_slotStart, a_slotLen, a_slotAtoms, a_slotVars, a_slotNodes, a_slotWeight, a_slotKey, a_atomPlace, a_nodeFn, a_nodeLink, a_nodeArg, a_trail, a_frameSlot, a_frameBase, a_contFrame, a_contAtom, a_selFrame, a_selAtom, a_nodeTop, a_trailAt, a_heapAt, a_pendingAt, a_choiceDepth, a_choiceNext, a_pairLeft, a_pairRight, a_colour, a_dfsNode, a_dfsArg, a_writing, a_writeStack, a_varNumber) (nI c) := fun c post hc' hpost =>
    wx_leastCandidate (T := 0) rfl hc' hm hcl xd (by omega) hS hsl32 xF xC pT hg gx o1 (fun n => by have := o2 n; omega) hpost
  have hYlc : ∀ (g_clauseCap g_heapCap g_frameCap g_choiceCap g_draftCount g_clauses g_queryCount g_status g_depth g_choiceCount g_solutions g_steps g_complete g_compoundCount g_equations g_goalCount : Int32) (b_draft b_clauseCodes b_clauseLength b_query b_trace b_choiceDepths b_choiceNexts b_code b_link b_compound b_finite b_left b_right b_goals b_atomPlace b_stack b_seen : Nat → Int32), wm_SYs cs ln m hc fc kc g_heapCap g_frameCap g_choiceCap g_draftCount g_clauses g_queryCount b_draft b_clauseCodes b_clauseLength b_query → wm_YV cs ln sl cd cx d q (wm_Fn a_nodeFn) (wm_Gn a_nodeArg) g_depth g_choiceCount g_goalCount b_trace b_choiceDepths b_choiceNexts b_code b_link b_goals → ∀ (c : Nat) (post : Int32 → Prop), c ≤ 33 → post (wm_lf (wm_cd cs (cs (sl f) (wm_pq cs ln sl f j)) (wm_gk (wm_Fn a_nodeFn) ρ (cs (sl f) (wm_pq cs ln sl f j)) (wm_nc cs ln sl f (wm_aq cs ln sl f (wm_pq cs ln sl f j) 0)))) (m - c) c) → wpY_leastCandidate post (g_clauseCap, g_heapCap, g_frameCap, g_choiceCap, g_draftCount, g_clauses, g_queryCount, g_status, g_depth, g_choiceCount, g_solutions, g_steps, g_complete, g_compoundCount, g_equations, g_goalCount, b_draft, b_clauseCodes, b_clauseLength, b_query, b_trace, b_choiceDepths, b_choiceNexts, b_code, b_link, b_compound, b_finite, b_left, b_right, b_goals, b_atomPlace, b_stack, b_seen) (nI c) := by
    intro g_clauseCap g_heapCap g_frameCap g_choiceCap g_draftCount g_clauses g_queryCount g_status g_depth g_choiceCount g_solutions g_steps g_complete g_compoundCount g_equations g_goalCount b_draft b_clauseCodes b_clauseLength b_query b_trace b_choiceDepths b_choiceNexts b_code b_link b_compound b_finite b_left b_right b_goals b_atomPlace b_stack b_seen hSy hV c post hc' hpost
    obtain ⟨v1, v2, v3, v4, w1, w2, w3, r', δ', ρ', hR⟩ := hV
    refine wy_leastCandidate rfl hc' hSy.2.1 hSy.2.2.1 pT (by omega) cp w1 hR w2 w3 hg ?_
    rw [wm_gk_eq o3 hR.2.2.2 (fun hz => ?_)]
    · exact hpost
    · obtain ⟨p1, p2, p3⟩ := wm_ap_lt (k := 0) (pT.1 f gf).2.2 gk (Nat.pos_of_ne_zero hz)
      exact wm_nc_lt (pT.1 f gf).1 gf p2 p3
  generalize hPe : wm_cd cs (cs (sl f) (wm_pq cs ln sl f j)) (wm_gk (wm_Fn a_nodeFn) ρ (cs (sl f) (wm_pq cs ln sl f j)) (wm_nc cs ln sl f (wm_aq cs ln sl f (wm_pq cs ln sl f j) 0))) = P at hXlc hYlc
  have hPm : ∀ c, P c = true → cs (sl f) (wm_pq cs ln sl f j) = cs c 0 := fun c h => by
    rw [← hPe] at h
    simp only [wm_cd, decide_eq_true_eq] at h
    exact h.1.symm
  have hcd : ∀ i, i < q → cd i ≤ 128 := fun i hi => by have := (pCH.1 i hi).1; omega
  have hhb : wm_hp cs ln sl d ≤ 256 := by omega
  -- a halt
  have halt : ∀ k : Nat, (k = 4 ∨ k = 5 ∨ k = 6) → wm_XD cs ln m hc fc kc k d q so sp sl ta t cd cx (nI k) f_depth f_choiceCount f_trailLen f_solutions f_steps f_answerLen f_goalLen a_choiceDepth a_choiceNext a_frameSlot a_frameBase a_nodeTop a_heapAt a_pendingAt a_trailAt a_contFrame a_contAtom a_selFrame a_selAtom a_nodeFn a_nodeLink a_nodeArg a_trail a_writing := fun k hk =>
    ⟨⟨by omega, rfl, hso, hsp⟩, hcn, fun h => absurd ⟨by omega, by omega⟩ h, fun _ => ⟨⟨pd, pq', pT, p0, psl, php, pCH, fun h => by omega, fun h => absurd (pst.mpr h) (by omega)⟩, ⟨xd, xq, xtl, xch, xF, xC, xN, xR⟩, xWA, xWG⟩⟩
  have lvs : ∀ k : Nat, (k = 1 ∨ k = 4 ∨ k = 5 ∨ k = 6) → wm_lv k := fun k hk => ⟨by omega, by omega⟩
  -- going on with clause c and new choices
  have go : ∀ (c : Nat) (q' : Nat) (cd' cx' : Nat → Nat) (cq : Int32) (aD aN : Nat → Int32), c < m → cs (sl f) (wm_pq cs ln sl f j) = cs c 0 → d < fc → wm_hp cs ln sl d + wm_W (cs c) (ln c) ≤ hc → q' ≤ kc → wm_CH cs ln sl m d q' cd' cx' → cq = nI q' → (∀ i, i < q' → aD i = nI (cd' i) ∧ aN i = nI (cx' i)) →
      (∀ (g_clauseCap g_heapCap g_frameCap g_choiceCap g_draftCount g_clauses g_queryCount g_status g_depth g_choiceCount g_solutions g_steps g_complete g_compoundCount g_equations g_goalCount : Int32) (b_draft b_clauseCodes b_clauseLength b_query b_trace b_choiceDepths b_choiceNexts b_code b_link b_compound b_finite b_left b_right b_goals b_atomPlace b_stack b_seen : Nat → Int32), wm_SYs cs ln m hc fc kc g_heapCap g_frameCap g_choiceCap g_draftCount g_clauses g_queryCount b_draft b_clauseCodes b_clauseLength b_query → wm_YD cs ln 1 d q so sp sl cd cx (wm_Fn a_nodeFn) (wm_Gn a_nodeArg) g_status g_depth g_choiceCount g_solutions g_steps g_goalCount b_trace b_choiceDepths b_choiceNexts b_code b_link b_goals → ∀ post : SY → Prop, (∀ (yq : Int32) (yD yN : Nat → Int32), yq = nI q' → (∀ i, i < q' → yD i = nI (cd' i) ∧ yN i = nI (cx' i)) → wY_step_237 post (nI c) g_clauseCap g_heapCap g_frameCap g_choiceCap g_draftCount g_clauses g_queryCount g_status g_depth yq g_solutions (g_steps + 1) g_complete g_compoundCount g_equations g_goalCount b_draft b_clauseCodes b_clauseLength b_query b_trace yD yN b_code b_link b_compound b_finite b_left b_right b_goals b_atomPlace b_stack b_seen) → wpY_step post (g_clauseCap, g_heapCap, g_frameCap, g_choiceCap, g_draftCount, g_clauses, g_queryCount, g_status, g_depth, g_choiceCount, g_solutions, g_steps, g_complete, g_compoundCount, g_equations, g_goalCount, b_draft, b_clauseCodes, b_clauseLength, b_query, b_trace, b_choiceDepths, b_choiceNexts, b_code, b_link, b_compound, b_finite, b_left, b_right, b_goals, b_atomPlace, b_stack, b_seen)) →
      wX_step_134 post (nI c) f_clauseCap f_heapCap f_frameCap f_choiceCap f_querySlot f_firstNode f_draftLen f_draftOpen f_draftAtoms f_programUsed f_clauses f_trailLen f_depth cq f_status f_solutions (f_steps + 1) f_complete f_pairTop f_writeTop f_answerLen f_goalLen a_draft a_code a_skip a_local a_slotStart a_slotLen a_slotAtoms a_slotVars a_slotNodes a_slotWeight a_slotKey a_atomPlace a_nodeFn a_nodeLink a_nodeArg a_trail a_frameSlot a_frameBase a_contFrame a_contAtom a_selFrame a_selAtom a_nodeTop a_trailAt a_heapAt a_pendingAt aD aN a_pairLeft a_pairRight a_colour a_dfsNode a_dfsArg a_writing a_writeStack a_varNumber := by
    intro c q' cd' cx' cq aD aN hcm hcode hdf hfit hq' hCH hcq hch hY
    have hs : ∀ i, i ≤ d → wm_u sl (d + 1) c i = sl i := fun i hi => wm_un (by omega)
    obtain ⟨t1, t2⟩ := wm_more pT (hS c (Or.inl hcm)).2.1 hg hcode
    refine wz_go (sl := wm_u sl (d + 1) c) (d := d) (so := so) (sp := sp + 1) (by rw [wm_us]) hS b1 b3 b2 (by omega) hq' t1 (by rw [wm_un (by omega)]; exact p0) (fun i a b => ?_) (by rw [t2]; exact hfit) (wm_CH_congr hs hCH) hst1 xd hcq hch (wm_FRM_congr hs xF) (wm_CNT_congr hs xC) (wm_NDS_congr hs xN) (wm_TRL_congr hs xR) xtl hso (by rw [hsp]) (fun st' d' so' ta' t' f_trailLen' f_depth' f_choiceCount' f_status' f_solutions' f_steps' f_pairTop' f_answerLen' f_goalLen' a_nodeFn' a_nodeLink' a_nodeArg' a_trail' a_frameSlot' a_frameBase' a_contFrame' a_contAtom' a_selFrame' a_selAtom' a_nodeTop' a_trailAt' a_heapAt' a_pendingAt' a_choiceDepth' a_choiceNext' a_pairLeft' a_pairRight' a_colour' a_dfsNode' a_dfsArg' hXD hYG => hp st' d' q' so' (sp + 1) (wm_u sl (d + 1) c) ta' t' cd' cx' f_trailLen' f_depth' f_choiceCount' f_status' f_solutions' f_steps' f_pairTop' f_answerLen' f_goalLen' a_nodeFn' a_nodeLink' a_nodeArg' a_trail' a_frameSlot' a_frameBase' a_contFrame' a_contAtom' a_selFrame' a_selAtom' a_nodeTop' a_trailAt' a_heapAt' a_pendingAt' a_choiceDepth' a_choiceNext' a_pairLeft' a_pairRight' a_colour' a_dfsNode' a_dfsArg' hXD ?_)
    · rcases Nat.lt_or_ge d i with z | z
      · have : i = d + 1 := by omega
        subst this; rw [wm_us]; exact hcm
      · rw [wm_un (by omega)]; exact psl i a z
    · intro g_clauseCap g_heapCap g_frameCap g_choiceCap g_draftCount g_clauses g_queryCount g_status g_depth g_choiceCount g_solutions g_steps g_complete g_compoundCount g_equations g_goalCount b_draft b_clauseCodes b_clauseLength b_query b_trace b_choiceDepths b_choiceNexts b_code b_link b_compound b_finite b_left b_right b_goals b_atomPlace b_stack b_seen hSy hD post' hp'
      refine hY _ _ _ _ _ _ _ _ _ _ _ _ _ _ _ _ _ _ _ _ _ _ _ _ _ _ _ _ _ _ _ _ _ hSy hD post' (fun yq yD yN hyq hych => ?_)
      obtain ⟨⟨z1, z2, z3⟩, z4⟩ := hD
      obtain ⟨v1, v2, v3, v4, -⟩ := z4 (lvs 1 (Or.inl rfl))
      have ec : nI c = nI (wm_u sl (d + 1) c (d + 1)) := by rw [wm_us]
      rw [ec]
      exact hYG _ _ _ _ _ _ _ _ _ _ _ _ _ _ _ _ _ _ _ _ _ _ _ _ _ _ _ _ _ _ _ _ _ hSy z1 v1 hyq hych (fun i hi => by rw [wm_un (by omega)]; exact v3 i hi) z2 (by rw [z3]) post' hp'
  unfold wpX_step
  by_cases hr : ∃ p, q = p + 1 ∧ cd p = d
  · obtain ⟨p, rfl, hpd⟩ := hr
    obtain ⟨ch1, ch2, f', j', ch3, ch4⟩ := pCH.1 p (by omega)
    rw [hpd, hg] at ch3
    cases ch3
    refine wx_isRetrying (cd := cd) xd (by omega) xq (by omega) (fun i hi => (xch i hi).1) hcd (fun _ => ?_) (fun h => absurd ⟨p, rfl, hpd⟩ h)
    refine wx_clauseToTry_r xd (by omega) xq (by omega) xch hcd hpd ?_
    refine wm_leT 0 (cx p) (Nat.zero_le _) ?_
    rw [nI_1]
    refine hXlc (cx p + 1) _ (by omega) ?_
    refine wm_eqF 1 0 (by omega) ?_
    unfold wX_step_49 wX_step_50
    have hY30 : ∀ (g_clauseCap g_heapCap g_frameCap g_choiceCap g_draftCount g_clauses g_queryCount g_status g_depth g_choiceCount g_solutions g_steps g_complete g_compoundCount g_equations g_goalCount : Int32) (b_draft b_clauseCodes b_clauseLength b_query b_trace b_choiceDepths b_choiceNexts b_code b_link b_compound b_finite b_left b_right b_goals b_atomPlace b_stack b_seen : Nat → Int32), wm_SYs cs ln m hc fc kc g_heapCap g_frameCap g_choiceCap g_draftCount g_clauses g_queryCount b_draft b_clauseCodes b_clauseLength b_query → wm_YD cs ln 1 d (p + 1) so sp sl cd cx (wm_Fn a_nodeFn) (wm_Gn a_nodeArg) g_status g_depth g_choiceCount g_solutions g_steps g_goalCount b_trace b_choiceDepths b_choiceNexts b_code b_link b_goals → ∀ post : SY → Prop, (fc ≤ d → post (g_clauseCap, g_heapCap, g_frameCap, g_choiceCap, g_draftCount, g_clauses, g_queryCount, 4, g_depth, g_choiceCount, g_solutions, g_steps, g_complete, g_compoundCount, g_equations, g_goalCount, b_draft, b_clauseCodes, b_clauseLength, b_query, b_trace, b_choiceDepths, b_choiceNexts, b_code, b_link, b_compound, b_finite, b_left, b_right, b_goals, b_atomPlace, b_stack, b_seen)) → (d < fc → hc < wm_hp cs ln sl d + wm_W (cs (cx p)) (ln (cx p)) → post (g_clauseCap, g_heapCap, g_frameCap, g_choiceCap, g_draftCount, g_clauses, g_queryCount, 5, g_depth, g_choiceCount, g_solutions, g_steps, g_complete, g_compoundCount, g_equations, g_goalCount, b_draft, b_clauseCodes, b_clauseLength, b_query, b_trace, b_choiceDepths, b_choiceNexts, b_code, b_link, b_compound, b_finite, b_left, b_right, b_goals, b_atomPlace, b_stack, b_seen)) → (d < fc → wm_hp cs ln sl d + wm_W (cs (cx p)) (ln (cx p)) ≤ hc → wY_step_152 post 1 (nI (cx p)) (wm_lf P (m - (cx p + 1)) (cx p + 1)) g_clauseCap g_heapCap g_frameCap g_choiceCap g_draftCount g_clauses g_queryCount g_status g_depth g_choiceCount g_solutions g_steps g_complete g_compoundCount g_equations g_goalCount b_draft b_clauseCodes b_clauseLength b_query b_trace b_choiceDepths b_choiceNexts b_code b_link b_compound b_finite b_left b_right b_goals b_atomPlace b_stack b_seen) → wpY_step post (g_clauseCap, g_heapCap, g_frameCap, g_choiceCap, g_draftCount, g_clauses, g_queryCount, g_status, g_depth, g_choiceCount, g_solutions, g_steps, g_complete, g_compoundCount, g_equations, g_goalCount, b_draft, b_clauseCodes, b_clauseLength, b_query, b_trace, b_choiceDepths, b_choiceNexts, b_code, b_link, b_compound, b_finite, b_left, b_right, b_goals, b_atomPlace, b_stack, b_seen) := by
      intro g_clauseCap g_heapCap g_frameCap g_choiceCap g_draftCount g_clauses g_queryCount g_status g_depth g_choiceCount g_solutions g_steps g_complete g_compoundCount g_equations g_goalCount b_draft b_clauseCodes b_clauseLength b_query b_trace b_choiceDepths b_choiceNexts b_code b_link b_compound b_finite b_left b_right b_goals b_atomPlace b_stack b_seen hSy hD post' g4 g5 g1
      obtain ⟨⟨z1, z2, z3⟩, z4⟩ := hD
      have hV := z4 (lvs 1 (Or.inl rfl))
      obtain ⟨v1, v2, v3, v4, -⟩ := hV
      refine wy_step_r v1 (by omega) v2 (by omega) v4 hcd hpd ?_
      exact wy_step_30 (z := 1) (sl := sl) (q := p + 1) rfl (by omega) ch2 hm (hYlc _ _ _ _ _ _ _ _ _ _ _ _ _ _ _ _ _ _ _ _ _ _ _ _ _ _ _ _ _ _ _ _ _ hSy (z4 (lvs 1 (Or.inl rfl)))) z1 v1 (by omega) v2 (by omega) hSy pT.1 p0 psl v3 hhb g4 g5 (fun _ _ h => absurd h (by omega)) (fun h h' _ => g1 h h')
    refine wx_room (sl := sl) (c := cx p) (z := 0) (q := p + 1) rfl rfl (by omega) hS ch2 xd (by omega) xq (by omega) e1 e2 e3 b1 b2 b3 (xF d (Nat.le_refl _)).2.1 hhb (fun h => ?_) (fun h h' => ?_) (fun _ _ h => absurd rfl h) (fun h h' _ => ?_)
    · refine br_f (by decide) (hp 4 d (p + 1) so sp sl ta t cd cx _ _ _ _ _ _ _ _ _ _ _ _ _ _ _ _ _ _ _ _ _ _ _ _ _ _ _ _ _ _ (halt 4 (Or.inl rfl)) ?_)
      intro g_clauseCap g_heapCap g_frameCap g_choiceCap g_draftCount g_clauses g_queryCount g_status g_depth g_choiceCount g_solutions g_steps g_complete g_compoundCount g_equations g_goalCount b_draft b_clauseCodes b_clauseLength b_query b_trace b_choiceDepths b_choiceNexts b_code b_link b_compound b_finite b_left b_right b_goals b_atomPlace b_stack b_seen hSy hD post' hp'
      refine hY30 _ _ _ _ _ _ _ _ _ _ _ _ _ _ _ _ _ _ _ _ _ _ _ _ _ _ _ _ _ _ _ _ _ hSy hD post' (fun _ => ?_) (fun h1 => absurd h1 (by omega)) (fun h1 => absurd h1 (by omega))
      exact hp' _ _ _ _ _ _ _ _ _ _ _ _ _ _ _ _ _ _ _ ⟨⟨rfl, hD.1.2⟩, fun _ => hD.2 (lvs 1 (Or.inl rfl))⟩
    · refine br_f (by decide) (hp 5 d (p + 1) so sp sl ta t cd cx _ _ _ _ _ _ _ _ _ _ _ _ _ _ _ _ _ _ _ _ _ _ _ _ _ _ _ _ _ _ (halt 5 (Or.inr (Or.inl rfl))) ?_)
      intro g_clauseCap g_heapCap g_frameCap g_choiceCap g_draftCount g_clauses g_queryCount g_status g_depth g_choiceCount g_solutions g_steps g_complete g_compoundCount g_equations g_goalCount b_draft b_clauseCodes b_clauseLength b_query b_trace b_choiceDepths b_choiceNexts b_code b_link b_compound b_finite b_left b_right b_goals b_atomPlace b_stack b_seen hSy hD post' hp'
      refine hY30 _ _ _ _ _ _ _ _ _ _ _ _ _ _ _ _ _ _ _ _ _ _ _ _ _ _ _ _ _ _ _ _ _ hSy hD post' (fun h1 => absurd h1 (by omega)) (fun _ _ => ?_) (fun _ h1 => absurd h1 (by omega))
      exact hp' _ _ _ _ _ _ _ _ _ _ _ _ _ _ _ _ _ _ _ ⟨⟨rfl, hD.1.2⟩, fun _ => hD.2 (lvs 1 (Or.inl rfl))⟩
    · refine wm_eqT 1 1 rfl (nm_e (wm_eqF 1 0 (by omega) ?_))
      refine wx_advance xq (by omega) (fun k hkb hk => ?_) (fun hk => ?_) ?_
      · obtain ⟨-, k1, k2⟩ := wm_lf_k (by omega) hkb hk
        refine go (cx p) (p + 1) cd (wm_u cx p k) _ _ _ ch2 ch4 h h' pq' ⟨fun i hi => ?_, pCH.2⟩ xq (fun i hi => ?_) ?_
        · by_cases e : i = p
          · subst e
            rw [wm_us, hpd]
            exact ⟨Nat.le_refl _, by omega, f, j, hg, hPm k k2⟩
          · rw [wm_un e]; exact pCH.1 i hi
        · by_cases e : i = p
          · subst e; rw [pk_us, wm_us]; exact ⟨(xch i hi).1, rfl⟩
          · rw [pk_un e, wm_un e]; exact xch i hi
        · intro g_clauseCap g_heapCap g_frameCap g_choiceCap g_draftCount g_clauses g_queryCount g_status g_depth g_choiceCount g_solutions g_steps g_complete g_compoundCount g_equations g_goalCount b_draft b_clauseCodes b_clauseLength b_query b_trace b_choiceDepths b_choiceNexts b_code b_link b_compound b_finite b_left b_right b_goals b_atomPlace b_stack b_seen hSy hD post' hp'
          refine hY30 _ _ _ _ _ _ _ _ _ _ _ _ _ _ _ _ _ _ _ _ _ _ _ _ _ _ _ _ _ _ _ _ _ hSy hD post' (fun h1 => absurd h1 (by omega)) (fun _ h1 => absurd h1 (by omega)) (fun _ _ => ?_)
          obtain ⟨v1, v2, v3, v4, -⟩ := hD.2 (lvs 1 (Or.inl rfl))
          rw [hk]
          refine wy_152_r1 hkb v2 (by omega) (hp' _ _ _ v2 (fun i hi => ?_))
          by_cases e : i = p
          · subst e; rw [pk_us, wm_us]; exact ⟨(v4 i hi).1, rfl⟩
          · rw [pk_un e, wm_un e]; exact v4 i hi
      · refine go (cx p) p cd cx _ _ _ ch2 ch4 h h' (by omega) ⟨fun i hi => pCH.1 i (by omega), fun i i' a b => pCH.2 i i' a (by omega)⟩ rfl (fun i hi => xch i (by omega)) ?_
        intro g_clauseCap g_heapCap g_frameCap g_choiceCap g_draftCount g_clauses g_queryCount g_status g_depth g_choiceCount g_solutions g_steps g_complete g_compoundCount g_equations g_goalCount b_draft b_clauseCodes b_clauseLength b_query b_trace b_choiceDepths b_choiceNexts b_code b_link b_compound b_finite b_left b_right b_goals b_atomPlace b_stack b_seen hSy hD post' hp'
        refine hY30 _ _ _ _ _ _ _ _ _ _ _ _ _ _ _ _ _ _ _ _ _ _ _ _ _ _ _ _ _ _ _ _ _ hSy hD post' (fun h1 => absurd h1 (by omega)) (fun _ h1 => absurd h1 (by omega)) (fun _ _ => ?_)
        obtain ⟨v1, v2, v3, v4, -⟩ := hD.2 (lvs 1 (Or.inl rfl))
        rw [hk]
        exact wy_152_r0 v2 (hp' _ _ _ rfl (fun i hi => v4 i (by omega)))
      · rcases wm_lf_or P (m - (cx p + 1)) (cx p + 1) with z | ⟨k', a, b, c', e⟩
        · exact Or.inl z
        · exact Or.inr ⟨k', by omega, e⟩
  · refine wx_isRetrying (cd := cd) xd (by omega) xq (by omega) (fun i hi => (xch i hi).1) hcd (fun h => absurd h hr) (fun _ => ?_)
    refine wx_clauseToTry_n (P := P) (m := m) (q := q) (cd := cd) xd (by omega) xq (by omega) (fun i hi => (xch i hi).1) hcd hr hXlc ?_
    have hYn : ∀ (g_clauseCap g_heapCap g_frameCap g_choiceCap g_draftCount g_clauses g_queryCount g_status g_depth g_choiceCount g_solutions g_steps g_complete g_compoundCount g_equations g_goalCount : Int32) (b_draft b_clauseCodes b_clauseLength b_query b_trace b_choiceDepths b_choiceNexts b_code b_link b_compound b_finite b_left b_right b_goals b_atomPlace b_stack b_seen : Nat → Int32), wm_SYs cs ln m hc fc kc g_heapCap g_frameCap g_choiceCap g_draftCount g_clauses g_queryCount b_draft b_clauseCodes b_clauseLength b_query → wm_YD cs ln 1 d q so sp sl cd cx (wm_Fn a_nodeFn) (wm_Gn a_nodeArg) g_status g_depth g_choiceCount g_solutions g_steps g_goalCount b_trace b_choiceDepths b_choiceNexts b_code b_link b_goals → ∀ post : SY → Prop, wY_step_30 post 0 (wm_lf P m 0) g_clauseCap g_heapCap g_frameCap g_choiceCap g_draftCount g_clauses g_queryCount g_status g_depth g_choiceCount g_solutions g_steps g_complete g_compoundCount g_equations g_goalCount b_draft b_clauseCodes b_clauseLength b_query b_trace b_choiceDepths b_choiceNexts b_code b_link b_compound b_finite b_left b_right b_goals b_atomPlace b_stack b_seen → wpY_step post (g_clauseCap, g_heapCap, g_frameCap, g_choiceCap, g_draftCount, g_clauses, g_queryCount, g_status, g_depth, g_choiceCount, g_solutions, g_steps, g_complete, g_compoundCount, g_equations, g_goalCount, b_draft, b_clauseCodes, b_clauseLength, b_query, b_trace, b_choiceDepths, b_choiceNexts, b_code, b_link, b_compound, b_finite, b_left, b_right, b_goals, b_atomPlace, b_stack, b_seen) := by
      intro g_clauseCap g_heapCap g_frameCap g_choiceCap g_draftCount g_clauses g_queryCount g_status g_depth g_choiceCount g_solutions g_steps g_complete g_compoundCount g_equations g_goalCount b_draft b_clauseCodes b_clauseLength b_query b_trace b_choiceDepths b_choiceNexts b_code b_link b_compound b_finite b_left b_right b_goals b_atomPlace b_stack b_seen hSy hD post' g
      have hV := hD.2 (lvs 1 (Or.inl rfl))
      obtain ⟨v1, v2, v3, v4, -⟩ := hD.2 (lvs 1 (Or.inl rfl))
      exact wy_step_n (P := P) (m := m) (q := q) (cd := cd) v1 (by omega) v2 (by omega) (fun i hi => (v4 i hi).1) hcd hr (hYlc _ _ _ _ _ _ _ _ _ _ _ _ _ _ _ _ _ _ _ _ _ _ _ _ _ _ _ _ _ _ _ _ _ hSy hV) g
    rcases wm_lf_or P m 0 with hz | ⟨c, c1, c2, c3, c4⟩
    · rw [hz]
      refine wm_geM rfl (nm_e ?_)
      refine wz_fail (t := t) (tl := ta d) (so := so) (sp := sp + 1) b1 b3 b2 pd pq' pT p0 psl php pCH xq xch xF xC xN xR xtl hso (by rw [hsp]) (fun st' d' f_trailLen' f_depth' f_choiceCount' f_status' f_solutions' f_steps' f_pairTop' f_answerLen' f_goalLen' a_nodeFn' a_nodeLink' a_nodeArg' a_trail' a_frameSlot' a_frameBase' a_contFrame' a_contAtom' a_selFrame' a_selAtom' a_nodeTop' a_trailAt' a_heapAt' a_pendingAt' a_choiceDepth' a_choiceNext' a_pairLeft' a_pairRight' a_colour' a_dfsNode' a_dfsArg' hXD hYF => hp st' d' q so (sp + 1) sl ta t cd cx f_trailLen' f_depth' f_choiceCount' f_status' f_solutions' f_steps' f_pairTop' f_answerLen' f_goalLen' a_nodeFn' a_nodeLink' a_nodeArg' a_trail' a_frameSlot' a_frameBase' a_contFrame' a_contAtom' a_selFrame' a_selAtom' a_nodeTop' a_trailAt' a_heapAt' a_pendingAt' a_choiceDepth' a_choiceNext' a_pairLeft' a_pairRight' a_colour' a_dfsNode' a_dfsArg' hXD ?_)
      intro g_clauseCap g_heapCap g_frameCap g_choiceCap g_draftCount g_clauses g_queryCount g_status g_depth g_choiceCount g_solutions g_steps g_complete g_compoundCount g_equations g_goalCount b_draft b_clauseCodes b_clauseLength b_query b_trace b_choiceDepths b_choiceNexts b_code b_link b_compound b_finite b_left b_right b_goals b_atomPlace b_stack b_seen hSy hD post' hp'
      refine hYn _ _ _ _ _ _ _ _ _ _ _ _ _ _ _ _ _ _ _ _ _ _ _ _ _ _ _ _ _ _ _ _ _ hSy hD post' ?_
      obtain ⟨v1, v2, v3, v4, -⟩ := hD.2 (lvs 1 (Or.inl rfl))
      rw [hz]
      refine wy_step_30n ?_
      exact hYF _ _ _ _ _ _ _ _ _ _ _ _ _ _ _ _ _ _ _ _ _ _ _ _ _ _ _ _ _ _ _ _ _ hSy v2 v4 v3 hD.1.2.1 (by rw [hD.1.2.2]) post' hp'
    · rw [c4]
      have hcm : c < m := by omega
      have hcode := hPm c c3
      have hY30 : ∀ (g_clauseCap g_heapCap g_frameCap g_choiceCap g_draftCount g_clauses g_queryCount g_status g_depth g_choiceCount g_solutions g_steps g_complete g_compoundCount g_equations g_goalCount : Int32) (b_draft b_clauseCodes b_clauseLength b_query b_trace b_choiceDepths b_choiceNexts b_code b_link b_compound b_finite b_left b_right b_goals b_atomPlace b_stack b_seen : Nat → Int32), wm_SYs cs ln m hc fc kc g_heapCap g_frameCap g_choiceCap g_draftCount g_clauses g_queryCount b_draft b_clauseCodes b_clauseLength b_query → wm_YD cs ln 1 d q so sp sl cd cx (wm_Fn a_nodeFn) (wm_Gn a_nodeArg) g_status g_depth g_choiceCount g_solutions g_steps g_goalCount b_trace b_choiceDepths b_choiceNexts b_code b_link b_goals → ∀ post : SY → Prop, (fc ≤ d → post (g_clauseCap, g_heapCap, g_frameCap, g_choiceCap, g_draftCount, g_clauses, g_queryCount, 4, g_depth, g_choiceCount, g_solutions, g_steps, g_complete, g_compoundCount, g_equations, g_goalCount, b_draft, b_clauseCodes, b_clauseLength, b_query, b_trace, b_choiceDepths, b_choiceNexts, b_code, b_link, b_compound, b_finite, b_left, b_right, b_goals, b_atomPlace, b_stack, b_seen)) → (d < fc → hc < wm_hp cs ln sl d + wm_W (cs c) (ln c) → post (g_clauseCap, g_heapCap, g_frameCap, g_choiceCap, g_draftCount, g_clauses, g_queryCount, 5, g_depth, g_choiceCount, g_solutions, g_steps, g_complete, g_compoundCount, g_equations, g_goalCount, b_draft, b_clauseCodes, b_clauseLength, b_query, b_trace, b_choiceDepths, b_choiceNexts, b_code, b_link, b_compound, b_finite, b_left, b_right, b_goals, b_atomPlace, b_stack, b_seen)) → (d < fc → wm_hp cs ln sl d + wm_W (cs c) (ln c) ≤ hc → wm_lf P (m - (c + 1)) (c + 1) ≠ -1 → kc ≤ q → post (g_clauseCap, g_heapCap, g_frameCap, g_choiceCap, g_draftCount, g_clauses, g_queryCount, 6, g_depth, g_choiceCount, g_solutions, g_steps, g_complete, g_compoundCount, g_equations, g_goalCount, b_draft, b_clauseCodes, b_clauseLength, b_query, b_trace, b_choiceDepths, b_choiceNexts, b_code, b_link, b_compound, b_finite, b_left, b_right, b_goals, b_atomPlace, b_stack, b_seen)) → (d < fc → wm_hp cs ln sl d + wm_W (cs c) (ln c) ≤ hc → (wm_lf P (m - (c + 1)) (c + 1) ≠ -1 → q < kc) → wY_step_152 post 0 (nI c) (wm_lf P (m - (c + 1)) (c + 1)) g_clauseCap g_heapCap g_frameCap g_choiceCap g_draftCount g_clauses g_queryCount g_status g_depth g_choiceCount g_solutions g_steps g_complete g_compoundCount g_equations g_goalCount b_draft b_clauseCodes b_clauseLength b_query b_trace b_choiceDepths b_choiceNexts b_code b_link b_compound b_finite b_left b_right b_goals b_atomPlace b_stack b_seen) → wpY_step post (g_clauseCap, g_heapCap, g_frameCap, g_choiceCap, g_draftCount, g_clauses, g_queryCount, g_status, g_depth, g_choiceCount, g_solutions, g_steps, g_complete, g_compoundCount, g_equations, g_goalCount, b_draft, b_clauseCodes, b_clauseLength, b_query, b_trace, b_choiceDepths, b_choiceNexts, b_code, b_link, b_compound, b_finite, b_left, b_right, b_goals, b_atomPlace, b_stack, b_seen) := by
        intro g_clauseCap g_heapCap g_frameCap g_choiceCap g_draftCount g_clauses g_queryCount g_status g_depth g_choiceCount g_solutions g_steps g_complete g_compoundCount g_equations g_goalCount b_draft b_clauseCodes b_clauseLength b_query b_trace b_choiceDepths b_choiceNexts b_code b_link b_compound b_finite b_left b_right b_goals b_atomPlace b_stack b_seen hSy hD post' g4 g5 g6 g1
        have hV := hD.2 (lvs 1 (Or.inl rfl))
        obtain ⟨v1, v2, v3, v4, -⟩ := hD.2 (lvs 1 (Or.inl rfl))
        refine hYn _ _ _ _ _ _ _ _ _ _ _ _ _ _ _ _ _ _ _ _ _ _ _ _ _ _ _ _ _ _ _ _ _ hSy hD post' ?_
        rw [c4]
        exact wy_step_30 (z := 0) (sl := sl) (q := q) rfl (by omega) hcm hm (hYlc _ _ _ _ _ _ _ _ _ _ _ _ _ _ _ _ _ _ _ _ _ _ _ _ _ _ _ _ _ _ _ _ _ hSy hV) hD.1.1 v1 (by omega) v2 (by omega) hSy pT.1 p0 psl v3 hhb g4 g5 (fun h h' _ => g6 h h') (fun h h' h2 => g1 h h' (h2 rfl))
      refine wm_leT 0 c (Nat.zero_le _) ?_
      rw [nI_1]
      refine hXlc (c + 1) _ (by omega) ?_
      refine wm_eqT 0 0 rfl ?_
      have x4 : fc ≤ d → post (f_clauseCap, f_heapCap, f_frameCap, f_choiceCap, f_querySlot, f_firstNode, f_draftLen, f_draftOpen, f_draftAtoms, f_programUsed, f_clauses, f_trailLen, f_depth, f_choiceCount, 4, f_solutions, f_steps, f_complete, f_pairTop, f_writeTop, f_answerLen, f_goalLen, a_draft, a_code, a_skip, a_local, a_slotStart, a_slotLen, a_slotAtoms, a_slotVars, a_slotNodes, a_slotWeight, a_slotKey, a_atomPlace, a_nodeFn, a_nodeLink, a_nodeArg, a_trail, a_frameSlot, a_frameBase, a_contFrame, a_contAtom, a_selFrame, a_selAtom, a_nodeTop, a_trailAt, a_heapAt, a_pendingAt, a_choiceDepth, a_choiceNext, a_pairLeft, a_pairRight, a_colour, a_dfsNode, a_dfsArg, a_writing, a_writeStack, a_varNumber) := fun h => by
        refine hp 4 d q so sp sl ta t cd cx _ _ _ _ _ _ _ _ _ _ _ _ _ _ _ _ _ _ _ _ _ _ _ _ _ _ _ _ _ _ (halt 4 (Or.inl rfl)) ?_
        intro g_clauseCap g_heapCap g_frameCap g_choiceCap g_draftCount g_clauses g_queryCount g_status g_depth g_choiceCount g_solutions g_steps g_complete g_compoundCount g_equations g_goalCount b_draft b_clauseCodes b_clauseLength b_query b_trace b_choiceDepths b_choiceNexts b_code b_link b_compound b_finite b_left b_right b_goals b_atomPlace b_stack b_seen hSy hD post' hp'
        refine hY30 _ _ _ _ _ _ _ _ _ _ _ _ _ _ _ _ _ _ _ _ _ _ _ _ _ _ _ _ _ _ _ _ _ hSy hD post' (fun _ => ?_) (fun h1 => absurd h1 (by omega)) (fun h1 => absurd h1 (by omega)) (fun h1 => absurd h1 (by omega))
        exact hp' _ _ _ _ _ _ _ _ _ _ _ _ _ _ _ _ _ _ _ ⟨⟨rfl, hD.1.2⟩, fun _ => hD.2 (lvs 1 (Or.inl rfl))⟩
      have x5 : d < fc → hc < wm_hp cs ln sl d + wm_W (cs c) (ln c) → post (f_clauseCap, f_heapCap, f_frameCap, f_choiceCap, f_querySlot, f_firstNode, f_draftLen, f_draftOpen, f_draftAtoms, f_programUsed, f_clauses, f_trailLen, f_depth, f_choiceCount, 5, f_solutions, f_steps, f_complete, f_pairTop, f_writeTop, f_answerLen, f_goalLen, a_draft, a_code, a_skip, a_local, a_slotStart, a_slotLen, a_slotAtoms, a_slotVars, a_slotNodes, a_slotWeight, a_slotKey, a_atomPlace, a_nodeFn, a_nodeLink, a_nodeArg, a_trail, a_frameSlot, a_frameBase, a_contFrame, a_contAtom, a_selFrame, a_selAtom, a_nodeTop, a_trailAt, a_heapAt, a_pendingAt, a_choiceDepth, a_choiceNext, a_pairLeft, a_pairRight, a_colour, a_dfsNode, a_dfsArg, a_writing, a_writeStack, a_varNumber) := fun h h' => by
        refine hp 5 d q so sp sl ta t cd cx _ _ _ _ _ _ _ _ _ _ _ _ _ _ _ _ _ _ _ _ _ _ _ _ _ _ _ _ _ _ (halt 5 (Or.inr (Or.inl rfl))) ?_
        intro g_clauseCap g_heapCap g_frameCap g_choiceCap g_draftCount g_clauses g_queryCount g_status g_depth g_choiceCount g_solutions g_steps g_complete g_compoundCount g_equations g_goalCount b_draft b_clauseCodes b_clauseLength b_query b_trace b_choiceDepths b_choiceNexts b_code b_link b_compound b_finite b_left b_right b_goals b_atomPlace b_stack b_seen hSy hD post' hp'
        refine hY30 _ _ _ _ _ _ _ _ _ _ _ _ _ _ _ _ _ _ _ _ _ _ _ _ _ _ _ _ _ _ _ _ _ hSy hD post' (fun h1 => absurd h1 (by omega)) (fun _ _ => ?_) (fun _ h1 => absurd h1 (by omega)) (fun _ h1 => absurd h1 (by omega))
        exact hp' _ _ _ _ _ _ _ _ _ _ _ _ _ _ _ _ _ _ _ ⟨⟨rfl, hD.1.2⟩, fun _ => hD.2 (lvs 1 (Or.inl rfl))⟩
      rcases wm_lf_or P (m - (c + 1)) (c + 1) with hz | ⟨k, k1, k2, k3, k4⟩
      · rw [hz]
        refine wm_ltM rfl ?_
        unfold wX_step_49 wX_step_50
        refine wx_room (sl := sl) (c := c) (z := 0) (q := q) rfl rfl (by omega) hS hcm xd (by omega) xq (by omega) e1 e2 e3 b1 b2 b3 (xF d (Nat.le_refl _)).2.1 hhb (fun h => br_f (by decide) (x4 h)) (fun h h' => br_f (by decide) (x5 h h')) (fun _ _ h => absurd rfl h) (fun h h' _ => ?_)
        refine wm_eqT 1 1 rfl (nm_e (wm_eqT 0 0 rfl (wm_eqT 0 0 rfl ?_)))
        refine go c q cd cx _ _ _ hcm hcode h h' pq' pCH xq xch ?_
        intro g_clauseCap g_heapCap g_frameCap g_choiceCap g_draftCount g_clauses g_queryCount g_status g_depth g_choiceCount g_solutions g_steps g_complete g_compoundCount g_equations g_goalCount b_draft b_clauseCodes b_clauseLength b_query b_trace b_choiceDepths b_choiceNexts b_code b_link b_compound b_finite b_left b_right b_goals b_atomPlace b_stack b_seen hSy hD post' hp'
        refine hY30 _ _ _ _ _ _ _ _ _ _ _ _ _ _ _ _ _ _ _ _ _ _ _ _ _ _ _ _ _ _ _ _ _ hSy hD post' (fun h1 => absurd h1 (by omega)) (fun _ h1 => absurd h1 (by omega)) (fun _ _ h1 => absurd hz h1) (fun _ _ _ => ?_)
        obtain ⟨v1, v2, v3, v4, -⟩ := hD.2 (lvs 1 (Or.inl rfl))
        rw [hz]
        exact wy_152_n0 (hp' _ _ _ v2 v4)
      · have hkm : k < m := by omega
        have nk : wm_lf P (m - (c + 1)) (c + 1) ≠ -1 := by rw [k4]; exact wm_nm1 (by omega)
        rw [k4]
        refine wm_ltF k 0 (Nat.zero_le _) ?_
        unfold wX_step_50
        refine wx_room (sl := sl) (c := c) (z := 1) (q := q) rfl rfl (by omega) hS hcm xd (by omega) xq (by omega) e1 e2 e3 b1 b2 b3 (xF d (Nat.le_refl _)).2.1 hhb (fun h => br_f (by decide) (x4 h)) (fun h h' => br_f (by decide) (x5 h h')) (fun h h' _ h2 => br_f (by decide) ?_) (fun h h' h2 => ?_)
        · refine hp 6 d q so sp sl ta t cd cx _ _ _ _ _ _ _ _ _ _ _ _ _ _ _ _ _ _ _ _ _ _ _ _ _ _ _ _ _ _ (halt 6 (Or.inr (Or.inr rfl))) ?_
          intro g_clauseCap g_heapCap g_frameCap g_choiceCap g_draftCount g_clauses g_queryCount g_status g_depth g_choiceCount g_solutions g_steps g_complete g_compoundCount g_equations g_goalCount b_draft b_clauseCodes b_clauseLength b_query b_trace b_choiceDepths b_choiceNexts b_code b_link b_compound b_finite b_left b_right b_goals b_atomPlace b_stack b_seen hSy hD post' hp'
          refine hY30 _ _ _ _ _ _ _ _ _ _ _ _ _ _ _ _ _ _ _ _ _ _ _ _ _ _ _ _ _ _ _ _ _ hSy hD post' (fun h1 => absurd h1 (by omega)) (fun _ h1 => absurd h1 (by omega)) (fun _ _ _ _ => ?_) (fun _ _ h1 => absurd (h1 nk) (by omega))
          exact hp' _ _ _ _ _ _ _ _ _ _ _ _ _ _ _ _ _ _ _ ⟨⟨rfl, hD.1.2⟩, fun _ => hD.2 (lvs 1 (Or.inl rfl))⟩
        · have hqk : q < kc := h2 (by omega)
          have inq : vp_in f_choiceCount 64 := pk_in q 64 (by omega) xq
          refine wm_eqT 1 1 rfl (nm_e (wm_eqT 0 0 rfl (wm_eqF 1 0 (by omega) (And.intro inq (nm_r (wm_ux (n := q) xd xq) (And.intro inq (nm_r (wm_ux (n := q) rfl xq) (nm_r (e' := nI (q + 1)) (by rw [xq, nI_1]) ?_))))))))
          refine go c (q + 1) (wm_u cd q d) (wm_u cx q k) _ _ _ hcm hcode h h' (by omega) ⟨fun i hi => ?_, fun i i' a b => ?_⟩ rfl (fun i hi => ?_) ?_
          · by_cases e : i = q
            · subst e
              rw [wm_us, wm_us]
              exact ⟨Nat.le_refl _, hkm, f, j, hg, hPm k k3⟩
            · rw [wm_un e, wm_un e]; exact pCH.1 i (by omega)
          · by_cases e : i' = q
            · subst e
              rw [wm_us, wm_un (by omega)]; exact (pCH.1 i (by omega)).1
            · rw [wm_un e, wm_un (by omega)]; exact pCH.2 i i' a (by omega)
          · by_cases e : i = q
            · subst e; rw [pk_us, pk_us, wm_us, wm_us]; exact ⟨rfl, rfl⟩
            · rw [pk_un e, pk_un e, wm_un e, wm_un e]; exact xch i (by omega)
          · intro g_clauseCap g_heapCap g_frameCap g_choiceCap g_draftCount g_clauses g_queryCount g_status g_depth g_choiceCount g_solutions g_steps g_complete g_compoundCount g_equations g_goalCount b_draft b_clauseCodes b_clauseLength b_query b_trace b_choiceDepths b_choiceNexts b_code b_link b_compound b_finite b_left b_right b_goals b_atomPlace b_stack b_seen hSy hD post' hp'
            refine hY30 _ _ _ _ _ _ _ _ _ _ _ _ _ _ _ _ _ _ _ _ _ _ _ _ _ _ _ _ _ _ _ _ _ hSy hD post' (fun h1 => absurd h1 (by omega)) (fun _ h1 => absurd h1 (by omega)) (fun _ _ _ h1 => absurd h1 (by omega)) (fun _ _ _ => ?_)
            obtain ⟨v1, v2, v3, v4, -⟩ := hD.2 (lvs 1 (Or.inl rfl))
            rw [k4]
            refine wy_152_n1 (by omega) v2 (by omega) (hp' _ _ _ rfl (fun i hi => ?_))
            by_cases e : i = q
            · subst e; rw [pk_us, pk_us, wm_us, wm_us]; exact ⟨v1, rfl⟩
            · rw [pk_un e, pk_un e, wm_un e, wm_un e]; exact v4 i (by omega)
end
end
section
/-! the relation -/
def wm_CAP (cc hc fc kc : Nat) (xc xh xf xk yc yh yf yk : Int32) : Prop := (xc = nI cc ∧ xh = nI hc ∧ xf = nI fc ∧ xk = nI kc) ∧ (yc = nI cc ∧ yh = nI hc ∧ yf = nI fc ∧ yk = nI kc) ∧ cc ≤ 32 ∧ hc ≤ 256 ∧ fc ≤ 128 ∧ kc ≤ 64
def wm_DRX (dc : Nat → Nat) (dl : Nat) (len open_ atoms : Int32) (draft : Nat → Int32) : Prop := len = nI dl ∧ open_ = nI (wm_op dc dl) ∧ atoms = nI (wm_na dc dl) ∧ ∀ k, k < dl → draft k = nI (dc k)
def wm_DRY (dc : Nat → Nat) (dl : Nat) (count : Int32) (draft : Nat → Int32) : Prop := count = nI dl ∧ ∀ k, k < dl → draft k = nI (dc k)
def wm_PR (cc m : Nat) (cs : Nat → Nat → Nat) (ln ps : Nat → Nat) (used clauses : Int32) (code skip loc start len atoms vars nodes weight key place : Nat → Int32) (yclauses : Int32) (clauseCodes clauseLength : Nat → Int32) : Prop :=
  (m ≤ cc ∧ clauses = nI m ∧ yclauses = nI m ∧ used = nI (ps m)) ∧ (ps 0 = 0 ∧ ps m ≤ 256) ∧ (∀ c, c < m → ps (c + 1) = ps c + ln c ∧ wm_SX (cs c) (ln c) c (ps c) code skip loc start len atoms vars nodes weight key place) ∧ wm_YP m cs ln clauseCodes clauseLength
def wm_QR (cs : Nat → Nat → Nat) (ln : Nat → Nat) (code skip loc start len atoms vars nodes weight key place : Nat → Int32) (queryCount : Int32) (query : Nat → Int32) : Prop :=
  wm_WC (cs 32) (ln 32) ∧ wm_SX (cs 32) (ln 32) 32 256 code skip loc start len atoms vars nodes weight key place ∧ queryCount = nI (ln 32) ∧ ∀ k, k < ln 32 → query k = nI (cs 32 k)
def i_Rel (_ : Nat) (u : SX) (v : SY) : Prop := match u, v with
  | (f_clauseCap, f_heapCap, f_frameCap, f_choiceCap, f_querySlot, f_firstNode, f_draftLen, f_draftOpen, f_draftAtoms, f_programUsed, f_clauses, f_trailLen, f_depth, f_choiceCount, f_status, f_solutions, f_steps, f_complete, f_pairTop, f_writeTop, f_answerLen, f_goalLen, a_draft, a_code, a_skip, a_local, a_slotStart, a_slotLen, a_slotAtoms, a_slotVars, a_slotNodes, a_slotWeight, a_slotKey, a_atomPlace, a_nodeFn, a_nodeLink, a_nodeArg, a_trail, a_frameSlot, a_frameBase, a_contFrame, a_contAtom, a_selFrame, a_selAtom, a_nodeTop, a_trailAt, a_heapAt, a_pendingAt, a_choiceDepth, a_choiceNext, a_pairLeft, a_pairRight, a_colour, a_dfsNode, a_dfsArg, a_writing, a_writeStack, a_varNumber), (g_clauseCap, g_heapCap, g_frameCap, g_choiceCap, g_draftCount, g_clauses, g_queryCount, g_status, g_depth, g_choiceCount, g_solutions, g_steps, g_complete, g_compoundCount, g_equations, g_goalCount, b_draft, b_clauseCodes, b_clauseLength, b_query, b_trace, b_choiceDepths, b_choiceNexts, b_code, b_link, b_compound, b_finite, b_left, b_right, b_goals, b_atomPlace, b_stack, b_seen) => ∃ (cc hc fc kc dl m st d q : Nat) (so sp : Int32) (dc ln ps sl ta t cd cx : Nat → Nat) (cs : Nat → Nat → Nat),
    wm_CAP cc hc fc kc f_clauseCap f_heapCap f_frameCap f_choiceCap g_clauseCap g_heapCap g_frameCap g_choiceCap ∧ (wm_VD dc dl ∧ wm_DRX dc dl f_draftLen f_draftOpen f_draftAtoms a_draft ∧ wm_DRY dc dl g_draftCount b_draft) ∧ wm_PR cc m cs ln ps f_programUsed f_clauses a_code a_skip a_local a_slotStart a_slotLen a_slotAtoms a_slotVars a_slotNodes a_slotWeight a_slotKey a_atomPlace g_clauses b_clauseCodes b_clauseLength ∧
    (st ≠ 0 → wm_QR cs ln a_code a_skip a_local a_slotStart a_slotLen a_slotAtoms a_slotVars a_slotNodes a_slotWeight a_slotKey a_atomPlace g_queryCount b_query) ∧ (g_complete = f_complete ∧ (f_complete = 0 ∨ f_complete = 1)) ∧ wm_XD cs ln m hc fc kc st d q so sp sl ta t cd cx f_status f_depth f_choiceCount f_trailLen f_solutions f_steps f_answerLen f_goalLen a_choiceDepth a_choiceNext a_frameSlot a_frameBase a_nodeTop a_heapAt a_pendingAt a_trailAt a_contFrame a_contAtom a_selFrame a_selAtom a_nodeFn a_nodeLink a_nodeArg a_trail a_writing ∧ wm_YD cs ln st d q so sp sl cd cx (wm_Fn a_nodeFn) (wm_Gn a_nodeArg) g_status g_depth g_choiceCount g_solutions g_steps g_goalCount b_trace b_choiceDepths b_choiceNexts b_code b_link b_goals
theorem i_up {k : Nat} {u : SX} {v : SY} (h : i_Rel k u v) : i_Rel (k + 5) u v := h
theorem wm_el {P : SX → SY → Prop} {k : Nat} {u : SX} {v : SY} (h : ∀ (f_clauseCap f_heapCap f_frameCap f_choiceCap f_querySlot f_firstNode f_draftLen f_draftOpen f_draftAtoms f_programUsed f_clauses f_trailLen f_depth f_choiceCount f_status f_solutions f_steps f_complete f_pairTop f_writeTop f_answerLen f_goalLen : Int32) (a_draft a_code a_skip a_local a_slotStart a_slotLen a_slotAtoms a_slotVars a_slotNodes a_slotWeight a_slotKey a_atomPlace a_nodeFn a_nodeLink a_nodeArg a_trail a_frameSlot a_frameBase a_contFrame a_contAtom a_selFrame a_selAtom a_nodeTop a_trailAt a_heapAt a_pendingAt a_choiceDepth a_choiceNext a_pairLeft a_pairRight a_colour a_dfsNode a_dfsArg a_writing a_writeStack a_varNumber : Nat → Int32) (g_clauseCap g_heapCap g_frameCap g_choiceCap g_draftCount g_clauses g_queryCount g_status g_depth g_choiceCount g_solutions g_steps g_complete g_compoundCount g_equations g_goalCount : Int32) (b_draft b_clauseCodes b_clauseLength b_query b_trace b_choiceDepths b_choiceNexts b_code b_link b_compound b_finite b_left b_right b_goals b_atomPlace b_stack b_seen : Nat → Int32) (cc hc fc kc dl m st d q : Nat) (so sp : Int32) (dc ln ps sl ta t cd cx : Nat → Nat) (cs : Nat → Nat → Nat),
    wm_CAP cc hc fc kc f_clauseCap f_heapCap f_frameCap f_choiceCap g_clauseCap g_heapCap g_frameCap g_choiceCap → wm_VD dc dl → wm_DRX dc dl f_draftLen f_draftOpen f_draftAtoms a_draft → wm_DRY dc dl g_draftCount b_draft → wm_PR cc m cs ln ps f_programUsed f_clauses a_code a_skip a_local a_slotStart a_slotLen a_slotAtoms a_slotVars a_slotNodes a_slotWeight a_slotKey a_atomPlace g_clauses b_clauseCodes b_clauseLength →
    (st ≠ 0 → wm_QR cs ln a_code a_skip a_local a_slotStart a_slotLen a_slotAtoms a_slotVars a_slotNodes a_slotWeight a_slotKey a_atomPlace g_queryCount b_query) → (g_complete = f_complete ∧ (f_complete = 0 ∨ f_complete = 1)) → wm_XD cs ln m hc fc kc st d q so sp sl ta t cd cx f_status f_depth f_choiceCount f_trailLen f_solutions f_steps f_answerLen f_goalLen a_choiceDepth a_choiceNext a_frameSlot a_frameBase a_nodeTop a_heapAt a_pendingAt a_trailAt a_contFrame a_contAtom a_selFrame a_selAtom a_nodeFn a_nodeLink a_nodeArg a_trail a_writing → wm_YD cs ln st d q so sp sl cd cx (wm_Fn a_nodeFn) (wm_Gn a_nodeArg) g_status g_depth g_choiceCount g_solutions g_steps g_goalCount b_trace b_choiceDepths b_choiceNexts b_code b_link b_goals → P (f_clauseCap, f_heapCap, f_frameCap, f_choiceCap, f_querySlot, f_firstNode, f_draftLen, f_draftOpen, f_draftAtoms, f_programUsed, f_clauses, f_trailLen, f_depth, f_choiceCount, f_status, f_solutions, f_steps, f_complete, f_pairTop, f_writeTop, f_answerLen, f_goalLen, a_draft, a_code, a_skip, a_local, a_slotStart, a_slotLen, a_slotAtoms, a_slotVars, a_slotNodes, a_slotWeight, a_slotKey, a_atomPlace, a_nodeFn, a_nodeLink, a_nodeArg, a_trail, a_frameSlot, a_frameBase, a_contFrame, a_contAtom, a_selFrame, a_selAtom, a_nodeTop, a_trailAt, a_heapAt, a_pendingAt, a_choiceDepth, a_choiceNext, a_pairLeft, a_pairRight, a_colour, a_dfsNode, a_dfsArg, a_writing, a_writeStack, a_varNumber) (g_clauseCap, g_heapCap, g_frameCap, g_choiceCap, g_draftCount, g_clauses, g_queryCount, g_status, g_depth, g_choiceCount, g_solutions, g_steps, g_complete, g_compoundCount, g_equations, g_goalCount, b_draft, b_clauseCodes, b_clauseLength, b_query, b_trace, b_choiceDepths, b_choiceNexts, b_code, b_link, b_compound, b_finite, b_left, b_right, b_goals, b_atomPlace, b_stack, b_seen)) (I : i_Rel k u v) : P u v :=
  match u, v, I with
  | (f_clauseCap, f_heapCap, f_frameCap, f_choiceCap, f_querySlot, f_firstNode, f_draftLen, f_draftOpen, f_draftAtoms, f_programUsed, f_clauses, f_trailLen, f_depth, f_choiceCount, f_status, f_solutions, f_steps, f_complete, f_pairTop, f_writeTop, f_answerLen, f_goalLen, a_draft, a_code, a_skip, a_local, a_slotStart, a_slotLen, a_slotAtoms, a_slotVars, a_slotNodes, a_slotWeight, a_slotKey, a_atomPlace, a_nodeFn, a_nodeLink, a_nodeArg, a_trail, a_frameSlot, a_frameBase, a_contFrame, a_contAtom, a_selFrame, a_selAtom, a_nodeTop, a_trailAt, a_heapAt, a_pendingAt, a_choiceDepth, a_choiceNext, a_pairLeft, a_pairRight, a_colour, a_dfsNode, a_dfsArg, a_writing, a_writeStack, a_varNumber), (g_clauseCap, g_heapCap, g_frameCap, g_choiceCap, g_draftCount, g_clauses, g_queryCount, g_status, g_depth, g_choiceCount, g_solutions, g_steps, g_complete, g_compoundCount, g_equations, g_goalCount, b_draft, b_clauseCodes, b_clauseLength, b_query, b_trace, b_choiceDepths, b_choiceNexts, b_code, b_link, b_compound, b_finite, b_left, b_right, b_goals, b_atomPlace, b_stack, b_seen), ⟨cc, hc, fc, kc, dl, m, st, d, q, so, sp, dc, ln, ps, sl, ta, t, cd, cx, cs, h1, ⟨h2, h3, h4⟩, h5, h6, h7, h8, h9⟩ => h f_clauseCap f_heapCap f_frameCap f_choiceCap f_querySlot f_firstNode f_draftLen f_draftOpen f_draftAtoms f_programUsed f_clauses f_trailLen f_depth f_choiceCount f_status f_solutions f_steps f_complete f_pairTop f_writeTop f_answerLen f_goalLen a_draft a_code a_skip a_local a_slotStart a_slotLen a_slotAtoms a_slotVars a_slotNodes a_slotWeight a_slotKey a_atomPlace a_nodeFn a_nodeLink a_nodeArg a_trail a_frameSlot a_frameBase a_contFrame a_contAtom a_selFrame a_selAtom a_nodeTop a_trailAt a_heapAt a_pendingAt a_choiceDepth a_choiceNext a_pairLeft a_pairRight a_colour a_dfsNode a_dfsArg a_writing a_writeStack a_varNumber g_clauseCap g_heapCap g_frameCap g_choiceCap g_draftCount g_clauses g_queryCount g_status g_depth g_choiceCount g_solutions g_steps g_complete g_compoundCount g_equations g_goalCount b_draft b_clauseCodes b_clauseLength b_query b_trace b_choiceDepths b_choiceNexts b_code b_link b_compound b_finite b_left b_right b_goals b_atomPlace b_stack b_seen cc hc fc kc dl m st d q so sp dc ln ps sl ta t cd cx cs h1 h2 h3 h4 h5 h6 h7 h8 h9
section
variable {f_clauseCap f_heapCap f_frameCap f_choiceCap f_querySlot f_firstNode f_draftLen f_draftOpen f_draftAtoms f_programUsed f_clauses f_trailLen f_depth f_choiceCount f_status f_solutions f_steps f_complete f_pairTop f_writeTop f_answerLen f_goalLen : Int32} {a_draft a_code a_skip a_local a_slotStart a_slotLen a_slotAtoms a_slotVars a_slotNodes a_slotWeight a_slotKey a_atomPlace a_nodeFn a_nodeLink a_nodeArg a_trail a_frameSlot a_frameBase a_contFrame a_contAtom a_selFrame a_selAtom a_nodeTop a_trailAt a_heapAt a_pendingAt a_choiceDepth a_choiceNext a_pairLeft a_pairRight a_colour a_dfsNode a_dfsArg a_writing a_writeStack a_varNumber : Nat → Int32}
variable {g_clauseCap g_heapCap g_frameCap g_choiceCap g_draftCount g_clauses g_queryCount g_status g_depth g_choiceCount g_solutions g_steps g_complete g_compoundCount g_equations g_goalCount : Int32} {b_draft b_clauseCodes b_clauseLength b_query b_trace b_choiceDepths b_choiceNexts b_code b_link b_compound b_finite b_left b_right b_goals b_atomPlace b_stack b_seen : Nat → Int32}
theorem wm_in {k cc hc fc kc dl m st d q : Nat} {so sp : Int32} {dc ln ps sl ta t cd cx : Nat → Nat} {cs : Nat → Nat → Nat}
    (h1 : wm_CAP cc hc fc kc f_clauseCap f_heapCap f_frameCap f_choiceCap g_clauseCap g_heapCap g_frameCap g_choiceCap) (h2 : wm_VD dc dl) (h3 : wm_DRX dc dl f_draftLen f_draftOpen f_draftAtoms a_draft) (h4 : wm_DRY dc dl g_draftCount b_draft) (h5 : wm_PR cc m cs ln ps f_programUsed f_clauses a_code a_skip a_local a_slotStart a_slotLen a_slotAtoms a_slotVars a_slotNodes a_slotWeight a_slotKey a_atomPlace g_clauses b_clauseCodes b_clauseLength)
    (h6 : st ≠ 0 → wm_QR cs ln a_code a_skip a_local a_slotStart a_slotLen a_slotAtoms a_slotVars a_slotNodes a_slotWeight a_slotKey a_atomPlace g_queryCount b_query) (h7 : g_complete = f_complete ∧ (f_complete = 0 ∨ f_complete = 1)) (h8 : wm_XD cs ln m hc fc kc st d q so sp sl ta t cd cx f_status f_depth f_choiceCount f_trailLen f_solutions f_steps f_answerLen f_goalLen a_choiceDepth a_choiceNext a_frameSlot a_frameBase a_nodeTop a_heapAt a_pendingAt a_trailAt a_contFrame a_contAtom a_selFrame a_selAtom a_nodeFn a_nodeLink a_nodeArg a_trail a_writing) (h9 : wm_YD cs ln st d q so sp sl cd cx (wm_Fn a_nodeFn) (wm_Gn a_nodeArg) g_status g_depth g_choiceCount g_solutions g_steps g_goalCount b_trace b_choiceDepths b_choiceNexts b_code b_link b_goals) : i_Rel k (f_clauseCap, f_heapCap, f_frameCap, f_choiceCap, f_querySlot, f_firstNode, f_draftLen, f_draftOpen, f_draftAtoms, f_programUsed, f_clauses, f_trailLen, f_depth, f_choiceCount, f_status, f_solutions, f_steps, f_complete, f_pairTop, f_writeTop, f_answerLen, f_goalLen, a_draft, a_code, a_skip, a_local, a_slotStart, a_slotLen, a_slotAtoms, a_slotVars, a_slotNodes, a_slotWeight, a_slotKey, a_atomPlace, a_nodeFn, a_nodeLink, a_nodeArg, a_trail, a_frameSlot, a_frameBase, a_contFrame, a_contAtom, a_selFrame, a_selAtom, a_nodeTop, a_trailAt, a_heapAt, a_pendingAt, a_choiceDepth, a_choiceNext, a_pairLeft, a_pairRight, a_colour, a_dfsNode, a_dfsArg, a_writing, a_writeStack, a_varNumber) (g_clauseCap, g_heapCap, g_frameCap, g_choiceCap, g_draftCount, g_clauses, g_queryCount, g_status, g_depth, g_choiceCount, g_solutions, g_steps, g_complete, g_compoundCount, g_equations, g_goalCount, b_draft, b_clauseCodes, b_clauseLength, b_query, b_trace, b_choiceDepths, b_choiceNexts, b_code, b_link, b_compound, b_finite, b_left, b_right, b_goals, b_atomPlace, b_stack, b_seen) := by
  show ∃ (cc hc fc kc dl m st d q : Nat) (so sp : Int32) (dc ln ps sl ta t cd cx : Nat → Nat) (cs : Nat → Nat → Nat), _
  exact ⟨cc, hc, fc, kc, dl, m, st, d, q, so, sp, dc, ln, ps, sl, ta, t, cd, cx, cs, h1, ⟨h2, h3, h4⟩, h5, h6, h7, h8, h9⟩
end
end
section
/-! the owed getters -/
def wm_ss (ps : Nat → Nat) (c : Nat) : Nat := if c = 32 then 256 else ps c
section
variable {f_clauseCap f_heapCap f_frameCap f_choiceCap f_querySlot f_firstNode f_draftLen f_draftOpen f_draftAtoms f_programUsed f_clauses f_trailLen f_depth f_choiceCount f_status f_solutions f_steps f_complete f_pairTop f_writeTop f_answerLen f_goalLen : Int32} {a_draft a_code a_skip a_local a_slotStart a_slotLen a_slotAtoms a_slotVars a_slotNodes a_slotWeight a_slotKey a_atomPlace a_nodeFn a_nodeLink a_nodeArg a_trail a_frameSlot a_frameBase a_contFrame a_contAtom a_selFrame a_selAtom a_nodeTop a_trailAt a_heapAt a_pendingAt a_choiceDepth a_choiceNext a_pairLeft a_pairRight a_colour a_dfsNode a_dfsArg a_writing a_writeStack a_varNumber : Nat → Int32}
variable {g_clauseCap g_heapCap g_frameCap g_choiceCap g_draftCount g_clauses g_queryCount g_status g_depth g_choiceCount g_solutions g_steps g_complete g_compoundCount g_equations g_goalCount : Int32} {b_draft b_clauseCodes b_clauseLength b_query b_trace b_choiceDepths b_choiceNexts b_code b_link b_compound b_finite b_left b_right b_goals b_atomPlace b_stack b_seen : Nat → Int32}
variable {cs : Nat → Nat → Nat} {ln ps sl ss ta t cd cx dc : Nat → Nat} {cc m hc fc kc d q st dl : Nat} {so sp : Int32}
theorem wm_ps_le (h : wm_PR cc m cs ln ps f_programUsed f_clauses a_code a_skip a_local a_slotStart a_slotLen a_slotAtoms a_slotVars a_slotNodes a_slotWeight a_slotKey a_atomPlace g_clauses b_clauseCodes b_clauseLength) : ∀ c, c ≤ m → ps c ≤ ps m ∧ (c < m → ps c + ln c ≤ 256) := by
  have key : ∀ e c, c + e = m → ps c ≤ ps m := by
    intro e
    induction e with
    | zero => intro c hc'; have : c = m := by omega
              subst this; exact Nat.le_refl _
    | succ e ih =>
      intro c hc'
      have a := ih (c + 1) (by omega)
      have b := (h.2.2.1 c (by omega)).1
      omega
  intro c hc'
  refine ⟨key (m - c) c (by omega), fun hlt => ?_⟩
  have a := key (m - (c + 1)) (c + 1) (by omega)
  have b := (h.2.2.1 c hlt).1
  have := h.2.1.2
  omega
theorem wm_sls_of (h : wm_PR cc m cs ln ps f_programUsed f_clauses a_code a_skip a_local a_slotStart a_slotLen a_slotAtoms a_slotVars a_slotNodes a_slotWeight a_slotKey a_atomPlace g_clauses b_clauseCodes b_clauseLength) (hq : wm_QR cs ln a_code a_skip a_local a_slotStart a_slotLen a_slotAtoms a_slotVars a_slotNodes a_slotWeight a_slotKey a_atomPlace g_queryCount b_query) : wm_SLs m cs ln (wm_ss ps) a_code a_skip a_local a_slotStart a_slotLen a_slotAtoms a_slotVars a_slotNodes a_slotWeight a_slotKey a_atomPlace := by
  have hm := h.2.2.2.1
  intro c hc'
  rcases hc' with z | z
  · have w := (wm_ps_le h c (by omega)).2 z
    have e : wm_ss ps c = ps c := if_neg (by omega)
    rw [e]
    exact ⟨by omega, (h.2.2.2.2 c z).1, by omega, (h.2.2.1 c z).2⟩
  · subst z
    have e : wm_ss ps 32 = 256 := if_pos rfl
    have := hq.1.1.1
    rw [e]
    exact ⟨by omega, hq.1, by omega, hq.2.1⟩
theorem wm_sys_of (h1 : wm_CAP cc hc fc kc f_clauseCap f_heapCap f_frameCap f_choiceCap g_clauseCap g_heapCap g_frameCap g_choiceCap) (h5 : wm_PR cc m cs ln ps f_programUsed f_clauses a_code a_skip a_local a_slotStart a_slotLen a_slotAtoms a_slotVars a_slotNodes a_slotWeight a_slotKey a_atomPlace g_clauses b_clauseCodes b_clauseLength) (h6 : wm_QR cs ln a_code a_skip a_local a_slotStart a_slotLen a_slotAtoms a_slotVars a_slotNodes a_slotWeight a_slotKey a_atomPlace g_queryCount b_query) : wm_SYs cs ln m hc fc kc g_heapCap g_frameCap g_choiceCap g_draftCount g_clauses g_queryCount b_draft b_clauseCodes b_clauseLength b_query :=
  ⟨⟨h1.2.1.2.1, h1.2.1.2.2.1, h1.2.1.2.2.2, h1.2.2.2.1, h1.2.2.2.2.1, h1.2.2.2.2.2⟩, h5.1.2.2.1, h5.2.2.2, h6.1.1.1, Or.inr (Or.inl ⟨rfl, h6.2.2.1, h6.2.2.2⟩)⟩
theorem wx_isLive {post : Int32 → Prop} (hs : f_status = nI st) (h6 : st ≤ 6) (h1 : wm_lv st → post 1) (h0 : ¬ wm_lv st → post 0) : wpX_isLive post (f_clauseCap, f_heapCap, f_frameCap, f_choiceCap, f_querySlot, f_firstNode, f_draftLen, f_draftOpen, f_draftAtoms, f_programUsed, f_clauses, f_trailLen, f_depth, f_choiceCount, f_status, f_solutions, f_steps, f_complete, f_pairTop, f_writeTop, f_answerLen, f_goalLen, a_draft, a_code, a_skip, a_local, a_slotStart, a_slotLen, a_slotAtoms, a_slotVars, a_slotNodes, a_slotWeight, a_slotKey, a_atomPlace, a_nodeFn, a_nodeLink, a_nodeArg, a_trail, a_frameSlot, a_frameBase, a_contFrame, a_contAtom, a_selFrame, a_selAtom, a_nodeTop, a_trailAt, a_heapAt, a_pendingAt, a_choiceDepth, a_choiceNext, a_pairLeft, a_pairRight, a_colour, a_dfsNode, a_dfsArg, a_writing, a_writeStack, a_varNumber) :=
  pk_eq st 0 (fun e => h0 (fun h => h.1 e)) (fun e => pk_eq st 3 (fun e' => h0 (fun h => h.2 e')) (fun e' => h1 ⟨e, e'⟩) hs) hs
theorem wx_hasGoal {post : Int32 → Prop} (hs : f_status = nI st) (h6 : st ≤ 6) (h1 : wm_lv st → st ≠ 2 → post 1) (h0 : ¬ (wm_lv st ∧ st ≠ 2) → post 0) : wpX_hasGoal post (f_clauseCap, f_heapCap, f_frameCap, f_choiceCap, f_querySlot, f_firstNode, f_draftLen, f_draftOpen, f_draftAtoms, f_programUsed, f_clauses, f_trailLen, f_depth, f_choiceCount, f_status, f_solutions, f_steps, f_complete, f_pairTop, f_writeTop, f_answerLen, f_goalLen, a_draft, a_code, a_skip, a_local, a_slotStart, a_slotLen, a_slotAtoms, a_slotVars, a_slotNodes, a_slotWeight, a_slotKey, a_atomPlace, a_nodeFn, a_nodeLink, a_nodeArg, a_trail, a_frameSlot, a_frameBase, a_contFrame, a_contAtom, a_selFrame, a_selAtom, a_nodeTop, a_trailAt, a_heapAt, a_pendingAt, a_choiceDepth, a_choiceNext, a_pairLeft, a_pairRight, a_colour, a_dfsNode, a_dfsArg, a_writing, a_writeStack, a_varNumber) := by
  unfold wpX_hasGoal
  refine wx_isLive hs h6 (fun h => ?_) (fun h => wm_eqT 0 0 rfl (h0 (fun z => h z.1)))
  exact wm_eqF 1 0 (by omega) (pk_eq st 2 (fun e => h0 (fun z => z.2 e)) (fun e => h1 h e) hs)
theorem wy_hasGoal {post : Int32 → Prop} (hs : g_status = nI st) (h6 : st ≤ 6) (h1 : wm_lv st → st ≠ 2 → post 1) (h0 : ¬ (wm_lv st ∧ st ≠ 2) → post 0) : wpY_hasGoal post (g_clauseCap, g_heapCap, g_frameCap, g_choiceCap, g_draftCount, g_clauses, g_queryCount, g_status, g_depth, g_choiceCount, g_solutions, g_steps, g_complete, g_compoundCount, g_equations, g_goalCount, b_draft, b_clauseCodes, b_clauseLength, b_query, b_trace, b_choiceDepths, b_choiceNexts, b_code, b_link, b_compound, b_finite, b_left, b_right, b_goals, b_atomPlace, b_stack, b_seen) := by
  refine pk_eq st 1 (fun e => h1 ⟨by omega, by omega⟩ (by omega)) (fun n1 => pk_eq st 4 (fun e => h1 ⟨by omega, by omega⟩ (by omega)) (fun n2 => pk_eq st 5 (fun e => h1 ⟨by omega, by omega⟩ (by omega)) (fun n3 => pk_eq st 6 (fun e => h1 ⟨by omega, by omega⟩ (by omega)) (fun n4 => h0 (fun z => ?_)) hs) hs) hs) hs
  obtain ⟨⟨a, b⟩, c⟩ := z
  omega
/-- one function of the clauses for both sides -/
theorem wz_lcs (hS : wm_SLs m cs ln ss a_code a_skip a_local a_slotStart a_slotLen a_slotAtoms a_slotVars a_slotNodes a_slotWeight a_slotKey a_atomPlace) (hm : m ≤ 32) (hcl : f_clauses = nI m) (b1 : fc ≤ 128) (b2 : hc ≤ 256) (b3 : kc ≤ 64) (hlv : wm_lv st) (hn2 : st ≠ 2) (hX : wm_XD cs ln m hc fc kc st d q so sp sl ta t cd cx f_status f_depth f_choiceCount f_trailLen f_solutions f_steps f_answerLen f_goalLen a_choiceDepth a_choiceNext a_frameSlot a_frameBase a_nodeTop a_heapAt a_pendingAt a_trailAt a_contFrame a_contAtom a_selFrame a_selAtom a_nodeFn a_nodeLink a_nodeArg a_trail a_writing) :
    ∃ P : Nat → Bool, (∀ (c : Nat) (post : Int32 → Prop), c ≤ 33 → post (wm_lf P (m - c) c) → wpX_leastCandidate post (f_clauseCap, f_heapCap, f_frameCap, f_choiceCap, f_querySlot, f_firstNode, f_draftLen, f_draftOpen, f_draftAtoms, f_programUsed, f_clauses, f_trailLen, f_depth, f_choiceCount, f_status, f_solutions, f_steps, f_complete, f_pairTop, f_writeTop, f_answerLen, f_goalLen, a_draft, a_code, a_skip, a_local, a_slotStart, a_slotLen, a_slotAtoms, a_slotVars, a_slotNodes, a_slotWeight, a_slotKey, a_atomPlace, a_nodeFn, a_nodeLink, a_nodeArg, a_trail, a_frameSlot, a_frameBase, a_contFrame, a_contAtom, a_selFrame, a_selAtom, a_nodeTop, a_trailAt, a_heapAt, a_pendingAt, a_choiceDepth, a_choiceNext, a_pairLeft, a_pairRight, a_colour, a_dfsNode, a_dfsArg, a_writing, a_writeStack, a_varNumber) (nI c)) ∧
      (∀ (g_clauseCap g_heapCap g_frameCap g_choiceCap g_draftCount g_clauses g_queryCount g_status g_depth g_choiceCount g_solutions g_steps g_complete g_compoundCount g_equations g_goalCount : Int32) (b_draft b_clauseCodes b_clauseLength b_query b_trace b_choiceDepths b_choiceNexts b_code b_link b_compound b_finite b_left b_right b_goals b_atomPlace b_stack b_seen : Nat → Int32), wm_SYs cs ln m hc fc kc g_heapCap g_frameCap g_choiceCap g_draftCount g_clauses g_queryCount b_draft b_clauseCodes b_clauseLength b_query → wm_YV cs ln sl cd cx d q (wm_Fn a_nodeFn) (wm_Gn a_nodeArg) g_depth g_choiceCount g_goalCount b_trace b_choiceDepths b_choiceNexts b_code b_link b_goals → ∀ (c : Nat) (post : Int32 → Prop), c ≤ 33 → post (wm_lf P (m - c) c) → wpY_leastCandidate post (g_clauseCap, g_heapCap, g_frameCap, g_choiceCap, g_draftCount, g_clauses, g_queryCount, g_status, g_depth, g_choiceCount, g_solutions, g_steps, g_complete, g_compoundCount, g_equations, g_goalCount, b_draft, b_clauseCodes, b_clauseLength, b_query, b_trace, b_choiceDepths, b_choiceNexts, b_code, b_link, b_compound, b_finite, b_left, b_right, b_goals, b_atomPlace, b_stack, b_seen) (nI c)) := by
  obtain ⟨⟨-, hst, hso, hsp⟩, hcn, -, hl⟩ := hX
  obtain ⟨⟨pd, pq', pT, p0, psl, php, pCH, pst⟩, ⟨xd, xq, xtl, xch, xF, xC, xN, xR⟩, xWA, xWG⟩ := hl hlv
  have hbs := wm_bs_hp (cs := cs) (ln := ln) (sl := sl) d
  have hsl32 : ∀ i, i ≤ d → (sl i < m ∨ sl i = 32) := fun i hi => by
    rcases Nat.eq_zero_or_pos i with z | z
    · subst z; exact Or.inr p0
    · exact Or.inl (psl i z hi)
  obtain ⟨f, j, hg⟩ : ∃ f j, (wm_gl cs ln sl d).head? = some (f, j) := by
    cases hh : wm_gl cs ln sl d with
    | nil => exact absurd (pst.mpr hh) hn2
    | cons x y => exact ⟨x.1, x.2, rfl⟩
  obtain ⟨gf, gj, gk, go⟩ := wm_goal pT (Nat.le_refl _) hg
  obtain ⟨gx, cp⟩ := wm_gx pT.1 xN (by omega)
  obtain ⟨ρ, δ, rk, o1, o2, o3, -, -, -⟩ := (xR.1 d (Nat.le_refl _)).2 a_nodeLink (fun n hn => ⟨fun ⟨i, y1, y2, y3⟩ => by omega, fun _ => rfl⟩)
  have t256 := wm_TL_256 xR.2.1
  refine ⟨wm_cd cs (cs (sl f) (wm_pq cs ln sl f j)) (wm_gk (wm_Fn a_nodeFn) ρ (cs (sl f) (wm_pq cs ln sl f j)) (wm_nc cs ln sl f (wm_aq cs ln sl f (wm_pq cs ln sl f j) 0))), fun c post hc' hpost => wx_leastCandidate (T := 0) rfl hc' hm hcl xd (by omega) hS hsl32 xF xC pT hg gx o1 (fun n => by have := o2 n; omega) hpost, ?_⟩
  intro g_clauseCap g_heapCap g_frameCap g_choiceCap g_draftCount g_clauses g_queryCount g_status g_depth g_choiceCount g_solutions g_steps g_complete g_compoundCount g_equations g_goalCount b_draft b_clauseCodes b_clauseLength b_query b_trace b_choiceDepths b_choiceNexts b_code b_link b_compound b_finite b_left b_right b_goals b_atomPlace b_stack b_seen hSy hV c post hc' hpost
  obtain ⟨v1, v2, v3, v4, w1, w2, w3, r', δ', ρ', hR⟩ := hV
  refine wy_leastCandidate rfl hc' hSy.2.1 hSy.2.2.1 pT (by omega) cp w1 hR w2 w3 hg ?_
  rw [wm_gk_eq o3 hR.2.2.2 (fun hz => ?_)]
  · exact hpost
  · obtain ⟨p1, p2, p3⟩ := wm_ap_lt (k := 0) (pT.1 f gf).2.2 gk (Nat.pos_of_ne_zero hz)
    exact wm_nc_lt (pT.1 f gf).1 gf p2 p3
/-- depth and choices as they are seen -/
theorem wo_depth (hX : wm_XD cs ln m hc fc kc st d q so sp sl ta t cd cx f_status f_depth f_choiceCount f_trailLen f_solutions f_steps f_answerLen f_goalLen a_choiceDepth a_choiceNext a_frameSlot a_frameBase a_nodeTop a_heapAt a_pendingAt a_trailAt a_contFrame a_contAtom a_selFrame a_selAtom a_nodeFn a_nodeLink a_nodeArg a_trail a_writing) (hY : wm_YD cs ln st d q so sp sl cd cx (wm_Fn a_nodeFn) (wm_Gn a_nodeArg) g_status g_depth g_choiceCount g_solutions g_steps g_goalCount b_trace b_choiceDepths b_choiceNexts b_code b_link b_goals) (b1 : fc ≤ 128) :
    ∃ dd, dd ≤ 128 ∧ f_depth = nI dd ∧ (∀ post : Int32 → Prop, post (nI dd) → wpY_depth post (g_clauseCap, g_heapCap, g_frameCap, g_choiceCap, g_draftCount, g_clauses, g_queryCount, g_status, g_depth, g_choiceCount, g_solutions, g_steps, g_complete, g_compoundCount, g_equations, g_goalCount, b_draft, b_clauseCodes, b_clauseLength, b_query, b_trace, b_choiceDepths, b_choiceNexts, b_code, b_link, b_compound, b_finite, b_left, b_right, b_goals, b_atomPlace, b_stack, b_seen)) ∧ (∀ i, i < dd → a_frameSlot (i + 1) = nI (sl (i + 1)) ∧ b_trace i = nI (sl (i + 1))) := by
  obtain ⟨⟨h6, hst, -, -⟩, -, h0, hl⟩ := hX
  obtain ⟨⟨ys, -, -⟩, yl⟩ := hY
  by_cases hv : wm_lv st
  · obtain ⟨⟨pd, -⟩, ⟨xd, -, -, -, xF, -⟩, -⟩ := hl hv
    obtain ⟨v1, -, v3, -⟩ := yl hv
    refine ⟨d, by omega, xd, fun post hp => ?_, fun i hi => ⟨(xF (i + 1) (by omega)).1.1, v3 i hi⟩⟩
    refine pk_eq st 0 (fun e => absurd e hv.1) (fun _ => pk_eq st 3 (fun e => absurd e hv.2) (fun _ => ?_) ys) ys
    rw [v1]; exact hp
  · refine ⟨0, by omega, (h0 hv).1, fun post hp => ?_, fun i hi => by omega⟩
    refine pk_eq st 0 (fun _ => hp) (fun e => pk_eq st 3 (fun _ => hp) (fun e' => absurd ⟨e, e'⟩ hv) ys) ys
theorem wo_choices (hX : wm_XD cs ln m hc fc kc st d q so sp sl ta t cd cx f_status f_depth f_choiceCount f_trailLen f_solutions f_steps f_answerLen f_goalLen a_choiceDepth a_choiceNext a_frameSlot a_frameBase a_nodeTop a_heapAt a_pendingAt a_trailAt a_contFrame a_contAtom a_selFrame a_selAtom a_nodeFn a_nodeLink a_nodeArg a_trail a_writing) (hY : wm_YD cs ln st d q so sp sl cd cx (wm_Fn a_nodeFn) (wm_Gn a_nodeArg) g_status g_depth g_choiceCount g_solutions g_steps g_goalCount b_trace b_choiceDepths b_choiceNexts b_code b_link b_goals) (b3 : kc ≤ 64) :
    ∃ qq, qq ≤ 64 ∧ f_choiceCount = nI qq ∧ (∀ post : Int32 → Prop, post (nI qq) → wpY_choices post (g_clauseCap, g_heapCap, g_frameCap, g_choiceCap, g_draftCount, g_clauses, g_queryCount, g_status, g_depth, g_choiceCount, g_solutions, g_steps, g_complete, g_compoundCount, g_equations, g_goalCount, b_draft, b_clauseCodes, b_clauseLength, b_query, b_trace, b_choiceDepths, b_choiceNexts, b_code, b_link, b_compound, b_finite, b_left, b_right, b_goals, b_atomPlace, b_stack, b_seen)) ∧ (∀ i, i < qq → a_choiceDepth i = b_choiceDepths i ∧ a_choiceNext i = b_choiceNexts i) := by
  obtain ⟨⟨h6, hst, -, -⟩, -, h0, hl⟩ := hX
  obtain ⟨⟨ys, -, -⟩, yl⟩ := hY
  by_cases hv : wm_lv st
  · obtain ⟨⟨-, pq', -⟩, ⟨-, xq, -, xch, -⟩, -⟩ := hl hv
    obtain ⟨-, v2, -, v4, -⟩ := yl hv
    refine ⟨q, by omega, xq, fun post hp => ?_, fun i hi => ⟨(xch i hi).1.trans (v4 i hi).1.symm, (xch i hi).2.trans (v4 i hi).2.symm⟩⟩
    refine pk_eq st 0 (fun e => absurd e hv.1) (fun _ => pk_eq st 3 (fun e => absurd e hv.2) (fun _ => ?_) ys) ys
    rw [v2]; exact hp
  · refine ⟨0, by omega, (h0 hv).2, fun post hp => ?_, fun i hi => by omega⟩
    refine pk_eq st 0 (fun _ => hp) (fun e => pk_eq st 3 (fun _ => hp) (fun e' => absurd ⟨e, e'⟩ hv) ys) ys
/-- a code of a slot -/
theorem wx_slotCode {post : Int32 → Prop} {C : Nat → Nat} {n s c : Nat} {x y : Int32} (hx : x = nI c) (hc33 : c < 33) (h32 : n ≤ 32) (hs : s + n ≤ 288) (hS : wm_SX C n c s a_code a_skip a_local a_slotStart a_slotLen a_slotAtoms a_slotVars a_slotNodes a_slotWeight a_slotKey a_atomPlace) (h1 : ∀ k, k < n → y = nI k → post (nI (C k))) (h0 : (y < 0 ∨ nI n ≤ y) → post (-1)) : wpX_slotCode post (f_clauseCap, f_heapCap, f_frameCap, f_choiceCap, f_querySlot, f_firstNode, f_draftLen, f_draftOpen, f_draftAtoms, f_programUsed, f_clauses, f_trailLen, f_depth, f_choiceCount, f_status, f_solutions, f_steps, f_complete, f_pairTop, f_writeTop, f_answerLen, f_goalLen, a_draft, a_code, a_skip, a_local, a_slotStart, a_slotLen, a_slotAtoms, a_slotVars, a_slotNodes, a_slotWeight, a_slotKey, a_atomPlace, a_nodeFn, a_nodeLink, a_nodeArg, a_trail, a_frameSlot, a_frameBase, a_contFrame, a_contAtom, a_selFrame, a_selAtom, a_nodeTop, a_trailAt, a_heapAt, a_pendingAt, a_choiceDepth, a_choiceNext, a_pairLeft, a_pairRight, a_colour, a_dfsNode, a_dfsArg, a_writing, a_writeStack, a_varNumber) x y := by
  subst hx
  have inc : vp_in (nI c) 33 := pk_in c 33 hc33
  rcases pk_ix y (n := n) (by omega) with z | z | ⟨k, hk, rfl⟩
  · exact br_t z (h0 (Or.inl z))
  · by_cases z0 : y < 0
    · exact br_t z0 (h0 (Or.inl z0))
    · refine br_f z0 (And.intro inc (br_f ?_ (h0 (Or.inr z))))
      rw [wm_rx hS.1.2.1]; exact Int32.not_lt.mpr z
  · have ex : a_slotStart (nI c).toNatClampNeg + nI k = nI (s + k) := by rw [wm_rx hS.1.1, nI_add]
    refine wm_ltF k 0 (Nat.zero_le _) (And.intro inc (wm_ltT k n hk (And.intro inc (And.intro (pk_in (s + k) 288 (by omega) ex) ?_)) rfl (wm_rx hS.1.2.1)))
    rw [wm_rx (hS.2.2.2 k hk).1 ex]
    exact h1 k hk rfl
end
theorem i_vc_status {k : Nat} {u : SX} {v : SY} (I : i_Rel k u v) (hk : k + 5 ≤ 2564) : wpX_status (fun r => wpY_status (fun r' => r' = r ∧ i_Rel (k + 5) u v) v) u := by
  refine wm_el (P := fun u v => wpX_status (fun r => wpY_status (fun r' => r' = r ∧ i_Rel (k + 5) u v) v) u) ?_ I
  intro f_clauseCap f_heapCap f_frameCap f_choiceCap f_querySlot f_firstNode f_draftLen f_draftOpen f_draftAtoms f_programUsed f_clauses f_trailLen f_depth f_choiceCount f_status f_solutions f_steps f_complete f_pairTop f_writeTop f_answerLen f_goalLen a_draft a_code a_skip a_local a_slotStart a_slotLen a_slotAtoms a_slotVars a_slotNodes a_slotWeight a_slotKey a_atomPlace a_nodeFn a_nodeLink a_nodeArg a_trail a_frameSlot a_frameBase a_contFrame a_contAtom a_selFrame a_selAtom a_nodeTop a_trailAt a_heapAt a_pendingAt a_choiceDepth a_choiceNext a_pairLeft a_pairRight a_colour a_dfsNode a_dfsArg a_writing a_writeStack a_varNumber g_clauseCap g_heapCap g_frameCap g_choiceCap g_draftCount g_clauses g_queryCount g_status g_depth g_choiceCount g_solutions g_steps g_complete g_compoundCount g_equations g_goalCount b_draft b_clauseCodes b_clauseLength b_query b_trace b_choiceDepths b_choiceNexts b_code b_link b_compound b_finite b_left b_right b_goals b_atomPlace b_stack b_seen cc hc fc kc dl m st d q so sp dc ln ps sl ta t cd cx cs h1 h2 h3 h4 h5 h6 h7 h8 h9
  exact And.intro (h9.1.1.trans h8.1.2.1.symm) (wm_in h1 h2 h3 h4 h5 h6 h7 h8 h9)
theorem i_vc_solutions {k : Nat} {u : SX} {v : SY} (I : i_Rel k u v) (hk : k + 5 ≤ 2564) : wpX_solutions (fun r => wpY_solutions (fun r' => r' = r ∧ i_Rel (k + 5) u v) v) u := by
  refine wm_el (P := fun u v => wpX_solutions (fun r => wpY_solutions (fun r' => r' = r ∧ i_Rel (k + 5) u v) v) u) ?_ I
  intro f_clauseCap f_heapCap f_frameCap f_choiceCap f_querySlot f_firstNode f_draftLen f_draftOpen f_draftAtoms f_programUsed f_clauses f_trailLen f_depth f_choiceCount f_status f_solutions f_steps f_complete f_pairTop f_writeTop f_answerLen f_goalLen a_draft a_code a_skip a_local a_slotStart a_slotLen a_slotAtoms a_slotVars a_slotNodes a_slotWeight a_slotKey a_atomPlace a_nodeFn a_nodeLink a_nodeArg a_trail a_frameSlot a_frameBase a_contFrame a_contAtom a_selFrame a_selAtom a_nodeTop a_trailAt a_heapAt a_pendingAt a_choiceDepth a_choiceNext a_pairLeft a_pairRight a_colour a_dfsNode a_dfsArg a_writing a_writeStack a_varNumber g_clauseCap g_heapCap g_frameCap g_choiceCap g_draftCount g_clauses g_queryCount g_status g_depth g_choiceCount g_solutions g_steps g_complete g_compoundCount g_equations g_goalCount b_draft b_clauseCodes b_clauseLength b_query b_trace b_choiceDepths b_choiceNexts b_code b_link b_compound b_finite b_left b_right b_goals b_atomPlace b_stack b_seen cc hc fc kc dl m st d q so sp dc ln ps sl ta t cd cx cs h1 h2 h3 h4 h5 h6 h7 h8 h9
  exact And.intro (h9.1.2.1.trans h8.1.2.2.1.symm) (wm_in h1 h2 h3 h4 h5 h6 h7 h8 h9)
theorem i_vc_steps {k : Nat} {u : SX} {v : SY} (I : i_Rel k u v) (hk : k + 5 ≤ 2564) : wpX_steps (fun r => wpY_steps (fun r' => r' = r ∧ i_Rel (k + 5) u v) v) u := by
  refine wm_el (P := fun u v => wpX_steps (fun r => wpY_steps (fun r' => r' = r ∧ i_Rel (k + 5) u v) v) u) ?_ I
  intro f_clauseCap f_heapCap f_frameCap f_choiceCap f_querySlot f_firstNode f_draftLen f_draftOpen f_draftAtoms f_programUsed f_clauses f_trailLen f_depth f_choiceCount f_status f_solutions f_steps f_complete f_pairTop f_writeTop f_answerLen f_goalLen a_draft a_code a_skip a_local a_slotStart a_slotLen a_slotAtoms a_slotVars a_slotNodes a_slotWeight a_slotKey a_atomPlace a_nodeFn a_nodeLink a_nodeArg a_trail a_frameSlot a_frameBase a_contFrame a_contAtom a_selFrame a_selAtom a_nodeTop a_trailAt a_heapAt a_pendingAt a_choiceDepth a_choiceNext a_pairLeft a_pairRight a_colour a_dfsNode a_dfsArg a_writing a_writeStack a_varNumber g_clauseCap g_heapCap g_frameCap g_choiceCap g_draftCount g_clauses g_queryCount g_status g_depth g_choiceCount g_solutions g_steps g_complete g_compoundCount g_equations g_goalCount b_draft b_clauseCodes b_clauseLength b_query b_trace b_choiceDepths b_choiceNexts b_code b_link b_compound b_finite b_left b_right b_goals b_atomPlace b_stack b_seen cc hc fc kc dl m st d q so sp dc ln ps sl ta t cd cx cs h1 h2 h3 h4 h5 h6 h7 h8 h9
  exact And.intro (h9.1.2.2.trans h8.1.2.2.2.symm) (wm_in h1 h2 h3 h4 h5 h6 h7 h8 h9)
theorem i_vc_complete {k : Nat} {u : SX} {v : SY} (I : i_Rel k u v) (hk : k + 5 ≤ 2564) : wpX_complete (fun r => wpY_complete (fun r' => r' = r ∧ i_Rel (k + 5) u v) v) u := by
  refine wm_el (P := fun u v => wpX_complete (fun r => wpY_complete (fun r' => r' = r ∧ i_Rel (k + 5) u v) v) u) ?_ I
  intro f_clauseCap f_heapCap f_frameCap f_choiceCap f_querySlot f_firstNode f_draftLen f_draftOpen f_draftAtoms f_programUsed f_clauses f_trailLen f_depth f_choiceCount f_status f_solutions f_steps f_complete f_pairTop f_writeTop f_answerLen f_goalLen a_draft a_code a_skip a_local a_slotStart a_slotLen a_slotAtoms a_slotVars a_slotNodes a_slotWeight a_slotKey a_atomPlace a_nodeFn a_nodeLink a_nodeArg a_trail a_frameSlot a_frameBase a_contFrame a_contAtom a_selFrame a_selAtom a_nodeTop a_trailAt a_heapAt a_pendingAt a_choiceDepth a_choiceNext a_pairLeft a_pairRight a_colour a_dfsNode a_dfsArg a_writing a_writeStack a_varNumber g_clauseCap g_heapCap g_frameCap g_choiceCap g_draftCount g_clauses g_queryCount g_status g_depth g_choiceCount g_solutions g_steps g_complete g_compoundCount g_equations g_goalCount b_draft b_clauseCodes b_clauseLength b_query b_trace b_choiceDepths b_choiceNexts b_code b_link b_compound b_finite b_left b_right b_goals b_atomPlace b_stack b_seen cc hc fc kc dl m st d q so sp dc ln ps sl ta t cd cx cs h1 h2 h3 h4 h5 h6 h7 h8 h9
  have nb : narrow .boolean (.int f_complete) = .int f_complete := by
    rcases h7.2 with e | e <;> rw [e] <;> rfl
  have nb' : narrow .boolean (.int g_complete) = .int g_complete := by rw [h7.1]; exact nb
  exact And.intro nb (And.intro nb' (And.intro h7.1 (wm_in h1 h2 h3 h4 h5 h6 h7 h8 h9)))
theorem i_vc_clauseCount {k : Nat} {u : SX} {v : SY} (I : i_Rel k u v) (hk : k + 5 ≤ 2564) : wpX_clauseCount (fun r => wpY_clauseCount (fun r' => r' = r ∧ i_Rel (k + 5) u v) v) u := by
  refine wm_el (P := fun u v => wpX_clauseCount (fun r => wpY_clauseCount (fun r' => r' = r ∧ i_Rel (k + 5) u v) v) u) ?_ I
  intro f_clauseCap f_heapCap f_frameCap f_choiceCap f_querySlot f_firstNode f_draftLen f_draftOpen f_draftAtoms f_programUsed f_clauses f_trailLen f_depth f_choiceCount f_status f_solutions f_steps f_complete f_pairTop f_writeTop f_answerLen f_goalLen a_draft a_code a_skip a_local a_slotStart a_slotLen a_slotAtoms a_slotVars a_slotNodes a_slotWeight a_slotKey a_atomPlace a_nodeFn a_nodeLink a_nodeArg a_trail a_frameSlot a_frameBase a_contFrame a_contAtom a_selFrame a_selAtom a_nodeTop a_trailAt a_heapAt a_pendingAt a_choiceDepth a_choiceNext a_pairLeft a_pairRight a_colour a_dfsNode a_dfsArg a_writing a_writeStack a_varNumber g_clauseCap g_heapCap g_frameCap g_choiceCap g_draftCount g_clauses g_queryCount g_status g_depth g_choiceCount g_solutions g_steps g_complete g_compoundCount g_equations g_goalCount b_draft b_clauseCodes b_clauseLength b_query b_trace b_choiceDepths b_choiceNexts b_code b_link b_compound b_finite b_left b_right b_goals b_atomPlace b_stack b_seen cc hc fc kc dl m st d q so sp dc ln ps sl ta t cd cx cs h1 h2 h3 h4 h5 h6 h7 h8 h9
  exact And.intro (h5.1.2.2.1.trans h5.1.2.1.symm) (wm_in h1 h2 h3 h4 h5 h6 h7 h8 h9)
theorem i_vc_limit {k : Nat} {u : SX} {v : SY} (I : i_Rel k u v) (hk : k + 5 ≤ 2564) (v1 : Int32) : wpX_limit (fun r => wpY_limit (fun r' => r' = r ∧ i_Rel (k + 5) u v) v v1) u v1 := by
  refine wm_el (P := fun u v => wpX_limit (fun r => wpY_limit (fun r' => r' = r ∧ i_Rel (k + 5) u v) v v1) u v1) ?_ I
  intro f_clauseCap f_heapCap f_frameCap f_choiceCap f_querySlot f_firstNode f_draftLen f_draftOpen f_draftAtoms f_programUsed f_clauses f_trailLen f_depth f_choiceCount f_status f_solutions f_steps f_complete f_pairTop f_writeTop f_answerLen f_goalLen a_draft a_code a_skip a_local a_slotStart a_slotLen a_slotAtoms a_slotVars a_slotNodes a_slotWeight a_slotKey a_atomPlace a_nodeFn a_nodeLink a_nodeArg a_trail a_frameSlot a_frameBase a_contFrame a_contAtom a_selFrame a_selAtom a_nodeTop a_trailAt a_heapAt a_pendingAt a_choiceDepth a_choiceNext a_pairLeft a_pairRight a_colour a_dfsNode a_dfsArg a_writing a_writeStack a_varNumber g_clauseCap g_heapCap g_frameCap g_choiceCap g_draftCount g_clauses g_queryCount g_status g_depth g_choiceCount g_solutions g_steps g_complete g_compoundCount g_equations g_goalCount b_draft b_clauseCodes b_clauseLength b_query b_trace b_choiceDepths b_choiceNexts b_code b_link b_compound b_finite b_left b_right b_goals b_atomPlace b_stack b_seen cc hc fc kc dl m st d q so sp dc ln ps sl ta t cd cx cs h1 h2 h3 h4 h5 h6 h7 h8 h9
  have R : i_Rel (k + 5) (f_clauseCap, f_heapCap, f_frameCap, f_choiceCap, f_querySlot, f_firstNode, f_draftLen, f_draftOpen, f_draftAtoms, f_programUsed, f_clauses, f_trailLen, f_depth, f_choiceCount, f_status, f_solutions, f_steps, f_complete, f_pairTop, f_writeTop, f_answerLen, f_goalLen, a_draft, a_code, a_skip, a_local, a_slotStart, a_slotLen, a_slotAtoms, a_slotVars, a_slotNodes, a_slotWeight, a_slotKey, a_atomPlace, a_nodeFn, a_nodeLink, a_nodeArg, a_trail, a_frameSlot, a_frameBase, a_contFrame, a_contAtom, a_selFrame, a_selAtom, a_nodeTop, a_trailAt, a_heapAt, a_pendingAt, a_choiceDepth, a_choiceNext, a_pairLeft, a_pairRight, a_colour, a_dfsNode, a_dfsArg, a_writing, a_writeStack, a_varNumber) (g_clauseCap, g_heapCap, g_frameCap, g_choiceCap, g_draftCount, g_clauses, g_queryCount, g_status, g_depth, g_choiceCount, g_solutions, g_steps, g_complete, g_compoundCount, g_equations, g_goalCount, b_draft, b_clauseCodes, b_clauseLength, b_query, b_trace, b_choiceDepths, b_choiceNexts, b_code, b_link, b_compound, b_finite, b_left, b_right, b_goals, b_atomPlace, b_stack, b_seen) := wm_in h1 h2 h3 h4 h5 h6 h7 h8 h9
  obtain ⟨⟨a1, a2, a3, a4⟩, ⟨c1, c2, c3, c4⟩, -⟩ := h1
  by_cases e0 : v1 = 0
  · subst e0
    exact br_f (by decide) (br_f (by decide) (br_t rfl (br_t rfl (And.intro (c1.trans a1.symm) R))))
  · by_cases e1 : v1 = 1
    · subst e1
      exact br_f (by decide) (br_f (by decide) (br_f (by decide) (br_t rfl (br_f (by decide) (br_t rfl (And.intro (c2.trans a2.symm) R))))))
    · by_cases e2 : v1 = 2
      · subst e2
        exact br_f (by decide) (br_f (by decide) (br_f (by decide) (br_f (by decide) (br_t rfl (br_f (by decide) (br_f (by decide) (br_t rfl (And.intro (c3.trans a3.symm) R))))))))
      · by_cases e3 : v1 = 3
        · subst e3
          exact br_f (by decide) (br_f (by decide) (br_f (by decide) (br_f (by decide) (br_f (by decide) (br_t rfl (br_f (by decide) (br_f (by decide) (br_f (by decide) (br_t rfl (And.intro (c4.trans a4.symm) R))))))))))
        · have hy : wpY_limit (fun r' => r' = -1 ∧ i_Rel (k + 5) (f_clauseCap, f_heapCap, f_frameCap, f_choiceCap, f_querySlot, f_firstNode, f_draftLen, f_draftOpen, f_draftAtoms, f_programUsed, f_clauses, f_trailLen, f_depth, f_choiceCount, f_status, f_solutions, f_steps, f_complete, f_pairTop, f_writeTop, f_answerLen, f_goalLen, a_draft, a_code, a_skip, a_local, a_slotStart, a_slotLen, a_slotAtoms, a_slotVars, a_slotNodes, a_slotWeight, a_slotKey, a_atomPlace, a_nodeFn, a_nodeLink, a_nodeArg, a_trail, a_frameSlot, a_frameBase, a_contFrame, a_contAtom, a_selFrame, a_selAtom, a_nodeTop, a_trailAt, a_heapAt, a_pendingAt, a_choiceDepth, a_choiceNext, a_pairLeft, a_pairRight, a_colour, a_dfsNode, a_dfsArg, a_writing, a_writeStack, a_varNumber) (g_clauseCap, g_heapCap, g_frameCap, g_choiceCap, g_draftCount, g_clauses, g_queryCount, g_status, g_depth, g_choiceCount, g_solutions, g_steps, g_complete, g_compoundCount, g_equations, g_goalCount, b_draft, b_clauseCodes, b_clauseLength, b_query, b_trace, b_choiceDepths, b_choiceNexts, b_code, b_link, b_compound, b_finite, b_left, b_right, b_goals, b_atomPlace, b_stack, b_seen)) (g_clauseCap, g_heapCap, g_frameCap, g_choiceCap, g_draftCount, g_clauses, g_queryCount, g_status, g_depth, g_choiceCount, g_solutions, g_steps, g_complete, g_compoundCount, g_equations, g_goalCount, b_draft, b_clauseCodes, b_clauseLength, b_query, b_trace, b_choiceDepths, b_choiceNexts, b_code, b_link, b_compound, b_finite, b_left, b_right, b_goals, b_atomPlace, b_stack, b_seen) v1 := br_f e0 (br_f e1 (br_f e2 (br_f e3 (And.intro rfl R))))
          by_cases hn : v1 < 0
          · exact br_t hn hy
          · refine br_f hn ?_
            by_cases h3' : 3 < v1
            · exact br_t h3' hy
            · refine br_f h3' (br_f e0 (br_f e1 (br_f e2 (br_f e3 trivial))))
theorem i_vc_draftCode {k : Nat} {u : SX} {v : SY} (I : i_Rel k u v) (hk : k + 5 ≤ 2564) (v1 : Int32) : wpX_draftCode (fun r => wpY_draftCode (fun r' => r' = r ∧ i_Rel (k + 5) u v) v v1) u v1 := by
  refine wm_el (P := fun u v => wpX_draftCode (fun r => wpY_draftCode (fun r' => r' = r ∧ i_Rel (k + 5) u v) v v1) u v1) ?_ I
  intro f_clauseCap f_heapCap f_frameCap f_choiceCap f_querySlot f_firstNode f_draftLen f_draftOpen f_draftAtoms f_programUsed f_clauses f_trailLen f_depth f_choiceCount f_status f_solutions f_steps f_complete f_pairTop f_writeTop f_answerLen f_goalLen a_draft a_code a_skip a_local a_slotStart a_slotLen a_slotAtoms a_slotVars a_slotNodes a_slotWeight a_slotKey a_atomPlace a_nodeFn a_nodeLink a_nodeArg a_trail a_frameSlot a_frameBase a_contFrame a_contAtom a_selFrame a_selAtom a_nodeTop a_trailAt a_heapAt a_pendingAt a_choiceDepth a_choiceNext a_pairLeft a_pairRight a_colour a_dfsNode a_dfsArg a_writing a_writeStack a_varNumber g_clauseCap g_heapCap g_frameCap g_choiceCap g_draftCount g_clauses g_queryCount g_status g_depth g_choiceCount g_solutions g_steps g_complete g_compoundCount g_equations g_goalCount b_draft b_clauseCodes b_clauseLength b_query b_trace b_choiceDepths b_choiceNexts b_code b_link b_compound b_finite b_left b_right b_goals b_atomPlace b_stack b_seen cc hc fc kc dl m st d q so sp dc ln ps sl ta t cd cx cs h1 h2 h3 h4 h5 h6 h7 h8 h9
  have R : i_Rel (k + 5) (f_clauseCap, f_heapCap, f_frameCap, f_choiceCap, f_querySlot, f_firstNode, f_draftLen, f_draftOpen, f_draftAtoms, f_programUsed, f_clauses, f_trailLen, f_depth, f_choiceCount, f_status, f_solutions, f_steps, f_complete, f_pairTop, f_writeTop, f_answerLen, f_goalLen, a_draft, a_code, a_skip, a_local, a_slotStart, a_slotLen, a_slotAtoms, a_slotVars, a_slotNodes, a_slotWeight, a_slotKey, a_atomPlace, a_nodeFn, a_nodeLink, a_nodeArg, a_trail, a_frameSlot, a_frameBase, a_contFrame, a_contAtom, a_selFrame, a_selAtom, a_nodeTop, a_trailAt, a_heapAt, a_pendingAt, a_choiceDepth, a_choiceNext, a_pairLeft, a_pairRight, a_colour, a_dfsNode, a_dfsArg, a_writing, a_writeStack, a_varNumber) (g_clauseCap, g_heapCap, g_frameCap, g_choiceCap, g_draftCount, g_clauses, g_queryCount, g_status, g_depth, g_choiceCount, g_solutions, g_steps, g_complete, g_compoundCount, g_equations, g_goalCount, b_draft, b_clauseCodes, b_clauseLength, b_query, b_trace, b_choiceDepths, b_choiceNexts, b_code, b_link, b_compound, b_finite, b_left, b_right, b_goals, b_atomPlace, b_stack, b_seen) := wm_in h1 h2 h3 h4 h5 h6 h7 h8 h9
  have h32 := h2.1
  have ys : wm_YS (-2) dc dl g_draftCount g_clauses g_queryCount b_draft b_clauseCodes b_clauseLength b_query := ⟨h2.1, Or.inl ⟨rfl, h4.1, h4.2⟩⟩
  have hy : ∀ r : Int32, (wpY_source (fun r' => r' = r ∧ i_Rel (k + 5) (f_clauseCap, f_heapCap, f_frameCap, f_choiceCap, f_querySlot, f_firstNode, f_draftLen, f_draftOpen, f_draftAtoms, f_programUsed, f_clauses, f_trailLen, f_depth, f_choiceCount, f_status, f_solutions, f_steps, f_complete, f_pairTop, f_writeTop, f_answerLen, f_goalLen, a_draft, a_code, a_skip, a_local, a_slotStart, a_slotLen, a_slotAtoms, a_slotVars, a_slotNodes, a_slotWeight, a_slotKey, a_atomPlace, a_nodeFn, a_nodeLink, a_nodeArg, a_trail, a_frameSlot, a_frameBase, a_contFrame, a_contAtom, a_selFrame, a_selAtom, a_nodeTop, a_trailAt, a_heapAt, a_pendingAt, a_choiceDepth, a_choiceNext, a_pairLeft, a_pairRight, a_colour, a_dfsNode, a_dfsArg, a_writing, a_writeStack, a_varNumber) (g_clauseCap, g_heapCap, g_frameCap, g_choiceCap, g_draftCount, g_clauses, g_queryCount, g_status, g_depth, g_choiceCount, g_solutions, g_steps, g_complete, g_compoundCount, g_equations, g_goalCount, b_draft, b_clauseCodes, b_clauseLength, b_query, b_trace, b_choiceDepths, b_choiceNexts, b_code, b_link, b_compound, b_finite, b_left, b_right, b_goals, b_atomPlace, b_stack, b_seen)) (g_clauseCap, g_heapCap, g_frameCap, g_choiceCap, g_draftCount, g_clauses, g_queryCount, g_status, g_depth, g_choiceCount, g_solutions, g_steps, g_complete, g_compoundCount, g_equations, g_goalCount, b_draft, b_clauseCodes, b_clauseLength, b_query, b_trace, b_choiceDepths, b_choiceNexts, b_code, b_link, b_compound, b_finite, b_left, b_right, b_goals, b_atomPlace, b_stack, b_seen) (-2) v1) → wpY_draftCode (fun r' => r' = r ∧ i_Rel (k + 5) (f_clauseCap, f_heapCap, f_frameCap, f_choiceCap, f_querySlot, f_firstNode, f_draftLen, f_draftOpen, f_draftAtoms, f_programUsed, f_clauses, f_trailLen, f_depth, f_choiceCount, f_status, f_solutions, f_steps, f_complete, f_pairTop, f_writeTop, f_answerLen, f_goalLen, a_draft, a_code, a_skip, a_local, a_slotStart, a_slotLen, a_slotAtoms, a_slotVars, a_slotNodes, a_slotWeight, a_slotKey, a_atomPlace, a_nodeFn, a_nodeLink, a_nodeArg, a_trail, a_frameSlot, a_frameBase, a_contFrame, a_contAtom, a_selFrame, a_selAtom, a_nodeTop, a_trailAt, a_heapAt, a_pendingAt, a_choiceDepth, a_choiceNext, a_pairLeft, a_pairRight, a_colour, a_dfsNode, a_dfsArg, a_writing, a_writeStack, a_varNumber) (g_clauseCap, g_heapCap, g_frameCap, g_choiceCap, g_draftCount, g_clauses, g_queryCount, g_status, g_depth, g_choiceCount, g_solutions, g_steps, g_complete, g_compoundCount, g_equations, g_goalCount, b_draft, b_clauseCodes, b_clauseLength, b_query, b_trace, b_choiceDepths, b_choiceNexts, b_code, b_link, b_compound, b_finite, b_left, b_right, b_goals, b_atomPlace, b_stack, b_seen)) (g_clauseCap, g_heapCap, g_frameCap, g_choiceCap, g_draftCount, g_clauses, g_queryCount, g_status, g_depth, g_choiceCount, g_solutions, g_steps, g_complete, g_compoundCount, g_equations, g_goalCount, b_draft, b_clauseCodes, b_clauseLength, b_query, b_trace, b_choiceDepths, b_choiceNexts, b_code, b_link, b_compound, b_finite, b_left, b_right, b_goals, b_atomPlace, b_stack, b_seen) v1 := fun r h => h
  rcases pk_ix v1 (n := dl) (by omega) with z | z | ⟨j, hj, rfl⟩
  · exact br_t z (hy _ (wy_sourceN ys (Or.inl z) (And.intro rfl R)))
  · by_cases z0 : v1 < 0
    · exact br_t z0 (hy _ (wy_sourceN ys (Or.inl z0) (And.intro rfl R)))
    · refine br_f z0 (br_f ?_ (hy _ (wy_sourceN ys (Or.inr z) (And.intro rfl R))))
      rw [h3.1]; exact Int32.not_lt.mpr z
  · refine wm_ltF j 0 (Nat.zero_le _) (wm_ltT j dl hj (And.intro (pk_in j 32 (by omega)) (hy _ (wy_source ys rfl hj (And.intro ?_ R)))) rfl h3.1)
    exact (wm_rx (h3.2.2.2 j hj)).symm
theorem i_vc_clauseCode {k : Nat} {u : SX} {v : SY} (I : i_Rel k u v) (hk : k + 5 ≤ 2564) (v1 : Int32) (v2 : Int32) : wpX_clauseCode (fun r => wpY_clauseCode (fun r' => r' = r ∧ i_Rel (k + 5) u v) v v1 v2) u v1 v2 := by
  refine wm_el (P := fun u v => wpX_clauseCode (fun r => wpY_clauseCode (fun r' => r' = r ∧ i_Rel (k + 5) u v) v v1 v2) u v1 v2) ?_ I
  intro f_clauseCap f_heapCap f_frameCap f_choiceCap f_querySlot f_firstNode f_draftLen f_draftOpen f_draftAtoms f_programUsed f_clauses f_trailLen f_depth f_choiceCount f_status f_solutions f_steps f_complete f_pairTop f_writeTop f_answerLen f_goalLen a_draft a_code a_skip a_local a_slotStart a_slotLen a_slotAtoms a_slotVars a_slotNodes a_slotWeight a_slotKey a_atomPlace a_nodeFn a_nodeLink a_nodeArg a_trail a_frameSlot a_frameBase a_contFrame a_contAtom a_selFrame a_selAtom a_nodeTop a_trailAt a_heapAt a_pendingAt a_choiceDepth a_choiceNext a_pairLeft a_pairRight a_colour a_dfsNode a_dfsArg a_writing a_writeStack a_varNumber g_clauseCap g_heapCap g_frameCap g_choiceCap g_draftCount g_clauses g_queryCount g_status g_depth g_choiceCount g_solutions g_steps g_complete g_compoundCount g_equations g_goalCount b_draft b_clauseCodes b_clauseLength b_query b_trace b_choiceDepths b_choiceNexts b_code b_link b_compound b_finite b_left b_right b_goals b_atomPlace b_stack b_seen cc hc fc kc dl m st d q so sp dc ln ps sl ta t cd cx cs h1 h2 h3 h4 h5 h6 h7 h8 h9
  have R : i_Rel (k + 5) (f_clauseCap, f_heapCap, f_frameCap, f_choiceCap, f_querySlot, f_firstNode, f_draftLen, f_draftOpen, f_draftAtoms, f_programUsed, f_clauses, f_trailLen, f_depth, f_choiceCount, f_status, f_solutions, f_steps, f_complete, f_pairTop, f_writeTop, f_answerLen, f_goalLen, a_draft, a_code, a_skip, a_local, a_slotStart, a_slotLen, a_slotAtoms, a_slotVars, a_slotNodes, a_slotWeight, a_slotKey, a_atomPlace, a_nodeFn, a_nodeLink, a_nodeArg, a_trail, a_frameSlot, a_frameBase, a_contFrame, a_contAtom, a_selFrame, a_selAtom, a_nodeTop, a_trailAt, a_heapAt, a_pendingAt, a_choiceDepth, a_choiceNext, a_pairLeft, a_pairRight, a_colour, a_dfsNode, a_dfsArg, a_writing, a_writeStack, a_varNumber) (g_clauseCap, g_heapCap, g_frameCap, g_choiceCap, g_draftCount, g_clauses, g_queryCount, g_status, g_depth, g_choiceCount, g_solutions, g_steps, g_complete, g_compoundCount, g_equations, g_goalCount, b_draft, b_clauseCodes, b_clauseLength, b_query, b_trace, b_choiceDepths, b_choiceNexts, b_code, b_link, b_compound, b_finite, b_left, b_right, b_goals, b_atomPlace, b_stack, b_seen) := wm_in h1 h2 h3 h4 h5 h6 h7 h8 h9
  have hm := h5.2.2.2.1
  rcases pk_ix v1 (n := m) (by omega) with z | z | ⟨c, hcm, rfl⟩
  · exact br_t z (br_t z (And.intro rfl R))
  · by_cases z0 : v1 < 0
    · exact br_t z0 (br_t z0 (And.intro rfl R))
    · refine br_f z0 (br_f ?_ (br_f z0 (br_f ?_ (And.intro rfl R))))
      · rw [h5.1.2.1]; exact Int32.not_lt.mpr z
      · rw [h5.1.2.2.1]; exact Int32.not_lt.mpr z
  · have ys := wm_YP_YS (dcnt := g_draftCount) (qc := g_queryCount) (dr := b_draft) (qu := b_query) h5.2.2.2 h5.1.2.2.1 hcm
    have hy : ∀ r : Int32, (wpY_source (fun r' => r' = r ∧ i_Rel (k + 5) (f_clauseCap, f_heapCap, f_frameCap, f_choiceCap, f_querySlot, f_firstNode, f_draftLen, f_draftOpen, f_draftAtoms, f_programUsed, f_clauses, f_trailLen, f_depth, f_choiceCount, f_status, f_solutions, f_steps, f_complete, f_pairTop, f_writeTop, f_answerLen, f_goalLen, a_draft, a_code, a_skip, a_local, a_slotStart, a_slotLen, a_slotAtoms, a_slotVars, a_slotNodes, a_slotWeight, a_slotKey, a_atomPlace, a_nodeFn, a_nodeLink, a_nodeArg, a_trail, a_frameSlot, a_frameBase, a_contFrame, a_contAtom, a_selFrame, a_selAtom, a_nodeTop, a_trailAt, a_heapAt, a_pendingAt, a_choiceDepth, a_choiceNext, a_pairLeft, a_pairRight, a_colour, a_dfsNode, a_dfsArg, a_writing, a_writeStack, a_varNumber) (g_clauseCap, g_heapCap, g_frameCap, g_choiceCap, g_draftCount, g_clauses, g_queryCount, g_status, g_depth, g_choiceCount, g_solutions, g_steps, g_complete, g_compoundCount, g_equations, g_goalCount, b_draft, b_clauseCodes, b_clauseLength, b_query, b_trace, b_choiceDepths, b_choiceNexts, b_code, b_link, b_compound, b_finite, b_left, b_right, b_goals, b_atomPlace, b_stack, b_seen)) (g_clauseCap, g_heapCap, g_frameCap, g_choiceCap, g_draftCount, g_clauses, g_queryCount, g_status, g_depth, g_choiceCount, g_solutions, g_steps, g_complete, g_compoundCount, g_equations, g_goalCount, b_draft, b_clauseCodes, b_clauseLength, b_query, b_trace, b_choiceDepths, b_choiceNexts, b_code, b_link, b_compound, b_finite, b_left, b_right, b_goals, b_atomPlace, b_stack, b_seen) (nI c) v2) → wpY_clauseCode (fun r' => r' = r ∧ i_Rel (k + 5) (f_clauseCap, f_heapCap, f_frameCap, f_choiceCap, f_querySlot, f_firstNode, f_draftLen, f_draftOpen, f_draftAtoms, f_programUsed, f_clauses, f_trailLen, f_depth, f_choiceCount, f_status, f_solutions, f_steps, f_complete, f_pairTop, f_writeTop, f_answerLen, f_goalLen, a_draft, a_code, a_skip, a_local, a_slotStart, a_slotLen, a_slotAtoms, a_slotVars, a_slotNodes, a_slotWeight, a_slotKey, a_atomPlace, a_nodeFn, a_nodeLink, a_nodeArg, a_trail, a_frameSlot, a_frameBase, a_contFrame, a_contAtom, a_selFrame, a_selAtom, a_nodeTop, a_trailAt, a_heapAt, a_pendingAt, a_choiceDepth, a_choiceNext, a_pairLeft, a_pairRight, a_colour, a_dfsNode, a_dfsArg, a_writing, a_writeStack, a_varNumber) (g_clauseCap, g_heapCap, g_frameCap, g_choiceCap, g_draftCount, g_clauses, g_queryCount, g_status, g_depth, g_choiceCount, g_solutions, g_steps, g_complete, g_compoundCount, g_equations, g_goalCount, b_draft, b_clauseCodes, b_clauseLength, b_query, b_trace, b_choiceDepths, b_choiceNexts, b_code, b_link, b_compound, b_finite, b_left, b_right, b_goals, b_atomPlace, b_stack, b_seen)) (g_clauseCap, g_heapCap, g_frameCap, g_choiceCap, g_draftCount, g_clauses, g_queryCount, g_status, g_depth, g_choiceCount, g_solutions, g_steps, g_complete, g_compoundCount, g_equations, g_goalCount, b_draft, b_clauseCodes, b_clauseLength, b_query, b_trace, b_choiceDepths, b_choiceNexts, b_code, b_link, b_compound, b_finite, b_left, b_right, b_goals, b_atomPlace, b_stack, b_seen) (nI c) v2 := fun r h => wm_ltF c 0 (Nat.zero_le _) (wm_ltT c m hcm h rfl h5.1.2.2.1)
    have w := (wm_ps_le h5 c (by omega)).2 hcm
    refine wm_ltF c 0 (Nat.zero_le _) (wm_ltT c m hcm (wx_slotCode (c := c) rfl (by omega) ys.1 (by omega) (h5.2.2.1 c hcm).2 (fun j hj e => hy _ (wy_source ys e hj (And.intro rfl R))) (fun z => hy _ (wy_sourceN ys z (And.intro rfl R)))) rfl h5.1.2.1)
theorem i_vc_queryCode {k : Nat} {u : SX} {v : SY} (I : i_Rel k u v) (hk : k + 5 ≤ 2564) (v1 : Int32) : wpX_queryCode (fun r => wpY_queryCode (fun r' => r' = r ∧ i_Rel (k + 5) u v) v v1) u v1 := by
  refine wm_el (P := fun u v => wpX_queryCode (fun r => wpY_queryCode (fun r' => r' = r ∧ i_Rel (k + 5) u v) v v1) u v1) ?_ I
  intro f_clauseCap f_heapCap f_frameCap f_choiceCap f_querySlot f_firstNode f_draftLen f_draftOpen f_draftAtoms f_programUsed f_clauses f_trailLen f_depth f_choiceCount f_status f_solutions f_steps f_complete f_pairTop f_writeTop f_answerLen f_goalLen a_draft a_code a_skip a_local a_slotStart a_slotLen a_slotAtoms a_slotVars a_slotNodes a_slotWeight a_slotKey a_atomPlace a_nodeFn a_nodeLink a_nodeArg a_trail a_frameSlot a_frameBase a_contFrame a_contAtom a_selFrame a_selAtom a_nodeTop a_trailAt a_heapAt a_pendingAt a_choiceDepth a_choiceNext a_pairLeft a_pairRight a_colour a_dfsNode a_dfsArg a_writing a_writeStack a_varNumber g_clauseCap g_heapCap g_frameCap g_choiceCap g_draftCount g_clauses g_queryCount g_status g_depth g_choiceCount g_solutions g_steps g_complete g_compoundCount g_equations g_goalCount b_draft b_clauseCodes b_clauseLength b_query b_trace b_choiceDepths b_choiceNexts b_code b_link b_compound b_finite b_left b_right b_goals b_atomPlace b_stack b_seen cc hc fc kc dl m st d q so sp dc ln ps sl ta t cd cx cs h1 h2 h3 h4 h5 h6 h7 h8 h9
  have R : i_Rel (k + 5) (f_clauseCap, f_heapCap, f_frameCap, f_choiceCap, f_querySlot, f_firstNode, f_draftLen, f_draftOpen, f_draftAtoms, f_programUsed, f_clauses, f_trailLen, f_depth, f_choiceCount, f_status, f_solutions, f_steps, f_complete, f_pairTop, f_writeTop, f_answerLen, f_goalLen, a_draft, a_code, a_skip, a_local, a_slotStart, a_slotLen, a_slotAtoms, a_slotVars, a_slotNodes, a_slotWeight, a_slotKey, a_atomPlace, a_nodeFn, a_nodeLink, a_nodeArg, a_trail, a_frameSlot, a_frameBase, a_contFrame, a_contAtom, a_selFrame, a_selAtom, a_nodeTop, a_trailAt, a_heapAt, a_pendingAt, a_choiceDepth, a_choiceNext, a_pairLeft, a_pairRight, a_colour, a_dfsNode, a_dfsArg, a_writing, a_writeStack, a_varNumber) (g_clauseCap, g_heapCap, g_frameCap, g_choiceCap, g_draftCount, g_clauses, g_queryCount, g_status, g_depth, g_choiceCount, g_solutions, g_steps, g_complete, g_compoundCount, g_equations, g_goalCount, b_draft, b_clauseCodes, b_clauseLength, b_query, b_trace, b_choiceDepths, b_choiceNexts, b_code, b_link, b_compound, b_finite, b_left, b_right, b_goals, b_atomPlace, b_stack, b_seen) := wm_in h1 h2 h3 h4 h5 h6 h7 h8 h9
  have st6 := h8.1.1
  refine pk_eq st 0 (fun e => ?_) (fun e => ?_) h8.1.2.1
  · exact wm_eqT st 0 e (And.intro rfl R) h9.1.1
  · obtain ⟨q1, q2, q3, q4⟩ := h6 e
    have ys : wm_YS (-1) (cs 32) (ln 32) g_draftCount g_clauses g_queryCount b_draft b_clauseCodes b_clauseLength b_query := ⟨q1.1.1, Or.inr (Or.inl ⟨rfl, q3, q4⟩)⟩
    have hy : ∀ r : Int32, (wpY_source (fun r' => r' = r ∧ i_Rel (k + 5) (f_clauseCap, f_heapCap, f_frameCap, f_choiceCap, f_querySlot, f_firstNode, f_draftLen, f_draftOpen, f_draftAtoms, f_programUsed, f_clauses, f_trailLen, f_depth, f_choiceCount, f_status, f_solutions, f_steps, f_complete, f_pairTop, f_writeTop, f_answerLen, f_goalLen, a_draft, a_code, a_skip, a_local, a_slotStart, a_slotLen, a_slotAtoms, a_slotVars, a_slotNodes, a_slotWeight, a_slotKey, a_atomPlace, a_nodeFn, a_nodeLink, a_nodeArg, a_trail, a_frameSlot, a_frameBase, a_contFrame, a_contAtom, a_selFrame, a_selAtom, a_nodeTop, a_trailAt, a_heapAt, a_pendingAt, a_choiceDepth, a_choiceNext, a_pairLeft, a_pairRight, a_colour, a_dfsNode, a_dfsArg, a_writing, a_writeStack, a_varNumber) (g_clauseCap, g_heapCap, g_frameCap, g_choiceCap, g_draftCount, g_clauses, g_queryCount, g_status, g_depth, g_choiceCount, g_solutions, g_steps, g_complete, g_compoundCount, g_equations, g_goalCount, b_draft, b_clauseCodes, b_clauseLength, b_query, b_trace, b_choiceDepths, b_choiceNexts, b_code, b_link, b_compound, b_finite, b_left, b_right, b_goals, b_atomPlace, b_stack, b_seen)) (g_clauseCap, g_heapCap, g_frameCap, g_choiceCap, g_draftCount, g_clauses, g_queryCount, g_status, g_depth, g_choiceCount, g_solutions, g_steps, g_complete, g_compoundCount, g_equations, g_goalCount, b_draft, b_clauseCodes, b_clauseLength, b_query, b_trace, b_choiceDepths, b_choiceNexts, b_code, b_link, b_compound, b_finite, b_left, b_right, b_goals, b_atomPlace, b_stack, b_seen) (-1) v1) → wpY_queryCode (fun r' => r' = r ∧ i_Rel (k + 5) (f_clauseCap, f_heapCap, f_frameCap, f_choiceCap, f_querySlot, f_firstNode, f_draftLen, f_draftOpen, f_draftAtoms, f_programUsed, f_clauses, f_trailLen, f_depth, f_choiceCount, f_status, f_solutions, f_steps, f_complete, f_pairTop, f_writeTop, f_answerLen, f_goalLen, a_draft, a_code, a_skip, a_local, a_slotStart, a_slotLen, a_slotAtoms, a_slotVars, a_slotNodes, a_slotWeight, a_slotKey, a_atomPlace, a_nodeFn, a_nodeLink, a_nodeArg, a_trail, a_frameSlot, a_frameBase, a_contFrame, a_contAtom, a_selFrame, a_selAtom, a_nodeTop, a_trailAt, a_heapAt, a_pendingAt, a_choiceDepth, a_choiceNext, a_pairLeft, a_pairRight, a_colour, a_dfsNode, a_dfsArg, a_writing, a_writeStack, a_varNumber) (g_clauseCap, g_heapCap, g_frameCap, g_choiceCap, g_draftCount, g_clauses, g_queryCount, g_status, g_depth, g_choiceCount, g_solutions, g_steps, g_complete, g_compoundCount, g_equations, g_goalCount, b_draft, b_clauseCodes, b_clauseLength, b_query, b_trace, b_choiceDepths, b_choiceNexts, b_code, b_link, b_compound, b_finite, b_left, b_right, b_goals, b_atomPlace, b_stack, b_seen)) (g_clauseCap, g_heapCap, g_frameCap, g_choiceCap, g_draftCount, g_clauses, g_queryCount, g_status, g_depth, g_choiceCount, g_solutions, g_steps, g_complete, g_compoundCount, g_equations, g_goalCount, b_draft, b_clauseCodes, b_clauseLength, b_query, b_trace, b_choiceDepths, b_choiceNexts, b_code, b_link, b_compound, b_finite, b_left, b_right, b_goals, b_atomPlace, b_stack, b_seen) v1 := fun r h => wm_eqF st 0 e h h9.1.1
    have h32 := q1.1.1
    exact wx_slotCode (c := 32) rfl (by omega) ys.1 (by omega) q2 (fun j hj e => hy _ (wy_source ys e hj (And.intro rfl R))) (fun z => hy _ (wy_sourceN ys z (And.intro rfl R)))
end
section
/-! further owed getters, and the calls that only fail or end a query -/
theorem i_vc_pending {k : Nat} {u : SX} {v : SY} (I : i_Rel k u v) (hk : k + 5 ≤ 2564) : wpX_pending (fun r => wpY_pending (fun r' => r' = r ∧ i_Rel (k + 5) u v) v) u := by
  refine wm_el (P := fun u v => wpX_pending (fun r => wpY_pending (fun r' => r' = r ∧ i_Rel (k + 5) u v) v) u) ?_ I
  intro f_clauseCap f_heapCap f_frameCap f_choiceCap f_querySlot f_firstNode f_draftLen f_draftOpen f_draftAtoms f_programUsed f_clauses f_trailLen f_depth f_choiceCount f_status f_solutions f_steps f_complete f_pairTop f_writeTop f_answerLen f_goalLen a_draft a_code a_skip a_local a_slotStart a_slotLen a_slotAtoms a_slotVars a_slotNodes a_slotWeight a_slotKey a_atomPlace a_nodeFn a_nodeLink a_nodeArg a_trail a_frameSlot a_frameBase a_contFrame a_contAtom a_selFrame a_selAtom a_nodeTop a_trailAt a_heapAt a_pendingAt a_choiceDepth a_choiceNext a_pairLeft a_pairRight a_colour a_dfsNode a_dfsArg a_writing a_writeStack a_varNumber g_clauseCap g_heapCap g_frameCap g_choiceCap g_draftCount g_clauses g_queryCount g_status g_depth g_choiceCount g_solutions g_steps g_complete g_compoundCount g_equations g_goalCount b_draft b_clauseCodes b_clauseLength b_query b_trace b_choiceDepths b_choiceNexts b_code b_link b_compound b_finite b_left b_right b_goals b_atomPlace b_stack b_seen cc hc fc kc dl m st d q so sp dc ln ps sl ta t cd cx cs h1 h2 h3 h4 h5 h6 h7 h8 h9
  have R : i_Rel (k + 5) (f_clauseCap, f_heapCap, f_frameCap, f_choiceCap, f_querySlot, f_firstNode, f_draftLen, f_draftOpen, f_draftAtoms, f_programUsed, f_clauses, f_trailLen, f_depth, f_choiceCount, f_status, f_solutions, f_steps, f_complete, f_pairTop, f_writeTop, f_answerLen, f_goalLen, a_draft, a_code, a_skip, a_local, a_slotStart, a_slotLen, a_slotAtoms, a_slotVars, a_slotNodes, a_slotWeight, a_slotKey, a_atomPlace, a_nodeFn, a_nodeLink, a_nodeArg, a_trail, a_frameSlot, a_frameBase, a_contFrame, a_contAtom, a_selFrame, a_selAtom, a_nodeTop, a_trailAt, a_heapAt, a_pendingAt, a_choiceDepth, a_choiceNext, a_pairLeft, a_pairRight, a_colour, a_dfsNode, a_dfsArg, a_writing, a_writeStack, a_varNumber) (g_clauseCap, g_heapCap, g_frameCap, g_choiceCap, g_draftCount, g_clauses, g_queryCount, g_status, g_depth, g_choiceCount, g_solutions, g_steps, g_complete, g_compoundCount, g_equations, g_goalCount, b_draft, b_clauseCodes, b_clauseLength, b_query, b_trace, b_choiceDepths, b_choiceNexts, b_code, b_link, b_compound, b_finite, b_left, b_right, b_goals, b_atomPlace, b_stack, b_seen) := wm_in h1 h2 h3 h4 h5 h6 h7 h8 h9
  have st6 := h8.1.1
  unfold wpX_pending wpY_pending
  refine wx_hasGoal h8.1.2.1 st6 (fun hv h2' => ?_) (fun hn => ?_)
  · obtain ⟨⟨pd, -⟩, ⟨xd, -, -, -, xF, -⟩, -⟩ := h8.2.2.2 hv
    obtain ⟨-, -, -, -, -, y2, -⟩ := h9.2 hv
    have b1 := h1.2.2.2.2.1
    refine wm_eqF 1 0 (by omega) (And.intro (pk_in d 129 (by omega) xd) ?_)
    refine wy_hasGoal h9.1.1 st6 (fun _ _ => wm_eqF 1 0 (by omega) (And.intro ?_ R)) (fun hn => absurd ⟨hv, h2'⟩ hn)
    rw [wm_rx (xF d (Nat.le_refl _)).2.2.1 xd]; exact y2
  · refine wm_eqT 0 0 rfl ?_
    exact wy_hasGoal h9.1.1 st6 (fun hv h2' => absurd ⟨hv, h2'⟩ hn) (fun _ => wm_eqT 0 0 rfl (And.intro rfl R))
theorem i_vc_depth {k : Nat} {u : SX} {v : SY} (I : i_Rel k u v) (hk : k + 5 ≤ 2564) : wpX_depth (fun r => wpY_depth (fun r' => r' = r ∧ i_Rel (k + 5) u v) v) u := by
  refine wm_el (P := fun u v => wpX_depth (fun r => wpY_depth (fun r' => r' = r ∧ i_Rel (k + 5) u v) v) u) ?_ I
  intro f_clauseCap f_heapCap f_frameCap f_choiceCap f_querySlot f_firstNode f_draftLen f_draftOpen f_draftAtoms f_programUsed f_clauses f_trailLen f_depth f_choiceCount f_status f_solutions f_steps f_complete f_pairTop f_writeTop f_answerLen f_goalLen a_draft a_code a_skip a_local a_slotStart a_slotLen a_slotAtoms a_slotVars a_slotNodes a_slotWeight a_slotKey a_atomPlace a_nodeFn a_nodeLink a_nodeArg a_trail a_frameSlot a_frameBase a_contFrame a_contAtom a_selFrame a_selAtom a_nodeTop a_trailAt a_heapAt a_pendingAt a_choiceDepth a_choiceNext a_pairLeft a_pairRight a_colour a_dfsNode a_dfsArg a_writing a_writeStack a_varNumber g_clauseCap g_heapCap g_frameCap g_choiceCap g_draftCount g_clauses g_queryCount g_status g_depth g_choiceCount g_solutions g_steps g_complete g_compoundCount g_equations g_goalCount b_draft b_clauseCodes b_clauseLength b_query b_trace b_choiceDepths b_choiceNexts b_code b_link b_compound b_finite b_left b_right b_goals b_atomPlace b_stack b_seen cc hc fc kc dl m st d q so sp dc ln ps sl ta t cd cx cs h1 h2 h3 h4 h5 h6 h7 h8 h9
  obtain ⟨dd, e1, e2, e3, e4⟩ := wo_depth (g_clauseCap := g_clauseCap) (g_heapCap := g_heapCap) (g_frameCap := g_frameCap) (g_choiceCap := g_choiceCap) (g_draftCount := g_draftCount) (g_clauses := g_clauses) (g_queryCount := g_queryCount) (g_status := g_status) (g_depth := g_depth) (g_choiceCount := g_choiceCount) (g_solutions := g_solutions) (g_steps := g_steps) (g_complete := g_complete) (g_compoundCount := g_compoundCount) (g_equations := g_equations) (g_goalCount := g_goalCount) (b_draft := b_draft) (b_clauseCodes := b_clauseCodes) (b_clauseLength := b_clauseLength) (b_query := b_query) (b_trace := b_trace) (b_choiceDepths := b_choiceDepths) (b_choiceNexts := b_choiceNexts) (b_code := b_code) (b_link := b_link) (b_compound := b_compound) (b_finite := b_finite) (b_left := b_left) (b_right := b_right) (b_goals := b_goals) (b_atomPlace := b_atomPlace) (b_stack := b_stack) (b_seen := b_seen) h8 h9 h1.2.2.2.2.1
  have hy := e3 (fun r' => r' = f_depth ∧ i_Rel (k + 5) (f_clauseCap, f_heapCap, f_frameCap, f_choiceCap, f_querySlot, f_firstNode, f_draftLen, f_draftOpen, f_draftAtoms, f_programUsed, f_clauses, f_trailLen, f_depth, f_choiceCount, f_status, f_solutions, f_steps, f_complete, f_pairTop, f_writeTop, f_answerLen, f_goalLen, a_draft, a_code, a_skip, a_local, a_slotStart, a_slotLen, a_slotAtoms, a_slotVars, a_slotNodes, a_slotWeight, a_slotKey, a_atomPlace, a_nodeFn, a_nodeLink, a_nodeArg, a_trail, a_frameSlot, a_frameBase, a_contFrame, a_contAtom, a_selFrame, a_selAtom, a_nodeTop, a_trailAt, a_heapAt, a_pendingAt, a_choiceDepth, a_choiceNext, a_pairLeft, a_pairRight, a_colour, a_dfsNode, a_dfsArg, a_writing, a_writeStack, a_varNumber) (g_clauseCap, g_heapCap, g_frameCap, g_choiceCap, g_draftCount, g_clauses, g_queryCount, g_status, g_depth, g_choiceCount, g_solutions, g_steps, g_complete, g_compoundCount, g_equations, g_goalCount, b_draft, b_clauseCodes, b_clauseLength, b_query, b_trace, b_choiceDepths, b_choiceNexts, b_code, b_link, b_compound, b_finite, b_left, b_right, b_goals, b_atomPlace, b_stack, b_seen)) (And.intro e2.symm (wm_in h1 h2 h3 h4 h5 h6 h7 h8 h9))
  exact hy
theorem i_vc_traceClause {k : Nat} {u : SX} {v : SY} (I : i_Rel k u v) (hk : k + 5 ≤ 2564) (v1 : Int32) : wpX_traceClause (fun r => wpY_traceClause (fun r' => r' = r ∧ i_Rel (k + 5) u v) v v1) u v1 := by
  refine wm_el (P := fun u v => wpX_traceClause (fun r => wpY_traceClause (fun r' => r' = r ∧ i_Rel (k + 5) u v) v v1) u v1) ?_ I
  intro f_clauseCap f_heapCap f_frameCap f_choiceCap f_querySlot f_firstNode f_draftLen f_draftOpen f_draftAtoms f_programUsed f_clauses f_trailLen f_depth f_choiceCount f_status f_solutions f_steps f_complete f_pairTop f_writeTop f_answerLen f_goalLen a_draft a_code a_skip a_local a_slotStart a_slotLen a_slotAtoms a_slotVars a_slotNodes a_slotWeight a_slotKey a_atomPlace a_nodeFn a_nodeLink a_nodeArg a_trail a_frameSlot a_frameBase a_contFrame a_contAtom a_selFrame a_selAtom a_nodeTop a_trailAt a_heapAt a_pendingAt a_choiceDepth a_choiceNext a_pairLeft a_pairRight a_colour a_dfsNode a_dfsArg a_writing a_writeStack a_varNumber g_clauseCap g_heapCap g_frameCap g_choiceCap g_draftCount g_clauses g_queryCount g_status g_depth g_choiceCount g_solutions g_steps g_complete g_compoundCount g_equations g_goalCount b_draft b_clauseCodes b_clauseLength b_query b_trace b_choiceDepths b_choiceNexts b_code b_link b_compound b_finite b_left b_right b_goals b_atomPlace b_stack b_seen cc hc fc kc dl m st d q so sp dc ln ps sl ta t cd cx cs h1 h2 h3 h4 h5 h6 h7 h8 h9
  have R : i_Rel (k + 5) (f_clauseCap, f_heapCap, f_frameCap, f_choiceCap, f_querySlot, f_firstNode, f_draftLen, f_draftOpen, f_draftAtoms, f_programUsed, f_clauses, f_trailLen, f_depth, f_choiceCount, f_status, f_solutions, f_steps, f_complete, f_pairTop, f_writeTop, f_answerLen, f_goalLen, a_draft, a_code, a_skip, a_local, a_slotStart, a_slotLen, a_slotAtoms, a_slotVars, a_slotNodes, a_slotWeight, a_slotKey, a_atomPlace, a_nodeFn, a_nodeLink, a_nodeArg, a_trail, a_frameSlot, a_frameBase, a_contFrame, a_contAtom, a_selFrame, a_selAtom, a_nodeTop, a_trailAt, a_heapAt, a_pendingAt, a_choiceDepth, a_choiceNext, a_pairLeft, a_pairRight, a_colour, a_dfsNode, a_dfsArg, a_writing, a_writeStack, a_varNumber) (g_clauseCap, g_heapCap, g_frameCap, g_choiceCap, g_draftCount, g_clauses, g_queryCount, g_status, g_depth, g_choiceCount, g_solutions, g_steps, g_complete, g_compoundCount, g_equations, g_goalCount, b_draft, b_clauseCodes, b_clauseLength, b_query, b_trace, b_choiceDepths, b_choiceNexts, b_code, b_link, b_compound, b_finite, b_left, b_right, b_goals, b_atomPlace, b_stack, b_seen) := wm_in h1 h2 h3 h4 h5 h6 h7 h8 h9
  obtain ⟨dd, e1, e2, e3, e4⟩ := wo_depth (g_clauseCap := g_clauseCap) (g_heapCap := g_heapCap) (g_frameCap := g_frameCap) (g_choiceCap := g_choiceCap) (g_draftCount := g_draftCount) (g_clauses := g_clauses) (g_queryCount := g_queryCount) (g_status := g_status) (g_depth := g_depth) (g_choiceCount := g_choiceCount) (g_solutions := g_solutions) (g_steps := g_steps) (g_complete := g_complete) (g_compoundCount := g_compoundCount) (g_equations := g_equations) (g_goalCount := g_goalCount) (b_draft := b_draft) (b_clauseCodes := b_clauseCodes) (b_clauseLength := b_clauseLength) (b_query := b_query) (b_trace := b_trace) (b_choiceDepths := b_choiceDepths) (b_choiceNexts := b_choiceNexts) (b_code := b_code) (b_link := b_link) (b_compound := b_compound) (b_finite := b_finite) (b_left := b_left) (b_right := b_right) (b_goals := b_goals) (b_atomPlace := b_atomPlace) (b_stack := b_stack) (b_seen := b_seen) h8 h9 h1.2.2.2.2.1
  unfold wpX_traceClause wpY_traceClause
  rcases pk_ix v1 (n := dd) (by omega) with z | z | ⟨i, hi, rfl⟩
  · exact br_t z (e3 _ (br_t z (And.intro rfl R)))
  · by_cases z0 : v1 < 0
    · exact br_t z0 (e3 _ (br_t z0 (And.intro rfl R)))
    · refine br_f z0 (br_f ?_ (e3 _ (br_f z0 (br_t z (And.intro rfl R)))))
      rw [e2]; exact Int32.not_lt.mpr z
  · obtain ⟨f1, f2⟩ := e4 i hi
    refine wm_ltF i 0 (Nat.zero_le _) (wm_ltT i dd hi (And.intro (pk_in (i + 1) 129 (by omega) (nI_1 i)) (e3 _ (wm_ltF i 0 (Nat.zero_le _) (wm_leF dd i hi (wm_ltT i 128 (by omega) (And.intro (pk_in i 128 (by omega)) (And.intro ?_ R))))))) rfl e2)
    rw [wm_rx f2, wm_rx f1 (nI_1 i)]
theorem i_vc_choices {k : Nat} {u : SX} {v : SY} (I : i_Rel k u v) (hk : k + 5 ≤ 2564) : wpX_choices (fun r => wpY_choices (fun r' => r' = r ∧ i_Rel (k + 5) u v) v) u := by
  refine wm_el (P := fun u v => wpX_choices (fun r => wpY_choices (fun r' => r' = r ∧ i_Rel (k + 5) u v) v) u) ?_ I
  intro f_clauseCap f_heapCap f_frameCap f_choiceCap f_querySlot f_firstNode f_draftLen f_draftOpen f_draftAtoms f_programUsed f_clauses f_trailLen f_depth f_choiceCount f_status f_solutions f_steps f_complete f_pairTop f_writeTop f_answerLen f_goalLen a_draft a_code a_skip a_local a_slotStart a_slotLen a_slotAtoms a_slotVars a_slotNodes a_slotWeight a_slotKey a_atomPlace a_nodeFn a_nodeLink a_nodeArg a_trail a_frameSlot a_frameBase a_contFrame a_contAtom a_selFrame a_selAtom a_nodeTop a_trailAt a_heapAt a_pendingAt a_choiceDepth a_choiceNext a_pairLeft a_pairRight a_colour a_dfsNode a_dfsArg a_writing a_writeStack a_varNumber g_clauseCap g_heapCap g_frameCap g_choiceCap g_draftCount g_clauses g_queryCount g_status g_depth g_choiceCount g_solutions g_steps g_complete g_compoundCount g_equations g_goalCount b_draft b_clauseCodes b_clauseLength b_query b_trace b_choiceDepths b_choiceNexts b_code b_link b_compound b_finite b_left b_right b_goals b_atomPlace b_stack b_seen cc hc fc kc dl m st d q so sp dc ln ps sl ta t cd cx cs h1 h2 h3 h4 h5 h6 h7 h8 h9
  obtain ⟨qq, e1, e2, e3, e4⟩ := wo_choices (g_clauseCap := g_clauseCap) (g_heapCap := g_heapCap) (g_frameCap := g_frameCap) (g_choiceCap := g_choiceCap) (g_draftCount := g_draftCount) (g_clauses := g_clauses) (g_queryCount := g_queryCount) (g_status := g_status) (g_depth := g_depth) (g_choiceCount := g_choiceCount) (g_solutions := g_solutions) (g_steps := g_steps) (g_complete := g_complete) (g_compoundCount := g_compoundCount) (g_equations := g_equations) (g_goalCount := g_goalCount) (b_draft := b_draft) (b_clauseCodes := b_clauseCodes) (b_clauseLength := b_clauseLength) (b_query := b_query) (b_trace := b_trace) (b_choiceDepths := b_choiceDepths) (b_choiceNexts := b_choiceNexts) (b_code := b_code) (b_link := b_link) (b_compound := b_compound) (b_finite := b_finite) (b_left := b_left) (b_right := b_right) (b_goals := b_goals) (b_atomPlace := b_atomPlace) (b_stack := b_stack) (b_seen := b_seen) h8 h9 h1.2.2.2.2.2
  have hy := e3 (fun r' => r' = f_choiceCount ∧ i_Rel (k + 5) (f_clauseCap, f_heapCap, f_frameCap, f_choiceCap, f_querySlot, f_firstNode, f_draftLen, f_draftOpen, f_draftAtoms, f_programUsed, f_clauses, f_trailLen, f_depth, f_choiceCount, f_status, f_solutions, f_steps, f_complete, f_pairTop, f_writeTop, f_answerLen, f_goalLen, a_draft, a_code, a_skip, a_local, a_slotStart, a_slotLen, a_slotAtoms, a_slotVars, a_slotNodes, a_slotWeight, a_slotKey, a_atomPlace, a_nodeFn, a_nodeLink, a_nodeArg, a_trail, a_frameSlot, a_frameBase, a_contFrame, a_contAtom, a_selFrame, a_selAtom, a_nodeTop, a_trailAt, a_heapAt, a_pendingAt, a_choiceDepth, a_choiceNext, a_pairLeft, a_pairRight, a_colour, a_dfsNode, a_dfsArg, a_writing, a_writeStack, a_varNumber) (g_clauseCap, g_heapCap, g_frameCap, g_choiceCap, g_draftCount, g_clauses, g_queryCount, g_status, g_depth, g_choiceCount, g_solutions, g_steps, g_complete, g_compoundCount, g_equations, g_goalCount, b_draft, b_clauseCodes, b_clauseLength, b_query, b_trace, b_choiceDepths, b_choiceNexts, b_code, b_link, b_compound, b_finite, b_left, b_right, b_goals, b_atomPlace, b_stack, b_seen)) (And.intro e2.symm (wm_in h1 h2 h3 h4 h5 h6 h7 h8 h9))
  exact hy
theorem i_vc_choiceDepth {k : Nat} {u : SX} {v : SY} (I : i_Rel k u v) (hk : k + 5 ≤ 2564) (v1 : Int32) : wpX_choiceDepth (fun r => wpY_choiceDepth (fun r' => r' = r ∧ i_Rel (k + 5) u v) v v1) u v1 := by
  refine wm_el (P := fun u v => wpX_choiceDepth (fun r => wpY_choiceDepth (fun r' => r' = r ∧ i_Rel (k + 5) u v) v v1) u v1) ?_ I
  intro f_clauseCap f_heapCap f_frameCap f_choiceCap f_querySlot f_firstNode f_draftLen f_draftOpen f_draftAtoms f_programUsed f_clauses f_trailLen f_depth f_choiceCount f_status f_solutions f_steps f_complete f_pairTop f_writeTop f_answerLen f_goalLen a_draft a_code a_skip a_local a_slotStart a_slotLen a_slotAtoms a_slotVars a_slotNodes a_slotWeight a_slotKey a_atomPlace a_nodeFn a_nodeLink a_nodeArg a_trail a_frameSlot a_frameBase a_contFrame a_contAtom a_selFrame a_selAtom a_nodeTop a_trailAt a_heapAt a_pendingAt a_choiceDepth a_choiceNext a_pairLeft a_pairRight a_colour a_dfsNode a_dfsArg a_writing a_writeStack a_varNumber g_clauseCap g_heapCap g_frameCap g_choiceCap g_draftCount g_clauses g_queryCount g_status g_depth g_choiceCount g_solutions g_steps g_complete g_compoundCount g_equations g_goalCount b_draft b_clauseCodes b_clauseLength b_query b_trace b_choiceDepths b_choiceNexts b_code b_link b_compound b_finite b_left b_right b_goals b_atomPlace b_stack b_seen cc hc fc kc dl m st d q so sp dc ln ps sl ta t cd cx cs h1 h2 h3 h4 h5 h6 h7 h8 h9
  have R : i_Rel (k + 5) (f_clauseCap, f_heapCap, f_frameCap, f_choiceCap, f_querySlot, f_firstNode, f_draftLen, f_draftOpen, f_draftAtoms, f_programUsed, f_clauses, f_trailLen, f_depth, f_choiceCount, f_status, f_solutions, f_steps, f_complete, f_pairTop, f_writeTop, f_answerLen, f_goalLen, a_draft, a_code, a_skip, a_local, a_slotStart, a_slotLen, a_slotAtoms, a_slotVars, a_slotNodes, a_slotWeight, a_slotKey, a_atomPlace, a_nodeFn, a_nodeLink, a_nodeArg, a_trail, a_frameSlot, a_frameBase, a_contFrame, a_contAtom, a_selFrame, a_selAtom, a_nodeTop, a_trailAt, a_heapAt, a_pendingAt, a_choiceDepth, a_choiceNext, a_pairLeft, a_pairRight, a_colour, a_dfsNode, a_dfsArg, a_writing, a_writeStack, a_varNumber) (g_clauseCap, g_heapCap, g_frameCap, g_choiceCap, g_draftCount, g_clauses, g_queryCount, g_status, g_depth, g_choiceCount, g_solutions, g_steps, g_complete, g_compoundCount, g_equations, g_goalCount, b_draft, b_clauseCodes, b_clauseLength, b_query, b_trace, b_choiceDepths, b_choiceNexts, b_code, b_link, b_compound, b_finite, b_left, b_right, b_goals, b_atomPlace, b_stack, b_seen) := wm_in h1 h2 h3 h4 h5 h6 h7 h8 h9
  obtain ⟨qq, e1, e2, e3, e4⟩ := wo_choices (g_clauseCap := g_clauseCap) (g_heapCap := g_heapCap) (g_frameCap := g_frameCap) (g_choiceCap := g_choiceCap) (g_draftCount := g_draftCount) (g_clauses := g_clauses) (g_queryCount := g_queryCount) (g_status := g_status) (g_depth := g_depth) (g_choiceCount := g_choiceCount) (g_solutions := g_solutions) (g_steps := g_steps) (g_complete := g_complete) (g_compoundCount := g_compoundCount) (g_equations := g_equations) (g_goalCount := g_goalCount) (b_draft := b_draft) (b_clauseCodes := b_clauseCodes) (b_clauseLength := b_clauseLength) (b_query := b_query) (b_trace := b_trace) (b_choiceDepths := b_choiceDepths) (b_choiceNexts := b_choiceNexts) (b_code := b_code) (b_link := b_link) (b_compound := b_compound) (b_finite := b_finite) (b_left := b_left) (b_right := b_right) (b_goals := b_goals) (b_atomPlace := b_atomPlace) (b_stack := b_stack) (b_seen := b_seen) h8 h9 h1.2.2.2.2.2
  unfold wpX_choiceDepth wpY_choiceDepth
  rcases pk_ix v1 (n := qq) (by omega) with z | z | ⟨i, hi, rfl⟩
  · exact br_t z (e3 _ (br_t z (And.intro rfl R)))
  · by_cases z0 : v1 < 0
    · exact br_t z0 (e3 _ (br_t z0 (And.intro rfl R)))
    · refine br_f z0 (br_f ?_ (e3 _ (br_f z0 (br_t z (And.intro rfl R)))))
      rw [e2]; exact Int32.not_lt.mpr z
  · obtain ⟨f1, f2⟩ := e4 i hi
    refine wm_ltF i 0 (Nat.zero_le _) (wm_ltT i qq hi (And.intro (pk_in i 64 (by omega)) (e3 _ (wm_ltF i 0 (Nat.zero_le _) (wm_leF qq i hi (wm_ltT i 64 (by omega) (And.intro (pk_in i 64 (by omega)) (And.intro ?_ R))))))) rfl e2)
    rw [nI_clamp (by omega)]; exact f1.symm
theorem i_vc_choiceNext {k : Nat} {u : SX} {v : SY} (I : i_Rel k u v) (hk : k + 5 ≤ 2564) (v1 : Int32) : wpX_choiceNext (fun r => wpY_choiceNext (fun r' => r' = r ∧ i_Rel (k + 5) u v) v v1) u v1 := by
  refine wm_el (P := fun u v => wpX_choiceNext (fun r => wpY_choiceNext (fun r' => r' = r ∧ i_Rel (k + 5) u v) v v1) u v1) ?_ I
  intro f_clauseCap f_heapCap f_frameCap f_choiceCap f_querySlot f_firstNode f_draftLen f_draftOpen f_draftAtoms f_programUsed f_clauses f_trailLen f_depth f_choiceCount f_status f_solutions f_steps f_complete f_pairTop f_writeTop f_answerLen f_goalLen a_draft a_code a_skip a_local a_slotStart a_slotLen a_slotAtoms a_slotVars a_slotNodes a_slotWeight a_slotKey a_atomPlace a_nodeFn a_nodeLink a_nodeArg a_trail a_frameSlot a_frameBase a_contFrame a_contAtom a_selFrame a_selAtom a_nodeTop a_trailAt a_heapAt a_pendingAt a_choiceDepth a_choiceNext a_pairLeft a_pairRight a_colour a_dfsNode a_dfsArg a_writing a_writeStack a_varNumber g_clauseCap g_heapCap g_frameCap g_choiceCap g_draftCount g_clauses g_queryCount g_status g_depth g_choiceCount g_solutions g_steps g_complete g_compoundCount g_equations g_goalCount b_draft b_clauseCodes b_clauseLength b_query b_trace b_choiceDepths b_choiceNexts b_code b_link b_compound b_finite b_left b_right b_goals b_atomPlace b_stack b_seen cc hc fc kc dl m st d q so sp dc ln ps sl ta t cd cx cs h1 h2 h3 h4 h5 h6 h7 h8 h9
  have R : i_Rel (k + 5) (f_clauseCap, f_heapCap, f_frameCap, f_choiceCap, f_querySlot, f_firstNode, f_draftLen, f_draftOpen, f_draftAtoms, f_programUsed, f_clauses, f_trailLen, f_depth, f_choiceCount, f_status, f_solutions, f_steps, f_complete, f_pairTop, f_writeTop, f_answerLen, f_goalLen, a_draft, a_code, a_skip, a_local, a_slotStart, a_slotLen, a_slotAtoms, a_slotVars, a_slotNodes, a_slotWeight, a_slotKey, a_atomPlace, a_nodeFn, a_nodeLink, a_nodeArg, a_trail, a_frameSlot, a_frameBase, a_contFrame, a_contAtom, a_selFrame, a_selAtom, a_nodeTop, a_trailAt, a_heapAt, a_pendingAt, a_choiceDepth, a_choiceNext, a_pairLeft, a_pairRight, a_colour, a_dfsNode, a_dfsArg, a_writing, a_writeStack, a_varNumber) (g_clauseCap, g_heapCap, g_frameCap, g_choiceCap, g_draftCount, g_clauses, g_queryCount, g_status, g_depth, g_choiceCount, g_solutions, g_steps, g_complete, g_compoundCount, g_equations, g_goalCount, b_draft, b_clauseCodes, b_clauseLength, b_query, b_trace, b_choiceDepths, b_choiceNexts, b_code, b_link, b_compound, b_finite, b_left, b_right, b_goals, b_atomPlace, b_stack, b_seen) := wm_in h1 h2 h3 h4 h5 h6 h7 h8 h9
  obtain ⟨qq, e1, e2, e3, e4⟩ := wo_choices (g_clauseCap := g_clauseCap) (g_heapCap := g_heapCap) (g_frameCap := g_frameCap) (g_choiceCap := g_choiceCap) (g_draftCount := g_draftCount) (g_clauses := g_clauses) (g_queryCount := g_queryCount) (g_status := g_status) (g_depth := g_depth) (g_choiceCount := g_choiceCount) (g_solutions := g_solutions) (g_steps := g_steps) (g_complete := g_complete) (g_compoundCount := g_compoundCount) (g_equations := g_equations) (g_goalCount := g_goalCount) (b_draft := b_draft) (b_clauseCodes := b_clauseCodes) (b_clauseLength := b_clauseLength) (b_query := b_query) (b_trace := b_trace) (b_choiceDepths := b_choiceDepths) (b_choiceNexts := b_choiceNexts) (b_code := b_code) (b_link := b_link) (b_compound := b_compound) (b_finite := b_finite) (b_left := b_left) (b_right := b_right) (b_goals := b_goals) (b_atomPlace := b_atomPlace) (b_stack := b_stack) (b_seen := b_seen) h8 h9 h1.2.2.2.2.2
  unfold wpX_choiceNext wpY_choiceNext
  rcases pk_ix v1 (n := qq) (by omega) with z | z | ⟨i, hi, rfl⟩
  · exact br_t z (e3 _ (br_t z (And.intro rfl R)))
  · by_cases z0 : v1 < 0
    · exact br_t z0 (e3 _ (br_t z0 (And.intro rfl R)))
    · refine br_f z0 (br_f ?_ (e3 _ (br_f z0 (br_t z (And.intro rfl R)))))
      rw [e2]; exact Int32.not_lt.mpr z
  · obtain ⟨f1, f2⟩ := e4 i hi
    refine wm_ltF i 0 (Nat.zero_le _) (wm_ltT i qq hi (And.intro (pk_in i 64 (by omega)) (e3 _ (wm_ltF i 0 (Nat.zero_le _) (wm_leF qq i hi (wm_ltT i 64 (by omega) (And.intro (pk_in i 64 (by omega)) (And.intro ?_ R))))))) rfl e2)
    rw [nI_clamp (by omega)]; exact f2.symm
theorem i_vc_heapUsed {k : Nat} {u : SX} {v : SY} (I : i_Rel k u v) (hk : k + 5 ≤ 2564) : wpX_heapUsed (fun r => wpY_heapUsed (fun r' => r' = r ∧ i_Rel (k + 5) u v) v) u := by
  refine wm_el (P := fun u v => wpX_heapUsed (fun r => wpY_heapUsed (fun r' => r' = r ∧ i_Rel (k + 5) u v) v) u) ?_ I
  intro f_clauseCap f_heapCap f_frameCap f_choiceCap f_querySlot f_firstNode f_draftLen f_draftOpen f_draftAtoms f_programUsed f_clauses f_trailLen f_depth f_choiceCount f_status f_solutions f_steps f_complete f_pairTop f_writeTop f_answerLen f_goalLen a_draft a_code a_skip a_local a_slotStart a_slotLen a_slotAtoms a_slotVars a_slotNodes a_slotWeight a_slotKey a_atomPlace a_nodeFn a_nodeLink a_nodeArg a_trail a_frameSlot a_frameBase a_contFrame a_contAtom a_selFrame a_selAtom a_nodeTop a_trailAt a_heapAt a_pendingAt a_choiceDepth a_choiceNext a_pairLeft a_pairRight a_colour a_dfsNode a_dfsArg a_writing a_writeStack a_varNumber g_clauseCap g_heapCap g_frameCap g_choiceCap g_draftCount g_clauses g_queryCount g_status g_depth g_choiceCount g_solutions g_steps g_complete g_compoundCount g_equations g_goalCount b_draft b_clauseCodes b_clauseLength b_query b_trace b_choiceDepths b_choiceNexts b_code b_link b_compound b_finite b_left b_right b_goals b_atomPlace b_stack b_seen cc hc fc kc dl m st d q so sp dc ln ps sl ta t cd cx cs h1 h2 h3 h4 h5 h6 h7 h8 h9
  have R : i_Rel (k + 5) (f_clauseCap, f_heapCap, f_frameCap, f_choiceCap, f_querySlot, f_firstNode, f_draftLen, f_draftOpen, f_draftAtoms, f_programUsed, f_clauses, f_trailLen, f_depth, f_choiceCount, f_status, f_solutions, f_steps, f_complete, f_pairTop, f_writeTop, f_answerLen, f_goalLen, a_draft, a_code, a_skip, a_local, a_slotStart, a_slotLen, a_slotAtoms, a_slotVars, a_slotNodes, a_slotWeight, a_slotKey, a_atomPlace, a_nodeFn, a_nodeLink, a_nodeArg, a_trail, a_frameSlot, a_frameBase, a_contFrame, a_contAtom, a_selFrame, a_selAtom, a_nodeTop, a_trailAt, a_heapAt, a_pendingAt, a_choiceDepth, a_choiceNext, a_pairLeft, a_pairRight, a_colour, a_dfsNode, a_dfsArg, a_writing, a_writeStack, a_varNumber) (g_clauseCap, g_heapCap, g_frameCap, g_choiceCap, g_draftCount, g_clauses, g_queryCount, g_status, g_depth, g_choiceCount, g_solutions, g_steps, g_complete, g_compoundCount, g_equations, g_goalCount, b_draft, b_clauseCodes, b_clauseLength, b_query, b_trace, b_choiceDepths, b_choiceNexts, b_code, b_link, b_compound, b_finite, b_left, b_right, b_goals, b_atomPlace, b_stack, b_seen) := wm_in h1 h2 h3 h4 h5 h6 h7 h8 h9
  have st6 := h8.1.1
  unfold wpX_heapUsed
  refine wx_isLive h8.1.2.1 st6 (fun hv => ?_) (fun hn => ?_)
  · obtain ⟨⟨pd, -, pT, p0, psl, -⟩, ⟨xd, -, -, -, xF, -⟩, -⟩ := h8.2.2.2 hv
    obtain ⟨y1, -, y3, -⟩ := h9.2 hv
    have b1 := h1.2.2.2.2.1
    have hS := wm_sys_of (g_draftCount := g_draftCount) (b_draft := b_draft) h1 h5 (h6 hv.1)
    have n0 : ¬ g_status = 0 := fun e => hv.1 ((nI_eq (by omega) (by omega)).mp (h9.1.1.symm.trans e))
    have n3 : ¬ g_status = 3 := fun e => hv.2 ((nI_eq (by omega) (by omega)).mp (h9.1.1.symm.trans e))
    refine wm_eqF 1 0 (by omega) (And.intro (pk_in d 129 (by omega) xd) ?_)
    refine wy_heapUsed (cs := cs) (ln := ln) (sl := sl) n0 n3 y1 (by omega) pT.1 (by rw [p0]; exact hS.2.2.2) (fun i hi => ⟨y3 i hi, wm_YP_YS hS.2.2.1 hS.2.1 (psl (i + 1) (by omega) (by omega))⟩) (And.intro ?_ R)
    rw [wm_rx (xF d (Nat.le_refl _)).2.1 xd]
  · refine wm_eqT 0 0 rfl ?_
    refine pk_eq st 0 (fun _ => And.intro rfl R) (fun e => pk_eq st 3 (fun _ => And.intro rfl R) (fun e' => absurd ⟨e, e'⟩ hn) h9.1.1) h9.1.1
theorem i_vc_nextClause {k : Nat} {u : SX} {v : SY} (I : i_Rel k u v) (hk : k + 5 ≤ 2564) : wpX_nextClause (fun r => wpY_nextClause (fun r' => r' = r ∧ i_Rel (k + 5) u v) v) u := by
  refine wm_el (P := fun u v => wpX_nextClause (fun r => wpY_nextClause (fun r' => r' = r ∧ i_Rel (k + 5) u v) v) u) ?_ I
  intro f_clauseCap f_heapCap f_frameCap f_choiceCap f_querySlot f_firstNode f_draftLen f_draftOpen f_draftAtoms f_programUsed f_clauses f_trailLen f_depth f_choiceCount f_status f_solutions f_steps f_complete f_pairTop f_writeTop f_answerLen f_goalLen a_draft a_code a_skip a_local a_slotStart a_slotLen a_slotAtoms a_slotVars a_slotNodes a_slotWeight a_slotKey a_atomPlace a_nodeFn a_nodeLink a_nodeArg a_trail a_frameSlot a_frameBase a_contFrame a_contAtom a_selFrame a_selAtom a_nodeTop a_trailAt a_heapAt a_pendingAt a_choiceDepth a_choiceNext a_pairLeft a_pairRight a_colour a_dfsNode a_dfsArg a_writing a_writeStack a_varNumber g_clauseCap g_heapCap g_frameCap g_choiceCap g_draftCount g_clauses g_queryCount g_status g_depth g_choiceCount g_solutions g_steps g_complete g_compoundCount g_equations g_goalCount b_draft b_clauseCodes b_clauseLength b_query b_trace b_choiceDepths b_choiceNexts b_code b_link b_compound b_finite b_left b_right b_goals b_atomPlace b_stack b_seen cc hc fc kc dl m st d q so sp dc ln ps sl ta t cd cx cs h1 h2 h3 h4 h5 h6 h7 h8 h9
  have R : i_Rel (k + 5) (f_clauseCap, f_heapCap, f_frameCap, f_choiceCap, f_querySlot, f_firstNode, f_draftLen, f_draftOpen, f_draftAtoms, f_programUsed, f_clauses, f_trailLen, f_depth, f_choiceCount, f_status, f_solutions, f_steps, f_complete, f_pairTop, f_writeTop, f_answerLen, f_goalLen, a_draft, a_code, a_skip, a_local, a_slotStart, a_slotLen, a_slotAtoms, a_slotVars, a_slotNodes, a_slotWeight, a_slotKey, a_atomPlace, a_nodeFn, a_nodeLink, a_nodeArg, a_trail, a_frameSlot, a_frameBase, a_contFrame, a_contAtom, a_selFrame, a_selAtom, a_nodeTop, a_trailAt, a_heapAt, a_pendingAt, a_choiceDepth, a_choiceNext, a_pairLeft, a_pairRight, a_colour, a_dfsNode, a_dfsArg, a_writing, a_writeStack, a_varNumber) (g_clauseCap, g_heapCap, g_frameCap, g_choiceCap, g_draftCount, g_clauses, g_queryCount, g_status, g_depth, g_choiceCount, g_solutions, g_steps, g_complete, g_compoundCount, g_equations, g_goalCount, b_draft, b_clauseCodes, b_clauseLength, b_query, b_trace, b_choiceDepths, b_choiceNexts, b_code, b_link, b_compound, b_finite, b_left, b_right, b_goals, b_atomPlace, b_stack, b_seen) := wm_in h1 h2 h3 h4 h5 h6 h7 h8 h9
  have st6 := h8.1.1
  unfold wpX_nextClause wpY_nextClause
  refine wx_hasGoal h8.1.2.1 st6 (fun hv h2' => ?_) (fun hn => ?_)
  · have b2 := h1.2.2.2.1
    have b1 := h1.2.2.2.2.1
    have b3 := h1.2.2.2.2.2
    have hSx := wm_sls_of h5 (h6 hv.1)
    have hS := wm_sys_of (g_draftCount := g_draftCount) (b_draft := b_draft) h1 h5 (h6 hv.1)
    obtain ⟨P, lx, ly⟩ := wz_lcs (f_clauseCap := f_clauseCap) (f_heapCap := f_heapCap) (f_frameCap := f_frameCap) (f_choiceCap := f_choiceCap) (f_querySlot := f_querySlot) (f_firstNode := f_firstNode) (f_draftLen := f_draftLen) (f_draftOpen := f_draftOpen) (f_draftAtoms := f_draftAtoms) (f_programUsed := f_programUsed) (f_clauses := f_clauses) (f_trailLen := f_trailLen) (f_depth := f_depth) (f_choiceCount := f_choiceCount) (f_status := f_status) (f_solutions := f_solutions) (f_steps := f_steps) (f_complete := f_complete) (f_pairTop := f_pairTop) (f_writeTop := f_writeTop) (f_answerLen := f_answerLen) (f_goalLen := f_goalLen) (a_draft := a_draft) (a_code := a_code) (a_skip := a_skip) (a_local := a_local) (a_slotStart := a_slotStart) (a_slotLen := a_slotLen) (a_slotAtoms := a_slotAtoms) (a_slotVars := a_slotVars) (a_slotNodes := a_slotNodes) (a_slotWeight := a_slotWeight) (a_slotKey := a_slotKey) (a_atomPlace := a_atomPlace) (a_nodeFn := a_nodeFn) (a_nodeLink := a_nodeLink) (a_nodeArg := a_nodeArg) (a_trail := a_trail) (a_frameSlot := a_frameSlot) (a_frameBase := a_frameBase) (a_contFrame := a_contFrame) (a_contAtom := a_contAtom) (a_selFrame := a_selFrame) (a_selAtom := a_selAtom) (a_nodeTop := a_nodeTop) (a_trailAt := a_trailAt) (a_heapAt := a_heapAt) (a_pendingAt := a_pendingAt) (a_choiceDepth := a_choiceDepth) (a_choiceNext := a_choiceNext) (a_pairLeft := a_pairLeft) (a_pairRight := a_pairRight) (a_colour := a_colour) (a_dfsNode := a_dfsNode) (a_dfsArg := a_dfsArg) (a_writing := a_writing) (a_writeStack := a_writeStack) (a_varNumber := a_varNumber) hSx h5.2.2.2.1 h5.1.2.1 b1 b2 b3 hv h2' h8
    obtain ⟨⟨pd, pq', pT, p0, psl, -, pCH, -⟩, ⟨xd, xq, -, xch, xF, -⟩, -⟩ := h8.2.2.2 hv
    have hV := h9.2 hv
    obtain ⟨v1, v2, -, v4, -⟩ := h9.2 hv
    have hcd : ∀ i, i < q → cd i ≤ 128 := fun i hi => by have := (pCH.1 i hi).1; omega
    refine wm_eqF 1 0 (by omega) ?_
    by_cases hr : ∃ p, q = p + 1 ∧ cd p = d
    · obtain ⟨p, rfl, hpd⟩ := hr
      refine wx_clauseToTry_r xd (by omega) xq (by omega) xch hcd hpd ?_
      refine wy_hasGoal h9.1.1 st6 (fun _ _ => ?_) (fun hn => absurd ⟨hv, h2'⟩ hn)
      refine wm_eqF 1 0 (by omega) (wy_retrying (cd := cd) v1 (by omega) v2 (by omega) (fun i hi => (v4 i hi).1) hcd (fun _ => ?_) (fun h => absurd ⟨p, rfl, hpd⟩ h))
      have e : g_choiceCount - 1 = nI p := by rw [v2, nI_pred]
      exact wm_eqF 1 0 (by omega) (And.intro (pk_in p 64 (by omega) e) (And.intro (wm_rx (v4 p (by omega)).2 e) R))
    · refine wx_clauseToTry_n (P := P) (m := m) (q := q) (cd := cd) xd (by omega) xq (by omega) (fun i hi => (xch i hi).1) hcd hr lx ?_
      refine wy_hasGoal h9.1.1 st6 (fun _ _ => ?_) (fun hn => absurd ⟨hv, h2'⟩ hn)
      refine wm_eqF 1 0 (by omega) (wy_retrying (cd := cd) v1 (by omega) v2 (by omega) (fun i hi => (v4 i hi).1) hcd (fun h => absurd h hr) (fun _ => ?_))
      exact wm_eqT 0 0 rfl (ly _ _ _ _ _ _ _ _ _ _ _ _ _ _ _ _ _ _ _ _ _ _ _ _ _ _ _ _ _ _ _ _ _ hS hV 0 _ (by omega) (And.intro rfl R))
  · refine wm_eqT 0 0 rfl ?_
    exact wy_hasGoal h9.1.1 st6 (fun hv h2' => absurd ⟨hv, h2'⟩ hn) (fun _ => wm_eqT 0 0 rfl (And.intro rfl R))
theorem i_vc_discard {k : Nat} {u : SX} {v : SY} (I : i_Rel k u v) (hk : k + 5 ≤ 2564) : wpX_discard (fun r u' => wpY_discard (fun r' v' => r' = r ∧ i_Rel (k + 5) u' v') v) u := by
  refine wm_el (P := fun u v => wpX_discard (fun r u' => wpY_discard (fun r' v' => r' = r ∧ i_Rel (k + 5) u' v') v) u) ?_ I
  intro f_clauseCap f_heapCap f_frameCap f_choiceCap f_querySlot f_firstNode f_draftLen f_draftOpen f_draftAtoms f_programUsed f_clauses f_trailLen f_depth f_choiceCount f_status f_solutions f_steps f_complete f_pairTop f_writeTop f_answerLen f_goalLen a_draft a_code a_skip a_local a_slotStart a_slotLen a_slotAtoms a_slotVars a_slotNodes a_slotWeight a_slotKey a_atomPlace a_nodeFn a_nodeLink a_nodeArg a_trail a_frameSlot a_frameBase a_contFrame a_contAtom a_selFrame a_selAtom a_nodeTop a_trailAt a_heapAt a_pendingAt a_choiceDepth a_choiceNext a_pairLeft a_pairRight a_colour a_dfsNode a_dfsArg a_writing a_writeStack a_varNumber g_clauseCap g_heapCap g_frameCap g_choiceCap g_draftCount g_clauses g_queryCount g_status g_depth g_choiceCount g_solutions g_steps g_complete g_compoundCount g_equations g_goalCount b_draft b_clauseCodes b_clauseLength b_query b_trace b_choiceDepths b_choiceNexts b_code b_link b_compound b_finite b_left b_right b_goals b_atomPlace b_stack b_seen cc hc fc kc dl m st d q so sp dc ln ps sl ta t cd cx cs h1 h2 h3 h4 h5 h6 h7 h8 h9
  refine And.intro (h4.1.trans h3.1.symm) ?_
  exact wm_in (dl := 0) (dc := dc) h1 ⟨by omega, fun i hi => by omega, by show 0 ≤ 8; omega⟩ ⟨rfl, rfl, rfl, fun i hi => by omega⟩ ⟨rfl, fun i hi => by omega⟩ h5 h6 h7 h8 h9
theorem i_vc_dropClause {k : Nat} {u : SX} {v : SY} (I : i_Rel k u v) (hk : k + 5 ≤ 2564) : wpX_dropClause (fun r u' => wpY_dropClause (fun r' v' => r' = r ∧ i_Rel (k + 5) u' v') v) u := by
  refine wm_el (P := fun u v => wpX_dropClause (fun r u' => wpY_dropClause (fun r' v' => r' = r ∧ i_Rel (k + 5) u' v') v) u) ?_ I
  intro f_clauseCap f_heapCap f_frameCap f_choiceCap f_querySlot f_firstNode f_draftLen f_draftOpen f_draftAtoms f_programUsed f_clauses f_trailLen f_depth f_choiceCount f_status f_solutions f_steps f_complete f_pairTop f_writeTop f_answerLen f_goalLen a_draft a_code a_skip a_local a_slotStart a_slotLen a_slotAtoms a_slotVars a_slotNodes a_slotWeight a_slotKey a_atomPlace a_nodeFn a_nodeLink a_nodeArg a_trail a_frameSlot a_frameBase a_contFrame a_contAtom a_selFrame a_selAtom a_nodeTop a_trailAt a_heapAt a_pendingAt a_choiceDepth a_choiceNext a_pairLeft a_pairRight a_colour a_dfsNode a_dfsArg a_writing a_writeStack a_varNumber g_clauseCap g_heapCap g_frameCap g_choiceCap g_draftCount g_clauses g_queryCount g_status g_depth g_choiceCount g_solutions g_steps g_complete g_compoundCount g_equations g_goalCount b_draft b_clauseCodes b_clauseLength b_query b_trace b_choiceDepths b_choiceNexts b_code b_link b_compound b_finite b_left b_right b_goals b_atomPlace b_stack b_seen cc hc fc kc dl m st d q so sp dc ln ps sl ta t cd cx cs h1 h2 h3 h4 h5 h6 h7 h8 h9
  have R : i_Rel (k + 5) (f_clauseCap, f_heapCap, f_frameCap, f_choiceCap, f_querySlot, f_firstNode, f_draftLen, f_draftOpen, f_draftAtoms, f_programUsed, f_clauses, f_trailLen, f_depth, f_choiceCount, f_status, f_solutions, f_steps, f_complete, f_pairTop, f_writeTop, f_answerLen, f_goalLen, a_draft, a_code, a_skip, a_local, a_slotStart, a_slotLen, a_slotAtoms, a_slotVars, a_slotNodes, a_slotWeight, a_slotKey, a_atomPlace, a_nodeFn, a_nodeLink, a_nodeArg, a_trail, a_frameSlot, a_frameBase, a_contFrame, a_contAtom, a_selFrame, a_selAtom, a_nodeTop, a_trailAt, a_heapAt, a_pendingAt, a_choiceDepth, a_choiceNext, a_pairLeft, a_pairRight, a_colour, a_dfsNode, a_dfsArg, a_writing, a_writeStack, a_varNumber) (g_clauseCap, g_heapCap, g_frameCap, g_choiceCap, g_draftCount, g_clauses, g_queryCount, g_status, g_depth, g_choiceCount, g_solutions, g_steps, g_complete, g_compoundCount, g_equations, g_goalCount, b_draft, b_clauseCodes, b_clauseLength, b_query, b_trace, b_choiceDepths, b_choiceNexts, b_code, b_link, b_compound, b_finite, b_left, b_right, b_goals, b_atomPlace, b_stack, b_seen) := wm_in h1 h2 h3 h4 h5 h6 h7 h8 h9
  have st6 := h8.1.1
  have hm := h5.2.2.2.1
  refine pk_eq st 0 (fun e => ?_) (fun e => wm_eqF st 0 e (And.intro rfl R) h9.1.1) h8.1.2.1
  subst e
  refine pk_eq m 0 (fun e => wm_eqT 0 0 rfl (wm_eqT m 0 e (And.intro rfl R) h5.1.2.2.1) h9.1.1) (fun e => ?_) h5.1.2.1
  obtain ⟨m', rfl⟩ : ∃ m', m = m' + 1 := ⟨m - 1, by omega⟩
  obtain ⟨⟨p1, p2, p3, p4⟩, ⟨p5, p6⟩, p7, p8⟩ := h5
  obtain ⟨s1, s2⟩ := p7 m' (by omega)
  have ex : f_clauses - 1 = nI m' := by rw [p2, nI_pred]
  have ey : g_clauses - 1 = nI m' := by rw [p3, nI_pred]
  have eu : f_programUsed - a_slotLen (nI m').toNatClampNeg = nI (ps m') := by
    rw [p4, wm_rx s2.1.2.1, s1, pk_sub (by omega)]
    exact congrArg nI (by omega)
  refine nm_r ex (And.intro (pk_in m' 33 (by omega)) (nm_r eu ?_))
  refine wm_eqT 0 0 rfl (wm_eqF (m' + 1) 0 (by omega) (nm_r ey (And.intro rfl ?_)) p3) h9.1.1
  refine wm_in (m := m') (st := 0) (d := d) (q := q) (so := so) (sp := sp) (sl := sl) (ta := ta) (t := t) (cd := cd) (cx := cx) h1 h2 h3 h4 ⟨⟨by omega, rfl, rfl, rfl⟩, ⟨p5, by omega⟩, fun c hcm => p7 c (by omega), ⟨by omega, fun c hcm => p8.2 c (by omega)⟩⟩ (fun h => absurd rfl h) h7 ?_ ?_
  · exact ⟨h8.1, h8.2.1, h8.2.2.1, fun h => absurd rfl h.1⟩
  · exact ⟨h9.1, fun h => absurd rfl h.1⟩
theorem i_vc_stop {k : Nat} {u : SX} {v : SY} (I : i_Rel k u v) (hk : k + 5 ≤ 2564) : wpX_stop (fun r u' => wpY_stop (fun r' v' => r' = r ∧ i_Rel (k + 5) u' v') v) u := by
  refine wm_el (P := fun u v => wpX_stop (fun r u' => wpY_stop (fun r' v' => r' = r ∧ i_Rel (k + 5) u' v') v) u) ?_ I
  intro f_clauseCap f_heapCap f_frameCap f_choiceCap f_querySlot f_firstNode f_draftLen f_draftOpen f_draftAtoms f_programUsed f_clauses f_trailLen f_depth f_choiceCount f_status f_solutions f_steps f_complete f_pairTop f_writeTop f_answerLen f_goalLen a_draft a_code a_skip a_local a_slotStart a_slotLen a_slotAtoms a_slotVars a_slotNodes a_slotWeight a_slotKey a_atomPlace a_nodeFn a_nodeLink a_nodeArg a_trail a_frameSlot a_frameBase a_contFrame a_contAtom a_selFrame a_selAtom a_nodeTop a_trailAt a_heapAt a_pendingAt a_choiceDepth a_choiceNext a_pairLeft a_pairRight a_colour a_dfsNode a_dfsArg a_writing a_writeStack a_varNumber g_clauseCap g_heapCap g_frameCap g_choiceCap g_draftCount g_clauses g_queryCount g_status g_depth g_choiceCount g_solutions g_steps g_complete g_compoundCount g_equations g_goalCount b_draft b_clauseCodes b_clauseLength b_query b_trace b_choiceDepths b_choiceNexts b_code b_link b_compound b_finite b_left b_right b_goals b_atomPlace b_stack b_seen cc hc fc kc dl m st d q so sp dc ln ps sl ta t cd cx cs h1 h2 h3 h4 h5 h6 h7 h8 h9
  have R : i_Rel (k + 5) (f_clauseCap, f_heapCap, f_frameCap, f_choiceCap, f_querySlot, f_firstNode, f_draftLen, f_draftOpen, f_draftAtoms, f_programUsed, f_clauses, f_trailLen, f_depth, f_choiceCount, f_status, f_solutions, f_steps, f_complete, f_pairTop, f_writeTop, f_answerLen, f_goalLen, a_draft, a_code, a_skip, a_local, a_slotStart, a_slotLen, a_slotAtoms, a_slotVars, a_slotNodes, a_slotWeight, a_slotKey, a_atomPlace, a_nodeFn, a_nodeLink, a_nodeArg, a_trail, a_frameSlot, a_frameBase, a_contFrame, a_contAtom, a_selFrame, a_selAtom, a_nodeTop, a_trailAt, a_heapAt, a_pendingAt, a_choiceDepth, a_choiceNext, a_pairLeft, a_pairRight, a_colour, a_dfsNode, a_dfsArg, a_writing, a_writeStack, a_varNumber) (g_clauseCap, g_heapCap, g_frameCap, g_choiceCap, g_draftCount, g_clauses, g_queryCount, g_status, g_depth, g_choiceCount, g_solutions, g_steps, g_complete, g_compoundCount, g_equations, g_goalCount, b_draft, b_clauseCodes, b_clauseLength, b_query, b_trace, b_choiceDepths, b_choiceNexts, b_code, b_link, b_compound, b_finite, b_left, b_right, b_goals, b_atomPlace, b_stack, b_seen) := wm_in h1 h2 h3 h4 h5 h6 h7 h8 h9
  have st6 := h8.1.1
  refine pk_eq st 0 (fun e => wm_eqT st 0 e (And.intro rfl R) h9.1.1) (fun e => ?_) h8.1.2.1
  refine wm_eqF st 0 e (And.intro rfl ?_) h9.1.1
  exact wm_in (st := 0) (d := 0) (q := 0) (so := 0) (sp := 0) (sl := sl) (ta := ta) (t := t) (cd := cd) (cx := cx) h1 h2 h3 h4 h5 (fun h => absurd rfl h) ⟨rfl, Or.inr rfl⟩ ⟨⟨by omega, rfl, rfl, rfl⟩, h8.2.1, fun _ => ⟨rfl, rfl⟩, fun h => absurd rfl h.1⟩ ⟨⟨rfl, rfl, rfl⟩, fun h => absurd rfl h.1⟩
end
section
/-! next, prune, run -/
section
variable {f_clauseCap f_heapCap f_frameCap f_choiceCap f_querySlot f_firstNode f_draftLen f_draftOpen f_draftAtoms f_programUsed f_clauses f_trailLen f_depth f_choiceCount f_status f_solutions f_steps f_complete f_pairTop f_writeTop f_answerLen f_goalLen : Int32} {a_draft a_code a_skip a_local a_slotStart a_slotLen a_slotAtoms a_slotVars a_slotNodes a_slotWeight a_slotKey a_atomPlace a_nodeFn a_nodeLink a_nodeArg a_trail a_frameSlot a_frameBase a_contFrame a_contAtom a_selFrame a_selAtom a_nodeTop a_trailAt a_heapAt a_pendingAt a_choiceDepth a_choiceNext a_pairLeft a_pairRight a_colour a_dfsNode a_dfsArg a_writing a_writeStack a_varNumber : Nat → Int32}
variable {g_clauseCap g_heapCap g_frameCap g_choiceCap g_draftCount g_clauses g_queryCount g_status g_depth g_choiceCount g_solutions g_steps g_complete g_compoundCount g_equations g_goalCount : Int32} {b_draft b_clauseCodes b_clauseLength b_query b_trace b_choiceDepths b_choiceNexts b_code b_link b_compound b_finite b_left b_right b_goals b_atomPlace b_stack b_seen : Nat → Int32}
variable {cs : Nat → Nat → Nat} {ln ss : Nat → Nat} {m hc fc kc : Nat}
theorem wz_run {post : Int32 → SX → Prop} {mo : Nat} (hmo : mo ≤ 64) (hS : wm_SLs m cs ln ss a_code a_skip a_local a_slotStart a_slotLen a_slotAtoms a_slotVars a_slotNodes a_slotWeight a_slotKey a_atomPlace) (hm : m ≤ 32) (hcl : f_clauses = nI m) (e1 : f_frameCap = nI fc) (e2 : f_heapCap = nI hc) (e3 : f_choiceCap = nI kc) (b1 : fc ≤ 128) (b2 : hc ≤ 256) (b3 : kc ≤ 64) (hSy : wm_SYs cs ln m hc fc kc g_heapCap g_frameCap g_choiceCap g_draftCount g_clauses g_queryCount b_draft b_clauseCodes b_clauseLength b_query)
    (hfin : ∀ (st d q : Nat) (so sp : Int32) (sl ta t cd cx : Nat → Nat) (f_trailLen' f_depth' f_choiceCount' f_status' f_solutions' f_steps' f_pairTop' f_answerLen' f_goalLen' : Int32) (a_nodeFn' a_nodeLink' a_nodeArg' a_trail' a_frameSlot' a_frameBase' a_contFrame' a_contAtom' a_selFrame' a_selAtom' a_nodeTop' a_trailAt' a_heapAt' a_pendingAt' a_choiceDepth' a_choiceNext' a_pairLeft' a_pairRight' a_colour' a_dfsNode' a_dfsArg' : Nat → Int32), wm_XD cs ln m hc fc kc st d q so sp sl ta t cd cx f_status' f_depth' f_choiceCount' f_trailLen' f_solutions' f_steps' f_answerLen' f_goalLen' a_choiceDepth' a_choiceNext' a_frameSlot' a_frameBase' a_nodeTop' a_heapAt' a_pendingAt' a_trailAt' a_contFrame' a_contAtom' a_selFrame' a_selAtom' a_nodeFn' a_nodeLink' a_nodeArg' a_trail' a_writing → (∀ postY : Int32 → SY → Prop, (∀ (g_status' g_depth' g_choiceCount' g_solutions' g_steps' g_compoundCount' g_equations' g_goalCount' : Int32) (b_trace' b_choiceDepths' b_choiceNexts' b_code' b_link' b_compound' b_finite' b_left' b_right' b_goals' b_atomPlace' : Nat → Int32), wm_YD cs ln st d q so sp sl cd cx (wm_Fn a_nodeFn') (wm_Gn a_nodeArg') g_status' g_depth' g_choiceCount' g_solutions' g_steps' g_goalCount' b_trace' b_choiceDepths' b_choiceNexts' b_code' b_link' b_goals' → postY (nI st) (g_clauseCap, g_heapCap, g_frameCap, g_choiceCap, g_draftCount, g_clauses, g_queryCount, g_status', g_depth', g_choiceCount', g_solutions', g_steps', g_complete, g_compoundCount', g_equations', g_goalCount', b_draft, b_clauseCodes, b_clauseLength, b_query, b_trace', b_choiceDepths', b_choiceNexts', b_code', b_link', b_compound', b_finite', b_left', b_right', b_goals', b_atomPlace', b_stack, b_seen)) → wY_run_19 postY (nI mo) (mo + 1) 0 g_clauseCap g_heapCap g_frameCap g_choiceCap g_draftCount g_clauses g_queryCount g_status g_depth g_choiceCount g_solutions g_steps g_complete g_compoundCount g_equations g_goalCount b_draft b_clauseCodes b_clauseLength b_query b_trace b_choiceDepths b_choiceNexts b_code b_link b_compound b_finite b_left b_right b_goals b_atomPlace b_stack b_seen) → post (nI st) (f_clauseCap, f_heapCap, f_frameCap, f_choiceCap, f_querySlot, f_firstNode, f_draftLen, f_draftOpen, f_draftAtoms, f_programUsed, f_clauses, f_trailLen', f_depth', f_choiceCount', f_status', f_solutions', f_steps', f_complete, f_pairTop', f_writeTop, f_answerLen', f_goalLen', a_draft, a_code, a_skip, a_local, a_slotStart, a_slotLen, a_slotAtoms, a_slotVars, a_slotNodes, a_slotWeight, a_slotKey, a_atomPlace, a_nodeFn', a_nodeLink', a_nodeArg', a_trail', a_frameSlot', a_frameBase', a_contFrame', a_contAtom', a_selFrame', a_selAtom', a_nodeTop', a_trailAt', a_heapAt', a_pendingAt', a_choiceDepth', a_choiceNext', a_pairLeft', a_pairRight', a_colour', a_dfsNode', a_dfsArg', a_writing, a_writeStack, a_varNumber)) :
    ∀ (r i fuel : Nat) (st d q : Nat) (so sp : Int32) (sl ta t cd cx : Nat → Nat) (f_trailLen f_depth f_choiceCount f_status f_solutions f_steps f_pairTop f_answerLen f_goalLen : Int32) (a_nodeFn a_nodeLink a_nodeArg a_trail a_frameSlot a_frameBase a_contFrame a_contAtom a_selFrame a_selAtom a_nodeTop a_trailAt a_heapAt a_pendingAt a_choiceDepth a_choiceNext a_pairLeft a_pairRight a_colour a_dfsNode a_dfsArg : Nat → Int32), i + r = mo → r < fuel → wm_XD cs ln m hc fc kc st d q so sp sl ta t cd cx f_status f_depth f_choiceCount f_trailLen f_solutions f_steps f_answerLen f_goalLen a_choiceDepth a_choiceNext a_frameSlot a_frameBase a_nodeTop a_heapAt a_pendingAt a_trailAt a_contFrame a_contAtom a_selFrame a_selAtom a_nodeFn a_nodeLink a_nodeArg a_trail a_writing →
      (∀ postY : Int32 → SY → Prop, (∀ (g_status' g_depth' g_choiceCount' g_solutions' g_steps' g_compoundCount' g_equations' g_goalCount' : Int32) (b_trace' b_choiceDepths' b_choiceNexts' b_code' b_link' b_compound' b_finite' b_left' b_right' b_goals' b_atomPlace' : Nat → Int32), wm_YD cs ln st d q so sp sl cd cx (wm_Fn a_nodeFn) (wm_Gn a_nodeArg) g_status' g_depth' g_choiceCount' g_solutions' g_steps' g_goalCount' b_trace' b_choiceDepths' b_choiceNexts' b_code' b_link' b_goals' → wY_run_19 postY (nI mo) (mo + 1 - i) (nI i) g_clauseCap g_heapCap g_frameCap g_choiceCap g_draftCount g_clauses g_queryCount g_status' g_depth' g_choiceCount' g_solutions' g_steps' g_complete g_compoundCount' g_equations' g_goalCount' b_draft b_clauseCodes b_clauseLength b_query b_trace' b_choiceDepths' b_choiceNexts' b_code' b_link' b_compound' b_finite' b_left' b_right' b_goals' b_atomPlace' b_stack b_seen) → wY_run_19 postY (nI mo) (mo + 1) 0 g_clauseCap g_heapCap g_frameCap g_choiceCap g_draftCount g_clauses g_queryCount g_status g_depth g_choiceCount g_solutions g_steps g_complete g_compoundCount g_equations g_goalCount b_draft b_clauseCodes b_clauseLength b_query b_trace b_choiceDepths b_choiceNexts b_code b_link b_compound b_finite b_left b_right b_goals b_atomPlace b_stack b_seen) →
      wX_run_11 post (nI mo) fuel (nI i) f_clauseCap f_heapCap f_frameCap f_choiceCap f_querySlot f_firstNode f_draftLen f_draftOpen f_draftAtoms f_programUsed f_clauses f_trailLen f_depth f_choiceCount f_status f_solutions f_steps f_complete f_pairTop f_writeTop f_answerLen f_goalLen a_draft a_code a_skip a_local a_slotStart a_slotLen a_slotAtoms a_slotVars a_slotNodes a_slotWeight a_slotKey a_atomPlace a_nodeFn a_nodeLink a_nodeArg a_trail a_frameSlot a_frameBase a_contFrame a_contAtom a_selFrame a_selAtom a_nodeTop a_trailAt a_heapAt a_pendingAt a_choiceDepth a_choiceNext a_pairLeft a_pairRight a_colour a_dfsNode a_dfsArg a_writing a_writeStack a_varNumber := by
  intro r
  induction r with
  | zero =>
    intro i fuel st d q so sp sl ta t cd cx f_trailLen f_depth f_choiceCount f_status f_solutions f_steps f_pairTop f_answerLen f_goalLen a_nodeFn a_nodeLink a_nodeArg a_trail a_frameSlot a_frameBase a_contFrame a_contAtom a_selFrame a_selAtom a_nodeTop a_trailAt a_heapAt a_pendingAt a_choiceDepth a_choiceNext a_pairLeft a_pairRight a_colour a_dfsNode a_dfsArg hi hf hX hY
    obtain ⟨fuel, rfl⟩ : ∃ z, fuel = z + 1 := ⟨fuel - 1, by omega⟩
    refine wm_leT mo i (by omega) ?_
    rw [hX.1.2.1]
    have hst : f_status = nI st := hX.1.2.1
    subst hst
    refine hfin st d q so sp sl ta t cd cx _ _ _ _ _ _ _ _ _ _ _ _ _ _ _ _ _ _ _ _ _ _ _ _ _ _ _ _ _ _ hX (fun postY hp => hY postY (fun g_status' g_depth' g_choiceCount' g_solutions' g_steps' g_compoundCount' g_equations' g_goalCount' b_trace' b_choiceDepths' b_choiceNexts' b_code' b_link' b_compound' b_finite' b_left' b_right' b_goals' b_atomPlace' hD => ?_))
    rw [show mo + 1 - i = 0 + 1 by omega]
    refine wm_leT mo i (by omega) ?_
    have e' : g_status' = nI st := hD.1.1
    subst e'
    exact hp _ _ _ _ _ _ _ _ _ _ _ _ _ _ _ _ _ _ _ hD
  | succ r ih =>
    intro i fuel st d q so sp sl ta t cd cx f_trailLen f_depth f_choiceCount f_status f_solutions f_steps f_pairTop f_answerLen f_goalLen a_nodeFn a_nodeLink a_nodeArg a_trail a_frameSlot a_frameBase a_contFrame a_contAtom a_selFrame a_selAtom a_nodeTop a_trailAt a_heapAt a_pendingAt a_choiceDepth a_choiceNext a_pairLeft a_pairRight a_colour a_dfsNode a_dfsArg hi hf hX hY
    obtain ⟨fuel, rfl⟩ : ∃ z, fuel = z + 1 := ⟨fuel - 1, by omega⟩
    have hst : f_status = nI st := hX.1.2.1
    have st6 := hX.1.1
    refine wm_leF mo i (by omega) ?_
    refine pk_eq st 1 (fun e => ?_) (fun e => ?_) hst
    · subst e
      refine wz_step (d := d) (q := q) (so := so) (sp := sp) (sl := sl) (ta := ta) (t := t) (cd := cd) (cx := cx) hS hm hcl e1 e2 e3 b1 b2 b3 hX (fun st' d' q' so' sp' sl' ta' t' cd' cx' f_trailLen' f_depth' f_choiceCount' f_status' f_solutions' f_steps' f_pairTop' f_answerLen' f_goalLen' a_nodeFn' a_nodeLink' a_nodeArg' a_trail' a_frameSlot' a_frameBase' a_contFrame' a_contAtom' a_selFrame' a_selAtom' a_nodeTop' a_trailAt' a_heapAt' a_pendingAt' a_choiceDepth' a_choiceNext' a_pairLeft' a_pairRight' a_colour' a_dfsNode' a_dfsArg' hX' hK => nm_r (nI_1 i) ?_)
      refine ih (i + 1) fuel st' d' q' so' sp' sl' ta' t' cd' cx' f_trailLen' f_depth' f_choiceCount' f_status' f_solutions' f_steps' f_pairTop' f_answerLen' f_goalLen' a_nodeFn' a_nodeLink' a_nodeArg' a_trail' a_frameSlot' a_frameBase' a_contFrame' a_contAtom' a_selFrame' a_selAtom' a_nodeTop' a_trailAt' a_heapAt' a_pendingAt' a_choiceDepth' a_choiceNext' a_pairLeft' a_pairRight' a_colour' a_dfsNode' a_dfsArg' (by omega) (by omega) hX' (fun postY hp => hY postY (fun g_status' g_depth' g_choiceCount' g_solutions' g_steps' g_compoundCount' g_equations' g_goalCount' b_trace' b_choiceDepths' b_choiceNexts' b_code' b_link' b_compound' b_finite' b_left' b_right' b_goals' b_atomPlace' hD => ?_))
      rw [show mo + 1 - i = (mo + 1 - (i + 1)) + 1 by omega]
      refine wm_leF mo i (by omega) (wm_eqT 1 1 rfl ?_ hD.1.1)
      refine hK _ _ _ _ _ _ _ _ _ _ _ _ _ _ _ _ _ _ _ _ _ _ _ _ _ _ _ _ _ _ _ _ _ hSy hD _ ?_
      intro s1 s2 s3 s4 s5 s6 s7 s8 r1 r2 r3 r4 r5 r6 r7 r8 r9 r10 r11 hD'
      exact nm_r (nI_1 i) (hp s1 s2 s3 s4 s5 s6 s7 s8 r1 r2 r3 r4 r5 r6 r7 r8 r9 r10 r11 hD')
    · rw [hst]
      subst hst
      refine hfin st d q so sp sl ta t cd cx _ _ _ _ _ _ _ _ _ _ _ _ _ _ _ _ _ _ _ _ _ _ _ _ _ _ _ _ _ _ hX (fun postY hp => hY postY (fun g_status' g_depth' g_choiceCount' g_solutions' g_steps' g_compoundCount' g_equations' g_goalCount' b_trace' b_choiceDepths' b_choiceNexts' b_code' b_link' b_compound' b_finite' b_left' b_right' b_goals' b_atomPlace' hD => ?_))
      rw [show mo + 1 - i = (mo + 1 - (i + 1)) + 1 by omega]
      refine wm_leF mo i (by omega) (wm_eqF st 1 e ?_ hD.1.1)
      have e' : g_status' = nI st := hD.1.1
      subst e'
      exact hp _ _ _ _ _ _ _ _ _ _ _ _ _ _ _ _ _ _ _ hD
end
end
section
/-! owed: next, prune, run -/
theorem i_vc_next {k : Nat} {u : SX} {v : SY} (I : i_Rel k u v) (hk : k + 5 ≤ 2564) : wpX_next (fun r u' => wpY_next (fun r' v' => r' = r ∧ i_Rel (k + 5) u' v') v) u := by
  refine wm_el (P := fun u v => wpX_next (fun r u' => wpY_next (fun r' v' => r' = r ∧ i_Rel (k + 5) u' v') v) u) ?_ I
  intro f_clauseCap f_heapCap f_frameCap f_choiceCap f_querySlot f_firstNode f_draftLen f_draftOpen f_draftAtoms f_programUsed f_clauses f_trailLen f_depth f_choiceCount f_status f_solutions f_steps f_complete f_pairTop f_writeTop f_answerLen f_goalLen a_draft a_code a_skip a_local a_slotStart a_slotLen a_slotAtoms a_slotVars a_slotNodes a_slotWeight a_slotKey a_atomPlace a_nodeFn a_nodeLink a_nodeArg a_trail a_frameSlot a_frameBase a_contFrame a_contAtom a_selFrame a_selAtom a_nodeTop a_trailAt a_heapAt a_pendingAt a_choiceDepth a_choiceNext a_pairLeft a_pairRight a_colour a_dfsNode a_dfsArg a_writing a_writeStack a_varNumber g_clauseCap g_heapCap g_frameCap g_choiceCap g_draftCount g_clauses g_queryCount g_status g_depth g_choiceCount g_solutions g_steps g_complete g_compoundCount g_equations g_goalCount b_draft b_clauseCodes b_clauseLength b_query b_trace b_choiceDepths b_choiceNexts b_code b_link b_compound b_finite b_left b_right b_goals b_atomPlace b_stack b_seen cc hc fc kc dl m st d q so sp dc ln ps sl ta t cd cx cs h1 h2 h3 h4 h5 h6 h7 h8 h9
  have R : i_Rel (k + 5) (f_clauseCap, f_heapCap, f_frameCap, f_choiceCap, f_querySlot, f_firstNode, f_draftLen, f_draftOpen, f_draftAtoms, f_programUsed, f_clauses, f_trailLen, f_depth, f_choiceCount, f_status, f_solutions, f_steps, f_complete, f_pairTop, f_writeTop, f_answerLen, f_goalLen, a_draft, a_code, a_skip, a_local, a_slotStart, a_slotLen, a_slotAtoms, a_slotVars, a_slotNodes, a_slotWeight, a_slotKey, a_atomPlace, a_nodeFn, a_nodeLink, a_nodeArg, a_trail, a_frameSlot, a_frameBase, a_contFrame, a_contAtom, a_selFrame, a_selAtom, a_nodeTop, a_trailAt, a_heapAt, a_pendingAt, a_choiceDepth, a_choiceNext, a_pairLeft, a_pairRight, a_colour, a_dfsNode, a_dfsArg, a_writing, a_writeStack, a_varNumber) (g_clauseCap, g_heapCap, g_frameCap, g_choiceCap, g_draftCount, g_clauses, g_queryCount, g_status, g_depth, g_choiceCount, g_solutions, g_steps, g_complete, g_compoundCount, g_equations, g_goalCount, b_draft, b_clauseCodes, b_clauseLength, b_query, b_trace, b_choiceDepths, b_choiceNexts, b_code, b_link, b_compound, b_finite, b_left, b_right, b_goals, b_atomPlace, b_stack, b_seen) := wm_in h1 h2 h3 h4 h5 h6 h7 h8 h9
  have st6 := h8.1.1
  refine pk_eq st 2 (fun e => ?_) (fun e => wm_eqF st 2 e (And.intro rfl R) h9.1.1) h8.1.2.1
  subst e
  have hlv : wm_lv 2 := ⟨by omega, by omega⟩
  have hQ := h6 (by omega)
  obtain ⟨⟨-, hst, hso, hsp⟩, hcn, -, hl⟩ := h8
  obtain ⟨⟨pd, pq', pT, p0, psl, php, pCH, pst⟩, ⟨xd, xq, xtl, xch, xF, xC, xN, xR⟩, xWA, xWG⟩ := hl hlv
  refine wz_fail (t := t) (tl := ta d) (so := so) (sp := sp) h1.2.2.2.2.1 h1.2.2.2.2.2 h1.2.2.2.1 pd pq' pT p0 psl php pCH xq xch xF xC xN xR xtl hso hsp (fun st' d' f_trailLen' f_depth' f_choiceCount' f_status' f_solutions' f_steps' f_pairTop' f_answerLen' f_goalLen' a_nodeFn' a_nodeLink' a_nodeArg' a_trail' a_frameSlot' a_frameBase' a_contFrame' a_contAtom' a_selFrame' a_selAtom' a_nodeTop' a_trailAt' a_heapAt' a_pendingAt' a_choiceDepth' a_choiceNext' a_pairLeft' a_pairRight' a_colour' a_dfsNode' a_dfsArg' hXD hYF => ?_)
  obtain ⟨v1, v2, v3, v4, -⟩ := h9.2 hlv
  refine wm_eqT 2 2 rfl ?_ h9.1.1
  refine hYF _ _ _ _ _ _ _ _ _ _ _ _ _ _ _ _ _ _ _ _ _ _ _ _ _ _ _ _ _ _ _ _ _ (wm_sys_of h1 h5 hQ) v2 v4 v3 h9.1.2.1 h9.1.2.2 _ ?_
  intro g_status' g_depth' g_choiceCount' g_solutions' g_steps' g_compoundCount' g_equations' g_goalCount' b_trace' b_choiceDepths' b_choiceNexts' b_code' b_link' b_compound' b_finite' b_left' b_right' b_goals' b_atomPlace' hYD
  exact And.intro (hYD.1.1.trans hXD.1.2.1.symm) (wm_in h1 h2 h3 h4 h5 (fun _ => hQ) h7 hXD hYD)
theorem i_vc_prune {k : Nat} {u : SX} {v : SY} (I : i_Rel k u v) (hk : k + 5 ≤ 2564) : wpX_prune (fun r u' => wpY_prune (fun r' v' => r' = r ∧ i_Rel (k + 5) u' v') v) u := by
  refine wm_el (P := fun u v => wpX_prune (fun r u' => wpY_prune (fun r' v' => r' = r ∧ i_Rel (k + 5) u' v') v) u) ?_ I
  intro f_clauseCap f_heapCap f_frameCap f_choiceCap f_querySlot f_firstNode f_draftLen f_draftOpen f_draftAtoms f_programUsed f_clauses f_trailLen f_depth f_choiceCount f_status f_solutions f_steps f_complete f_pairTop f_writeTop f_answerLen f_goalLen a_draft a_code a_skip a_local a_slotStart a_slotLen a_slotAtoms a_slotVars a_slotNodes a_slotWeight a_slotKey a_atomPlace a_nodeFn a_nodeLink a_nodeArg a_trail a_frameSlot a_frameBase a_contFrame a_contAtom a_selFrame a_selAtom a_nodeTop a_trailAt a_heapAt a_pendingAt a_choiceDepth a_choiceNext a_pairLeft a_pairRight a_colour a_dfsNode a_dfsArg a_writing a_writeStack a_varNumber g_clauseCap g_heapCap g_frameCap g_choiceCap g_draftCount g_clauses g_queryCount g_status g_depth g_choiceCount g_solutions g_steps g_complete g_compoundCount g_equations g_goalCount b_draft b_clauseCodes b_clauseLength b_query b_trace b_choiceDepths b_choiceNexts b_code b_link b_compound b_finite b_left b_right b_goals b_atomPlace b_stack b_seen cc hc fc kc dl m st d q so sp dc ln ps sl ta t cd cx cs h1 h2 h3 h4 h5 h6 h7 h8 h9
  have R : i_Rel (k + 5) (f_clauseCap, f_heapCap, f_frameCap, f_choiceCap, f_querySlot, f_firstNode, f_draftLen, f_draftOpen, f_draftAtoms, f_programUsed, f_clauses, f_trailLen, f_depth, f_choiceCount, f_status, f_solutions, f_steps, f_complete, f_pairTop, f_writeTop, f_answerLen, f_goalLen, a_draft, a_code, a_skip, a_local, a_slotStart, a_slotLen, a_slotAtoms, a_slotVars, a_slotNodes, a_slotWeight, a_slotKey, a_atomPlace, a_nodeFn, a_nodeLink, a_nodeArg, a_trail, a_frameSlot, a_frameBase, a_contFrame, a_contAtom, a_selFrame, a_selAtom, a_nodeTop, a_trailAt, a_heapAt, a_pendingAt, a_choiceDepth, a_choiceNext, a_pairLeft, a_pairRight, a_colour, a_dfsNode, a_dfsArg, a_writing, a_writeStack, a_varNumber) (g_clauseCap, g_heapCap, g_frameCap, g_choiceCap, g_draftCount, g_clauses, g_queryCount, g_status, g_depth, g_choiceCount, g_solutions, g_steps, g_complete, g_compoundCount, g_equations, g_goalCount, b_draft, b_clauseCodes, b_clauseLength, b_query, b_trace, b_choiceDepths, b_choiceNexts, b_code, b_link, b_compound, b_finite, b_left, b_right, b_goals, b_atomPlace, b_stack, b_seen) := wm_in h1 h2 h3 h4 h5 h6 h7 h8 h9
  have st6 := h8.1.1
  unfold wpX_prune wpY_prune
  refine wx_hasGoal h8.1.2.1 st6 (fun hlv hn2 => ?_) (fun hn => ?_)
  · have hQ := h6 hlv.1
    obtain ⟨⟨-, hst, hso, hsp⟩, hcn, -, hl⟩ := h8
    obtain ⟨⟨pd, pq', pT, p0, psl, php, pCH, pst⟩, ⟨xd, xq, xtl, xch, xF, xC, xN, xR⟩, xWA, xWG⟩ := hl hlv
    obtain ⟨v1, v2, v3, v4, -⟩ := h9.2 hlv
    have b1 := h1.2.2.2.2.1
    have b3 := h1.2.2.2.2.2
    have hcd : ∀ i, i < q → cd i ≤ 128 := fun i hi => by have := (pCH.1 i hi).1; omega
    refine wm_eqF 1 0 (by omega) ?_
    refine wx_isRetrying (cd := cd) xd (by omega) xq (by omega) (fun i hi => (xch i hi).1) hcd (fun hr => ?_) (fun hr => ?_)
    · obtain ⟨p, rfl, hpd⟩ := hr
      refine wm_eqF 1 0 (by omega) (nm_r (e' := nI p) (by rw [xq, nI_pred]) ?_)
      unfold wX_prune_32
      refine wz_fail (q := p) (t := t) (tl := ta d) (so := so) (sp := sp) b1 b3 h1.2.2.2.1 pd (by omega) pT p0 psl php ⟨fun i hi => pCH.1 i (by omega), fun i i' a b => pCH.2 i i' a (by omega)⟩ rfl (fun i hi => xch i (by omega)) xF xC xN xR xtl hso hsp (fun st' d' f_trailLen' f_depth' f_choiceCount' f_status' f_solutions' f_steps' f_pairTop' f_answerLen' f_goalLen' a_nodeFn' a_nodeLink' a_nodeArg' a_trail' a_frameSlot' a_frameBase' a_contFrame' a_contAtom' a_selFrame' a_selAtom' a_nodeTop' a_trailAt' a_heapAt' a_pendingAt' a_choiceDepth' a_choiceNext' a_pairLeft' a_pairRight' a_colour' a_dfsNode' a_dfsArg' hXD hYF => ?_)
      refine wy_hasGoal h9.1.1 st6 (fun _ _ => ?_) (fun hn => absurd ⟨hlv, hn2⟩ hn)
      refine wm_eqF 1 0 (by omega) ?_
      refine wy_retrying (cd := cd) v1 (by omega) v2 (by omega) (fun i hi => (v4 i hi).1) hcd (fun _ => ?_) (fun h => absurd ⟨p, rfl, hpd⟩ h)
      refine wm_eqF 1 0 (by omega) (nm_r (e' := nI p) (by rw [v2, nI_pred]) ?_)
      unfold wY_prune_36
      refine hYF _ _ _ _ _ _ _ _ _ _ _ _ _ _ _ _ _ _ _ _ _ _ _ _ _ _ _ _ _ _ _ _ _ (wm_sys_of h1 h5 hQ) rfl (fun i hi => v4 i (by omega)) v3 h9.1.2.1 h9.1.2.2 _ ?_
      intro g_status' g_depth' g_choiceCount' g_solutions' g_steps' g_compoundCount' g_equations' g_goalCount' b_trace' b_choiceDepths' b_choiceNexts' b_code' b_link' b_compound' b_finite' b_left' b_right' b_goals' b_atomPlace' hYD
      exact And.intro (hYD.1.1.trans hXD.1.2.1.symm) (wm_in h1 h2 h3 h4 h5 (fun _ => hQ) ⟨rfl, Or.inl rfl⟩ hXD hYD)
    · refine wm_eqT 0 0 rfl ?_
      unfold wX_prune_32
      refine wz_fail (q := q) (t := t) (tl := ta d) (so := so) (sp := sp) b1 b3 h1.2.2.2.1 pd pq' pT p0 psl php pCH xq xch xF xC xN xR xtl hso hsp (fun st' d' f_trailLen' f_depth' f_choiceCount' f_status' f_solutions' f_steps' f_pairTop' f_answerLen' f_goalLen' a_nodeFn' a_nodeLink' a_nodeArg' a_trail' a_frameSlot' a_frameBase' a_contFrame' a_contAtom' a_selFrame' a_selAtom' a_nodeTop' a_trailAt' a_heapAt' a_pendingAt' a_choiceDepth' a_choiceNext' a_pairLeft' a_pairRight' a_colour' a_dfsNode' a_dfsArg' hXD hYF => ?_)
      refine wy_hasGoal h9.1.1 st6 (fun _ _ => ?_) (fun hn => absurd ⟨hlv, hn2⟩ hn)
      refine wm_eqF 1 0 (by omega) ?_
      refine wy_retrying (cd := cd) v1 (by omega) v2 (by omega) (fun i hi => (v4 i hi).1) hcd (fun h => absurd h hr) (fun _ => ?_)
      refine wm_eqT 0 0 rfl ?_
      unfold wY_prune_36
      refine hYF _ _ _ _ _ _ _ _ _ _ _ _ _ _ _ _ _ _ _ _ _ _ _ _ _ _ _ _ _ _ _ _ _ (wm_sys_of h1 h5 hQ) v2 v4 v3 h9.1.2.1 h9.1.2.2 _ ?_
      intro g_status' g_depth' g_choiceCount' g_solutions' g_steps' g_compoundCount' g_equations' g_goalCount' b_trace' b_choiceDepths' b_choiceNexts' b_code' b_link' b_compound' b_finite' b_left' b_right' b_goals' b_atomPlace' hYD
      exact And.intro (hYD.1.1.trans hXD.1.2.1.symm) (wm_in h1 h2 h3 h4 h5 (fun _ => hQ) ⟨rfl, Or.inl rfl⟩ hXD hYD)
  · refine wm_eqT 0 0 rfl ?_
    exact wy_hasGoal h9.1.1 st6 (fun hlv hn2 => absurd ⟨hlv, hn2⟩ hn) (fun _ => wm_eqT 0 0 rfl (And.intro rfl R))
theorem i_vc_run {k : Nat} {u : SX} {v : SY} (I : i_Rel k u v) (hk : k + 5 ≤ 2564) (v1 : Int32) : wpX_run (fun r u' => wpY_run (fun r' v' => r' = r ∧ i_Rel (k + 5) u' v') v v1) u v1 := by
  refine wm_el (P := fun u v => wpX_run (fun r u' => wpY_run (fun r' v' => r' = r ∧ i_Rel (k + 5) u' v') v v1) u v1) ?_ I
  intro f_clauseCap f_heapCap f_frameCap f_choiceCap f_querySlot f_firstNode f_draftLen f_draftOpen f_draftAtoms f_programUsed f_clauses f_trailLen f_depth f_choiceCount f_status f_solutions f_steps f_complete f_pairTop f_writeTop f_answerLen f_goalLen a_draft a_code a_skip a_local a_slotStart a_slotLen a_slotAtoms a_slotVars a_slotNodes a_slotWeight a_slotKey a_atomPlace a_nodeFn a_nodeLink a_nodeArg a_trail a_frameSlot a_frameBase a_contFrame a_contAtom a_selFrame a_selAtom a_nodeTop a_trailAt a_heapAt a_pendingAt a_choiceDepth a_choiceNext a_pairLeft a_pairRight a_colour a_dfsNode a_dfsArg a_writing a_writeStack a_varNumber g_clauseCap g_heapCap g_frameCap g_choiceCap g_draftCount g_clauses g_queryCount g_status g_depth g_choiceCount g_solutions g_steps g_complete g_compoundCount g_equations g_goalCount b_draft b_clauseCodes b_clauseLength b_query b_trace b_choiceDepths b_choiceNexts b_code b_link b_compound b_finite b_left b_right b_goals b_atomPlace b_stack b_seen cc hc fc kc dl m st d q so sp dc ln ps sl ta t cd cx cs h1 h2 h3 h4 h5 h6 h7 h8 h9
  have R : i_Rel (k + 5) (f_clauseCap, f_heapCap, f_frameCap, f_choiceCap, f_querySlot, f_firstNode, f_draftLen, f_draftOpen, f_draftAtoms, f_programUsed, f_clauses, f_trailLen, f_depth, f_choiceCount, f_status, f_solutions, f_steps, f_complete, f_pairTop, f_writeTop, f_answerLen, f_goalLen, a_draft, a_code, a_skip, a_local, a_slotStart, a_slotLen, a_slotAtoms, a_slotVars, a_slotNodes, a_slotWeight, a_slotKey, a_atomPlace, a_nodeFn, a_nodeLink, a_nodeArg, a_trail, a_frameSlot, a_frameBase, a_contFrame, a_contAtom, a_selFrame, a_selAtom, a_nodeTop, a_trailAt, a_heapAt, a_pendingAt, a_choiceDepth, a_choiceNext, a_pairLeft, a_pairRight, a_colour, a_dfsNode, a_dfsArg, a_writing, a_writeStack, a_varNumber) (g_clauseCap, g_heapCap, g_frameCap, g_choiceCap, g_draftCount, g_clauses, g_queryCount, g_status, g_depth, g_choiceCount, g_solutions, g_steps, g_complete, g_compoundCount, g_equations, g_goalCount, b_draft, b_clauseCodes, b_clauseLength, b_query, b_trace, b_choiceDepths, b_choiceNexts, b_code, b_link, b_compound, b_finite, b_left, b_right, b_goals, b_atomPlace, b_stack, b_seen) := wm_in h1 h2 h3 h4 h5 h6 h7 h8 h9
  have st6 := h8.1.1
  obtain ⟨mo, hmo, hcx, hcy⟩ : ∃ mo : Nat, mo ≤ 64 ∧ (∀ post : Int32 → Prop, post (nI mo) → wpX_clamp post (f_clauseCap, f_heapCap, f_frameCap, f_choiceCap, f_querySlot, f_firstNode, f_draftLen, f_draftOpen, f_draftAtoms, f_programUsed, f_clauses, f_trailLen, f_depth, f_choiceCount, f_status, f_solutions, f_steps, f_complete, f_pairTop, f_writeTop, f_answerLen, f_goalLen, a_draft, a_code, a_skip, a_local, a_slotStart, a_slotLen, a_slotAtoms, a_slotVars, a_slotNodes, a_slotWeight, a_slotKey, a_atomPlace, a_nodeFn, a_nodeLink, a_nodeArg, a_trail, a_frameSlot, a_frameBase, a_contFrame, a_contAtom, a_selFrame, a_selAtom, a_nodeTop, a_trailAt, a_heapAt, a_pendingAt, a_choiceDepth, a_choiceNext, a_pairLeft, a_pairRight, a_colour, a_dfsNode, a_dfsArg, a_writing, a_writeStack, a_varNumber) v1 0 64) ∧ (∀ post : Int32 → SY → Prop, (∃ n, wY_run_19 post (nI mo) n 0 g_clauseCap g_heapCap g_frameCap g_choiceCap g_draftCount g_clauses g_queryCount g_status g_depth g_choiceCount g_solutions g_steps g_complete g_compoundCount g_equations g_goalCount b_draft b_clauseCodes b_clauseLength b_query b_trace b_choiceDepths b_choiceNexts b_code b_link b_compound b_finite b_left b_right b_goals b_atomPlace b_stack b_seen) → wpY_run post (g_clauseCap, g_heapCap, g_frameCap, g_choiceCap, g_draftCount, g_clauses, g_queryCount, g_status, g_depth, g_choiceCount, g_solutions, g_steps, g_complete, g_compoundCount, g_equations, g_goalCount, b_draft, b_clauseCodes, b_clauseLength, b_query, b_trace, b_choiceDepths, b_choiceNexts, b_code, b_link, b_compound, b_finite, b_left, b_right, b_goals, b_atomPlace, b_stack, b_seen) v1) := by
    by_cases z0 : v1 < 0
    · have z0' : ¬ (0 : Int32) ≤ v1 := fun h => absurd z0 (Int32.not_lt.mpr h)
      exact ⟨0, by omega, fun post hp => br_f z0' hp, fun post hp => br_f z0' (wm_leT 0 64 (by omega) hp)⟩
    · have z0' : (0 : Int32) ≤ v1 := Int32.not_lt.mp z0
      obtain ⟨j, hj, rfl⟩ := nI_of z0
      rcases Nat.lt_or_ge 64 j with z | z
      · exact ⟨64, by omega, fun post hp => br_t z0' (wm_leF j 64 z hp), fun post hp => br_t z0' (wm_leF j 64 z hp)⟩
      · exact ⟨j, z, fun post hp => br_t z0' (wm_leT j 64 z hp), fun post hp => br_t z0' (wm_leT j 64 z hp)⟩
  unfold wpX_run
  refine hcx _ ?_
  by_cases hz : st = 0
  · refine ⟨1, ?_⟩
    have hst : f_status = nI st := h8.1.2.1
    have key : wpY_run (fun r' v' => r' = f_status ∧ i_Rel (k + 5) (f_clauseCap, f_heapCap, f_frameCap, f_choiceCap, f_querySlot, f_firstNode, f_draftLen, f_draftOpen, f_draftAtoms, f_programUsed, f_clauses, f_trailLen, f_depth, f_choiceCount, f_status, f_solutions, f_steps, f_complete, f_pairTop, f_writeTop, f_answerLen, f_goalLen, a_draft, a_code, a_skip, a_local, a_slotStart, a_slotLen, a_slotAtoms, a_slotVars, a_slotNodes, a_slotWeight, a_slotKey, a_atomPlace, a_nodeFn, a_nodeLink, a_nodeArg, a_trail, a_frameSlot, a_frameBase, a_contFrame, a_contAtom, a_selFrame, a_selAtom, a_nodeTop, a_trailAt, a_heapAt, a_pendingAt, a_choiceDepth, a_choiceNext, a_pairLeft, a_pairRight, a_colour, a_dfsNode, a_dfsArg, a_writing, a_writeStack, a_varNumber) v') (g_clauseCap, g_heapCap, g_frameCap, g_choiceCap, g_draftCount, g_clauses, g_queryCount, g_status, g_depth, g_choiceCount, g_solutions, g_steps, g_complete, g_compoundCount, g_equations, g_goalCount, b_draft, b_clauseCodes, b_clauseLength, b_query, b_trace, b_choiceDepths, b_choiceNexts, b_code, b_link, b_compound, b_finite, b_left, b_right, b_goals, b_atomPlace, b_stack, b_seen) v1 := by
      refine hcy _ ⟨1, ?_⟩
      refine pk_le mo 0 (fun _ => ?_) (fun _ => wm_eqF st 1 (by omega) ?_ h9.1.1)
      · exact And.intro (h9.1.1.trans hst.symm) R
      · exact And.intro (h9.1.1.trans hst.symm) R
    exact pk_le mo 0 (fun _ => key) (fun _ => wm_eqF st 1 (by omega) key hst)
  · have hQ := h6 hz
    have hSy := wm_sys_of (g_draftCount := g_draftCount) (b_draft := b_draft) h1 h5 hQ
    refine ⟨mo + 1, wz_run (cs := cs) (ln := ln) (ss := wm_ss ps) (m := m) (hc := hc) (fc := fc) (kc := kc) (g_clauseCap := g_clauseCap) (g_heapCap := g_heapCap) (g_frameCap := g_frameCap) (g_choiceCap := g_choiceCap) (g_draftCount := g_draftCount) (g_clauses := g_clauses) (g_queryCount := g_queryCount) (g_status := g_status) (g_depth := g_depth) (g_choiceCount := g_choiceCount) (g_solutions := g_solutions) (g_steps := g_steps) (g_complete := g_complete) (g_compoundCount := g_compoundCount) (g_equations := g_equations) (g_goalCount := g_goalCount) (b_draft := b_draft) (b_clauseCodes := b_clauseCodes) (b_clauseLength := b_clauseLength) (b_query := b_query) (b_trace := b_trace) (b_choiceDepths := b_choiceDepths) (b_choiceNexts := b_choiceNexts) (b_code := b_code) (b_link := b_link) (b_compound := b_compound) (b_finite := b_finite) (b_left := b_left) (b_right := b_right) (b_goals := b_goals) (b_atomPlace := b_atomPlace) (b_stack := b_stack) (b_seen := b_seen) hmo (wm_sls_of h5 hQ) h5.2.2.2.1 h5.1.2.1 h1.1.2.2.1 h1.1.2.1 h1.1.2.2.2 h1.2.2.2.2.1 h1.2.2.2.1 h1.2.2.2.2.2 hSy ?_ mo 0 (mo + 1) st d q so sp sl ta t cd cx _ _ _ _ _ _ _ _ _ _ _ _ _ _ _ _ _ _ _ _ _ _ _ _ _ _ _ _ _ _ (by omega) (by omega) h8 (fun postY hp => hp _ _ _ _ _ _ _ _ _ _ _ _ _ _ _ _ _ _ _ h9)⟩
    intro st' d' q' so' sp' sl' ta' t' cd' cx' f_trailLen' f_depth' f_choiceCount' f_status' f_solutions' f_steps' f_pairTop' f_answerLen' f_goalLen' a_nodeFn' a_nodeLink' a_nodeArg' a_trail' a_frameSlot' a_frameBase' a_contFrame' a_contAtom' a_selFrame' a_selAtom' a_nodeTop' a_trailAt' a_heapAt' a_pendingAt' a_choiceDepth' a_choiceNext' a_pairLeft' a_pairRight' a_colour' a_dfsNode' a_dfsArg' hXD hrun
    refine hcy _ ⟨mo + 1, hrun _ ?_⟩
    intro g_status' g_depth' g_choiceCount' g_solutions' g_steps' g_compoundCount' g_equations' g_goalCount' b_trace' b_choiceDepths' b_choiceNexts' b_code' b_link' b_compound' b_finite' b_left' b_right' b_goals' b_atomPlace' hYD
    exact And.intro rfl (wm_in h1 h2 h3 h4 h5 (fun _ => hQ) h7 hXD hYD)
end
section
/-! owed: the constructors, feed, feed4 -/
def wm_clp (lo hi : Nat) (p : Int32) (c : Nat) : Prop := (nI lo ≤ p ∧ p ≤ nI hi ∧ p = nI c) ∨ (nI lo ≤ p ∧ ¬ p ≤ nI hi ∧ c = hi) ∨ (¬ nI lo ≤ p ∧ c = lo)
theorem wm_clp_ex {lo hi : Nat} (p : Int32) (h : lo ≤ hi) (hb : hi < 2 ^ 31) : ∃ c, c ≤ hi ∧ wm_clp lo hi p c := by
  by_cases a : nI lo ≤ p
  · by_cases b : p ≤ nI hi
    · have h0 : ¬ p < 0 := Int32.not_lt.mpr (Int32.le_trans (nI_pos' (by omega)) a)
      obtain ⟨j, hj, rfl⟩ := nI_of h0
      exact ⟨j, (nI_leI hj hb).mp b, Or.inl ⟨a, b, rfl⟩⟩
    · exact ⟨hi, Nat.le_refl _, Or.inr (Or.inl ⟨a, b, rfl⟩)⟩
  · exact ⟨lo, h, Or.inr (Or.inr ⟨a, rfl⟩)⟩
theorem wm_clp_y {lo hi c : Nat} {p l h : Int32} {A : Int32 → Prop} (hc : wm_clp lo hi p c) (el : l = nI lo) (eh : h = nI hi) (hA : A (nI c)) : (l ≤ p → ((p ≤ h → A p) ∧ (¬ p ≤ h → A h))) ∧ (¬ l ≤ p → A l) := by
  subst el eh
  rcases hc with ⟨a, b, e⟩ | ⟨a, b, e⟩ | ⟨a, e⟩
  · subst e; exact br_t a (br_t b hA)
  · subst e; exact br_t a (br_f b hA)
  · subst e; exact br_f a hA
section
variable {f_clauseCap f_heapCap f_frameCap f_choiceCap f_querySlot f_firstNode f_draftLen f_draftOpen f_draftAtoms f_programUsed f_clauses f_trailLen f_depth f_choiceCount f_status f_solutions f_steps f_complete f_pairTop f_writeTop f_answerLen f_goalLen : Int32} {a_draft a_code a_skip a_local a_slotStart a_slotLen a_slotAtoms a_slotVars a_slotNodes a_slotWeight a_slotKey a_atomPlace a_nodeFn a_nodeLink a_nodeArg a_trail a_frameSlot a_frameBase a_contFrame a_contAtom a_selFrame a_selAtom a_nodeTop a_trailAt a_heapAt a_pendingAt a_choiceDepth a_choiceNext a_pairLeft a_pairRight a_colour a_dfsNode a_dfsArg a_writing a_writeStack a_varNumber : Nat → Int32}
theorem wx_clp {post : Int32 → Prop} {lo hi c : Nat} {p l h : Int32} (hc : wm_clp lo hi p c) (el : l = nI lo) (eh : h = nI hi) (hp : post (nI c)) : wpX_clamp post (f_clauseCap, f_heapCap, f_frameCap, f_choiceCap, f_querySlot, f_firstNode, f_draftLen, f_draftOpen, f_draftAtoms, f_programUsed, f_clauses, f_trailLen, f_depth, f_choiceCount, f_status, f_solutions, f_steps, f_complete, f_pairTop, f_writeTop, f_answerLen, f_goalLen, a_draft, a_code, a_skip, a_local, a_slotStart, a_slotLen, a_slotAtoms, a_slotVars, a_slotNodes, a_slotWeight, a_slotKey, a_atomPlace, a_nodeFn, a_nodeLink, a_nodeArg, a_trail, a_frameSlot, a_frameBase, a_contFrame, a_contAtom, a_selFrame, a_selAtom, a_nodeTop, a_trailAt, a_heapAt, a_pendingAt, a_choiceDepth, a_choiceNext, a_pairLeft, a_pairRight, a_colour, a_dfsNode, a_dfsArg, a_writing, a_writeStack, a_varNumber) p l h := by
  subst el eh
  rcases hc with ⟨a, b, e⟩ | ⟨a, b, e⟩ | ⟨a, e⟩
  · subst e; exact br_t a (br_t b hp)
  · subst e; exact br_t a (br_f b hp)
  · subst e; exact br_f a hp
theorem wx_init_385 {post : SX → Prop} (hp : ∀ fn lk : Nat → Int32, (∀ c, c < 16 → fn c = nI c ∧ lk c = -1) → post (f_clauseCap, f_heapCap, f_frameCap, f_choiceCap, f_querySlot, f_firstNode, f_draftLen, f_draftOpen, f_draftAtoms, f_programUsed, f_clauses, f_trailLen, f_depth, f_choiceCount, 0, f_solutions, f_steps, 1, f_pairTop, f_writeTop, (-1), (-1), a_draft, a_code, a_skip, a_local, a_slotStart, a_slotLen, a_slotAtoms, a_slotVars, a_slotNodes, a_slotWeight, a_slotKey, a_atomPlace, fn, lk, a_nodeArg, a_trail, a_frameSlot, a_frameBase, a_contFrame, a_contAtom, a_selFrame, a_selAtom, a_nodeTop, a_trailAt, a_heapAt, a_pendingAt, a_choiceDepth, a_choiceNext, a_pairLeft, a_pairRight, a_colour, a_dfsNode, a_dfsArg, a_writing, a_writeStack, a_varNumber)) :
    ∀ (m i : Nat) (a_nodeFn a_nodeLink : Nat → Int32), i ≤ 272 → 272 < m + i → (∀ c, c < 16 → c < i → a_nodeFn c = nI c ∧ a_nodeLink c = -1) → wX_init_385 post f_clauseCap f_heapCap f_frameCap f_choiceCap f_querySlot f_firstNode f_draftLen f_draftOpen f_draftAtoms f_programUsed f_clauses f_trailLen f_depth f_choiceCount f_status f_solutions f_steps f_complete f_pairTop f_writeTop f_answerLen f_goalLen m (nI i) a_draft a_code a_skip a_local a_slotStart a_slotLen a_slotAtoms a_slotVars a_slotNodes a_slotWeight a_slotKey a_atomPlace a_nodeFn a_nodeLink a_nodeArg a_trail a_frameSlot a_frameBase a_contFrame a_contAtom a_selFrame a_selAtom a_nodeTop a_trailAt a_heapAt a_pendingAt a_choiceDepth a_choiceNext a_pairLeft a_pairRight a_colour a_dfsNode a_dfsArg a_writing a_writeStack a_varNumber := by
  intro m
  induction m with
  | zero => intro i _ _ a b; omega
  | succ m ih =>
    intro i a_nodeFn a_nodeLink a b hz
    by_cases e : i = 272
    · subst e
      exact wm_leT 272 272 (Nat.le_refl _) (hp _ _ (fun c hc => hz c hc (by omega)))
    · have hin : vp_in (nI i) 272 := pk_in i 272 (by omega)
      refine wm_leF 272 i (by omega) ?_
      refine pk_le 16 i (fun h => ?_) (fun h => ?_)
      · refine And.intro hin (nm_r (wm_ux rfl) (And.intro hin (nm_r (wm_ux rfl) (nm_r (nI_1 i) (ih (i + 1) _ _ (by omega) (by omega) (fun c hc hci => ?_))))))
        rw [pk_un (by omega), pk_un (by omega)]; exact hz c hc (by omega)
      · refine And.intro hin (nm_r (wm_ux rfl) (And.intro hin (nm_r (wm_ux rfl) (nm_r (nI_1 i) (ih (i + 1) _ _ (by omega) (by omega) (fun c hc hci => ?_))))))
        by_cases q : c = i
        · subst q; rw [pk_us, pk_us]; exact ⟨rfl, rfl⟩
        · rw [pk_un q, pk_un q]; exact hz c hc (by omega)
end
theorem i_vc0 (k0 : Int32) (k1 : Int32) (k2 : Int32) (k3 : Int32) : wpX_init (fun u => wpY_init (fun v => i_Rel 4 u v) k0 k1 k2 k3) k0 k1 k2 k3 := by
  obtain ⟨cc, c1, c2⟩ := wm_clp_ex (lo := 1) (hi := 32) k0 (by omega) (by omega)
  obtain ⟨hc, d1, d2⟩ := wm_clp_ex (lo := 16) (hi := 256) k1 (by omega) (by omega)
  obtain ⟨fc, e1, e2⟩ := wm_clp_ex (lo := 4) (hi := 128) k2 (by omega) (by omega)
  obtain ⟨kc, f1, f2⟩ := wm_clp_ex (lo := 1) (hi := 64) k3 (by omega) (by omega)
  unfold wpX_init
  refine wx_clp c2 rfl rfl ?_
  refine wx_clp d2 rfl rfl ?_
  refine wx_clp e2 rfl rfl ?_
  refine wx_clp f2 rfl rfl ?_
  refine ⟨273, wx_init_385 (i := 0) (fun fn lk hfl => ?_) 273 _ _ (by omega) (by omega) (fun c hc hci => by omega)⟩
  refine wm_clp_y (A := fun z => wY_init_173 _ k1 k2 k3 z _ _ _ _ _ _ _ _ _ _ _ _ _ _ _ _ _ _ _ _ _ _ _ _ _ _ _ _ _ _ _ _ _) c2 rfl rfl ?_
  refine wm_clp_y (A := fun z => wY_init_202 _ k2 k3 z _ _ _ _ _ _ _ _ _ _ _ _ _ _ _ _ _ _ _ _ _ _ _ _ _ _ _ _ _ _ _ _ _) d2 rfl rfl ?_
  refine wm_clp_y (A := fun z => wY_init_229 _ k3 z _ _ _ _ _ _ _ _ _ _ _ _ _ _ _ _ _ _ _ _ _ _ _ _ _ _ _ _ _ _ _ _ _) e2 rfl rfl ?_
  refine wm_clp_y (A := fun z => wY_init_257 _ z _ _ _ _ _ _ _ _ _ _ _ _ _ _ _ _ _ _ _ _ _ _ _ _ _ _ _ _ _ _ _ _ _) f2 rfl rfl ?_
  unfold wY_init_257
  exact wm_in (cc := cc) (hc := hc) (fc := fc) (kc := kc) (dl := 0) (m := 0) (st := 0) (d := 0) (q := 0) (so := 0) (sp := 0) (dc := fun _ => 0) (ln := fun _ => 0) (ps := fun _ => 0) (sl := fun _ => 0) (ta := fun _ => 0) (t := fun _ => 0) (cd := fun _ => 0) (cx := fun _ => 0) (cs := fun _ _ => 0)
    ⟨⟨rfl, rfl, rfl, rfl⟩, ⟨rfl, rfl, rfl, rfl⟩, c1, d1, e1, f1⟩ ⟨by omega, fun i hi => by omega, by show 0 ≤ 8; omega⟩ ⟨rfl, rfl, rfl, fun i hi => by omega⟩ ⟨rfl, fun i hi => by omega⟩ ⟨⟨Nat.zero_le _, rfl, rfl, rfl⟩, ⟨rfl, Nat.zero_le _⟩, fun c hc => absurd hc (Nat.not_lt_zero _), ⟨Nat.zero_le _, fun c hc => absurd hc (Nat.not_lt_zero _)⟩⟩ (fun h => absurd rfl h) ⟨rfl, Or.inr rfl⟩
    ⟨⟨by omega, rfl, rfl, rfl⟩, hfl, fun _ => ⟨rfl, rfl⟩, fun h => absurd rfl h.1⟩ ⟨⟨rfl, rfl, rfl⟩, fun h => absurd rfl h.1⟩
/-- what feed does to the draft -/
def wm_FD (dc : Nat → Nat) (dl : Nat) (v r : Int32) (dc' : Nat → Nat) (dl' : Nat) : Prop :=
  ((∀ c, wm_ok c → v ≠ nI c) ∧ r = -2 ∧ dc' = dc ∧ dl' = dl) ∨
  (∃ c, wm_ok c ∧ v = nI c ∧ ((dl = 32 ∧ r = -3 ∧ dc' = dc ∧ dl' = dl) ∨ (dl < 32 ∧ wm_op dc dl = 0 ∧ 128 ≤ c ∧ r = -4 ∧ dc' = dc ∧ dl' = dl) ∨ (dl < 32 ∧ wm_op dc dl = 0 ∧ c < 80 ∧ 8 ≤ wm_na dc dl ∧ r = -3 ∧ dc' = dc ∧ dl' = dl) ∨
    (dl < 32 ∧ (wm_op dc dl = 0 → c < 80 ∧ wm_na dc dl < 8) ∧ r = nI (wm_op (wm_u dc dl c) (dl + 1)) ∧ dc' = wm_u dc dl c ∧ dl' = dl + 1)))
theorem wm_fd_op {dc : Nat → Nat} {dl c k : Nat} (hk : k ≤ dl) : wm_op (wm_u dc dl c) k = wm_op dc k := wm_op_congr (fun i hi => wm_un (by omega))
theorem wm_fd_na {dc : Nat → Nat} {dl c : Nat} : wm_na (wm_u dc dl c) dl = wm_na dc dl := wm_cn_congr (fun i hi => by unfold wm_pa; rw [wm_fd_op (by omega)])
theorem wm_fd_op1 {dc : Nat → Nat} {dl c : Nat} : wm_op (wm_u dc dl c) (dl + 1) = wm_op dc dl - 1 + wm_ar c := by rw [wm_op_s, wm_fd_op (Nat.le_refl _), wm_us]
theorem wm_fd_na1 {dc : Nat → Nat} {dl c : Nat} : wm_na (wm_u dc dl c) (dl + 1) = if wm_op dc dl = 0 then wm_na dc dl + 1 else wm_na dc dl := by
  by_cases h : wm_op dc dl = 0
  · rw [if_pos h]
    show wm_cn _ _ = _
    rw [wm_cn_t (wm_pa_t.mpr (by rw [wm_fd_op (Nat.le_refl _)]; exact h))]
    exact congrArg (· + 1) wm_fd_na
  · rw [if_neg h]
    show wm_cn _ _ = _
    rw [wm_cn_f (fun z => h (by rw [← wm_fd_op (c := c) (Nat.le_refl _)]; exact wm_pa_t.mp z))]
    exact wm_fd_na
theorem wm_FD_ex {dc : Nat → Nat} {dl : Nat} (h : wm_VD dc dl) (v : Int32) : ∃ r dc' dl', wm_FD dc dl v r dc' dl' ∧ wm_VD dc' dl' := by
  by_cases hc : ∃ c, wm_ok c ∧ v = nI c
  · obtain ⟨c, ho, rfl⟩ := hc
    obtain ⟨v1, v2, v3⟩ := h
    by_cases h32 : dl = 32
    · exact ⟨-3, dc, dl, Or.inr ⟨c, ho, rfl, Or.inl ⟨h32, rfl, rfl, rfl⟩⟩, v1, v2, v3⟩
    · have good : (wm_op dc dl = 0 → c < 80 ∧ wm_na dc dl < 8) → ∃ r dc' dl', wm_FD dc dl (nI c) r dc' dl' ∧ wm_VD dc' dl' := fun hg => by
        refine ⟨_, wm_u dc dl c, dl + 1, Or.inr ⟨c, ho, rfl, Or.inr (Or.inr (Or.inr ⟨by omega, hg, rfl, rfl, rfl⟩))⟩, by omega, fun k hk => ?_, ?_⟩
        · by_cases e : k = dl
          · subst e; rw [wm_us, wm_fd_op (Nat.le_refl _)]; exact ⟨ho, fun z => (hg z).1⟩
          · rw [wm_un e, wm_fd_op (by omega)]; exact v2 k (by omega)
        · rw [wm_fd_na1]
          split
          · next z => have := hg z; omega
          · exact v3
      by_cases o : wm_op dc dl = 0
      · rcases Nat.lt_or_ge c 80 with z | z
        · rcases Nat.lt_or_ge (wm_na dc dl) 8 with y | y
          · exact good (fun _ => ⟨z, y⟩)
          · exact ⟨-3, dc, dl, Or.inr ⟨c, ho, rfl, Or.inr (Or.inr (Or.inl ⟨by omega, o, z, y, rfl, rfl, rfl⟩))⟩, v1, v2, v3⟩
        · unfold wm_ok at ho
          exact ⟨-4, dc, dl, Or.inr ⟨c, ho, rfl, Or.inr (Or.inl ⟨by omega, o, by omega, rfl, rfl, rfl⟩)⟩, v1, v2, v3⟩
      · exact good (fun z => absurd z o)
  · exact ⟨-2, dc, dl, Or.inl ⟨fun c ho e => hc ⟨c, ho, e⟩, rfl, rfl, rfl⟩, h⟩
section
variable {f_clauseCap f_heapCap f_frameCap f_choiceCap f_querySlot f_firstNode f_draftLen f_draftOpen f_draftAtoms f_programUsed f_clauses f_trailLen f_depth f_choiceCount f_status f_solutions f_steps f_complete f_pairTop f_writeTop f_answerLen f_goalLen : Int32} {a_draft a_code a_skip a_local a_slotStart a_slotLen a_slotAtoms a_slotVars a_slotNodes a_slotWeight a_slotKey a_atomPlace a_nodeFn a_nodeLink a_nodeArg a_trail a_frameSlot a_frameBase a_contFrame a_contAtom a_selFrame a_selAtom a_nodeTop a_trailAt a_heapAt a_pendingAt a_choiceDepth a_choiceNext a_pairLeft a_pairRight a_colour a_dfsNode a_dfsArg a_writing a_writeStack a_varNumber : Nat → Int32}
theorem wx_feed_bad {post : Int32 → SX → Prop} {v : Int32} (h : ∀ c, wm_ok c → v ≠ nI c) (hp : post (-2) (f_clauseCap, f_heapCap, f_frameCap, f_choiceCap, f_querySlot, f_firstNode, f_draftLen, f_draftOpen, f_draftAtoms, f_programUsed, f_clauses, f_trailLen, f_depth, f_choiceCount, f_status, f_solutions, f_steps, f_complete, f_pairTop, f_writeTop, f_answerLen, f_goalLen, a_draft, a_code, a_skip, a_local, a_slotStart, a_slotLen, a_slotAtoms, a_slotVars, a_slotNodes, a_slotWeight, a_slotKey, a_atomPlace, a_nodeFn, a_nodeLink, a_nodeArg, a_trail, a_frameSlot, a_frameBase, a_contFrame, a_contAtom, a_selFrame, a_selAtom, a_nodeTop, a_trailAt, a_heapAt, a_pendingAt, a_choiceDepth, a_choiceNext, a_pairLeft, a_pairRight, a_colour, a_dfsNode, a_dfsArg, a_writing, a_writeStack, a_varNumber)) : wpX_feed post (f_clauseCap, f_heapCap, f_frameCap, f_choiceCap, f_querySlot, f_firstNode, f_draftLen, f_draftOpen, f_draftAtoms, f_programUsed, f_clauses, f_trailLen, f_depth, f_choiceCount, f_status, f_solutions, f_steps, f_complete, f_pairTop, f_writeTop, f_answerLen, f_goalLen, a_draft, a_code, a_skip, a_local, a_slotStart, a_slotLen, a_slotAtoms, a_slotVars, a_slotNodes, a_slotWeight, a_slotKey, a_atomPlace, a_nodeFn, a_nodeLink, a_nodeArg, a_trail, a_frameSlot, a_frameBase, a_contFrame, a_contAtom, a_selFrame, a_selAtom, a_nodeTop, a_trailAt, a_heapAt, a_pendingAt, a_choiceDepth, a_choiceNext, a_pairLeft, a_pairRight, a_colour, a_dfsNode, a_dfsArg, a_writing, a_writeStack, a_varNumber) v := by
  by_cases z : v < 0
  · exact br_t z (br_t (Int32.lt_trans z (by decide)) (br_t rfl (br_t rfl hp)))
  · obtain ⟨j, hj, rfl⟩ := nI_of z
    have h80 : 80 ≤ j := by
      rcases Nat.lt_or_ge j 80 with y | y
      · exact absurd rfl (h j (Or.inl y))
      · exact y
    rcases Nat.lt_or_ge j 128 with y | y
    · exact wm_ltF j 0 (Nat.zero_le _) (wm_leT 80 j h80 (wm_ltT j 128 y (br_t rfl (br_t rfl hp))))
    · have h136 : 136 ≤ j := by
        rcases Nat.lt_or_ge j 136 with w | w
        · exact absurd rfl (h j (Or.inr ⟨y, w⟩))
        · exact w
      exact wm_ltF j 0 (Nat.zero_le _) (wm_leT 80 j h80 (wm_ltF j 128 y (wm_leT 136 j h136 (br_t rfl (br_t rfl hp)))))
theorem wx_feed_f {post : Int32 → SX → Prop} {c : Nat} (h : c < 80) (hp : wX_feed_47 post (nI c) 0 f_clauseCap f_heapCap f_frameCap f_choiceCap f_querySlot f_firstNode f_draftLen f_draftOpen f_draftAtoms f_programUsed f_clauses f_trailLen f_depth f_choiceCount f_status f_solutions f_steps f_complete f_pairTop f_writeTop f_answerLen f_goalLen a_draft a_code a_skip a_local a_slotStart a_slotLen a_slotAtoms a_slotVars a_slotNodes a_slotWeight a_slotKey a_atomPlace a_nodeFn a_nodeLink a_nodeArg a_trail a_frameSlot a_frameBase a_contFrame a_contAtom a_selFrame a_selAtom a_nodeTop a_trailAt a_heapAt a_pendingAt a_choiceDepth a_choiceNext a_pairLeft a_pairRight a_colour a_dfsNode a_dfsArg a_writing a_writeStack a_varNumber) : wpX_feed post (f_clauseCap, f_heapCap, f_frameCap, f_choiceCap, f_querySlot, f_firstNode, f_draftLen, f_draftOpen, f_draftAtoms, f_programUsed, f_clauses, f_trailLen, f_depth, f_choiceCount, f_status, f_solutions, f_steps, f_complete, f_pairTop, f_writeTop, f_answerLen, f_goalLen, a_draft, a_code, a_skip, a_local, a_slotStart, a_slotLen, a_slotAtoms, a_slotVars, a_slotNodes, a_slotWeight, a_slotKey, a_atomPlace, a_nodeFn, a_nodeLink, a_nodeArg, a_trail, a_frameSlot, a_frameBase, a_contFrame, a_contAtom, a_selFrame, a_selAtom, a_nodeTop, a_trailAt, a_heapAt, a_pendingAt, a_choiceDepth, a_choiceNext, a_pairLeft, a_pairRight, a_colour, a_dfsNode, a_dfsArg, a_writing, a_writeStack, a_varNumber) (nI c) :=
  wm_ltF c 0 (Nat.zero_le _) (wm_leF 80 c h (wm_ltT c 128 (by omega) (br_f (by decide) hp)))
theorem wx_feed_v {post : Int32 → SX → Prop} {c : Nat} (h : 128 ≤ c) (h' : c < 136) (hp : wX_feed_47 post (nI c) 1 f_clauseCap f_heapCap f_frameCap f_choiceCap f_querySlot f_firstNode f_draftLen f_draftOpen f_draftAtoms f_programUsed f_clauses f_trailLen f_depth f_choiceCount f_status f_solutions f_steps f_complete f_pairTop f_writeTop f_answerLen f_goalLen a_draft a_code a_skip a_local a_slotStart a_slotLen a_slotAtoms a_slotVars a_slotNodes a_slotWeight a_slotKey a_atomPlace a_nodeFn a_nodeLink a_nodeArg a_trail a_frameSlot a_frameBase a_contFrame a_contAtom a_selFrame a_selAtom a_nodeTop a_trailAt a_heapAt a_pendingAt a_choiceDepth a_choiceNext a_pairLeft a_pairRight a_colour a_dfsNode a_dfsArg a_writing a_writeStack a_varNumber) : wpX_feed post (f_clauseCap, f_heapCap, f_frameCap, f_choiceCap, f_querySlot, f_firstNode, f_draftLen, f_draftOpen, f_draftAtoms, f_programUsed, f_clauses, f_trailLen, f_depth, f_choiceCount, f_status, f_solutions, f_steps, f_complete, f_pairTop, f_writeTop, f_answerLen, f_goalLen, a_draft, a_code, a_skip, a_local, a_slotStart, a_slotLen, a_slotAtoms, a_slotVars, a_slotNodes, a_slotWeight, a_slotKey, a_atomPlace, a_nodeFn, a_nodeLink, a_nodeArg, a_trail, a_frameSlot, a_frameBase, a_contFrame, a_contAtom, a_selFrame, a_selAtom, a_nodeTop, a_trailAt, a_heapAt, a_pendingAt, a_choiceDepth, a_choiceNext, a_pairLeft, a_pairRight, a_colour, a_dfsNode, a_dfsArg, a_writing, a_writeStack, a_varNumber) (nI c) :=
  wm_ltF c 0 (Nat.zero_le _) (wm_leT 80 c (by omega) (wm_ltF c 128 h (wm_leF 136 c h' (br_t rfl (br_f (by decide) hp)))))
theorem wx_feed {post : Int32 → SX → Prop} {dc dc' : Nat → Nat} {dl dl' : Nat} {v r : Int32} (h : wm_FD dc dl v r dc' dl') (hV : wm_VD dc dl) (hD : wm_DRX dc dl f_draftLen f_draftOpen f_draftAtoms a_draft)
    (hp : ∀ (l o a : Int32) (dr : Nat → Int32), wm_DRX dc' dl' l o a dr → post r (f_clauseCap, f_heapCap, f_frameCap, f_choiceCap, f_querySlot, f_firstNode, l, o, a, f_programUsed, f_clauses, f_trailLen, f_depth, f_choiceCount, f_status, f_solutions, f_steps, f_complete, f_pairTop, f_writeTop, f_answerLen, f_goalLen, dr, a_code, a_skip, a_local, a_slotStart, a_slotLen, a_slotAtoms, a_slotVars, a_slotNodes, a_slotWeight, a_slotKey, a_atomPlace, a_nodeFn, a_nodeLink, a_nodeArg, a_trail, a_frameSlot, a_frameBase, a_contFrame, a_contAtom, a_selFrame, a_selAtom, a_nodeTop, a_trailAt, a_heapAt, a_pendingAt, a_choiceDepth, a_choiceNext, a_pairLeft, a_pairRight, a_colour, a_dfsNode, a_dfsArg, a_writing, a_writeStack, a_varNumber)) : wpX_feed post (f_clauseCap, f_heapCap, f_frameCap, f_choiceCap, f_querySlot, f_firstNode, f_draftLen, f_draftOpen, f_draftAtoms, f_programUsed, f_clauses, f_trailLen, f_depth, f_choiceCount, f_status, f_solutions, f_steps, f_complete, f_pairTop, f_writeTop, f_answerLen, f_goalLen, a_draft, a_code, a_skip, a_local, a_slotStart, a_slotLen, a_slotAtoms, a_slotVars, a_slotNodes, a_slotWeight, a_slotKey, a_atomPlace, a_nodeFn, a_nodeLink, a_nodeArg, a_trail, a_frameSlot, a_frameBase, a_contFrame, a_contAtom, a_selFrame, a_selAtom, a_nodeTop, a_trailAt, a_heapAt, a_pendingAt, a_choiceDepth, a_choiceNext, a_pairLeft, a_pairRight, a_colour, a_dfsNode, a_dfsArg, a_writing, a_writeStack, a_varNumber) v := by
  have hD' := hD
  obtain ⟨e1, e2, e3, e4⟩ := hD'
  have v1 := hV.1
  have v3 : wm_na dc dl ≤ 8 := hV.2.2
  have hop := wm_op_le dc dl
  rcases h with ⟨hb, rfl, rfl, rfl⟩ | ⟨c, ho, rfl, h⟩
  · exact wx_feed_bad hb (hp _ _ _ _ hD)
  · have a4 := wm_ar4 c
    have front : ∀ (Q : Prop), (∀ z : Nat, (z = 0 ∧ c < 80) ∨ (z = 1 ∧ 128 ≤ c) → wX_feed_47 post (nI c) (nI z) f_clauseCap f_heapCap f_frameCap f_choiceCap f_querySlot f_firstNode f_draftLen f_draftOpen f_draftAtoms f_programUsed f_clauses f_trailLen f_depth f_choiceCount f_status f_solutions f_steps f_complete f_pairTop f_writeTop f_answerLen f_goalLen a_draft a_code a_skip a_local a_slotStart a_slotLen a_slotAtoms a_slotVars a_slotNodes a_slotWeight a_slotKey a_atomPlace a_nodeFn a_nodeLink a_nodeArg a_trail a_frameSlot a_frameBase a_contFrame a_contAtom a_selFrame a_selAtom a_nodeTop a_trailAt a_heapAt a_pendingAt a_choiceDepth a_choiceNext a_pairLeft a_pairRight a_colour a_dfsNode a_dfsArg a_writing a_writeStack a_varNumber) → wpX_feed post (f_clauseCap, f_heapCap, f_frameCap, f_choiceCap, f_querySlot, f_firstNode, f_draftLen, f_draftOpen, f_draftAtoms, f_programUsed, f_clauses, f_trailLen, f_depth, f_choiceCount, f_status, f_solutions, f_steps, f_complete, f_pairTop, f_writeTop, f_answerLen, f_goalLen, a_draft, a_code, a_skip, a_local, a_slotStart, a_slotLen, a_slotAtoms, a_slotVars, a_slotNodes, a_slotWeight, a_slotKey, a_atomPlace, a_nodeFn, a_nodeLink, a_nodeArg, a_trail, a_frameSlot, a_frameBase, a_contFrame, a_contAtom, a_selFrame, a_selAtom, a_nodeTop, a_trailAt, a_heapAt, a_pendingAt, a_choiceDepth, a_choiceNext, a_pairLeft, a_pairRight, a_colour, a_dfsNode, a_dfsArg, a_writing, a_writeStack, a_varNumber) (nI c) := fun _ hz => by
      rcases ho with y | y
      · exact wx_feed_f y (hz 0 (Or.inl ⟨rfl, y⟩))
      · exact wx_feed_v y.1 y.2 (hz 1 (Or.inr ⟨rfl, y.1⟩))
    refine front True (fun z hz => ?_)
    rcases h with ⟨h1, rfl, rfl, rfl⟩ | ⟨h1, h2, h3, rfl, rfl, rfl⟩ | ⟨h1, h2, h3, h4, rfl, rfl, rfl⟩ | ⟨h1, h2, rfl, rfl, rfl⟩
    · exact wm_ltF dl' 32 (by omega) (hp _ _ _ _ hD) e1
    · have hz1 : z = 1 := by omega
      subst hz1
      exact wm_ltT dl' 32 h1 (wx_ar c ho rfl (wm_eqT (wm_op dc' dl') 0 h2 (wm_eqF 1 0 (by omega) (hp _ _ _ _ hD)) e2)) e1
    · have hz1 : z = 0 := by omega
      subst hz1
      exact wm_ltT dl' 32 h1 (wx_ar c ho rfl (wm_eqT (wm_op dc' dl') 0 h2 (wm_eqT 0 0 rfl (wm_ltF (wm_na dc' dl') 8 h4 (hp _ _ _ _ hD) e3)) e2)) e1
    · have dr : ∀ k, k < dl + 1 → upd a_draft dl (nI c) k = nI (wm_u dc dl c k) := fun k hk => by
        by_cases e : k = dl
        · subst e; rw [pk_us, wm_us]
        · rw [pk_un e, wm_un e]; exact e4 k (by omega)
      refine wm_ltT dl 32 h1 (wx_ar c ho rfl ?_) e1
      by_cases o : wm_op dc dl = 0
      · obtain ⟨o1, o2⟩ := h2 o
        have hz1 : z = 0 := by omega
        subst hz1
        refine wm_eqT (wm_op dc dl) 0 o (wm_eqT 0 0 rfl (wm_ltT (wm_na dc dl) 8 o2 (nm_r (e' := nI (wm_na dc dl + 1)) (by rw [e3, nI_1]) ?_) e3)) e2
        refine And.intro (pk_in dl 32 h1 e1) (nm_r (wm_ux (n := dl) rfl e1) (nm_r (e' := nI (dl + 1)) (by rw [e1, nI_1]) ?_))
        have er : nI (wm_op (wm_u dc dl c) (dl + 1)) = nI (wm_ar c) := by rw [wm_fd_op1, o]; exact congrArg nI (by omega)
        rw [er] at hp
        refine hp _ _ _ _ ⟨rfl, er.symm, ?_, dr⟩
        rw [wm_fd_na1, if_pos o]
      · have er : f_draftOpen - 1 + nI (wm_ar c) = nI (wm_op (wm_u dc dl c) (dl + 1)) := by
          obtain ⟨w, hw⟩ : ∃ w, wm_op dc dl = w + 1 := ⟨wm_op dc dl - 1, by omega⟩
          rw [wm_fd_op1, e2, hw, nI_pred, nI_add]; rfl
        refine wm_eqF (wm_op dc dl) 0 o (nm_r er ?_) e2
        refine And.intro (pk_in dl 32 h1 e1) (nm_r (wm_ux (n := dl) rfl e1) (nm_r (e' := nI (dl + 1)) (by rw [e1, nI_1]) ?_))
        refine hp _ _ _ _ ⟨rfl, rfl, ?_, dr⟩
        rw [wm_fd_na1, if_neg o]; exact e3
end
section
variable {g_clauseCap g_heapCap g_frameCap g_choiceCap g_draftCount g_clauses g_queryCount g_status g_depth g_choiceCount g_solutions g_steps g_complete g_compoundCount g_equations g_goalCount : Int32} {b_draft b_clauseCodes b_clauseLength b_query b_trace b_choiceDepths b_choiceNexts b_code b_link b_compound b_finite b_left b_right b_goals b_atomPlace b_stack b_seen : Nat → Int32}
theorem wy_feed_bad {post : Int32 → SY → Prop} {v : Int32} (h : ∀ c, wm_ok c → v ≠ nI c) (hp : post (-2) (g_clauseCap, g_heapCap, g_frameCap, g_choiceCap, g_draftCount, g_clauses, g_queryCount, g_status, g_depth, g_choiceCount, g_solutions, g_steps, g_complete, g_compoundCount, g_equations, g_goalCount, b_draft, b_clauseCodes, b_clauseLength, b_query, b_trace, b_choiceDepths, b_choiceNexts, b_code, b_link, b_compound, b_finite, b_left, b_right, b_goals, b_atomPlace, b_stack, b_seen)) : wpY_feed post (g_clauseCap, g_heapCap, g_frameCap, g_choiceCap, g_draftCount, g_clauses, g_queryCount, g_status, g_depth, g_choiceCount, g_solutions, g_steps, g_complete, g_compoundCount, g_equations, g_goalCount, b_draft, b_clauseCodes, b_clauseLength, b_query, b_trace, b_choiceDepths, b_choiceNexts, b_code, b_link, b_compound, b_finite, b_left, b_right, b_goals, b_atomPlace, b_stack, b_seen) v := by
  by_cases z : v < 0
  · exact br_t z (br_t (Int32.lt_trans z (by decide)) (br_t rfl (br_t rfl hp)))
  · obtain ⟨j, hj, rfl⟩ := nI_of z
    have h80 : 80 ≤ j := by
      rcases Nat.lt_or_ge j 80 with y | y
      · exact absurd rfl (h j (Or.inl y))
      · exact y
    rcases Nat.lt_or_ge j 128 with y | y
    · exact wm_ltF j 0 (Nat.zero_le _) (wm_ltT 79 j h80 (wm_ltT j 128 y (br_t rfl (br_t rfl hp))))
    · have h136 : 136 ≤ j := by
        rcases Nat.lt_or_ge j 136 with w | w
        · exact absurd rfl (h j (Or.inr ⟨y, w⟩))
        · exact w
      exact wm_ltF j 0 (Nat.zero_le _) (wm_ltT 79 j h80 (wm_ltF j 128 y (wm_ltT 135 j h136 (br_t rfl (br_t rfl hp)))))
theorem wy_feed_f {post : Int32 → SY → Prop} {c : Nat} (h : c < 80) (hp : wY_feed_47 post (nI c) 1 0 g_clauseCap g_heapCap g_frameCap g_choiceCap g_draftCount g_clauses g_queryCount g_status g_depth g_choiceCount g_solutions g_steps g_complete g_compoundCount g_equations g_goalCount b_draft b_clauseCodes b_clauseLength b_query b_trace b_choiceDepths b_choiceNexts b_code b_link b_compound b_finite b_left b_right b_goals b_atomPlace b_stack b_seen) : wpY_feed post (g_clauseCap, g_heapCap, g_frameCap, g_choiceCap, g_draftCount, g_clauses, g_queryCount, g_status, g_depth, g_choiceCount, g_solutions, g_steps, g_complete, g_compoundCount, g_equations, g_goalCount, b_draft, b_clauseCodes, b_clauseLength, b_query, b_trace, b_choiceDepths, b_choiceNexts, b_code, b_link, b_compound, b_finite, b_left, b_right, b_goals, b_atomPlace, b_stack, b_seen) (nI c) :=
  wm_ltF c 0 (Nat.zero_le _) (wm_ltF 79 c (by omega) (wm_ltT c 128 (by omega) (br_f (by decide) hp)))
theorem wy_feed_v {post : Int32 → SY → Prop} {c : Nat} (h : 128 ≤ c) (h' : c < 136) (hp : wY_feed_47 post (nI c) 0 1 g_clauseCap g_heapCap g_frameCap g_choiceCap g_draftCount g_clauses g_queryCount g_status g_depth g_choiceCount g_solutions g_steps g_complete g_compoundCount g_equations g_goalCount b_draft b_clauseCodes b_clauseLength b_query b_trace b_choiceDepths b_choiceNexts b_code b_link b_compound b_finite b_left b_right b_goals b_atomPlace b_stack b_seen) : wpY_feed post (g_clauseCap, g_heapCap, g_frameCap, g_choiceCap, g_draftCount, g_clauses, g_queryCount, g_status, g_depth, g_choiceCount, g_solutions, g_steps, g_complete, g_compoundCount, g_equations, g_goalCount, b_draft, b_clauseCodes, b_clauseLength, b_query, b_trace, b_choiceDepths, b_choiceNexts, b_code, b_link, b_compound, b_finite, b_left, b_right, b_goals, b_atomPlace, b_stack, b_seen) (nI c) :=
  wm_ltF c 0 (Nat.zero_le _) (wm_ltT 79 c (by omega) (wm_ltF c 128 h (wm_ltF 135 c (by omega) (br_t rfl (br_f (by decide) hp)))))
theorem wy_feed {post : Int32 → SY → Prop} {dc dc' : Nat → Nat} {dl dl' : Nat} {v r : Int32} (h : wm_FD dc dl v r dc' dl') (hV : wm_VD dc dl) (hV' : wm_VD dc' dl') (hD : wm_DRY dc dl g_draftCount b_draft)
    (hp : ∀ (l : Int32) (dr : Nat → Int32), wm_DRY dc' dl' l dr → post r (g_clauseCap, g_heapCap, g_frameCap, g_choiceCap, l, g_clauses, g_queryCount, g_status, g_depth, g_choiceCount, g_solutions, g_steps, g_complete, g_compoundCount, g_equations, g_goalCount, dr, b_clauseCodes, b_clauseLength, b_query, b_trace, b_choiceDepths, b_choiceNexts, b_code, b_link, b_compound, b_finite, b_left, b_right, b_goals, b_atomPlace, b_stack, b_seen)) : wpY_feed post (g_clauseCap, g_heapCap, g_frameCap, g_choiceCap, g_draftCount, g_clauses, g_queryCount, g_status, g_depth, g_choiceCount, g_solutions, g_steps, g_complete, g_compoundCount, g_equations, g_goalCount, b_draft, b_clauseCodes, b_clauseLength, b_query, b_trace, b_choiceDepths, b_choiceNexts, b_code, b_link, b_compound, b_finite, b_left, b_right, b_goals, b_atomPlace, b_stack, b_seen) v := by
  have hD' := hD
  obtain ⟨e1, e4⟩ := hD'
  have v1 := hV.1
  have v3 : wm_na dc dl ≤ 8 := hV.2.2
  have hop := wm_op_le dc dl
  have hok : ∀ k, k < dl → wm_ok (dc k) := fun k hk => (hV.2.1 k hk).1
  rcases h with ⟨hb, rfl, rfl, rfl⟩ | ⟨c, ho, rfl, h⟩
  · exact wy_feed_bad hb (hp _ _ hD)
  · have a4 := wm_ar4 c
    have front : ∀ (Q : Prop), (∀ y z : Nat, (y = 1 ∧ z = 0 ∧ c < 80) ∨ (y = 0 ∧ z = 1 ∧ 128 ≤ c) → wY_feed_47 post (nI c) (nI y) (nI z) g_clauseCap g_heapCap g_frameCap g_choiceCap g_draftCount g_clauses g_queryCount g_status g_depth g_choiceCount g_solutions g_steps g_complete g_compoundCount g_equations g_goalCount b_draft b_clauseCodes b_clauseLength b_query b_trace b_choiceDepths b_choiceNexts b_code b_link b_compound b_finite b_left b_right b_goals b_atomPlace b_stack b_seen) → wpY_feed post (g_clauseCap, g_heapCap, g_frameCap, g_choiceCap, g_draftCount, g_clauses, g_queryCount, g_status, g_depth, g_choiceCount, g_solutions, g_steps, g_complete, g_compoundCount, g_equations, g_goalCount, b_draft, b_clauseCodes, b_clauseLength, b_query, b_trace, b_choiceDepths, b_choiceNexts, b_code, b_link, b_compound, b_finite, b_left, b_right, b_goals, b_atomPlace, b_stack, b_seen) (nI c) := fun _ hz => by
      rcases ho with y | y
      · exact wy_feed_f y (hz 1 0 (Or.inl ⟨rfl, rfl, y⟩))
      · exact wy_feed_v y.1 y.2 (hz 0 1 (Or.inr ⟨rfl, rfl, y.1⟩))
    refine front True (fun y z hz => ?_)
    rcases h with ⟨h1, rfl, rfl, rfl⟩ | ⟨h1, h2, h3, rfl, rfl, rfl⟩ | ⟨h1, h2, h3, h4, rfl, rfl, rfl⟩ | ⟨h1, h2, rfl, rfl, rfl⟩
    · exact wm_ltF dl' 32 (by omega) (hp _ _ hD) e1
    · obtain ⟨hy, hz1⟩ : y = 0 ∧ z = 1 := by omega
      subst hy hz1
      exact wm_ltT dl' 32 h1 (wy_draftOpen e1 v1 e4 hok (wy_draftAtoms e1 v1 e4 hok (wm_eqF 1 0 (by omega) (wm_eqT (wm_op dc' dl') 0 h2 (hp _ _ hD))))) e1
    · obtain ⟨hy, hz1⟩ : y = 1 ∧ z = 0 := by omega
      subst hy hz1
      exact wm_ltT dl' 32 h1 (wy_draftOpen e1 v1 e4 hok (wy_draftAtoms e1 v1 e4 hok (wm_eqT 0 0 rfl (wm_eqF 1 0 (by omega) (wm_eqT (wm_op dc' dl') 0 h2 (wm_ltF (wm_na dc' dl') 8 h4 (hp _ _ hD))))))) e1
    · have dr : ∀ k, k < dl + 1 → upd b_draft dl (nI c) k = nI (wm_u dc dl c k) := fun k hk => by
        by_cases e : k = dl
        · subst e; rw [pk_us, wm_us]
        · rw [pk_un e, wm_un e]; exact e4 k (by omega)
      have fin : wY_feed_102 post (nI c) g_clauseCap g_heapCap g_frameCap g_choiceCap g_draftCount g_clauses g_queryCount g_status g_depth g_choiceCount g_solutions g_steps g_complete g_compoundCount g_equations g_goalCount b_draft b_clauseCodes b_clauseLength b_query b_trace b_choiceDepths b_choiceNexts b_code b_link b_compound b_finite b_left b_right b_goals b_atomPlace b_stack b_seen := by
        refine And.intro (pk_in dl 32 h1 e1) (nm_r (wm_ux (n := dl) rfl e1) (nm_r (e' := nI (dl + 1)) (by rw [e1, nI_1]) ?_))
        exact wy_draftOpen rfl hV'.1 dr (fun k hk => (hV'.2.1 k hk).1) (hp _ _ ⟨rfl, dr⟩)
      refine wm_ltT dl 32 h1 (wy_draftOpen e1 v1 e4 hok (wy_draftAtoms e1 v1 e4 hok ?_)) e1
      rcases hz with ⟨rfl, rfl, hc⟩ | ⟨rfl, rfl, hc⟩
      · refine wm_eqT 0 0 rfl (wm_eqF 1 0 (by omega) ?_)
        by_cases o : wm_op dc dl = 0
        · exact wm_eqT (wm_op dc dl) 0 o (wm_ltT (wm_na dc dl) 8 (h2 o).2 fin)
        · exact wm_eqF (wm_op dc dl) 0 o fin
      · have o : wm_op dc dl ≠ 0 := fun z => by have := (h2 z).1; omega
        exact wm_eqF 1 0 (by omega) (wm_eqF (wm_op dc dl) 0 o (wm_eqT 0 0 rfl fin))
end
theorem i_vc_feed {k : Nat} {u : SX} {v : SY} (I : i_Rel k u v) (hk : k + 5 ≤ 2564) (v1 : Int32) : wpX_feed (fun r u' => wpY_feed (fun r' v' => r' = r ∧ i_Rel (k + 5) u' v') v v1) u v1 := by
  refine wm_el (P := fun u v => wpX_feed (fun r u' => wpY_feed (fun r' v' => r' = r ∧ i_Rel (k + 5) u' v') v v1) u v1) ?_ I
  intro f_clauseCap f_heapCap f_frameCap f_choiceCap f_querySlot f_firstNode f_draftLen f_draftOpen f_draftAtoms f_programUsed f_clauses f_trailLen f_depth f_choiceCount f_status f_solutions f_steps f_complete f_pairTop f_writeTop f_answerLen f_goalLen a_draft a_code a_skip a_local a_slotStart a_slotLen a_slotAtoms a_slotVars a_slotNodes a_slotWeight a_slotKey a_atomPlace a_nodeFn a_nodeLink a_nodeArg a_trail a_frameSlot a_frameBase a_contFrame a_contAtom a_selFrame a_selAtom a_nodeTop a_trailAt a_heapAt a_pendingAt a_choiceDepth a_choiceNext a_pairLeft a_pairRight a_colour a_dfsNode a_dfsArg a_writing a_writeStack a_varNumber g_clauseCap g_heapCap g_frameCap g_choiceCap g_draftCount g_clauses g_queryCount g_status g_depth g_choiceCount g_solutions g_steps g_complete g_compoundCount g_equations g_goalCount b_draft b_clauseCodes b_clauseLength b_query b_trace b_choiceDepths b_choiceNexts b_code b_link b_compound b_finite b_left b_right b_goals b_atomPlace b_stack b_seen cc hc fc kc dl m st d q so sp dc ln ps sl ta t cd cx cs h1 h2 h3 h4 h5 h6 h7 h8 h9
  obtain ⟨r, dc', dl', hf, hv'⟩ := wm_FD_ex h2 v1
  refine wx_feed hf h2 h3 (fun l o a dr hx => wy_feed hf h2 hv' h4 (fun l' dr' hy => And.intro rfl ?_))
  exact wm_in h1 hv' hx hy h5 h6 h7 h8 h9
end
section
/-! owed: feed4, addClause -/
theorem i_vc_feed4 {k : Nat} {u : SX} {v : SY} (I : i_Rel k u v) (hk : k + 5 ≤ 2564) (v1 : Int32) (v2 : Int32) (v3 : Int32) (v4 : Int32) : wpX_feed4 (fun r u' => wpY_feed4 (fun r' v' => r' = r ∧ i_Rel (k + 5) u' v') v v1 v2 v3 v4) u v1 v2 v3 v4 := by
  refine wm_el (P := fun u v => wpX_feed4 (fun r u' => wpY_feed4 (fun r' v' => r' = r ∧ i_Rel (k + 5) u' v') v v1 v2 v3 v4) u v1 v2 v3 v4) ?_ I
  intro f_clauseCap f_heapCap f_frameCap f_choiceCap f_querySlot f_firstNode f_draftLen f_draftOpen f_draftAtoms f_programUsed f_clauses f_trailLen f_depth f_choiceCount f_status f_solutions f_steps f_complete f_pairTop f_writeTop f_answerLen f_goalLen a_draft a_code a_skip a_local a_slotStart a_slotLen a_slotAtoms a_slotVars a_slotNodes a_slotWeight a_slotKey a_atomPlace a_nodeFn a_nodeLink a_nodeArg a_trail a_frameSlot a_frameBase a_contFrame a_contAtom a_selFrame a_selAtom a_nodeTop a_trailAt a_heapAt a_pendingAt a_choiceDepth a_choiceNext a_pairLeft a_pairRight a_colour a_dfsNode a_dfsArg a_writing a_writeStack a_varNumber g_clauseCap g_heapCap g_frameCap g_choiceCap g_draftCount g_clauses g_queryCount g_status g_depth g_choiceCount g_solutions g_steps g_complete g_compoundCount g_equations g_goalCount b_draft b_clauseCodes b_clauseLength b_query b_trace b_choiceDepths b_choiceNexts b_code b_link b_compound b_finite b_left b_right b_goals b_atomPlace b_stack b_seen cc hc fc kc dl m st d q so sp dc ln ps sl ta t cd cx cs h1 h2 h3 h4 h5 h6 h7 h8 h9
  obtain ⟨r1, dc1, dl1, hf1, hv1⟩ := wm_FD_ex h2 v1
  obtain ⟨r2, dc2, dl2, hf2, hv2⟩ := wm_FD_ex hv1 v2
  obtain ⟨r3, dc3, dl3, hf3, hv3⟩ := wm_FD_ex hv2 v3
  obtain ⟨r4, dc4, dl4, hf4, hv4⟩ := wm_FD_ex hv3 v4
  unfold wpX_feed4
  refine wx_feed hf1 h2 h3 (fun l1 o1 a1 dr1 hx1 => ?_)
  by_cases c1 : 0 ≤ r1
  · refine br_t c1 (wx_feed hf2 hv1 hx1 (fun l2 o2 a2 dr2 hx2 => ?_))
    by_cases c2 : 0 ≤ r2
    · refine br_t c2 (wx_feed hf3 hv2 hx2 (fun l3 o3 a3 dr3 hx3 => ?_))
      by_cases c3 : 0 ≤ r3
      · refine br_t c3 (wx_feed hf4 hv3 hx3 (fun l4 o4 a4 dr4 hx4 => ?_))
        by_cases c4 : 0 ≤ r4
        · refine br_t c4 ?_
          unfold wpY_feed4
          refine wy_feed hf1 h2 hv1 h4 (fun y1 e1 hy1 => br_t c1 ?_)
          refine wy_feed hf2 hv1 hv2 hy1 (fun y2 e2 hy2 => br_t c2 ?_)
          refine wy_feed hf3 hv2 hv3 hy2 (fun y3 e3 hy3 => br_t c3 ?_)
          refine wy_feed hf4 hv3 hv4 hy3 (fun y4 e4 hy4 => br_t c4 (And.intro rfl ?_))
          exact wm_in h1 hv4 hx4 hy4 h5 h6 h7 h8 h9
        · refine br_f c4 ?_
          unfold wpY_feed4
          refine wy_feed hf1 h2 hv1 h4 (fun y1 e1 hy1 => br_t c1 ?_)
          refine wy_feed hf2 hv1 hv2 hy1 (fun y2 e2 hy2 => br_t c2 ?_)
          refine wy_feed hf3 hv2 hv3 hy2 (fun y3 e3 hy3 => br_t c3 ?_)
          refine wy_feed hf4 hv3 hv4 hy3 (fun y4 e4 hy4 => br_f c4 (And.intro rfl ?_))
          exact wm_in h1 hv4 hx4 hy4 h5 h6 h7 h8 h9
      · refine br_f c3 ?_
        unfold wpY_feed4
        refine wy_feed hf1 h2 hv1 h4 (fun y1 e1 hy1 => br_t c1 ?_)
        refine wy_feed hf2 hv1 hv2 hy1 (fun y2 e2 hy2 => br_t c2 ?_)
        refine wy_feed hf3 hv2 hv3 hy2 (fun y3 e3 hy3 => br_f c3 (And.intro rfl ?_))
        exact wm_in h1 hv3 hx3 hy3 h5 h6 h7 h8 h9
    · refine br_f c2 ?_
      unfold wpY_feed4
      refine wy_feed hf1 h2 hv1 h4 (fun y1 e1 hy1 => br_t c1 ?_)
      refine wy_feed hf2 hv1 hv2 hy1 (fun y2 e2 hy2 => br_f c2 (And.intro rfl ?_))
      exact wm_in h1 hv2 hx2 hy2 h5 h6 h7 h8 h9
  · refine br_f c1 ?_
    unfold wpY_feed4
    refine wy_feed hf1 h2 hv1 h4 (fun y1 e1 hy1 => br_f c1 (And.intro rfl ?_))
    exact wm_in h1 hv1 hx1 hy1 h5 h6 h7 h8 h9
section
variable {f_clauseCap f_heapCap f_frameCap f_choiceCap f_querySlot f_firstNode f_draftLen f_draftOpen f_draftAtoms f_programUsed f_clauses f_trailLen f_depth f_choiceCount f_status f_solutions f_steps f_complete f_pairTop f_writeTop f_answerLen f_goalLen : Int32} {a_draft a_code a_skip a_local a_slotStart a_slotLen a_slotAtoms a_slotVars a_slotNodes a_slotWeight a_slotKey a_atomPlace a_nodeFn a_nodeLink a_nodeArg a_trail a_frameSlot a_frameBase a_contFrame a_contAtom a_selFrame a_selAtom a_nodeTop a_trailAt a_heapAt a_pendingAt a_choiceDepth a_choiceNext a_pairLeft a_pairRight a_colour a_dfsNode a_dfsArg a_writing a_writeStack a_varNumber : Nat → Int32}
variable {g_clauseCap g_heapCap g_frameCap g_choiceCap g_draftCount g_clauses g_queryCount g_status g_depth g_choiceCount g_solutions g_steps g_complete g_compoundCount g_equations g_goalCount : Int32} {b_draft b_clauseCodes b_clauseLength b_query b_trace b_choiceDepths b_choiceNexts b_code b_link b_compound b_finite b_left b_right b_goals b_atomPlace b_stack b_seen : Nat → Int32}
variable {dc : Nat → Nat} {dl : Nat}
theorem wx_draftWhole {post : Int32 → Prop} (hV : wm_VD dc dl) (h : wm_DRX dc dl f_draftLen f_draftOpen f_draftAtoms a_draft) (h1 : 0 < dl ∧ wm_op dc dl = 0 → post 1) (h0 : ¬ (0 < dl ∧ wm_op dc dl = 0) → post 0) : wpX_draftWhole post (f_clauseCap, f_heapCap, f_frameCap, f_choiceCap, f_querySlot, f_firstNode, f_draftLen, f_draftOpen, f_draftAtoms, f_programUsed, f_clauses, f_trailLen, f_depth, f_choiceCount, f_status, f_solutions, f_steps, f_complete, f_pairTop, f_writeTop, f_answerLen, f_goalLen, a_draft, a_code, a_skip, a_local, a_slotStart, a_slotLen, a_slotAtoms, a_slotVars, a_slotNodes, a_slotWeight, a_slotKey, a_atomPlace, a_nodeFn, a_nodeLink, a_nodeArg, a_trail, a_frameSlot, a_frameBase, a_contFrame, a_contAtom, a_selFrame, a_selAtom, a_nodeTop, a_trailAt, a_heapAt, a_pendingAt, a_choiceDepth, a_choiceNext, a_pairLeft, a_pairRight, a_colour, a_dfsNode, a_dfsArg, a_writing, a_writeStack, a_varNumber) := by
  have := wm_op_le dc dl
  have := hV.1
  refine pk_le dl 0 (fun e => h0 (by omega)) (fun e => ?_) h.1
  exact pk_eq (wm_op dc dl) 0 (fun e' => h1 ⟨e, e'⟩) (fun e' => h0 (fun z => e' z.2)) h.2.1
theorem wy_whole {post : Int32 → Prop} (hV : wm_VD dc dl) (h : wm_DRY dc dl g_draftCount b_draft) (h1 : 0 < dl ∧ wm_op dc dl = 0 → post 1) (h0 : ¬ (0 < dl ∧ wm_op dc dl = 0) → post 0) : wpY_whole post (g_clauseCap, g_heapCap, g_frameCap, g_choiceCap, g_draftCount, g_clauses, g_queryCount, g_status, g_depth, g_choiceCount, g_solutions, g_steps, g_complete, g_compoundCount, g_equations, g_goalCount, b_draft, b_clauseCodes, b_clauseLength, b_query, b_trace, b_choiceDepths, b_choiceNexts, b_code, b_link, b_compound, b_finite, b_left, b_right, b_goals, b_atomPlace, b_stack, b_seen) := by
  have := wm_op_le dc dl
  have := hV.1
  unfold wpY_whole
  refine wy_draftOpen h.1 hV.1 h.2 (fun k hk => (hV.2.1 k hk).1) ?_
  refine pk_lt dl 1 (fun e => h0 (by omega)) (fun e => ?_) h.1
  exact pk_eq (wm_op dc dl) 0 (fun e' => h1 ⟨e, e'⟩) (fun e' => h0 (fun z => e' z.2))
theorem wy_add_87 {post : Int32 → SY → Prop} {m : Nat} (hV : wm_VD dc dl) (h : wm_DRY dc dl g_draftCount b_draft) (hm : m < 32) (hcl : g_clauses = nI m)
    (hp : ∀ cC : Nat → Int32, (∀ k, k < dl → cC (32 * m + k) = nI (dc k)) → (∀ p, p < 32 * m → cC p = b_clauseCodes p) → post (nI m) (g_clauseCap, g_heapCap, g_frameCap, g_choiceCap, 0, (nI (m + 1)), g_queryCount, g_status, g_depth, g_choiceCount, g_solutions, g_steps, g_complete, g_compoundCount, g_equations, g_goalCount, b_draft, cC, (upd b_clauseLength m (nI dl)), b_query, b_trace, b_choiceDepths, b_choiceNexts, b_code, b_link, b_compound, b_finite, b_left, b_right, b_goals, b_atomPlace, b_stack, b_seen)) :
    ∀ (n i : Nat) (b_clauseCodes' : Nat → Int32), i ≤ dl → dl < n + i → (∀ k, k < i → b_clauseCodes' (32 * m + k) = nI (dc k)) → (∀ p, p < 32 * m → b_clauseCodes' p = b_clauseCodes p) → wY_addClause_87 post g_clauseCap g_heapCap g_frameCap g_choiceCap g_draftCount g_clauses g_queryCount g_status g_depth g_choiceCount g_solutions g_steps g_complete g_compoundCount g_equations g_goalCount n (nI i) b_draft b_clauseCodes' b_clauseLength b_query b_trace b_choiceDepths b_choiceNexts b_code b_link b_compound b_finite b_left b_right b_goals b_atomPlace b_stack b_seen := by
  have h32 := hV.1
  intro n
  induction n with
  | zero => intro i _ a b; omega
  | succ n ih =>
    intro i cC a b hc hf
    by_cases e : i = dl
    · subst e
      refine wm_leT i i (Nat.le_refl _) ?_ h.1
      refine And.intro (pk_in m 32 hm hcl) (nm_r (wm_ux (n := m) h.1 hcl) (nm_r (e' := nI (m + 1)) (by rw [hcl, nI_1]) ?_))
      rw [nI_pred]
      exact hp cC hc hf
    · have ex : 32 * g_clauses + nI i = nI (32 * m + i) := by rw [hcl, show (32 : Int32) = nI 32 from rfl, pk_mul, nI_add]
      refine wm_leF dl i (by omega) (wm_leF 32 i (by omega) (And.intro (pk_in i 32 (by omega)) (And.intro (pk_in (32 * m + i) 1024 (by omega) ex) (nm_r (wm_ux (n := 32 * m + i) (wm_rx (h.2 i (by omega))) ex) (nm_r (nI_1 i) (ih (i + 1) _ (by omega) (by omega) (fun k hk => ?_) (fun p hp' => ?_))))))) h.1
      · by_cases c : k = i
        · subst c; exact pk_us
        · rw [pk_un (by omega)]; exact hc k (by omega)
      · rw [pk_un (by omega)]; exact hf p hp'
theorem wy_add_52 {post : Int32 → SY → Prop} {m : Nat} {ln ps : Nat → Nat} (hdl : dl ≤ 32) (hm : m ≤ 32) (hcl : g_clauses = nI m) (hps : ∀ c, c < m → ps (c + 1) = ps c + ln c) (hln : ∀ c, c < m → b_clauseLength c = nI (ln c)) (hb : ps m ≤ 256)
    (h1 : dl + ps m ≤ 256 → ∃ n, wY_addClause_87 post g_clauseCap g_heapCap g_frameCap g_choiceCap g_draftCount g_clauses g_queryCount g_status g_depth g_choiceCount g_solutions g_steps g_complete g_compoundCount g_equations g_goalCount n 0 b_draft b_clauseCodes b_clauseLength b_query b_trace b_choiceDepths b_choiceNexts b_code b_link b_compound b_finite b_left b_right b_goals b_atomPlace b_stack b_seen) (h0 : 256 < dl + ps m → post (-3) (g_clauseCap, g_heapCap, g_frameCap, g_choiceCap, g_draftCount, g_clauses, g_queryCount, g_status, g_depth, g_choiceCount, g_solutions, g_steps, g_complete, g_compoundCount, g_equations, g_goalCount, b_draft, b_clauseCodes, b_clauseLength, b_query, b_trace, b_choiceDepths, b_choiceNexts, b_code, b_link, b_compound, b_finite, b_left, b_right, b_goals, b_atomPlace, b_stack, b_seen)) : ∀ n c : Nat, c ≤ m → m < n + c → wY_addClause_52 post g_clauseCap g_heapCap g_frameCap g_choiceCap g_draftCount g_clauses g_queryCount g_status g_depth g_choiceCount g_solutions g_steps g_complete g_compoundCount g_equations g_goalCount b_draft b_clauseCodes b_clauseLength b_query b_trace b_choiceDepths b_choiceNexts b_code b_link b_compound b_finite b_left b_right b_goals b_atomPlace b_stack b_seen n (nI (dl + ps c)) (nI c) := by
  intro n
  induction n with
  | zero => intro c a b; omega
  | succ n ih =>
    intro c a b
    by_cases e : c = m
    · subst e
      exact wm_leT c c (Nat.le_refl _) (pk_le (dl + ps c) 256 h1 h0) hcl
    · refine wm_leF m c (by omega) (And.intro (pk_in c 32 (by omega)) (nm_r (e' := nI (dl + ps (c + 1))) ?_ (nm_r (nI_1 c) (ih (c + 1) (by omega) (by omega))))) hcl
      rw [wm_rx (hln c (by omega)), nI_add, hps c (by omega), Nat.add_assoc]
end
theorem i_vc_addClause {k : Nat} {u : SX} {v : SY} (I : i_Rel k u v) (hk : k + 5 ≤ 2564) : wpX_addClause (fun r u' => wpY_addClause (fun r' v' => r' = r ∧ i_Rel (k + 5) u' v') v) u := by
  refine wm_el (P := fun u v => wpX_addClause (fun r u' => wpY_addClause (fun r' v' => r' = r ∧ i_Rel (k + 5) u' v') v) u) ?_ I
  intro f_clauseCap f_heapCap f_frameCap f_choiceCap f_querySlot f_firstNode f_draftLen f_draftOpen f_draftAtoms f_programUsed f_clauses f_trailLen f_depth f_choiceCount f_status f_solutions f_steps f_complete f_pairTop f_writeTop f_answerLen f_goalLen a_draft a_code a_skip a_local a_slotStart a_slotLen a_slotAtoms a_slotVars a_slotNodes a_slotWeight a_slotKey a_atomPlace a_nodeFn a_nodeLink a_nodeArg a_trail a_frameSlot a_frameBase a_contFrame a_contAtom a_selFrame a_selAtom a_nodeTop a_trailAt a_heapAt a_pendingAt a_choiceDepth a_choiceNext a_pairLeft a_pairRight a_colour a_dfsNode a_dfsArg a_writing a_writeStack a_varNumber g_clauseCap g_heapCap g_frameCap g_choiceCap g_draftCount g_clauses g_queryCount g_status g_depth g_choiceCount g_solutions g_steps g_complete g_compoundCount g_equations g_goalCount b_draft b_clauseCodes b_clauseLength b_query b_trace b_choiceDepths b_choiceNexts b_code b_link b_compound b_finite b_left b_right b_goals b_atomPlace b_stack b_seen cc hc fc kc dl m st d q so sp dc ln ps sl ta t cd cx cs h1 h2 h3 h4 h5 h6 h7 h8 h9
  have R : i_Rel (k + 5) (f_clauseCap, f_heapCap, f_frameCap, f_choiceCap, f_querySlot, f_firstNode, f_draftLen, f_draftOpen, f_draftAtoms, f_programUsed, f_clauses, f_trailLen, f_depth, f_choiceCount, f_status, f_solutions, f_steps, f_complete, f_pairTop, f_writeTop, f_answerLen, f_goalLen, a_draft, a_code, a_skip, a_local, a_slotStart, a_slotLen, a_slotAtoms, a_slotVars, a_slotNodes, a_slotWeight, a_slotKey, a_atomPlace, a_nodeFn, a_nodeLink, a_nodeArg, a_trail, a_frameSlot, a_frameBase, a_contFrame, a_contAtom, a_selFrame, a_selAtom, a_nodeTop, a_trailAt, a_heapAt, a_pendingAt, a_choiceDepth, a_choiceNext, a_pairLeft, a_pairRight, a_colour, a_dfsNode, a_dfsArg, a_writing, a_writeStack, a_varNumber) (g_clauseCap, g_heapCap, g_frameCap, g_choiceCap, g_draftCount, g_clauses, g_queryCount, g_status, g_depth, g_choiceCount, g_solutions, g_steps, g_complete, g_compoundCount, g_equations, g_goalCount, b_draft, b_clauseCodes, b_clauseLength, b_query, b_trace, b_choiceDepths, b_choiceNexts, b_code, b_link, b_compound, b_finite, b_left, b_right, b_goals, b_atomPlace, b_stack, b_seen) := wm_in h1 h2 h3 h4 h5 h6 h7 h8 h9
  have st6 := h8.1.1
  have hm := h5.2.2.2.1
  have b0 := h1.2.2.1
  have d32 := h2.1
  refine pk_eq st 0 (fun e => ?_) (fun e => wm_eqF st 0 e (And.intro rfl R) h9.1.1) h8.1.2.1
  subst e
  refine wx_draftWhole h2 h3 (fun hw => ?_) (fun hw => ?_)
  · refine wm_eqF 1 0 (by omega) ?_
    obtain ⟨⟨p1, p2, p3, p4⟩, ⟨p5, p6⟩, p7, p8⟩ := h5
    have ycommon : ∀ (post : Int32 → SY → Prop), (m < cc → ∃ n, wY_addClause_52 post g_clauseCap g_heapCap g_frameCap g_choiceCap g_draftCount g_clauses g_queryCount g_status g_depth g_choiceCount g_solutions g_steps g_complete g_compoundCount g_equations g_goalCount b_draft b_clauseCodes b_clauseLength b_query b_trace b_choiceDepths b_choiceNexts b_code b_link b_compound b_finite b_left b_right b_goals b_atomPlace b_stack b_seen n g_draftCount 0) → (cc ≤ m → post (-3) (g_clauseCap, g_heapCap, g_frameCap, g_choiceCap, g_draftCount, g_clauses, g_queryCount, g_status, g_depth, g_choiceCount, g_solutions, g_steps, g_complete, g_compoundCount, g_equations, g_goalCount, b_draft, b_clauseCodes, b_clauseLength, b_query, b_trace, b_choiceDepths, b_choiceNexts, b_code, b_link, b_compound, b_finite, b_left, b_right, b_goals, b_atomPlace, b_stack, b_seen)) → wpY_addClause post (g_clauseCap, g_heapCap, g_frameCap, g_choiceCap, g_draftCount, g_clauses, g_queryCount, g_status, g_depth, g_choiceCount, g_solutions, g_steps, g_complete, g_compoundCount, g_equations, g_goalCount, b_draft, b_clauseCodes, b_clauseLength, b_query, b_trace, b_choiceDepths, b_choiceNexts, b_code, b_link, b_compound, b_finite, b_left, b_right, b_goals, b_atomPlace, b_stack, b_seen) := fun post a1 a0 => by
      refine wm_eqT 0 0 rfl ?_ h9.1.1
      refine wy_whole h2 h4 (fun _ => ?_) (fun n => absurd hw n)
      refine wm_eqF 1 0 (by omega) ?_
      refine pk_le cc m a0 (fun h => ?_) h1.2.1.1 p3
      exact wm_ltT m 32 (by omega) (a1 h) p3
    refine pk_lt m cc (fun hlt => ?_) (fun hge => ycommon _ (fun h => absurd h (by omega)) (fun _ => And.intro rfl R)) p2 h1.1.1
    have ysum : ∀ (post : Int32 → SY → Prop), (dl + ps m ≤ 256 → ∃ n, wY_addClause_87 post g_clauseCap g_heapCap g_frameCap g_choiceCap g_draftCount g_clauses g_queryCount g_status g_depth g_choiceCount g_solutions g_steps g_complete g_compoundCount g_equations g_goalCount n 0 b_draft b_clauseCodes b_clauseLength b_query b_trace b_choiceDepths b_choiceNexts b_code b_link b_compound b_finite b_left b_right b_goals b_atomPlace b_stack b_seen) → (256 < dl + ps m → post (-3) (g_clauseCap, g_heapCap, g_frameCap, g_choiceCap, g_draftCount, g_clauses, g_queryCount, g_status, g_depth, g_choiceCount, g_solutions, g_steps, g_complete, g_compoundCount, g_equations, g_goalCount, b_draft, b_clauseCodes, b_clauseLength, b_query, b_trace, b_choiceDepths, b_choiceNexts, b_code, b_link, b_compound, b_finite, b_left, b_right, b_goals, b_atomPlace, b_stack, b_seen)) → ∃ n, wY_addClause_52 post g_clauseCap g_heapCap g_frameCap g_choiceCap g_draftCount g_clauses g_queryCount g_status g_depth g_choiceCount g_solutions g_steps g_complete g_compoundCount g_equations g_goalCount b_draft b_clauseCodes b_clauseLength b_query b_trace b_choiceDepths b_choiceNexts b_code b_link b_compound b_finite b_left b_right b_goals b_atomPlace b_stack b_seen n g_draftCount 0 := fun post a1 a0 => by
      refine ⟨m + 1, ?_⟩
      have := wy_add_52 (post := post) (ln := ln) (ps := ps) (dl := dl) d32 hm p3 (fun c hc' => (p7 c hc').1) (fun c hc' => (p8.2 c hc').2.1) p6 a1 a0 (m + 1) 0 (Nat.zero_le _) (by omega)
      have e : nI (dl + ps 0) = g_draftCount := by rw [p5, h4.1, Nat.add_zero]
      rw [e] at this
      exact this
    refine pk_le (ps m + dl) 256 (fun hle => ?_) (fun hgt => ?_) (by rw [p4, h3.1, nI_add])
    · have hC : wm_WC dc dl := ⟨h2, hw.1, hw.2⟩
      refine wx_compile (C := dc) (n := dl) (s := ps m) (sl := m) p2 p4 hC (by omega) (by omega) h3.1 h3.2.2.1 h3.2.2.2 (fun code' skip' loc' start' len' atoms' vars' nodes' weight' key' place' hSX hFR => ?_)
      refine nm_r (e' := nI (ps m + dl)) (by rw [p4, h3.1, nI_add]) (nm_r (e' := nI (m + 1)) (by rw [p2, nI_1]) ?_)
      show wpY_addClause (fun r' v' => r' = f_clauses ∧ i_Rel (k + 5) (f_clauseCap, f_heapCap, f_frameCap, f_choiceCap, f_querySlot, f_firstNode, 0, 0, 0, (nI (ps m + dl)), (nI (m + 1)), f_trailLen, f_depth, f_choiceCount, f_status, f_solutions, f_steps, f_complete, f_pairTop, f_writeTop, f_answerLen, f_goalLen, a_draft, code', skip', loc', start', len', atoms', vars', nodes', weight', key', place', a_nodeFn, a_nodeLink, a_nodeArg, a_trail, a_frameSlot, a_frameBase, a_contFrame, a_contAtom, a_selFrame, a_selAtom, a_nodeTop, a_trailAt, a_heapAt, a_pendingAt, a_choiceDepth, a_choiceNext, a_pairLeft, a_pairRight, a_colour, a_dfsNode, a_dfsArg, a_writing, a_writeStack, a_varNumber) v') (g_clauseCap, g_heapCap, g_frameCap, g_choiceCap, g_draftCount, g_clauses, g_queryCount, g_status, g_depth, g_choiceCount, g_solutions, g_steps, g_complete, g_compoundCount, g_equations, g_goalCount, b_draft, b_clauseCodes, b_clauseLength, b_query, b_trace, b_choiceDepths, b_choiceNexts, b_code, b_link, b_compound, b_finite, b_left, b_right, b_goals, b_atomPlace, b_stack, b_seen)
      refine ycommon _ (fun _ => ?_) (fun h => absurd h (by omega))
      refine ysum _ (fun _ => ?_) (fun h => absurd h (by omega))
      refine ⟨dl + 1, ?_⟩
      refine wy_add_87 (m := m) h2 h4 (by omega) p3 (fun cC y1 y2 => ?_) (dl + 1) 0 _ (Nat.zero_le _) (by omega) (fun i hi => by omega) (fun _ _ => rfl)
      refine And.intro p2.symm ?_
      have csn : ∀ c, c < m → (fun c => if c = m then dc else cs c) c = cs c := fun c hc' => if_neg (by omega)
      have csm : (fun c => if c = m then dc else cs c) m = dc := if_pos rfl
      refine wm_in (cc := cc) (hc := hc) (fc := fc) (kc := kc) (dl := 0) (m := m + 1) (st := 0) (d := d) (q := q) (so := so) (sp := sp) (dc := dc) (ln := wm_u ln m dl) (ps := wm_u ps (m + 1) (ps m + dl)) (sl := sl) (ta := ta) (t := t) (cd := cd) (cx := cx) (cs := fun c => if c = m then dc else cs c) h1 ⟨by omega, fun i hi => by omega, by show 0 ≤ 8; omega⟩ ⟨rfl, rfl, rfl, fun i hi => by omega⟩ ⟨rfl, fun i hi => by omega⟩ ⟨⟨by omega, rfl, rfl, by rw [wm_us]⟩, ⟨by rw [wm_un (by omega)]; exact p5, by rw [wm_us]; exact hle⟩, fun c hcm => ?_, ⟨by omega, fun c hcm => ?_⟩⟩ (fun h => absurd rfl h) h7 ⟨h8.1, h8.2.1, h8.2.2.1, fun h => absurd rfl h.1⟩ ⟨h9.1, fun h => absurd rfl h.1⟩
      · rcases Nat.lt_or_ge c m with z | z
        · rw [csn c z, wm_un (by omega), wm_un (by omega), wm_un (by omega)]
          obtain ⟨s1, s2⟩ := p7 c z
          have w := (wm_ps_le (g_clauses := g_clauses) (b_clauseCodes := b_clauseCodes) (b_clauseLength := b_clauseLength) ⟨⟨p1, p2, p3, p4⟩, ⟨p5, p6⟩, p7, p8⟩ (c + 1) (by omega)).1
          exact ⟨s1, wm_SX_keep (p8.2 c z).1 s2 hFR (by omega) (Or.inl (by omega))⟩
        · have : c = m := by omega
          subst this
          rw [csm, wm_us, wm_us, wm_un (by omega)]
          exact ⟨rfl, hSX⟩
      · rcases Nat.lt_or_ge c m with z | z
        · obtain ⟨s1, s2, s3⟩ := p8.2 c z
          have := s1.1.1
          rw [csn c z, wm_un (by omega), pk_un (by omega)]
          exact ⟨s1, s2, fun i hi => by rw [y2 _ (by omega)]; exact s3 i hi⟩
        · have : c = m := by omega
          subst this
          rw [csm, wm_us, pk_us]
          exact ⟨hC, rfl, y1⟩
    · exact ycommon _ (fun _ => ysum _ (fun h => absurd h (by omega)) (fun _ => And.intro rfl R)) (fun h => absurd h (by omega))
  · refine wm_eqT 0 0 rfl (wm_eqT 0 0 rfl ?_ h9.1.1)
    exact wy_whole h2 h4 (fun n => absurd n hw) (fun _ => wm_eqT 0 0 rfl (And.intro rfl R))
end
section
/-! owed: ask -/
theorem wm_open {cs : Nat → Nat → Nat} {ln sl : Nat → Nat} {fn lk arg tr : Nat → Int32} (h0 : sl 0 = 32) (hW : wm_WC (cs 32) (ln 32)) (hgc : wm_GC (cs 32) (ln 32) 16 fn lk arg) (hcn : ∀ c, c < 16 → fn c = nI c ∧ lk c = -1) (hb : wm_bs cs ln sl (0 + 1) ≤ 272) :
    wm_NDS cs ln sl 0 fn lk arg ∧ wm_TRL cs ln sl 0 (fun _ => 0) (fun _ => 0) (wm_Fn fn) (wm_Gn arg) lk tr 0 ∧ wm_XS (wm_bs cs ln sl (0 + 1)) (wm_Fn fn) (wm_Gn arg) (wm_qs cs ln sl 0) lk 0 := by
  have hN : wm_NDS cs ln sl 0 fn lk arg := by
    refine ⟨hcn, fun j hj => ?_⟩
    have : j = 0 := by omega
    subst this
    rw [h0]
    exact ⟨fun v hv => (hgc.1 v hv).1, fun k hk hp => ⟨(hgc.2 k hk hp).1, (hgc.2 k hk hp).2.2⟩⟩
  have hW0 : ∀ j, j ≤ 0 → wm_WC (cs (sl j)) (ln (sl j)) := fun j hj => by
    have : j = 0 := by omega
    subst this
    rw [h0]; exact hW
  obtain ⟨gx, cp⟩ := wm_gx hW0 hN hb
  have eb : wm_bs cs ln sl (0 + 1) = 16 + wm_N (cs 32) (ln 32) := by simp only [wm_bs, h0]
  have hq : ∀ a b, ¬ wm_qs cs ln sl 0 a b := fun a b ⟨i, hi, _⟩ => by omega
  have v16 : ∀ a, a < 16 → ∀ k, ¬ k < wm_ar (wm_Fn fn a) := fun a ha k hk => by
    rw [wm_Fn_c (hcn a ha).1 (by omega), wm_ar_c (by omega)] at hk
    omega
  have sv : wm_Sv (wm_bs cs ln sl 0) (wm_Fn fn) (wm_Gn arg) (wm_qs cs ln sl 0) (fun n => n) :=
    ⟨fun a ha => ⟨ha, rfl, fun _ => rfl⟩, fun a b h => absurd h (hq a b), fun a ha k hk => rfl, fun S hS a ha => hS.1.1 a⟩
  have rk : wm_Rk (wm_bs cs ln sl 0) (wm_Fn fn) (wm_Gn arg) (fun n => n) (fun _ => 0) := ⟨fun a ha => rfl, fun a ha k hk => absurd hk (v16 a ha k)⟩
  obtain ⟨n1, rk', n2⟩ := wm_newcopy (e := 0) (by rw [h0]; exact hW) cp sv rk (fun a b h => absurd h (hq a b)) (fun a ha k hk => absurd hk (v16 a ha k)) (fun n _ => rfl)
  have l1 : ∀ n, n < wm_bs cs ln sl (0 + 1) → lk n = -1 := fun n hn => by
    rcases Nat.lt_or_ge n 16 with z | z
    · exact (hcn n z).2
    · rcases wm_cov1 (C := cs 32) (n := ln 32) (b := 16) z (by omega) with ⟨v, y1, y2, y3, y4⟩ | ⟨q, y1, y2, y3⟩
      · rw [y3]; exact (hgc.1 _ y4).2
      · rw [y3]; exact (hgc.2 q y1 y2).2.1
  have xs : ∀ L : Nat → Int32, (∀ n, n < wm_bs cs ln sl (0 + 1) → L n = -1) → wm_XS (wm_bs cs ln sl (0 + 1)) (wm_Fn fn) (wm_Gn arg) (wm_qs cs ln sl 0) L 0 := fun L hL =>
    ⟨fun n => n, fun _ => 0, rk', fun n hn => Or.inl ⟨hL n hn, rfl, rfl⟩, fun n => Nat.le_refl _, n1, n2, fun n _ => rfl, fun n _ => rfl⟩
  refine ⟨hN, ⟨fun j hj => ⟨Nat.le_refl _, fun L' hu => ?_⟩, ⟨fun i hi => by omega, fun i j hi => by omega, fun j hj i hi => absurd hi (Nat.not_lt_zero _)⟩, fun i hi => by omega, fun i j _ _ => Nat.le_refl _⟩, xs lk l1⟩
  have : j = 0 := by omega
  subst this
  refine xs L' (fun n hn => ?_)
  rw [(hu n hn).2 (fun i a b => by omega)]; exact l1 n hn
section
variable {g_clauseCap g_heapCap g_frameCap g_choiceCap g_draftCount g_clauses g_queryCount g_status g_depth g_choiceCount g_solutions g_steps g_complete g_compoundCount g_equations g_goalCount : Int32} {b_draft b_clauseCodes b_clauseLength b_query b_trace b_choiceDepths b_choiceNexts b_code b_link b_compound b_finite b_left b_right b_goals b_atomPlace b_stack b_seen : Nat → Int32}
variable {dc : Nat → Nat} {dl : Nat}
theorem wy_ask_42 {post : Int32 → SY → Prop} (hdl : dl ≤ 32) (h : wm_DRY dc dl g_draftCount b_draft) (hp : ∀ qu : Nat → Int32, (∀ k, k < dl → qu k = nI (dc k)) → wY_ask_74 post g_clauseCap g_heapCap g_frameCap g_choiceCap g_draftCount g_clauses g_queryCount g_status g_depth g_choiceCount g_solutions g_steps g_complete g_compoundCount g_equations g_goalCount b_draft b_clauseCodes b_clauseLength qu b_trace b_choiceDepths b_choiceNexts b_code b_link b_compound b_finite b_left b_right b_goals b_atomPlace b_stack b_seen) :
    ∀ (n i : Nat) (b_query : Nat → Int32), i ≤ dl → dl < n + i → (∀ k, k < i → b_query k = nI (dc k)) → wY_ask_42 post g_clauseCap g_heapCap g_frameCap g_choiceCap g_draftCount g_clauses g_queryCount g_status g_depth g_choiceCount g_solutions g_steps g_complete g_compoundCount g_equations g_goalCount n (nI i) b_draft b_clauseCodes b_clauseLength b_query b_trace b_choiceDepths b_choiceNexts b_code b_link b_compound b_finite b_left b_right b_goals b_atomPlace b_stack b_seen := by
  intro n
  induction n with
  | zero => intro i _ a b; omega
  | succ n ih =>
    intro i b_query a b hq
    by_cases e : i = dl
    · subst e
      exact wm_leT i i (Nat.le_refl _) (hp _ hq) h.1
    · refine wm_leF dl i (by omega) (wm_leF 32 i (by omega) (And.intro (pk_in i 32 (by omega)) (And.intro (pk_in i 32 (by omega)) (nm_r (wm_ux (wm_rx (h.2 i (by omega)))) (nm_r (nI_1 i) (ih (i + 1) _ (by omega) (by omega) (fun k hk => ?_))))))) h.1
      by_cases c : k = i
      · subst c; exact pk_us
      · rw [pk_un c]; exact hq k (by omega)
end
theorem i_vc_ask {k : Nat} {u : SX} {v : SY} (I : i_Rel k u v) (hk : k + 5 ≤ 2564) : wpX_ask (fun r u' => wpY_ask (fun r' v' => r' = r ∧ i_Rel (k + 5) u' v') v) u := by
  refine wm_el (P := fun u v => wpX_ask (fun r u' => wpY_ask (fun r' v' => r' = r ∧ i_Rel (k + 5) u' v') v) u) ?_ I
  intro f_clauseCap f_heapCap f_frameCap f_choiceCap f_querySlot f_firstNode f_draftLen f_draftOpen f_draftAtoms f_programUsed f_clauses f_trailLen f_depth f_choiceCount f_status f_solutions f_steps f_complete f_pairTop f_writeTop f_answerLen f_goalLen a_draft a_code a_skip a_local a_slotStart a_slotLen a_slotAtoms a_slotVars a_slotNodes a_slotWeight a_slotKey a_atomPlace a_nodeFn a_nodeLink a_nodeArg a_trail a_frameSlot a_frameBase a_contFrame a_contAtom a_selFrame a_selAtom a_nodeTop a_trailAt a_heapAt a_pendingAt a_choiceDepth a_choiceNext a_pairLeft a_pairRight a_colour a_dfsNode a_dfsArg a_writing a_writeStack a_varNumber g_clauseCap g_heapCap g_frameCap g_choiceCap g_draftCount g_clauses g_queryCount g_status g_depth g_choiceCount g_solutions g_steps g_complete g_compoundCount g_equations g_goalCount b_draft b_clauseCodes b_clauseLength b_query b_trace b_choiceDepths b_choiceNexts b_code b_link b_compound b_finite b_left b_right b_goals b_atomPlace b_stack b_seen cc hc fc kc dl m st d q so sp dc ln ps sl ta t cd cx cs h1 h2 h3 h4 h5 h6 h7 h8 h9
  have R : i_Rel (k + 5) (f_clauseCap, f_heapCap, f_frameCap, f_choiceCap, f_querySlot, f_firstNode, f_draftLen, f_draftOpen, f_draftAtoms, f_programUsed, f_clauses, f_trailLen, f_depth, f_choiceCount, f_status, f_solutions, f_steps, f_complete, f_pairTop, f_writeTop, f_answerLen, f_goalLen, a_draft, a_code, a_skip, a_local, a_slotStart, a_slotLen, a_slotAtoms, a_slotVars, a_slotNodes, a_slotWeight, a_slotKey, a_atomPlace, a_nodeFn, a_nodeLink, a_nodeArg, a_trail, a_frameSlot, a_frameBase, a_contFrame, a_contAtom, a_selFrame, a_selAtom, a_nodeTop, a_trailAt, a_heapAt, a_pendingAt, a_choiceDepth, a_choiceNext, a_pairLeft, a_pairRight, a_colour, a_dfsNode, a_dfsArg, a_writing, a_writeStack, a_varNumber) (g_clauseCap, g_heapCap, g_frameCap, g_choiceCap, g_draftCount, g_clauses, g_queryCount, g_status, g_depth, g_choiceCount, g_solutions, g_steps, g_complete, g_compoundCount, g_equations, g_goalCount, b_draft, b_clauseCodes, b_clauseLength, b_query, b_trace, b_choiceDepths, b_choiceNexts, b_code, b_link, b_compound, b_finite, b_left, b_right, b_goals, b_atomPlace, b_stack, b_seen) := wm_in h1 h2 h3 h4 h5 h6 h7 h8 h9
  have st6 := h8.1.1
  have hm := h5.2.2.2.1
  have d32 := h2.1
  have b2 := h1.2.2.2.1
  refine pk_eq st 0 (fun e => ?_) (fun e => wm_eqF st 0 e (And.intro rfl R) h9.1.1) h8.1.2.1
  subst e
  refine wx_draftWhole h2 h3 (fun hw => ?_) (fun hw => ?_)
  · refine wm_eqF 1 0 (by omega) ?_
    have hC : wm_WC dc dl := ⟨h2, hw.1, hw.2⟩
    have ys : wm_YS (-2) dc dl g_draftCount g_clauses g_queryCount b_draft b_clauseCodes b_clauseLength b_query := ⟨h2.1, Or.inl ⟨rfl, h4.1, h4.2⟩⟩
    have ycommon : ∀ (post : Int32 → SY → Prop), (wm_W dc dl ≤ hc → ∃ n, wY_ask_42 post g_clauseCap g_heapCap g_frameCap g_choiceCap g_draftCount g_clauses g_queryCount g_status g_depth g_choiceCount g_solutions g_steps g_complete g_compoundCount g_equations g_goalCount n 0 b_draft b_clauseCodes b_clauseLength b_query b_trace b_choiceDepths b_choiceNexts b_code b_link b_compound b_finite b_left b_right b_goals b_atomPlace b_stack b_seen) → (hc < wm_W dc dl → post (-7) (g_clauseCap, g_heapCap, g_frameCap, g_choiceCap, g_draftCount, g_clauses, g_queryCount, g_status, g_depth, g_choiceCount, g_solutions, g_steps, g_complete, g_compoundCount, g_equations, g_goalCount, b_draft, b_clauseCodes, b_clauseLength, b_query, b_trace, b_choiceDepths, b_choiceNexts, b_code, b_link, b_compound, b_finite, b_left, b_right, b_goals, b_atomPlace, b_stack, b_seen)) → wpY_ask post (g_clauseCap, g_heapCap, g_frameCap, g_choiceCap, g_draftCount, g_clauses, g_queryCount, g_status, g_depth, g_choiceCount, g_solutions, g_steps, g_complete, g_compoundCount, g_equations, g_goalCount, b_draft, b_clauseCodes, b_clauseLength, b_query, b_trace, b_choiceDepths, b_choiceNexts, b_code, b_link, b_compound, b_finite, b_left, b_right, b_goals, b_atomPlace, b_stack, b_seen) := fun post a1 a0 => by
      have := wm_W_le dc dl
      refine wm_eqT 0 0 rfl ?_ h9.1.1
      refine wy_whole h2 h4 (fun _ => ?_) (fun n => absurd hw n)
      refine wm_eqF 1 0 (by omega) ?_
      refine wy_weight ys (fun k hk => (h2.2.1 k hk).1) ?_
      exact pk_le (wm_W dc dl) hc a1 a0 rfl h1.2.1.2.1
    refine wx_compile (C := dc) (n := dl) (s := 256) (sl := 32) rfl rfl hC (by omega) (by omega) h3.1 h3.2.2.1 h3.2.2.2 (fun code' skip' loc' start' len' atoms' vars' nodes' weight' key' place' hSX hFR => ?_)
    have wW := wm_W_le dc dl
    have csn : ∀ c, c < m → (fun c => if c = 32 then dc else cs c) c = cs c := fun c hc' => if_neg (by omega)
    have csm : (fun c => if c = 32 then dc else cs c) 32 = dc := if_pos rfl
    have hPR : wm_PR cc m cs ln ps f_programUsed f_clauses code' skip' loc' start' len' atoms' vars' nodes' weight' key' place' g_clauses b_clauseCodes b_clauseLength := by
      refine ⟨h5.1, h5.2.1, fun c hcm => ⟨(h5.2.2.1 c hcm).1, ?_⟩, h5.2.2.2⟩
      have w := (wm_ps_le h5 c (by omega)).2 hcm
      exact wm_SX_keep (h5.2.2.2.2 c hcm).1 (h5.2.2.1 c hcm).2 hFR (by omega) (Or.inl (by omega))
    refine pk_le (wm_W dc dl) hc (fun hle => ?_) (fun hgt => ?_) hSX.2.1.2.2.1 h1.1.2.1
    · have hPR' : wm_PR cc m (fun c => if c = 32 then dc else cs c) (wm_u ln 32 dl) ps f_programUsed f_clauses code' skip' loc' start' len' atoms' vars' nodes' weight' key' place' g_clauses b_clauseCodes b_clauseLength := by
        refine ⟨hPR.1, hPR.2.1, fun c hcm => ?_, ⟨hm, fun c hcm => ?_⟩⟩
        · rw [csn c hcm, wm_un (by omega)]; exact hPR.2.2.1 c hcm
        · rw [csn c hcm, wm_un (by omega)]; exact hPR.2.2.2.2 c hcm
      have hC' : wm_WC ((fun c => if c = 32 then dc else cs c) 32) (wm_u ln 32 dl 32) := by rw [csm, wm_us]; exact hC
      have hSX' : wm_SX ((fun c => if c = 32 then dc else cs c) 32) (wm_u ln 32 dl 32) 32 256 code' skip' loc' start' len' atoms' vars' nodes' weight' key' place' := by rw [csm, wm_us]; exact hSX
      have hNW := wm_N_W dc dl
      have eW : wm_W ((fun c => if c = 32 then dc else cs c) 32) (wm_u ln 32 dl 32) = wm_W dc dl := by rw [csm, wm_us]
      have eN : wm_N ((fun c => if c = 32 then dc else cs c) 32) (wm_u ln 32 dl 32) = wm_N dc dl := by rw [csm, wm_us]
      have eL : wm_u ln 32 dl 32 = dl := wm_us
      generalize hcse : (fun c => if c = 32 then dc else cs c) = cs' at *
      generalize hlne : wm_u ln 32 dl = ln' at *
      unfold wpX_clearDraft wpX_resetCounts wpX_forgetWritings
      refine wx_openQuery (cs := cs') (ln := ln') (sl := fun _ => 32) (ta := fun _ => 0) rfl rfl hC' (by omega) hSX' (by omega) (fun fs fb cf ca sf sa nt tA hA pA fn lk arg hF hCN hgc hgf => ?_)
      have hcn : ∀ c, c < 16 → fn c = nI c ∧ lk c = -1 := fun c hc' => by
        rw [(hgf.1 c (by omega)).1, (hgf.1 c (by omega)).2]; exact h8.2.1 c hc'
      have eb : wm_bs cs' ln' (fun _ => 32) (0 + 1) ≤ 272 := by
        show 16 + wm_N (cs' 32) (ln' 32) ≤ 272
        omega
      obtain ⟨hN, hR, hXS⟩ := wm_open (cs := cs') (ln := ln') (sl := fun _ => 32) (tr := a_trail) rfl hC' hgc hcn eb
      have hTO : wm_TO cs' ln' (fun _ => 32) 0 := ⟨fun i _ => hC', fun i hi => by omega⟩
      have hgl : wm_gl cs' ln' (fun _ => 32) 0 ≠ [] := by
        have := wm_na_pos (C := cs' 32) hC'.2.1
        show wm_sg cs' ln' (fun _ => 32) 0 0 ≠ []
        rw [wm_sg_cons (show 0 < wm_nA cs' ln' (fun _ => 32) 0 from this)]
        exact List.cons_ne_nil _ _
      have hgp := wm_gp_of hTO.1 hN eb
      refine ycommon _ (fun _ => ?_) (fun h => absurd h (by omega))
      refine ⟨dl + 1, wy_ask_42 d32 h4 (fun qu hqu => ?_) (dl + 1) 0 _ (Nat.zero_le _) (by omega) (fun i hi => by omega)⟩
      unfold wY_ask_74
      have ysq : wm_YS (-1) (cs' 32) (ln' 32) 0 g_clauses g_draftCount b_draft b_clauseCodes b_clauseLength qu := by
        refine ⟨hC'.1.1, Or.inr (Or.inl ⟨rfl, by rw [eL]; exact h4.1, fun i hi => ?_⟩)⟩
        rw [csm]
        exact hqu i (by omega)
      have hBH : wm_BH cs' ln' (fun _ => 32) 0 (wm_Fn fn) (wm_Gn arg) 0 g_clauses g_draftCount b_draft b_clauseCodes b_clauseLength qu b_trace := ⟨⟨by omega, hTO, hgp.1, eb⟩, hgp.2.2.1, hgp.2.2.2, ysq, fun i hi => by omega⟩
      have hhp : wm_hp cs' ln' (fun _ => 32) 0 ≤ hc := by
        show wm_W (cs' 32) (ln' 32) ≤ hc
        omega
      refine wy_build (D := 0) rfl hBH (fun r eq cc' gc code comp link fin left right goals place ho => ?_)
      rcases ho with ⟨-, hYB, -⟩ | ⟨-, hng⟩
      · refine And.intro rfl ?_
        exact wm_in (cc := cc) (hc := hc) (fc := fc) (kc := kc) (dl := 0) (m := m) (st := 1) (d := 0) (q := 0) (so := 0) (sp := 0) (dc := dc) (ln := ln') (ps := ps) (sl := fun _ => 32) (ta := fun _ => 0) (t := fun _ => 0) (cd := fun _ => 0) (cx := fun _ => 0) (cs := cs') h1 ⟨by omega, fun i hi => by omega, by show 0 ≤ 8; omega⟩ ⟨rfl, rfl, rfl, fun i hi => by omega⟩ ⟨rfl, fun i hi => by omega⟩ hPR'
          (fun _ => ⟨hC', hSX', by rw [eL]; exact h4.1, fun i hi => by rw [csm]; exact hqu i (by omega)⟩) ⟨rfl, Or.inr rfl⟩
          ⟨⟨by omega, rfl, rfl, rfl⟩, hcn, fun h => absurd ⟨by omega, by omega⟩ h, fun _ => ⟨⟨Nat.zero_le _, Nat.zero_le _, hTO, rfl, fun i a b => by omega, hhp, ⟨fun i hi => by omega, fun i i' a b => by omega⟩, fun h => by omega, fun h => absurd h hgl⟩, ⟨rfl, rfl, rfl, fun i hi => by omega, hF, hCN, hN, hR⟩, Or.inl rfl, Or.inl rfl⟩⟩
          ⟨⟨rfl, rfl, rfl⟩, fun _ => ⟨rfl, rfl, fun i hi => by omega, fun i hi => by omega, hYB⟩⟩
      · exact absurd (wm_XS_gd hXS) hng
    · refine ycommon _ (fun h => absurd h (by omega)) (fun _ => And.intro rfl ?_)
      exact wm_in (cc := cc) (hc := hc) (fc := fc) (kc := kc) (dl := dl) (m := m) (st := 0) (d := d) (q := q) (so := so) (sp := sp) (dc := dc) (ln := ln) (ps := ps) (sl := sl) (ta := ta) (t := t) (cd := cd) (cx := cx) (cs := cs) h1 h2 h3 h4 hPR (fun h => absurd rfl h) h7 h8 h9
  · refine wm_eqT 0 0 rfl (wm_eqT 0 0 rfl ?_ h9.1.1)
    exact wy_whole h2 h4 (fun n => absurd n hw) (fun _ => wm_eqT 0 0 rfl (And.intro rfl R))
end
section
/-! owed: token, goalToken -/
section
variable {f_clauseCap f_heapCap f_frameCap f_choiceCap f_querySlot f_firstNode f_draftLen f_draftOpen f_draftAtoms f_programUsed f_clauses f_trailLen f_depth f_choiceCount f_status f_solutions f_steps f_complete f_pairTop f_writeTop f_answerLen f_goalLen : Int32} {a_draft a_code a_skip a_local a_slotStart a_slotLen a_slotAtoms a_slotVars a_slotNodes a_slotWeight a_slotKey a_atomPlace a_nodeFn a_nodeLink a_nodeArg a_trail a_frameSlot a_frameBase a_contFrame a_contAtom a_selFrame a_selAtom a_nodeTop a_trailAt a_heapAt a_pendingAt a_choiceDepth a_choiceNext a_pairLeft a_pairRight a_colour a_dfsNode a_dfsArg a_writing a_writeStack a_varNumber : Nat → Int32}
theorem wx_token_31 {post : Int32 → SX → Prop} {toks : List Nat} {k : Nat} (hl : f_answerLen = nI toks.length) (h256 : toks.length ≤ 256) (ha : wm_at a_writing 0 toks) (hk : k < 256) (hp : post (wm_tk toks k) (f_clauseCap, f_heapCap, f_frameCap, f_choiceCap, f_querySlot, f_firstNode, f_draftLen, f_draftOpen, f_draftAtoms, f_programUsed, f_clauses, f_trailLen, f_depth, f_choiceCount, f_status, f_solutions, f_steps, f_complete, f_pairTop, f_writeTop, f_answerLen, f_goalLen, a_draft, a_code, a_skip, a_local, a_slotStart, a_slotLen, a_slotAtoms, a_slotVars, a_slotNodes, a_slotWeight, a_slotKey, a_atomPlace, a_nodeFn, a_nodeLink, a_nodeArg, a_trail, a_frameSlot, a_frameBase, a_contFrame, a_contAtom, a_selFrame, a_selAtom, a_nodeTop, a_trailAt, a_heapAt, a_pendingAt, a_choiceDepth, a_choiceNext, a_pairLeft, a_pairRight, a_colour, a_dfsNode, a_dfsArg, a_writing, a_writeStack, a_varNumber)) : wX_token_31 post (nI k) f_clauseCap f_heapCap f_frameCap f_choiceCap f_querySlot f_firstNode f_draftLen f_draftOpen f_draftAtoms f_programUsed f_clauses f_trailLen f_depth f_choiceCount f_status f_solutions f_steps f_complete f_pairTop f_writeTop f_answerLen f_goalLen a_draft a_code a_skip a_local a_slotStart a_slotLen a_slotAtoms a_slotVars a_slotNodes a_slotWeight a_slotKey a_atomPlace a_nodeFn a_nodeLink a_nodeArg a_trail a_frameSlot a_frameBase a_contFrame a_contAtom a_selFrame a_selAtom a_nodeTop a_trailAt a_heapAt a_pendingAt a_choiceDepth a_choiceNext a_pairLeft a_pairRight a_colour a_dfsNode a_dfsArg a_writing a_writeStack a_varNumber := by
  refine pk_le toks.length k (fun h => ?_) (fun h => ?_) hl
  · rw [wm_tk_none h] at hp; exact hp
  · rw [wm_at_tk ha h, Nat.zero_add] at hp
    refine And.intro (pk_in k 512 (by omega)) ?_
    rw [nI_clamp (by omega)]; exact hp
theorem wx_goalToken_31 {post : Int32 → SX → Prop} {toks : List Nat} {p k : Nat} (hl : f_goalLen = nI (1 + toks.length)) (h255 : toks.length ≤ 255) (h0 : a_writing 256 = nI p) (ha : wm_at a_writing 257 toks) (hk : k < 256) (hp : post (wm_tk (p :: toks) k) (f_clauseCap, f_heapCap, f_frameCap, f_choiceCap, f_querySlot, f_firstNode, f_draftLen, f_draftOpen, f_draftAtoms, f_programUsed, f_clauses, f_trailLen, f_depth, f_choiceCount, f_status, f_solutions, f_steps, f_complete, f_pairTop, f_writeTop, f_answerLen, f_goalLen, a_draft, a_code, a_skip, a_local, a_slotStart, a_slotLen, a_slotAtoms, a_slotVars, a_slotNodes, a_slotWeight, a_slotKey, a_atomPlace, a_nodeFn, a_nodeLink, a_nodeArg, a_trail, a_frameSlot, a_frameBase, a_contFrame, a_contAtom, a_selFrame, a_selAtom, a_nodeTop, a_trailAt, a_heapAt, a_pendingAt, a_choiceDepth, a_choiceNext, a_pairLeft, a_pairRight, a_colour, a_dfsNode, a_dfsArg, a_writing, a_writeStack, a_varNumber)) : wX_goalToken_31 post (nI k) f_clauseCap f_heapCap f_frameCap f_choiceCap f_querySlot f_firstNode f_draftLen f_draftOpen f_draftAtoms f_programUsed f_clauses f_trailLen f_depth f_choiceCount f_status f_solutions f_steps f_complete f_pairTop f_writeTop f_answerLen f_goalLen a_draft a_code a_skip a_local a_slotStart a_slotLen a_slotAtoms a_slotVars a_slotNodes a_slotWeight a_slotKey a_atomPlace a_nodeFn a_nodeLink a_nodeArg a_trail a_frameSlot a_frameBase a_contFrame a_contAtom a_selFrame a_selAtom a_nodeTop a_trailAt a_heapAt a_pendingAt a_choiceDepth a_choiceNext a_pairLeft a_pairRight a_colour a_dfsNode a_dfsArg a_writing a_writeStack a_varNumber := by
  have e : 256 + nI k = nI (256 + k) := by rw [show (256 : Int32) = nI 256 from rfl, nI_add]
  refine pk_le (1 + toks.length) k (fun h => ?_) (fun h => ?_) hl
  · rw [wm_tk_none (by simp only [List.length_cons]; omega)] at hp; exact hp
  · have ha' : wm_at a_writing 256 (p :: toks) := ⟨h0, ha⟩
    rw [wm_at_tk ha' (by simp only [List.length_cons]; omega)] at hp
    refine And.intro (pk_in (256 + k) 512 (by omega) e) ?_
    rw [e, nI_clamp (by omega)]; exact hp
variable {cs : Nat → Nat → Nat} {ln sl ss ta t : Nat → Nat} {m d : Nat}
theorem wx_writeGoal {post : SX → Prop} {F : Nat → Nat} {G : Nat → Nat → Nat} {ρ δ : Nat → Nat} {f j : Nat} (hd : f_depth = nI d) (hd' : d ≤ 128) (hS : wm_SLs m cs ln ss a_code a_skip a_local a_slotStart a_slotLen a_slotAtoms a_slotVars a_slotNodes a_slotWeight a_slotKey a_atomPlace) (hsl : ∀ i, i ≤ d → (sl i < m ∨ sl i = 32))
    (hF : wm_FRM cs ln sl d ta a_frameSlot a_frameBase a_nodeTop a_heapAt a_pendingAt a_trailAt) (hC : wm_CNT cs ln sl d a_contFrame a_contAtom a_selFrame a_selAtom) (hT : wm_TO cs ln sl d) (hg : (wm_gl cs ln sl d).head? = some (f, j))
    (hgx : wm_GX (wm_bs cs ln sl (d + 1)) F G a_nodeFn a_nodeArg) (hu : wm_UF (wm_bs cs ln sl (d + 1)) a_nodeLink ρ δ) (hdl : ∀ n, δ n ≤ 272)
    (hp : ∀ w ws vn : Nat → Int32, w 256 = nI (cs (sl f) (wm_pq cs ln sl f j)) → wm_at w 257 (wm_wr F G ρ 255 (wm_gn cs ln sl f j) []) → (∀ p, p < 256 → w p = a_writing p) → post (f_clauseCap, f_heapCap, f_frameCap, f_choiceCap, f_querySlot, f_firstNode, f_draftLen, f_draftOpen, f_draftAtoms, f_programUsed, f_clauses, f_trailLen, f_depth, f_choiceCount, f_status, f_solutions, f_steps, f_complete, f_pairTop, 0, f_answerLen, (nI (1 + (wm_wr F G ρ 255 (wm_gn cs ln sl f j) []).length)), a_draft, a_code, a_skip, a_local, a_slotStart, a_slotLen, a_slotAtoms, a_slotVars, a_slotNodes, a_slotWeight, a_slotKey, a_atomPlace, a_nodeFn, a_nodeLink, a_nodeArg, a_trail, a_frameSlot, a_frameBase, a_contFrame, a_contAtom, a_selFrame, a_selAtom, a_nodeTop, a_trailAt, a_heapAt, a_pendingAt, a_choiceDepth, a_choiceNext, a_pairLeft, a_pairRight, a_colour, a_dfsNode, a_dfsArg, w, ws, vn)) : wpX_writeGoal post (f_clauseCap, f_heapCap, f_frameCap, f_choiceCap, f_querySlot, f_firstNode, f_draftLen, f_draftOpen, f_draftAtoms, f_programUsed, f_clauses, f_trailLen, f_depth, f_choiceCount, f_status, f_solutions, f_steps, f_complete, f_pairTop, f_writeTop, f_answerLen, f_goalLen, a_draft, a_code, a_skip, a_local, a_slotStart, a_slotLen, a_slotAtoms, a_slotVars, a_slotNodes, a_slotWeight, a_slotKey, a_atomPlace, a_nodeFn, a_nodeLink, a_nodeArg, a_trail, a_frameSlot, a_frameBase, a_contFrame, a_contAtom, a_selFrame, a_selAtom, a_nodeTop, a_trailAt, a_heapAt, a_pendingAt, a_choiceDepth, a_choiceNext, a_pairLeft, a_pairRight, a_colour, a_dfsNode, a_dfsArg, a_writing, a_writeStack, a_varNumber) := by
  obtain ⟨g1, g2, g3, g4⟩ := wm_goal hT (Nat.le_refl _) hg
  obtain ⟨u1, u2, u3, u4⟩ := hS _ (hsl f g1)
  obtain ⟨c1, c2, c3⟩ := u4.2.2.2 _ g3
  unfold wpX_writeGoal
  refine wx_goalPlace hd hd' hS hsl hF hC hg ?_
  refine wx_goalBase hd hd' hF hC hg ?_
  refine And.intro (pk_in (ss (sl f) + wm_pq cs ln sl f j) 288 (by omega)) ?_
  refine wx_ar _ (u2.1.2.1 _ g3).1 (wm_rx c1) ?_
  refine nm_r (nI_1 _) ⟨wm_ar (cs (sl f) (wm_pq cs ln sl f j)) + 1, ?_⟩
  refine wx_wg_29 (k := 0) (C := cs (sl f)) (n0 := ln (sl f)) (s0 := ss (sl f)) (b := wm_bs cs ln sl f) (g := wm_pq cs ln sl f j) hgx hu hdl u2 u3 g3 u4.2.2.2 (fun k hk => ?_) hp _ _ (Nat.zero_le _) (by omega) (fun i hi hi2 => by omega)
  obtain ⟨p1, p2, p3⟩ := wm_ap_lt u2.2.2 g3 hk
  exact wm_nc_lt u2.1 g1 p2 p3
end
section
variable {g_clauseCap g_heapCap g_frameCap g_choiceCap g_draftCount g_clauses g_queryCount g_status g_depth g_choiceCount g_solutions g_steps g_complete g_compoundCount g_equations g_goalCount : Int32} {b_draft b_clauseCodes b_clauseLength b_query b_trace b_choiceDepths b_choiceNexts b_code b_link b_compound b_finite b_left b_right b_goals b_atomPlace b_stack b_seen : Nat → Int32}
variable {cs : Nat → Nat → Nat} {ln sl : Nat → Nat} {D : Nat} {F : Nat → Nat} {G : Nat → Nat → Nat} {r δ ρ : Nat → Nat}
theorem wy_written {post : Int32 → SY → Prop} {k : Nat} {x y : Int32} {ids : List Nat} (hx : x = nI k) (hy : y = nI ids.length) (hk : k < 256) (hW : ∀ j, j ≤ D → wm_WC (cs (sl j)) (ln (sl j))) (hD : D ≤ 128) (hcp : wm_CP cs ln sl D F G) (hyc : wm_YC cs ln sl D b_code) (hR : wm_YR cs ln sl D F G r δ ρ b_link)
    (h8 : ids.length ≤ 8) (hs : wm_sk b_stack ids.length = ids.map nI) (hv : ∀ x, x ∈ ids → wm_vi cs ln sl D x) (hp : ∀ st se : Nat → Int32, post (wm_tk (wm_wr F G ρ 256 (ids.map (wm_ph cs ln sl)) []) k) (g_clauseCap, g_heapCap, g_frameCap, g_choiceCap, g_draftCount, g_clauses, g_queryCount, g_status, g_depth, g_choiceCount, g_solutions, g_steps, g_complete, g_compoundCount, g_equations, g_goalCount, b_draft, b_clauseCodes, b_clauseLength, b_query, b_trace, b_choiceDepths, b_choiceNexts, b_code, b_link, b_compound, b_finite, b_left, b_right, b_goals, b_atomPlace, st, se)) : wpY_written post (g_clauseCap, g_heapCap, g_frameCap, g_choiceCap, g_draftCount, g_clauses, g_queryCount, g_status, g_depth, g_choiceCount, g_solutions, g_steps, g_complete, g_compoundCount, g_equations, g_goalCount, b_draft, b_clauseCodes, b_clauseLength, b_query, b_trace, b_choiceDepths, b_choiceNexts, b_code, b_link, b_compound, b_finite, b_left, b_right, b_goals, b_atomPlace, b_stack, b_seen) x y := by
  subst hx hy
  refine ⟨257, wy_wr_8 (sd := []) hW hD hcp hyc hR hk 256 257 0 ids.length ids _ _ _ _ (by omega) (Nat.zero_le _) (by omega) rfl (by omega) hs hv rfl (Nat.zero_le _) (fun i a ha => by simp at ha) (fun i j a ha => by simp at ha) hp⟩
theorem wy_token_35 {post : Int32 → SY → Prop} {k : Nat} (hk : k < 256) (hW : ∀ j, j ≤ D → wm_WC (cs (sl j)) (ln (sl j))) (hD : D ≤ 128) (h0 : sl 0 = 32) (hcp : wm_CP cs ln sl D F G) (hyc : wm_YC cs ln sl D b_code) (hR : wm_YR cs ln sl D F G r δ ρ b_link) (hq : wm_YS (-1) (cs 32) (ln 32) g_draftCount g_clauses g_queryCount b_draft b_clauseCodes b_clauseLength b_query)
    (hp : ∀ st se : Nat → Int32, post (wm_tk (wm_wr F G ρ 256 (wm_qv (wm_vs (cs 32) (ln 32))) []) k) (g_clauseCap, g_heapCap, g_frameCap, g_choiceCap, g_draftCount, g_clauses, g_queryCount, g_status, g_depth, g_choiceCount, g_solutions, g_steps, g_complete, g_compoundCount, g_equations, g_goalCount, b_draft, b_clauseCodes, b_clauseLength, b_query, b_trace, b_choiceDepths, b_choiceNexts, b_code, b_link, b_compound, b_finite, b_left, b_right, b_goals, b_atomPlace, st, se)) :
    ∀ (i n : Nat) (ids : List Nat) (x2 : Int32) (b_stack : Nat → Int32), i ≤ 8 → i < n → x2 = nI ids.length → ids.length ≤ 8 - i → wm_sk b_stack ids.length = ids.map nI → (∀ x, x ∈ ids → wm_vi cs ln sl D x) → ids.map (wm_ph cs ln sl) = wm_as (fun i => 16 + i) (fun _ i => 16 + i) 0 (wm_rk (cs 32) (ln 32) i) (wm_vs (cs 32) (ln 32) - wm_rk (cs 32) (ln 32) i) →
      wY_token_35 post (nI k) g_clauseCap g_heapCap g_frameCap g_choiceCap g_draftCount g_clauses g_queryCount g_status g_depth g_choiceCount g_solutions g_steps g_complete g_compoundCount g_equations g_goalCount n x2 (nI i + (-1)) b_draft b_clauseCodes b_clauseLength b_query b_trace b_choiceDepths b_choiceNexts b_code b_link b_compound b_finite b_left b_right b_goals b_atomPlace b_stack b_seen := by
  have w0 := hW 0 (Nat.zero_le _)
  rw [h0] at w0
  intro i
  induction i with
  | zero =>
    intro n ids x2 b_stack a b e2 hl hs hv hm
    obtain ⟨n, rfl⟩ : ∃ z, n = z + 1 := ⟨n - 1, by omega⟩
    subst e2
    refine br_t (by decide) (wy_written (ids := ids) rfl rfl hk hW hD hcp hyc hR (by omega) hs hv (fun st se => ?_))
    rw [hm]
    have : wm_rk (cs 32) (ln 32) 0 = 0 := rfl
    rw [this, Nat.sub_zero]
    exact hp st se
  | succ i ih =>
    intro n ids x2 b_stack a b e2 hl hs hv hm
    obtain ⟨n, rfl⟩ : ∃ z, n = z + 1 := ⟨n - 1, by omega⟩
    subst e2
    rw [pk_m1]
    refine wm_ltF i 0 (Nat.zero_le _) (wy_occurs (v := i) hq (fun k hk => (w0.1.2.1 k hk).1) (by omega) (by rw [show (128 : Int32) = nI 128 from rfl, nI_add]) (fun ho => ?_) (fun ho => ?_))
    · have er : wm_rk (cs 32) (ln 32) (i + 1) = wm_rk (cs 32) (ln 32) i + 1 := wm_cn_t ho
      have lt := wm_rk_lt (by omega : i < 8) ho
      have ho' : wm_oc (cs (sl 0)) (ln (sl 0)) i = true := by rw [h0]; exact ho
      refine wm_eqF 1 0 (by omega) (And.intro (pk_in ids.length 1100 (by omega)) (nm_r (wm_ux (v' := nI (4128 + i)) (by rw [show (4128 : Int32) = nI 4128 from rfl, nI_add])) (nm_r (nI_1 _) (nm_e (ih n ((4128 + i) :: ids) _ _ (by omega) (by omega) rfl (by simp only [List.length_cons]; omega) ?_ (fun x hx => ?_) ?_)))))
      · rw [List.length_cons, wm_sk_push, hs, List.map_cons]
      · rcases List.mem_cons.mp hx with e | e
        · rw [e]; exact Or.inr ⟨0, i, Nat.zero_le _, by omega, ho', by omega⟩
        · exact hv x e
      · have e3 : wm_ph cs ln sl (4128 + i) = 16 + wm_rk (cs 32) (ln 32) i := by
          have := wm_ph_v (cs := cs) (ln := ln) (sl := sl) (j := 0) (v := i) (by omega)
          rw [h0] at this
          exact this
        rw [List.map_cons, hm, e3, er, show wm_vs (cs 32) (ln 32) - wm_rk (cs 32) (ln 32) i = (wm_vs (cs 32) (ln 32) - (wm_rk (cs 32) (ln 32) i + 1)) + 1 by omega]
        rfl
    · have er : wm_rk (cs 32) (ln 32) (i + 1) = wm_rk (cs 32) (ln 32) i := wm_cn_f ho
      rw [er] at hm
      exact wm_eqT 0 0 rfl (nm_e (ih n ids _ _ (by omega) (by omega) rfl (by omega) hs hv hm))
theorem wy_goal_written {post : Int32 → SY → Prop} {f g k : Nat} {x : Int32} (hx : x = nI k) (hk : k < 256) (hW : ∀ j, j ≤ D → wm_WC (cs (sl j)) (ln (sl j))) (hD : D ≤ 128) (hcp : wm_CP cs ln sl D F G) (hyc : wm_YC cs ln sl D b_code) (hR : wm_YR cs ln sl D F G r δ ρ b_link)
    (hf : f ≤ D) (hg : g < ln (sl f)) (ho : wm_op (cs (sl f)) g = 0) (hs : b_stack 0 = nI (32 * f + g))
    (hp : ∀ st se : Nat → Int32, post (wm_tk (cs (sl f) g :: wm_wr F G ρ 255 (wm_ga (fun i => wm_nc cs ln sl f (wm_aq cs ln sl f g i)) (wm_ar (cs (sl f) g))) []) k) (g_clauseCap, g_heapCap, g_frameCap, g_choiceCap, g_draftCount, g_clauses, g_queryCount, g_status, g_depth, g_choiceCount, g_solutions, g_steps, g_complete, g_compoundCount, g_equations, g_goalCount, b_draft, b_clauseCodes, b_clauseLength, b_query, b_trace, b_choiceDepths, b_choiceNexts, b_code, b_link, b_compound, b_finite, b_left, b_right, b_goals, b_atomPlace, st, se)) : wpY_written post (g_clauseCap, g_heapCap, g_frameCap, g_choiceCap, g_draftCount, g_clauses, g_queryCount, g_status, g_depth, g_choiceCount, g_solutions, g_steps, g_complete, g_compoundCount, g_equations, g_goalCount, b_draft, b_clauseCodes, b_clauseLength, b_query, b_trace, b_choiceDepths, b_choiceNexts, b_code, b_link, b_compound, b_finite, b_left, b_right, b_goals, b_atomPlace, b_stack, b_seen) x 1 := by
  subst hx
  have hR' := hR
  obtain ⟨u1, u2, u3, u4⟩ := hR'
  have wf := hW f hf
  have f32 := wf.1.1
  have nv : ¬ wm_vi cs ln sl D (32 * f + g) := fun h => by
    rcases h with ⟨j, q, j1, j2, j3, j4, j5⟩ | ⟨j, v, j1, j2, j3, j4⟩
    · have q32 := (hW j j1).1.1
      have e1 : j = f := by omega
      subst e1
      have e2 : q = g := by omega
      subst e2
      omega
    · omega
  have er := u2.2 _ nv
  have dl := u2.1 (32 * f + g)
  have ok := (wf.1.2.1 g hg)
  have h80 := ok.2 ho
  have a4 := wm_ar4 (cs (sl f) g)
  have cb := hyc f hf g hg
  refine ⟨258, ?_⟩
  refine wm_ltF k 0 (Nat.zero_le _) (wm_leF 256 0 (by omega) (wm_leF 1 0 (by omega) (nm_r (pk_m1 0) (And.intro (pk_in 0 1100 (by omega)) (wy_find (n := 32 * f + g) u1 (by omega) (by omega) (wm_rx hs) ?_)))))
  rw [er]
  refine wm_ltT (32 * f + g) 4128 (by omega) (And.intro (pk_in (32 * f + g) 4128 (by omega)) (nm_r (wm_rx cb) (wy_ar (cs (sl f) g) ok.1 rfl (nm_r (e' := nI (wm_ar (cs (sl f) g)) + (-1)) (by rw [Int32.sub_eq_add_neg]) ⟨wm_ar (cs (sl f) g) + 1, ?_⟩))))
  refine wy_wr_146 (size := 0) (ids := []) wf (by omega) (hyc f hf) hg (by omega) (fun st hst => ?_) _ _ _ _ (Nat.le_refl _) (by omega) (by rw [Nat.sub_self]) (by rw [Nat.sub_self]; rfl)
  rw [List.append_nil, Nat.zero_add] at hst
  rw [Nat.zero_add]
  have emap : (wm_ga (fun i => wm_id (cs (sl f)) f (wm_ap (cs (sl f)) (ln (sl f)) g i)) (wm_ar (cs (sl f) g))).map (wm_ph cs ln sl) = wm_ga (fun i => wm_nc cs ln sl f (wm_aq cs ln sl f g i)) (wm_ar (cs (sl f) g)) := by
    unfold wm_ga
    refine wm_ga_map (F := fun i => wm_nc cs ln sl f (wm_aq cs ln sl f g i)) (G := fun _ i => wm_nc cs ln sl f (wm_aq cs ln sl f g i)) (m := 0) (fun i _ hi => ?_)
    obtain ⟨p1, p2, p3⟩ := wm_ap_lt wf.2.2 hg (show i < wm_ar (cs (sl f) g) by omega)
    exact (wm_yi_ok hW hD hf p2 p3).2
  have galen : (wm_ga (fun i => wm_id (cs (sl f)) f (wm_ap (cs (sl f)) (ln (sl f)) g i)) (wm_ar (cs (sl f) g))).length = wm_ar (cs (sl f) g) := wm_as_len
  refine pk_eq 0 k (fun e => ?_) (fun e => nm_r (nI_1 0) ?_)
  · subst e
    exact hp st b_seen
  · refine wy_wr_8 (sd := []) hW hD hcp hyc hR hk 255 257 (0 + 1) (wm_ar (cs (sl f) g)) (wm_ga (fun i => wm_id (cs (sl f)) f (wm_ap (cs (sl f)) (ln (sl f)) g i)) (wm_ar (cs (sl f) g))) _ _ st b_seen (by omega) (by omega) (by omega) rfl (by omega) hst (fun z hz => ?_) rfl (Nat.zero_le _) (fun i a ha => by simp at ha) (fun i j a ha => by simp at ha) (fun st' se' => ?_)
    · obtain ⟨i, -, i2, rfl⟩ := wm_as_mem hz
      obtain ⟨p1, p2, p3⟩ := wm_ap_lt wf.2.2 hg (show i < wm_ar (cs (sl f) g) by omega)
      exact (wm_yi_ok hW hD hf p2 p3).1
    · have := hp st' se'
      rw [show k = (k - (0 + 1)) + 1 by omega] at this
      simp only [wm_tk] at this
      rw [emap]
      exact this
end
end
section
/-! owed: token, goalToken (end) -/
theorem i_vc_token {k : Nat} {u : SX} {v : SY} (I : i_Rel k u v) (hk : k + 5 ≤ 2564) (v1 : Int32) : wpX_token (fun r u' => wpY_token (fun r' v' => r' = r ∧ i_Rel (k + 5) u' v') v v1) u v1 := by
  refine wm_el (P := fun u v => wpX_token (fun r u' => wpY_token (fun r' v' => r' = r ∧ i_Rel (k + 5) u' v') v v1) u v1) ?_ I
  intro f_clauseCap f_heapCap f_frameCap f_choiceCap f_querySlot f_firstNode f_draftLen f_draftOpen f_draftAtoms f_programUsed f_clauses f_trailLen f_depth f_choiceCount f_status f_solutions f_steps f_complete f_pairTop f_writeTop f_answerLen f_goalLen a_draft a_code a_skip a_local a_slotStart a_slotLen a_slotAtoms a_slotVars a_slotNodes a_slotWeight a_slotKey a_atomPlace a_nodeFn a_nodeLink a_nodeArg a_trail a_frameSlot a_frameBase a_contFrame a_contAtom a_selFrame a_selAtom a_nodeTop a_trailAt a_heapAt a_pendingAt a_choiceDepth a_choiceNext a_pairLeft a_pairRight a_colour a_dfsNode a_dfsArg a_writing a_writeStack a_varNumber g_clauseCap g_heapCap g_frameCap g_choiceCap g_draftCount g_clauses g_queryCount g_status g_depth g_choiceCount g_solutions g_steps g_complete g_compoundCount g_equations g_goalCount b_draft b_clauseCodes b_clauseLength b_query b_trace b_choiceDepths b_choiceNexts b_code b_link b_compound b_finite b_left b_right b_goals b_atomPlace b_stack b_seen cc hc fc kc dl m st d q so sp dc ln ps sl ta t cd cx cs h1 h2 h3 h4 h5 h6 h7 h8 h9
  have R : i_Rel (k + 5) (f_clauseCap, f_heapCap, f_frameCap, f_choiceCap, f_querySlot, f_firstNode, f_draftLen, f_draftOpen, f_draftAtoms, f_programUsed, f_clauses, f_trailLen, f_depth, f_choiceCount, f_status, f_solutions, f_steps, f_complete, f_pairTop, f_writeTop, f_answerLen, f_goalLen, a_draft, a_code, a_skip, a_local, a_slotStart, a_slotLen, a_slotAtoms, a_slotVars, a_slotNodes, a_slotWeight, a_slotKey, a_atomPlace, a_nodeFn, a_nodeLink, a_nodeArg, a_trail, a_frameSlot, a_frameBase, a_contFrame, a_contAtom, a_selFrame, a_selAtom, a_nodeTop, a_trailAt, a_heapAt, a_pendingAt, a_choiceDepth, a_choiceNext, a_pairLeft, a_pairRight, a_colour, a_dfsNode, a_dfsArg, a_writing, a_writeStack, a_varNumber) (g_clauseCap, g_heapCap, g_frameCap, g_choiceCap, g_draftCount, g_clauses, g_queryCount, g_status, g_depth, g_choiceCount, g_solutions, g_steps, g_complete, g_compoundCount, g_equations, g_goalCount, b_draft, b_clauseCodes, b_clauseLength, b_query, b_trace, b_choiceDepths, b_choiceNexts, b_code, b_link, b_compound, b_finite, b_left, b_right, b_goals, b_atomPlace, b_stack, b_seen) := wm_in h1 h2 h3 h4 h5 h6 h7 h8 h9
  have st6 := h8.1.1
  have b2 := h1.2.2.2.1
  have b1 := h1.2.2.2.2.1
  unfold wpX_token
  refine wx_isLive h8.1.2.1 st6 (fun hv => ?_) (fun hn => ?_)
  · have ylive : ∀ post : Int32 → SY → Prop, ((v1 < 0 → post (-1) (g_clauseCap, g_heapCap, g_frameCap, g_choiceCap, g_draftCount, g_clauses, g_queryCount, g_status, g_depth, g_choiceCount, g_solutions, g_steps, g_complete, g_compoundCount, g_equations, g_goalCount, b_draft, b_clauseCodes, b_clauseLength, b_query, b_trace, b_choiceDepths, b_choiceNexts, b_code, b_link, b_compound, b_finite, b_left, b_right, b_goals, b_atomPlace, b_stack, b_seen)) ∧ (¬ v1 < 0 → ((v1 < 256 → ∃ n35, wY_token_35 post v1 g_clauseCap g_heapCap g_frameCap g_choiceCap g_draftCount g_clauses g_queryCount g_status g_depth g_choiceCount g_solutions g_steps g_complete g_compoundCount g_equations g_goalCount n35 0 7 b_draft b_clauseCodes b_clauseLength b_query b_trace b_choiceDepths b_choiceNexts b_code b_link b_compound b_finite b_left b_right b_goals b_atomPlace b_stack b_seen) ∧ (¬ v1 < 256 → post (-1) (g_clauseCap, g_heapCap, g_frameCap, g_choiceCap, g_draftCount, g_clauses, g_queryCount, g_status, g_depth, g_choiceCount, g_solutions, g_steps, g_complete, g_compoundCount, g_equations, g_goalCount, b_draft, b_clauseCodes, b_clauseLength, b_query, b_trace, b_choiceDepths, b_choiceNexts, b_code, b_link, b_compound, b_finite, b_left, b_right, b_goals, b_atomPlace, b_stack, b_seen))))) → wpY_token post (g_clauseCap, g_heapCap, g_frameCap, g_choiceCap, g_draftCount, g_clauses, g_queryCount, g_status, g_depth, g_choiceCount, g_solutions, g_steps, g_complete, g_compoundCount, g_equations, g_goalCount, b_draft, b_clauseCodes, b_clauseLength, b_query, b_trace, b_choiceDepths, b_choiceNexts, b_code, b_link, b_compound, b_finite, b_left, b_right, b_goals, b_atomPlace, b_stack, b_seen) v1 := fun post h =>
      wm_eqF st 0 hv.1 (wm_eqF st 3 hv.2 h h9.1.1) h9.1.1
    refine wm_eqF 1 0 (by omega) ?_
    by_cases z0 : v1 < 0
    · exact br_t z0 (ylive _ (br_t z0 (And.intro rfl R)))
    · refine br_f z0 ?_
      obtain ⟨j, hj, rfl⟩ := nI_of z0
      rcases Nat.lt_or_ge j 256 with z | z
      · obtain ⟨⟨pd, pq', pT, p0, psl, php, pCH, pst⟩, ⟨xd, xq, xtl, xch, xF, xC, xN, xR⟩, xWA, xWG⟩ := h8.2.2.2 hv
        obtain ⟨v1', v2, v3, v4, w1, w2, w3, r', δ', ρ', hR⟩ := h9.2 hv
        have hbs := wm_bs_hp (cs := cs) (ln := ln) (sl := sl) d
        obtain ⟨gx, cp⟩ := wm_gx pT.1 xN (by omega)
        have hS := wm_sys_of (g_draftCount := g_draftCount) (b_draft := b_draft) h1 h5 (h6 hv.1)
        have hQ := h6 hv.1
        have Y : ∀ (toks : List Nat) (post : Int32 → SY → Prop), (∀ ρ, wm_Sv (wm_bs cs ln sl (d + 1)) (wm_Fn a_nodeFn) (wm_Gn a_nodeArg) (wm_qs cs ln sl d) ρ → toks = wm_wr (wm_Fn a_nodeFn) (wm_Gn a_nodeArg) ρ 256 (wm_qv (wm_vs (cs 32) (ln 32))) []) → (∀ stk se : Nat → Int32, post (wm_tk toks j) (g_clauseCap, g_heapCap, g_frameCap, g_choiceCap, g_draftCount, g_clauses, g_queryCount, g_status, g_depth, g_choiceCount, g_solutions, g_steps, g_complete, g_compoundCount, g_equations, g_goalCount, b_draft, b_clauseCodes, b_clauseLength, b_query, b_trace, b_choiceDepths, b_choiceNexts, b_code, b_link, b_compound, b_finite, b_left, b_right, b_goals, b_atomPlace, stk, se)) → wpY_token post (g_clauseCap, g_heapCap, g_frameCap, g_choiceCap, g_draftCount, g_clauses, g_queryCount, g_status, g_depth, g_choiceCount, g_solutions, g_steps, g_complete, g_compoundCount, g_equations, g_goalCount, b_draft, b_clauseCodes, b_clauseLength, b_query, b_trace, b_choiceDepths, b_choiceNexts, b_code, b_link, b_compound, b_finite, b_left, b_right, b_goals, b_atomPlace, b_stack, b_seen) (nI j) := fun toks post ht hp => by
          refine ylive _ (br_f z0 (wm_ltT j 256 z ⟨9, ?_⟩))
          have e := ht ρ' hR.2.2.2
          rw [e] at hp
          exact wy_token_35 (cs := cs) (ln := ln) (sl := sl) (D := d) z pT.1 (by omega) p0 cp w1 hR hS.2.2.2 hp 8 9 [] _ _ (by omega) (by omega) rfl (Nat.zero_le _) rfl (fun x hx => by simp at hx) (by
            have : wm_rk (cs 32) (ln 32) 8 = wm_vs (cs 32) (ln 32) := rfl
            rw [this, Nat.sub_self]; rfl)
        refine wm_ltT j 256 z ?_
        have vs8 := wm_vs8 (cs 32) (ln 32)
        by_cases hc0 : 0 ≤ f_answerLen
        · rcases xWA with e | ⟨toks, t1, t2, t3, t4⟩
          · rw [e] at hc0; exact absurd hc0 (by decide)
          · refine br_t hc0 (wx_token_31 t1 t2 t3 z (Y toks _ t4 (fun stk se => And.intro rfl ?_)))
            exact wm_in h1 h2 h3 h4 h5 h6 h7 h8 h9
        · refine br_f hc0 ?_
          obtain ⟨ρ, δ, rk, o1, o2, o3, -, -, -⟩ := (xR.1 d (Nat.le_refl _)).2 a_nodeLink (fun n hn => ⟨fun ⟨i, y1, y2, y3⟩ => by omega, fun _ => rfl⟩)
          have t256 := wm_TL_256 xR.2.1
          have hvT : 16 + wm_vs (cs 32) (ln 32) ≤ wm_bs cs ln sl (d + 1) := by
            have a := wm_bs_le (cs := cs) (ln := ln) (sl := sl) (d := 1) (e := d + 1) (by omega)
            have b : wm_bs cs ln sl 1 = 16 + wm_N (cs (sl 0)) (ln (sl 0)) := rfl
            rw [p0] at b
            have c : wm_vs (cs 32) (ln 32) ≤ wm_N (cs 32) (ln 32) := Nat.le_add_right _ _
            omega
          have tk : ∀ ρ2, wm_Sv (wm_bs cs ln sl (d + 1)) (wm_Fn a_nodeFn) (wm_Gn a_nodeArg) (wm_qs cs ln sl d) ρ2 → wm_wr (wm_Fn a_nodeFn) (wm_Gn a_nodeArg) ρ 256 (wm_qv (wm_vs (cs 32) (ln 32))) [] = wm_wr (wm_Fn a_nodeFn) (wm_Gn a_nodeArg) ρ2 256 (wm_qv (wm_vs (cs 32) (ln 32))) [] := fun ρ2 hρ2 => by
            refine wm_wr_eq o3 hρ2 (wm_GX_G gx) 256 _ _ [] rfl (fun x hx => ?_) (fun x hx => ?_) (fun x hx => by simp at hx)
            · obtain ⟨i, -, i2, rfl⟩ := wm_as_mem hx
              show 16 + i < wm_bs cs ln sl (d + 1)
              omega
            · obtain ⟨i, -, i2, rfl⟩ := wm_as_mem hx
              show 16 + i < wm_bs cs ln sl (d + 1)
              omega
          have tl := wm_wr_len (F := wm_Fn a_nodeFn) (G := wm_Gn a_nodeArg) (ρ := ρ) 256 (wm_qv (wm_vs (cs 32) (ln 32))) []
          refine wx_writeAnswer (T := wm_bs cs ln sl (d + 1)) (vs := wm_vs (cs 32) (ln 32)) gx o1 (fun n => by have := o2 n; omega) vs8 hvT hQ.2.1.2.1.1 (fun w ws vn y1 y2 => ?_)
          refine wx_token_31 rfl tl y1 z (Y _ _ tk (fun stk se => And.intro rfl ?_))
          refine wm_in h1 h2 h3 h4 h5 h6 h7 ⟨h8.1, h8.2.1, h8.2.2.1, fun _ => ⟨⟨pd, pq', pT, p0, psl, php, pCH, pst⟩, ⟨xd, xq, xtl, xch, xF, xC, xN, xR⟩, Or.inr ⟨_, rfl, tl, y1, tk⟩, ?_⟩⟩ h9
          rcases xWG with e | ⟨f, j', toks, s1, s2, s3, s4, s5, s6⟩
          · exact Or.inl e
          · refine Or.inr ⟨f, j', toks, s1, s2, s3, ?_, ?_, s6⟩
            · rw [y2 256 (by omega)]; exact s4
            · exact wm_at_congr (fun i hi _ => y2 i (by omega)) s5
      · exact wm_ltF j 256 z (ylive _ (br_f z0 (wm_ltF j 256 z (And.intro rfl R))))
  · refine wm_eqT 0 0 rfl ?_
    refine pk_eq st 0 (fun _ => And.intro rfl R) (fun e => pk_eq st 3 (fun _ => And.intro rfl R) (fun e' => absurd ⟨e, e'⟩ hn) h9.1.1) h9.1.1
theorem i_vc_goalToken {k : Nat} {u : SX} {v : SY} (I : i_Rel k u v) (hk : k + 5 ≤ 2564) (v1 : Int32) : wpX_goalToken (fun r u' => wpY_goalToken (fun r' v' => r' = r ∧ i_Rel (k + 5) u' v') v v1) u v1 := by
  refine wm_el (P := fun u v => wpX_goalToken (fun r u' => wpY_goalToken (fun r' v' => r' = r ∧ i_Rel (k + 5) u' v') v v1) u v1) ?_ I
  intro f_clauseCap f_heapCap f_frameCap f_choiceCap f_querySlot f_firstNode f_draftLen f_draftOpen f_draftAtoms f_programUsed f_clauses f_trailLen f_depth f_choiceCount f_status f_solutions f_steps f_complete f_pairTop f_writeTop f_answerLen f_goalLen a_draft a_code a_skip a_local a_slotStart a_slotLen a_slotAtoms a_slotVars a_slotNodes a_slotWeight a_slotKey a_atomPlace a_nodeFn a_nodeLink a_nodeArg a_trail a_frameSlot a_frameBase a_contFrame a_contAtom a_selFrame a_selAtom a_nodeTop a_trailAt a_heapAt a_pendingAt a_choiceDepth a_choiceNext a_pairLeft a_pairRight a_colour a_dfsNode a_dfsArg a_writing a_writeStack a_varNumber g_clauseCap g_heapCap g_frameCap g_choiceCap g_draftCount g_clauses g_queryCount g_status g_depth g_choiceCount g_solutions g_steps g_complete g_compoundCount g_equations g_goalCount b_draft b_clauseCodes b_clauseLength b_query b_trace b_choiceDepths b_choiceNexts b_code b_link b_compound b_finite b_left b_right b_goals b_atomPlace b_stack b_seen cc hc fc kc dl m st d q so sp dc ln ps sl ta t cd cx cs h1 h2 h3 h4 h5 h6 h7 h8 h9
  have R : i_Rel (k + 5) (f_clauseCap, f_heapCap, f_frameCap, f_choiceCap, f_querySlot, f_firstNode, f_draftLen, f_draftOpen, f_draftAtoms, f_programUsed, f_clauses, f_trailLen, f_depth, f_choiceCount, f_status, f_solutions, f_steps, f_complete, f_pairTop, f_writeTop, f_answerLen, f_goalLen, a_draft, a_code, a_skip, a_local, a_slotStart, a_slotLen, a_slotAtoms, a_slotVars, a_slotNodes, a_slotWeight, a_slotKey, a_atomPlace, a_nodeFn, a_nodeLink, a_nodeArg, a_trail, a_frameSlot, a_frameBase, a_contFrame, a_contAtom, a_selFrame, a_selAtom, a_nodeTop, a_trailAt, a_heapAt, a_pendingAt, a_choiceDepth, a_choiceNext, a_pairLeft, a_pairRight, a_colour, a_dfsNode, a_dfsArg, a_writing, a_writeStack, a_varNumber) (g_clauseCap, g_heapCap, g_frameCap, g_choiceCap, g_draftCount, g_clauses, g_queryCount, g_status, g_depth, g_choiceCount, g_solutions, g_steps, g_complete, g_compoundCount, g_equations, g_goalCount, b_draft, b_clauseCodes, b_clauseLength, b_query, b_trace, b_choiceDepths, b_choiceNexts, b_code, b_link, b_compound, b_finite, b_left, b_right, b_goals, b_atomPlace, b_stack, b_seen) := wm_in h1 h2 h3 h4 h5 h6 h7 h8 h9
  have st6 := h8.1.1
  have b2 := h1.2.2.2.1
  have b1 := h1.2.2.2.2.1
  unfold wpX_goalToken
  refine wx_hasGoal h8.1.2.1 st6 (fun hv hn2 => ?_) (fun hn => ?_)
  · obtain ⟨⟨pd, pq', pT, p0, psl, php, pCH, pst⟩, ⟨xd, xq, xtl, xch, xF, xC, xN, xR⟩, xWA, xWG⟩ := h8.2.2.2 hv
    obtain ⟨v1', v2, v3, v4, w1, w2, w3, r', δ', ρ', hR⟩ := h9.2 hv
    have hbs := wm_bs_hp (cs := cs) (ln := ln) (sl := sl) d
    obtain ⟨gx, cp⟩ := wm_gx pT.1 xN (by omega)
    have hSx := wm_sls_of h5 (h6 hv.1)
    have hsl32 : ∀ i, i ≤ d → (sl i < m ∨ sl i = 32) := fun i hi => by
      rcases Nat.eq_zero_or_pos i with z | z
      · subst z; exact Or.inr p0
      · exact Or.inl (psl i z hi)
    obtain ⟨f, jj, gs, hgl⟩ : ∃ f j gs, wm_gl cs ln sl d = (f, j) :: gs := by
      cases hh : wm_gl cs ln sl d with
      | nil => exact absurd (pst.mpr hh) hn2
      | cons x y => exact ⟨x.1, x.2, y, rfl⟩
    have hg : (wm_gl cs ln sl d).head? = some (f, jj) := by rw [hgl]; rfl
    obtain ⟨gf, gj, gk, go⟩ := wm_goal pT (Nat.le_refl _) hg
    have glen := wm_gl_len pT.1 d (Nat.le_refl _)
    have w2' := w2
    rw [hgl, List.length_cons] at w2' glen
    have w3' := w3
    rw [hgl, List.length_cons, List.map_cons] at w3'
    simp only [wm_sk] at w3'
    have hka : b_goals gs.length = nI (wm_gp cs ln sl (f, jj)) := (List.cons.inj w3').1
    have eg : g_goalCount - 1 = nI gs.length := by rw [w2', nI_pred]
    have ylive : ∀ post : Int32 → SY → Prop, ((v1 < 0 → post (-1) (g_clauseCap, g_heapCap, g_frameCap, g_choiceCap, g_draftCount, g_clauses, g_queryCount, g_status, g_depth, g_choiceCount, g_solutions, g_steps, g_complete, g_compoundCount, g_equations, g_goalCount, b_draft, b_clauseCodes, b_clauseLength, b_query, b_trace, b_choiceDepths, b_choiceNexts, b_code, b_link, b_compound, b_finite, b_left, b_right, b_goals, b_atomPlace, b_stack, b_seen)) ∧ (¬ v1 < 0 → ((v1 < 256 → (vp_in (g_goalCount - 1) 1024 ∧ ∀ st2, st2 = upd b_stack 0 (b_goals (g_goalCount - 1).toNatClampNeg) → wpY_written (fun r u => post r u) (g_clauseCap, g_heapCap, g_frameCap, g_choiceCap, g_draftCount, g_clauses, g_queryCount, g_status, g_depth, g_choiceCount, g_solutions, g_steps, g_complete, g_compoundCount, g_equations, g_goalCount, b_draft, b_clauseCodes, b_clauseLength, b_query, b_trace, b_choiceDepths, b_choiceNexts, b_code, b_link, b_compound, b_finite, b_left, b_right, b_goals, b_atomPlace, st2, b_seen) v1 1)) ∧ (¬ v1 < 256 → post (-1) (g_clauseCap, g_heapCap, g_frameCap, g_choiceCap, g_draftCount, g_clauses, g_queryCount, g_status, g_depth, g_choiceCount, g_solutions, g_steps, g_complete, g_compoundCount, g_equations, g_goalCount, b_draft, b_clauseCodes, b_clauseLength, b_query, b_trace, b_choiceDepths, b_choiceNexts, b_code, b_link, b_compound, b_finite, b_left, b_right, b_goals, b_atomPlace, b_stack, b_seen))))) → wpY_goalToken post (g_clauseCap, g_heapCap, g_frameCap, g_choiceCap, g_draftCount, g_clauses, g_queryCount, g_status, g_depth, g_choiceCount, g_solutions, g_steps, g_complete, g_compoundCount, g_equations, g_goalCount, b_draft, b_clauseCodes, b_clauseLength, b_query, b_trace, b_choiceDepths, b_choiceNexts, b_code, b_link, b_compound, b_finite, b_left, b_right, b_goals, b_atomPlace, b_stack, b_seen) v1 := fun post h => by
      unfold wpY_goalToken
      refine wy_hasGoal h9.1.1 st6 (fun _ _ => ?_) (fun hn => absurd ⟨hv, hn2⟩ hn)
      exact wm_eqF 1 0 (by omega) (wm_ltT 0 (gs.length + 1) (by omega) h rfl w2')
    refine wm_eqF 1 0 (by omega) ?_
    by_cases z0 : v1 < 0
    · exact br_t z0 (ylive _ (br_t z0 (And.intro rfl R)))
    · refine br_f z0 ?_
      obtain ⟨j, hj, rfl⟩ := nI_of z0
      rcases Nat.lt_or_ge j 256 with z | z
      · have Y : ∀ (toks : List Nat) (post : Int32 → SY → Prop), (∀ ρ, wm_Sv (wm_bs cs ln sl (d + 1)) (wm_Fn a_nodeFn) (wm_Gn a_nodeArg) (wm_qs cs ln sl d) ρ → toks = wm_wr (wm_Fn a_nodeFn) (wm_Gn a_nodeArg) ρ 255 (wm_gn cs ln sl f jj) []) → (∀ stk se : Nat → Int32, post (wm_tk (cs (sl f) (wm_pq cs ln sl f jj) :: toks) j) (g_clauseCap, g_heapCap, g_frameCap, g_choiceCap, g_draftCount, g_clauses, g_queryCount, g_status, g_depth, g_choiceCount, g_solutions, g_steps, g_complete, g_compoundCount, g_equations, g_goalCount, b_draft, b_clauseCodes, b_clauseLength, b_query, b_trace, b_choiceDepths, b_choiceNexts, b_code, b_link, b_compound, b_finite, b_left, b_right, b_goals, b_atomPlace, stk, se)) → wpY_goalToken post (g_clauseCap, g_heapCap, g_frameCap, g_choiceCap, g_draftCount, g_clauses, g_queryCount, g_status, g_depth, g_choiceCount, g_solutions, g_steps, g_complete, g_compoundCount, g_equations, g_goalCount, b_draft, b_clauseCodes, b_clauseLength, b_query, b_trace, b_choiceDepths, b_choiceNexts, b_code, b_link, b_compound, b_finite, b_left, b_right, b_goals, b_atomPlace, b_stack, b_seen) (nI j) := fun toks post ht hp => by
          refine ylive _ (br_f z0 (wm_ltT j 256 z (And.intro (pk_in gs.length 1024 (by omega) eg) (nm_e ?_))))
          have e := ht ρ' hR.2.2.2
          rw [e] at hp
          refine wy_goal_written (cs := cs) (ln := ln) (sl := sl) (D := d) (f := f) (g := wm_pq cs ln sl f jj) rfl z pT.1 (by omega) cp w1 hR gf gk go ?_ hp
          rw [pk_us, wm_rx hka eg]; rfl
        refine wm_ltT j 256 z ?_
        by_cases hc0 : 0 ≤ f_goalLen
        · rcases xWG with e | ⟨f', j', toks, s1, s2, s3, s4, s5, s6⟩
          · rw [e] at hc0; exact absurd hc0 (by decide)
          · rw [hg] at s1
            cases s1
            refine br_t hc0 (wx_goalToken_31 s2 s3 s4 s5 z (Y toks _ s6 (fun stk se => And.intro rfl ?_)))
            exact wm_in h1 h2 h3 h4 h5 h6 h7 h8 h9
        · refine br_f hc0 ?_
          obtain ⟨ρ, δ, rk, o1, o2, o3, -, -, -⟩ := (xR.1 d (Nat.le_refl _)).2 a_nodeLink (fun n hn => ⟨fun ⟨i, y1, y2, y3⟩ => by omega, fun _ => rfl⟩)
          have t256 := wm_TL_256 xR.2.1
          have gnT : ∀ x, x ∈ wm_gn cs ln sl f jj → x < wm_bs cs ln sl (d + 1) := fun x hx => by
            obtain ⟨i, -, i2, rfl⟩ := wm_as_mem hx
            obtain ⟨p1, p2, p3⟩ := wm_ap_lt (pT.1 f gf).2.2 gk (show i < wm_ar (cs (sl f) (wm_pq cs ln sl f jj)) by omega)
            exact wm_nc_lt (pT.1 f gf).1 gf p2 p3
          have tk : ∀ ρ2, wm_Sv (wm_bs cs ln sl (d + 1)) (wm_Fn a_nodeFn) (wm_Gn a_nodeArg) (wm_qs cs ln sl d) ρ2 → wm_wr (wm_Fn a_nodeFn) (wm_Gn a_nodeArg) ρ 255 (wm_gn cs ln sl f jj) [] = wm_wr (wm_Fn a_nodeFn) (wm_Gn a_nodeArg) ρ2 255 (wm_gn cs ln sl f jj) [] := fun ρ2 hρ2 =>
            wm_wr_eq o3 hρ2 (wm_GX_G gx) 255 _ _ [] rfl gnT gnT (fun x hx => by simp at hx)
          have tl := wm_wr_len (F := wm_Fn a_nodeFn) (G := wm_Gn a_nodeArg) (ρ := ρ) 255 (wm_gn cs ln sl f jj) []
          refine wx_writeGoal (ss := wm_ss ps) xd (by omega) hSx hsl32 xF xC pT hg gx o1 (fun n => by have := o2 n; omega) (fun w ws vn y0 y1 y2 => ?_)
          refine wx_goalToken_31 rfl tl y0 y1 z (Y _ _ tk (fun stk se => And.intro rfl ?_))
          refine wm_in h1 h2 h3 h4 h5 h6 h7 ⟨h8.1, h8.2.1, h8.2.2.1, fun _ => ⟨⟨pd, pq', pT, p0, psl, php, pCH, pst⟩, ⟨xd, xq, xtl, xch, xF, xC, xN, xR⟩, ?_, Or.inr ⟨f, jj, _, hg, rfl, tl, y0, y1, tk⟩⟩⟩ h9
          rcases xWA with e | ⟨toks, s2, s3, s4, s5⟩
          · exact Or.inl e
          · exact Or.inr ⟨toks, s2, s3, wm_at_congr (fun i _ hi => y2 i (by omega)) s4, s5⟩
      · exact wm_ltF j 256 z (ylive _ (br_f z0 (wm_ltF j 256 z (And.intro rfl R))))
  · refine wm_eqT 0 0 rfl ?_
    unfold wpY_goalToken
    exact wy_hasGoal h9.1.1 st6 (fun hv h2' => absurd ⟨hv, h2'⟩ hn) (fun _ => wm_eqT 0 0 rfl (And.intro rfl R))
end
