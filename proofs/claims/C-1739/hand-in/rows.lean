section
/-! pure rows to paste: stores, nI and lN arithmetic, masks, shifts, narrowing, branches by naturals (pk_le, pk_lt, pk_eq), loops (lp1 .. lp16: the measure of the state; rp1 ..: recursion), negatives. Take what you need -/
theorem pk_us {f : Nat → Int32} {k : Nat} {x : Int32} : upd f k x k = x := if_pos rfl
theorem pk_un {f : Nat → Int32} {k j : Nat} {x : Int32} (h : j ≠ k) : upd f k x j = f j := if_neg h
theorem pk_uLs {f : Nat → Int64} {k : Nat} {x : Int64} : vp_updL f k x k = x := if_pos rfl
theorem pk_uLn {f : Nat → Int64} {k j : Nat} {x : Int64} (h : j ≠ k) : vp_updL f k x j = f j := if_neg h
theorem pk_sub {a b : Nat} (h : b ≤ a) : nI a - nI b = nI (a - b) := by
  obtain ⟨c, rfl⟩ : ∃ c, a = c + b := ⟨a - b, by omega⟩
  rw [← nI_add, Int32.add_sub_cancel, Nat.add_sub_cancel]
theorem pk_m1 (n : Nat) : nI (n + 1) + (-1) = nI n := by
  rw [← nI_1, Int32.add_assoc, show (1 : Int32) + (-1) = 0 from rfl, Int32.add_zero]
theorem pk_mul (a b : Nat) : nI a * nI b = nI (a * b) := (Int32.ofNat_mul a b).symm
theorem pk_div {a d : Nat} (ha : a < 2 ^ 31) (h0 : 0 < d) (hd : d < 2 ^ 31) : nI a / nI d = nI (a / d) := by
  apply Int32.toInt_inj.mp
  rw [lg_idiv_nonneg (by rw [nI_toInt ha]; omega) (by rw [nI_toInt hd]; omega), nI_toInt ha, nI_toInt hd, nI_toInt (Nat.lt_of_le_of_lt (Nat.div_le_self a d) ha)]
  first | rfl | exact (Int.natCast_ediv _ _).symm
theorem pk_rem {a d : Nat} (ha : a < 2 ^ 31) (h0 : 0 < d) (hd : d < 2 ^ 31) : nI a - nI a / nI d * nI d = nI (a % d) := by
  rw [pk_div ha h0 hd, pk_mul, pk_sub (Nat.div_mul_le_self a d)]
  exact congrArg nI (by have := Nat.div_add_mod' a d; omega)
theorem pk_sub_toInt {a b : Nat} (ha : a < 2 ^ 30) (hb : b < 2 ^ 30) : (nI a - nI b).toInt = (a : Int) - b := by
  rw [Int32.toInt_sub, nI_toInt (by omega), nI_toInt (by omega)]
  exact Int.bmod_eq_of_le (by omega) (by omega)
theorem pk_sneg {a b : Nat} (hb : b < 2 ^ 30) (h : a < b) : nI a - nI b < 0 := by
  rw [Int32.lt_iff_toInt_lt, pk_sub_toInt (by omega) hb, show (0 : Int32).toInt = 0 from by decide]
  omega
theorem pk_ix (x : Int32) {n : Nat} (hn : n < 2 ^ 31) : x < 0 ∨ nI n ≤ x ∨ ∃ j : Nat, j < n ∧ x = nI j := by
  by_cases h : x < 0
  · exact Or.inl h
  · obtain ⟨j, hj, rfl⟩ := nI_of h
    by_cases h2 : j < n
    · exact Or.inr (Or.inr ⟨j, h2, rfl⟩)
    · exact Or.inr (Or.inl (nI_le (by omega) hj))
theorem pk_le {x y : Int32} {A B : Prop} (a b : Nat) (f : a ≤ b → A) (g : b < a → B) (hx : x = nI a := by rfl) (hy : y = nI b := by rfl) (ha : a < 2 ^ 31 := by omega) (hb : b < 2 ^ 31 := by omega) : (x ≤ y → A) ∧ (¬ x ≤ y → B) := by
  subst hx hy
  rw [nI_leI ha hb]
  exact ⟨f, fun z => g (by omega)⟩
theorem pk_lt {x y : Int32} {A B : Prop} (a b : Nat) (f : a < b → A) (g : b ≤ a → B) (hx : x = nI a := by rfl) (hy : y = nI b := by rfl) (ha : a < 2 ^ 31 := by omega) (hb : b < 2 ^ 31 := by omega) : (x < y → A) ∧ (¬ x < y → B) := by
  subst hx hy
  rw [nI_ltI ha hb]
  exact ⟨f, fun z => g (by omega)⟩
theorem pk_eq {x y : Int32} {A B : Prop} (a b : Nat) (f : a = b → A) (g : a ≠ b → B) (hx : x = nI a := by rfl) (hy : y = nI b := by rfl) (ha : a < 2 ^ 31 := by omega) (hb : b < 2 ^ 31 := by omega) : (x = y → A) ∧ (¬ x = y → B) := by
  subst hx hy
  rw [nI_eq ha hb]
  exact ⟨f, g⟩
theorem pk_in {x : Int32} (n N : Nat) (h : n < N) (hx : x = nI n := by rfl) (hN : N < 2 ^ 31 := by omega) : vp_in x N := by
  subst hx
  exact vp_in_nI h hN
theorem pk_cl {x : Int32} (n : Nat) (hx : x = nI n := by rfl) (h : n < 2 ^ 31 := by omega) : x.toNatClampNeg = n := by
  subst hx
  exact nI_clamp h
theorem pk_tn {n : Nat} (h : n < 2 ^ 32) : (nI n).toBitVec.toNat = n := Nat.mod_eq_of_lt h
theorem pk_and (x : Int32) {m : Int32} (k : Nat) (hm : m.toBitVec.toNat = 2 ^ k - 1) : x &&& m = nI (x.toBitVec.toNat % 2 ^ k) := by
  apply Int32.toBitVec_inj.mp
  apply BitVec.eq_of_toNat_eq
  rw [Int32.toBitVec_and, BitVec.toNat_and, hm, Nat.and_two_pow_sub_one_eq_mod]
  show _ = (BitVec.ofNat 32 _).toNat
  rw [BitVec.toNat_ofNat]
  exact (Nat.mod_eq_of_lt (Nat.lt_of_le_of_lt (Nat.mod_le _ _) x.toBitVec.isLt)).symm
theorem pk_andN {n : Nat} (h : n < 2 ^ 32) {m : Int32} (k : Nat) (hm : m.toBitVec.toNat = 2 ^ k - 1) : nI n &&& m = nI (n % 2 ^ k) := by
  rw [pk_and _ k hm, pk_tn h]
theorem pk_andE (x : Int32) {m : Int32} (k : Nat) (hm : m.toBitVec.toNat = 2 ^ k - 1) : ∃ j : Nat, j < 2 ^ k ∧ x &&& m = nI j := ⟨_, Nat.mod_lt _ (Nat.two_pow_pos k), pk_and x k hm⟩
theorem pk_andIn (x : Int32) {m : Int32} (k : Nat) (hm : m.toBitVec.toNat = 2 ^ k - 1) (hk : k ≤ 30) : vp_in (x &&& m) (2 ^ k) := by
  obtain ⟨j, hj, e⟩ := pk_andE x k hm
  rw [e]
  exact vp_in_nI hj (Nat.lt_of_le_of_lt (Nat.pow_le_pow_right (by decide) hk) (by decide))
theorem pk_shl (a s : Int32) (k : Nat) (hs : (s.toBitVec.smod 32).toNat = k) : (a <<< s).toBitVec.toNat = a.toBitVec.toNat * 2 ^ k % 2 ^ 32 := by
  show (a.toBitVec <<< (s.toBitVec.smod 32).toNat).toNat = _
  rw [hs, BitVec.toNat_shiftLeft, Nat.shiftLeft_eq]
theorem pk_shlN {n : Nat} (s : Int32) (k : Nat) (hs : (s.toBitVec.smod 32).toNat = k) (h : n * 2 ^ k < 2 ^ 32) : nI n <<< s = nI (n * 2 ^ k) := by
  apply Int32.toBitVec_inj.mp
  apply BitVec.eq_of_toNat_eq
  have hn : n < 2 ^ 32 := Nat.lt_of_le_of_lt (Nat.le_mul_of_pos_right n (Nat.two_pow_pos k)) h
  rw [pk_shl _ _ k hs, pk_tn hn, pk_tn h, Nat.mod_eq_of_lt h]
theorem pk_shr (a s : Int32) (k : Nat) (hs : (s.toBitVec.smod 32).toNat = k) : (a >>> s).toInt = a.toInt >>> k := by
  show (a.toBitVec.sshiftRight (s.toBitVec.smod 32).toNat).toInt = _
  rw [hs, BitVec.toInt_sshiftRight]
  rfl
theorem pk_shrN {n : Nat} (h : n < 2 ^ 31) (s : Int32) (k : Nat) (hs : (s.toBitVec.smod 32).toNat = k) : nI n >>> s = nI (n / 2 ^ k) := by
  apply Int32.toInt_inj.mp
  have h2 : n / 2 ^ k ≤ n := Nat.div_le_self _ _
  rw [pk_shr _ _ k hs, nI_toInt h, nI_toInt (by omega), Int.shiftRight_eq_div_pow]
  rfl
theorem pk_ushr (x s : Int32) (k : Nat) (hs : ((s.toUInt32 &&& Int32.toUInt32 31).toBitVec % 32).toNat = k) : (x.toUInt32 >>> (s.toUInt32 &&& Int32.toUInt32 31)).toInt32.toBitVec.toNat = x.toBitVec.toNat / 2 ^ k := by
  have e : (x.toUInt32 >>> (s.toUInt32 &&& Int32.toUInt32 31)).toInt32.toBitVec = x.toBitVec >>> k := by
    rw [← hs]
    exact UInt32.toBitVec_shiftRight _ _
  rw [e, BitVec.toNat_ushiftRight, Nat.shiftRight_eq_div_pow]
theorem pk_ushrN {n : Nat} (hn : n < 2 ^ 32) (s : Int32) (k : Nat) (hs : ((s.toUInt32 &&& Int32.toUInt32 31).toBitVec % 32).toNat = k) : ((nI n).toUInt32 >>> (s.toUInt32 &&& Int32.toUInt32 31)).toInt32 = nI (n / 2 ^ k) := by
  apply Int32.toBitVec_inj.mp
  apply BitVec.eq_of_toNat_eq
  rw [pk_ushr _ s k hs, pk_tn hn, pk_tn (Nat.lt_of_le_of_lt (Nat.div_le_self _ _) hn)]
theorem pk_nb (z : Int32) : narrow .byte (.int z.toInt8.toInt32) = .int z.toInt8.toInt32 := congrArg Value.int (by simp)
theorem pk_ns (z : Int32) : narrow .short (.int z.toInt16.toInt32) = .int z.toInt16.toInt32 := congrArg Value.int (by simp)
theorem pk_fb (r : Int32) : fits .byte (.int r.toInt8.toInt32) = true := by
  have ⟨a, b⟩ := lg_i2b_range r
  have h1 : (-128 : Int32).toInt = -128 := by decide
  have h2 : (127 : Int32).toInt = 127 := by decide
  simp only [fits, Bool.and_eq_true, decide_eq_true_eq, Int32.le_iff_toInt_le, h1, h2]
  omega
theorem pk_fs (r : Int32) : fits .short (.int r.toInt16.toInt32) = true := by
  have ⟨a, b⟩ := lg_i2s_range r
  have h1 : (-32768 : Int32).toInt = -32768 := by decide
  have h2 : (32767 : Int32).toInt = 32767 := by decide
  simp only [fits, Bool.and_eq_true, decide_eq_true_eq, Int32.le_iff_toInt_le, h1, h2]
  omega
theorem pk_charN {q : Nat} (hq : q < 65536) : narrow .char (.int (nI q)) = .int (nI q) ∧ fits .char (.int (nI q)) = true := by
  constructor
  · have e : (nI q).toUInt32.toUInt16.toUInt32.toInt32 = nI q := by
      apply Int32.toBitVec_inj.mp
      apply BitVec.eq_of_toNat_eq
      show (nI q).toUInt32.toUInt16.toUInt32.toNat = q % 2 ^ 32
      rw [UInt16.toNat_toUInt32, UInt32.toNat_toUInt16, show (nI q).toUInt32.toNat = q % 2 ^ 32 from rfl]
      omega
    exact congrArg Value.int e
  · have a : (0 : Int32) ≤ nI q := nI_pos' (by omega)
    have b : nI q ≤ 65535 := nI_le (b := 65535) (by omega) (by decide)
    show (decide ((0 : Int32) ≤ nI q) && decide (nI q ≤ 65535)) = true
    rw [decide_eq_true a, decide_eq_true b]
    rfl
theorem pk_char (x : Int32) : (x.toUInt32 % 65536).toInt32 = nI (x.toBitVec.toNat % 65536) := by
  apply Int32.toBitVec_inj.mp
  apply BitVec.eq_of_toNat_eq
  rw [pk_tn (by omega)]
  show (x.toUInt32 % 65536).toNat = _
  rw [UInt32.toNat_mod]
  rfl
theorem pk_nc (x : Int32) : narrow .char (.int (x.toUInt32 % 65536).toInt32) = .int (x.toUInt32 % 65536).toInt32 := by
  rw [pk_char]
  exact (pk_charN (Nat.mod_lt _ (by decide))).1
theorem pk_fc (x : Int32) : fits .char (.int (x.toUInt32 % 65536).toInt32) = true := by
  rw [pk_char]
  exact (pk_charN (Nat.mod_lt _ (by decide))).2
theorem pk_vb (z : Int32) : vp_nar .byte z.toInt8.toInt32 = z.toInt8.toInt32 := by rw [vp_nar_byte]; simp
theorem pk_vs (z : Int32) : vp_nar .short z.toInt16.toInt32 = z.toInt16.toInt32 := by rw [vp_nar_short]; simp
theorem pk_vc (z : Int32) : vp_nar .char (z.toUInt32 % 65536).toInt32 = (z.toUInt32 % 65536).toInt32 := Value.int.inj (pk_nc z)
theorem pk_lT {n : Nat} (h : n < 2 ^ 63) : (lN n).toInt = (n : Int) := lg_ofNat_toInt h
theorem pk_lLT {a b : Nat} (ha : a < 2 ^ 63) (hb : b < 2 ^ 63) : lN a < lN b ↔ a < b := by
  rw [Int64.lt_iff_toInt_lt, pk_lT ha, pk_lT hb]; omega
theorem pk_lLE {a b : Nat} (ha : a < 2 ^ 63) (hb : b < 2 ^ 63) : lN a ≤ lN b ↔ a ≤ b := by
  rw [Int64.le_iff_toInt_le, pk_lT ha, pk_lT hb]; omega
theorem pk_lEQ {a b : Nat} (ha : a < 2 ^ 63) (hb : b < 2 ^ 63) : lN a = lN b ↔ a = b := by
  rw [← Int64.toInt_inj, pk_lT ha, pk_lT hb]; omega
theorem pk_lOf {x : Int64} (h : ¬ x < 0) : ∃ k : Nat, k < 2 ^ 63 ∧ x = lN k := by
  rw [Int64.lt_iff_toInt_lt] at h
  have h0 : (0 : Int64).toInt = 0 := by decide
  have hx := Int64.toInt_lt x
  refine ⟨x.toInt.toNat, by omega, Int64.toInt_inj.mp ?_⟩
  rw [pk_lT (by omega)]
  omega
theorem pk_lDiv {a b : Nat} (ha : a < 2 ^ 63) (h0 : 0 < b) (hb : b < 2 ^ 63) : lN a / lN b = lN (a / b) := by
  apply Int64.toInt_inj.mp
  rw [lg_ldiv_nonneg (by rw [pk_lT ha]; omega) (by rw [pk_lT hb]; omega), pk_lT ha, pk_lT hb, pk_lT (Nat.lt_of_le_of_lt (Nat.div_le_self a b) ha)]
  rfl
theorem pk_lRem {a b : Nat} (ha : a < 2 ^ 63) (h0 : 0 < b) (hb : b < 2 ^ 63) : lN a - lN a / lN b * lN b = lN (a % b) := by
  rw [pk_lDiv ha h0 hb, lN_mul, lN_sub (Nat.div_mul_le_self a b)]
  exact congrArg lN (by have := Nat.div_add_mod' a b; omega)
theorem pk_loop {σ : Type} (W : Nat → Nat → σ → Prop) (I : Nat → σ → Prop) (e i0 : Nat) (s : σ) (hi : i0 ≤ e) (h0 : I i0 s) (hx : ∀ n s, I e s → W (n + 1) e s)
    (hs : ∀ n i s, i < e → I i s → (∀ s', I (i + 1) s' → W n (i + 1) s') → W (n + 1) i s) : ∃ n, W n i0 s :=
  ⟨e + 1, loop_i W I e hx hs (e + 1) i0 s hi (by omega) h0⟩
theorem pk_loopD {σ : Type} (W : Nat → Nat → σ → Prop) (I : Nat → σ → Prop) (hx : ∀ n s, I 0 s → W (n + 1) 0 s)
    (hs : ∀ n i s, I (i + 1) s → (∀ s', I i s' → W n i s') → W (n + 1) (i + 1) s) : ∀ (e : Nat) (s : σ), I e s → W (e + 1) e s := by
  intro e
  induction e with
  | zero => exact fun s h => hx 0 s h
  | succ e ih => exact fun s h => hs (e + 1) e s h (fun s' h' => ih s' h')
theorem lp1 {A1 : Type} (W : Nat → A1 → Prop) (I : A1 → Prop) (μ : A1 → Nat) (hs : ∀ (n : Nat) (a1 : A1), I a1 → (∀ (b1 : A1), I b1 → μ b1 < μ a1 → W n b1) → W (n + 1) a1) (a1 : A1) (h : I a1) : ∃ n, W n a1 :=
  loop_m (σ := A1) (fun n s => W n s) (fun s => I s) (fun s => μ s) (fun n s hI hk => hs n s hI (fun b1 h9 hm => hk b1 h9 hm)) a1 h
theorem lp2 {A1 A2 : Type} (W : Nat → A1 → A2 → Prop) (I : A1 → A2 → Prop) (μ : A1 → A2 → Nat) (hs : ∀ (n : Nat) (a1 : A1) (a2 : A2), I a1 a2 → (∀ (b1 : A1) (b2 : A2), I b1 b2 → μ b1 b2 < μ a1 a2 → W n b1 b2) → W (n + 1) a1 a2) (a1 : A1) (a2 : A2) (h : I a1 a2) : ∃ n, W n a1 a2 :=
  loop_m (σ := A1 × A2) (fun n s => W n s.1 s.2) (fun s => I s.1 s.2) (fun s => μ s.1 s.2) (fun n s hI hk => hs n s.1 s.2 hI (fun b1 b2 h9 hm => hk (b1, b2) h9 hm)) (a1, a2) h
theorem lp3 {A1 A2 A3 : Type} (W : Nat → A1 → A2 → A3 → Prop) (I : A1 → A2 → A3 → Prop) (μ : A1 → A2 → A3 → Nat) (hs : ∀ (n : Nat) (a1 : A1) (a2 : A2) (a3 : A3), I a1 a2 a3 → (∀ (b1 : A1) (b2 : A2) (b3 : A3), I b1 b2 b3 → μ b1 b2 b3 < μ a1 a2 a3 → W n b1 b2 b3) → W (n + 1) a1 a2 a3) (a1 : A1) (a2 : A2) (a3 : A3) (h : I a1 a2 a3) : ∃ n, W n a1 a2 a3 :=
  loop_m (σ := A1 × A2 × A3) (fun n s => W n s.1 s.2.1 s.2.2) (fun s => I s.1 s.2.1 s.2.2) (fun s => μ s.1 s.2.1 s.2.2) (fun n s hI hk => hs n s.1 s.2.1 s.2.2 hI (fun b1 b2 b3 h9 hm => hk (b1, b2, b3) h9 hm)) (a1, a2, a3) h
theorem lp4 {A1 A2 A3 A4 : Type} (W : Nat → A1 → A2 → A3 → A4 → Prop) (I : A1 → A2 → A3 → A4 → Prop) (μ : A1 → A2 → A3 → A4 → Nat) (hs : ∀ (n : Nat) (a1 : A1) (a2 : A2) (a3 : A3) (a4 : A4), I a1 a2 a3 a4 → (∀ (b1 : A1) (b2 : A2) (b3 : A3) (b4 : A4), I b1 b2 b3 b4 → μ b1 b2 b3 b4 < μ a1 a2 a3 a4 → W n b1 b2 b3 b4) → W (n + 1) a1 a2 a3 a4) (a1 : A1) (a2 : A2) (a3 : A3) (a4 : A4) (h : I a1 a2 a3 a4) : ∃ n, W n a1 a2 a3 a4 :=
  loop_m (σ := A1 × A2 × A3 × A4) (fun n s => W n s.1 s.2.1 s.2.2.1 s.2.2.2) (fun s => I s.1 s.2.1 s.2.2.1 s.2.2.2) (fun s => μ s.1 s.2.1 s.2.2.1 s.2.2.2) (fun n s hI hk => hs n s.1 s.2.1 s.2.2.1 s.2.2.2 hI (fun b1 b2 b3 b4 h9 hm => hk (b1, b2, b3, b4) h9 hm)) (a1, a2, a3, a4) h
theorem lp5 {A1 A2 A3 A4 A5 : Type} (W : Nat → A1 → A2 → A3 → A4 → A5 → Prop) (I : A1 → A2 → A3 → A4 → A5 → Prop) (μ : A1 → A2 → A3 → A4 → A5 → Nat) (hs : ∀ (n : Nat) (a1 : A1) (a2 : A2) (a3 : A3) (a4 : A4) (a5 : A5), I a1 a2 a3 a4 a5 → (∀ (b1 : A1) (b2 : A2) (b3 : A3) (b4 : A4) (b5 : A5), I b1 b2 b3 b4 b5 → μ b1 b2 b3 b4 b5 < μ a1 a2 a3 a4 a5 → W n b1 b2 b3 b4 b5) → W (n + 1) a1 a2 a3 a4 a5) (a1 : A1) (a2 : A2) (a3 : A3) (a4 : A4) (a5 : A5) (h : I a1 a2 a3 a4 a5) : ∃ n, W n a1 a2 a3 a4 a5 :=
  loop_m (σ := A1 × A2 × A3 × A4 × A5) (fun n s => W n s.1 s.2.1 s.2.2.1 s.2.2.2.1 s.2.2.2.2) (fun s => I s.1 s.2.1 s.2.2.1 s.2.2.2.1 s.2.2.2.2) (fun s => μ s.1 s.2.1 s.2.2.1 s.2.2.2.1 s.2.2.2.2) (fun n s hI hk => hs n s.1 s.2.1 s.2.2.1 s.2.2.2.1 s.2.2.2.2 hI (fun b1 b2 b3 b4 b5 h9 hm => hk (b1, b2, b3, b4, b5) h9 hm)) (a1, a2, a3, a4, a5) h
theorem lp6 {A1 A2 A3 A4 A5 A6 : Type} (W : Nat → A1 → A2 → A3 → A4 → A5 → A6 → Prop) (I : A1 → A2 → A3 → A4 → A5 → A6 → Prop) (μ : A1 → A2 → A3 → A4 → A5 → A6 → Nat) (hs : ∀ (n : Nat) (a1 : A1) (a2 : A2) (a3 : A3) (a4 : A4) (a5 : A5) (a6 : A6), I a1 a2 a3 a4 a5 a6 → (∀ (b1 : A1) (b2 : A2) (b3 : A3) (b4 : A4) (b5 : A5) (b6 : A6), I b1 b2 b3 b4 b5 b6 → μ b1 b2 b3 b4 b5 b6 < μ a1 a2 a3 a4 a5 a6 → W n b1 b2 b3 b4 b5 b6) → W (n + 1) a1 a2 a3 a4 a5 a6) (a1 : A1) (a2 : A2) (a3 : A3) (a4 : A4) (a5 : A5) (a6 : A6) (h : I a1 a2 a3 a4 a5 a6) : ∃ n, W n a1 a2 a3 a4 a5 a6 :=
  loop_m (σ := A1 × A2 × A3 × A4 × A5 × A6) (fun n s => W n s.1 s.2.1 s.2.2.1 s.2.2.2.1 s.2.2.2.2.1 s.2.2.2.2.2) (fun s => I s.1 s.2.1 s.2.2.1 s.2.2.2.1 s.2.2.2.2.1 s.2.2.2.2.2) (fun s => μ s.1 s.2.1 s.2.2.1 s.2.2.2.1 s.2.2.2.2.1 s.2.2.2.2.2) (fun n s hI hk => hs n s.1 s.2.1 s.2.2.1 s.2.2.2.1 s.2.2.2.2.1 s.2.2.2.2.2 hI (fun b1 b2 b3 b4 b5 b6 h9 hm => hk (b1, b2, b3, b4, b5, b6) h9 hm)) (a1, a2, a3, a4, a5, a6) h
theorem lp7 {A1 A2 A3 A4 A5 A6 A7 : Type} (W : Nat → A1 → A2 → A3 → A4 → A5 → A6 → A7 → Prop) (I : A1 → A2 → A3 → A4 → A5 → A6 → A7 → Prop) (μ : A1 → A2 → A3 → A4 → A5 → A6 → A7 → Nat) (hs : ∀ (n : Nat) (a1 : A1) (a2 : A2) (a3 : A3) (a4 : A4) (a5 : A5) (a6 : A6) (a7 : A7), I a1 a2 a3 a4 a5 a6 a7 → (∀ (b1 : A1) (b2 : A2) (b3 : A3) (b4 : A4) (b5 : A5) (b6 : A6) (b7 : A7), I b1 b2 b3 b4 b5 b6 b7 → μ b1 b2 b3 b4 b5 b6 b7 < μ a1 a2 a3 a4 a5 a6 a7 → W n b1 b2 b3 b4 b5 b6 b7) → W (n + 1) a1 a2 a3 a4 a5 a6 a7) (a1 : A1) (a2 : A2) (a3 : A3) (a4 : A4) (a5 : A5) (a6 : A6) (a7 : A7) (h : I a1 a2 a3 a4 a5 a6 a7) : ∃ n, W n a1 a2 a3 a4 a5 a6 a7 :=
  loop_m (σ := A1 × A2 × A3 × A4 × A5 × A6 × A7) (fun n s => W n s.1 s.2.1 s.2.2.1 s.2.2.2.1 s.2.2.2.2.1 s.2.2.2.2.2.1 s.2.2.2.2.2.2) (fun s => I s.1 s.2.1 s.2.2.1 s.2.2.2.1 s.2.2.2.2.1 s.2.2.2.2.2.1 s.2.2.2.2.2.2) (fun s => μ s.1 s.2.1 s.2.2.1 s.2.2.2.1 s.2.2.2.2.1 s.2.2.2.2.2.1 s.2.2.2.2.2.2) (fun n s hI hk => hs n s.1 s.2.1 s.2.2.1 s.2.2.2.1 s.2.2.2.2.1 s.2.2.2.2.2.1 s.2.2.2.2.2.2 hI (fun b1 b2 b3 b4 b5 b6 b7 h9 hm => hk (b1, b2, b3, b4, b5, b6, b7) h9 hm)) (a1, a2, a3, a4, a5, a6, a7) h
theorem lp8 {A1 A2 A3 A4 A5 A6 A7 A8 : Type} (W : Nat → A1 → A2 → A3 → A4 → A5 → A6 → A7 → A8 → Prop) (I : A1 → A2 → A3 → A4 → A5 → A6 → A7 → A8 → Prop) (μ : A1 → A2 → A3 → A4 → A5 → A6 → A7 → A8 → Nat) (hs : ∀ (n : Nat) (a1 : A1) (a2 : A2) (a3 : A3) (a4 : A4) (a5 : A5) (a6 : A6) (a7 : A7) (a8 : A8), I a1 a2 a3 a4 a5 a6 a7 a8 → (∀ (b1 : A1) (b2 : A2) (b3 : A3) (b4 : A4) (b5 : A5) (b6 : A6) (b7 : A7) (b8 : A8), I b1 b2 b3 b4 b5 b6 b7 b8 → μ b1 b2 b3 b4 b5 b6 b7 b8 < μ a1 a2 a3 a4 a5 a6 a7 a8 → W n b1 b2 b3 b4 b5 b6 b7 b8) → W (n + 1) a1 a2 a3 a4 a5 a6 a7 a8) (a1 : A1) (a2 : A2) (a3 : A3) (a4 : A4) (a5 : A5) (a6 : A6) (a7 : A7) (a8 : A8) (h : I a1 a2 a3 a4 a5 a6 a7 a8) : ∃ n, W n a1 a2 a3 a4 a5 a6 a7 a8 :=
  loop_m (σ := A1 × A2 × A3 × A4 × A5 × A6 × A7 × A8) (fun n s => W n s.1 s.2.1 s.2.2.1 s.2.2.2.1 s.2.2.2.2.1 s.2.2.2.2.2.1 s.2.2.2.2.2.2.1 s.2.2.2.2.2.2.2) (fun s => I s.1 s.2.1 s.2.2.1 s.2.2.2.1 s.2.2.2.2.1 s.2.2.2.2.2.1 s.2.2.2.2.2.2.1 s.2.2.2.2.2.2.2) (fun s => μ s.1 s.2.1 s.2.2.1 s.2.2.2.1 s.2.2.2.2.1 s.2.2.2.2.2.1 s.2.2.2.2.2.2.1 s.2.2.2.2.2.2.2) (fun n s hI hk => hs n s.1 s.2.1 s.2.2.1 s.2.2.2.1 s.2.2.2.2.1 s.2.2.2.2.2.1 s.2.2.2.2.2.2.1 s.2.2.2.2.2.2.2 hI (fun b1 b2 b3 b4 b5 b6 b7 b8 h9 hm => hk (b1, b2, b3, b4, b5, b6, b7, b8) h9 hm)) (a1, a2, a3, a4, a5, a6, a7, a8) h
theorem lp9 {A1 A2 A3 A4 A5 A6 A7 A8 A9 : Type} (W : Nat → A1 → A2 → A3 → A4 → A5 → A6 → A7 → A8 → A9 → Prop) (I : A1 → A2 → A3 → A4 → A5 → A6 → A7 → A8 → A9 → Prop) (μ : A1 → A2 → A3 → A4 → A5 → A6 → A7 → A8 → A9 → Nat) (hs : ∀ (n : Nat) (a1 : A1) (a2 : A2) (a3 : A3) (a4 : A4) (a5 : A5) (a6 : A6) (a7 : A7) (a8 : A8) (a9 : A9), I a1 a2 a3 a4 a5 a6 a7 a8 a9 → (∀ (b1 : A1) (b2 : A2) (b3 : A3) (b4 : A4) (b5 : A5) (b6 : A6) (b7 : A7) (b8 : A8) (b9 : A9), I b1 b2 b3 b4 b5 b6 b7 b8 b9 → μ b1 b2 b3 b4 b5 b6 b7 b8 b9 < μ a1 a2 a3 a4 a5 a6 a7 a8 a9 → W n b1 b2 b3 b4 b5 b6 b7 b8 b9) → W (n + 1) a1 a2 a3 a4 a5 a6 a7 a8 a9) (a1 : A1) (a2 : A2) (a3 : A3) (a4 : A4) (a5 : A5) (a6 : A6) (a7 : A7) (a8 : A8) (a9 : A9) (h : I a1 a2 a3 a4 a5 a6 a7 a8 a9) : ∃ n, W n a1 a2 a3 a4 a5 a6 a7 a8 a9 :=
  loop_m (σ := A1 × A2 × A3 × A4 × A5 × A6 × A7 × A8 × A9) (fun n s => W n s.1 s.2.1 s.2.2.1 s.2.2.2.1 s.2.2.2.2.1 s.2.2.2.2.2.1 s.2.2.2.2.2.2.1 s.2.2.2.2.2.2.2.1 s.2.2.2.2.2.2.2.2) (fun s => I s.1 s.2.1 s.2.2.1 s.2.2.2.1 s.2.2.2.2.1 s.2.2.2.2.2.1 s.2.2.2.2.2.2.1 s.2.2.2.2.2.2.2.1 s.2.2.2.2.2.2.2.2) (fun s => μ s.1 s.2.1 s.2.2.1 s.2.2.2.1 s.2.2.2.2.1 s.2.2.2.2.2.1 s.2.2.2.2.2.2.1 s.2.2.2.2.2.2.2.1 s.2.2.2.2.2.2.2.2) (fun n s hI hk => hs n s.1 s.2.1 s.2.2.1 s.2.2.2.1 s.2.2.2.2.1 s.2.2.2.2.2.1 s.2.2.2.2.2.2.1 s.2.2.2.2.2.2.2.1 s.2.2.2.2.2.2.2.2 hI (fun b1 b2 b3 b4 b5 b6 b7 b8 b9 h9 hm => hk (b1, b2, b3, b4, b5, b6, b7, b8, b9) h9 hm)) (a1, a2, a3, a4, a5, a6, a7, a8, a9) h
theorem lp10 {A1 A2 A3 A4 A5 A6 A7 A8 A9 A10 : Type} (W : Nat → A1 → A2 → A3 → A4 → A5 → A6 → A7 → A8 → A9 → A10 → Prop) (I : A1 → A2 → A3 → A4 → A5 → A6 → A7 → A8 → A9 → A10 → Prop) (μ : A1 → A2 → A3 → A4 → A5 → A6 → A7 → A8 → A9 → A10 → Nat) (hs : ∀ (n : Nat) (a1 : A1) (a2 : A2) (a3 : A3) (a4 : A4) (a5 : A5) (a6 : A6) (a7 : A7) (a8 : A8) (a9 : A9) (a10 : A10), I a1 a2 a3 a4 a5 a6 a7 a8 a9 a10 → (∀ (b1 : A1) (b2 : A2) (b3 : A3) (b4 : A4) (b5 : A5) (b6 : A6) (b7 : A7) (b8 : A8) (b9 : A9) (b10 : A10), I b1 b2 b3 b4 b5 b6 b7 b8 b9 b10 → μ b1 b2 b3 b4 b5 b6 b7 b8 b9 b10 < μ a1 a2 a3 a4 a5 a6 a7 a8 a9 a10 → W n b1 b2 b3 b4 b5 b6 b7 b8 b9 b10) → W (n + 1) a1 a2 a3 a4 a5 a6 a7 a8 a9 a10) (a1 : A1) (a2 : A2) (a3 : A3) (a4 : A4) (a5 : A5) (a6 : A6) (a7 : A7) (a8 : A8) (a9 : A9) (a10 : A10) (h : I a1 a2 a3 a4 a5 a6 a7 a8 a9 a10) : ∃ n, W n a1 a2 a3 a4 a5 a6 a7 a8 a9 a10 :=
  loop_m (σ := A1 × A2 × A3 × A4 × A5 × A6 × A7 × A8 × A9 × A10) (fun n s => W n s.1 s.2.1 s.2.2.1 s.2.2.2.1 s.2.2.2.2.1 s.2.2.2.2.2.1 s.2.2.2.2.2.2.1 s.2.2.2.2.2.2.2.1 s.2.2.2.2.2.2.2.2.1 s.2.2.2.2.2.2.2.2.2) (fun s => I s.1 s.2.1 s.2.2.1 s.2.2.2.1 s.2.2.2.2.1 s.2.2.2.2.2.1 s.2.2.2.2.2.2.1 s.2.2.2.2.2.2.2.1 s.2.2.2.2.2.2.2.2.1 s.2.2.2.2.2.2.2.2.2) (fun s => μ s.1 s.2.1 s.2.2.1 s.2.2.2.1 s.2.2.2.2.1 s.2.2.2.2.2.1 s.2.2.2.2.2.2.1 s.2.2.2.2.2.2.2.1 s.2.2.2.2.2.2.2.2.1 s.2.2.2.2.2.2.2.2.2) (fun n s hI hk => hs n s.1 s.2.1 s.2.2.1 s.2.2.2.1 s.2.2.2.2.1 s.2.2.2.2.2.1 s.2.2.2.2.2.2.1 s.2.2.2.2.2.2.2.1 s.2.2.2.2.2.2.2.2.1 s.2.2.2.2.2.2.2.2.2 hI (fun b1 b2 b3 b4 b5 b6 b7 b8 b9 b10 h9 hm => hk (b1, b2, b3, b4, b5, b6, b7, b8, b9, b10) h9 hm)) (a1, a2, a3, a4, a5, a6, a7, a8, a9, a10) h
theorem lp11 {A1 A2 A3 A4 A5 A6 A7 A8 A9 A10 A11 : Type} (W : Nat → A1 → A2 → A3 → A4 → A5 → A6 → A7 → A8 → A9 → A10 → A11 → Prop) (I : A1 → A2 → A3 → A4 → A5 → A6 → A7 → A8 → A9 → A10 → A11 → Prop) (μ : A1 → A2 → A3 → A4 → A5 → A6 → A7 → A8 → A9 → A10 → A11 → Nat) (hs : ∀ (n : Nat) (a1 : A1) (a2 : A2) (a3 : A3) (a4 : A4) (a5 : A5) (a6 : A6) (a7 : A7) (a8 : A8) (a9 : A9) (a10 : A10) (a11 : A11), I a1 a2 a3 a4 a5 a6 a7 a8 a9 a10 a11 → (∀ (b1 : A1) (b2 : A2) (b3 : A3) (b4 : A4) (b5 : A5) (b6 : A6) (b7 : A7) (b8 : A8) (b9 : A9) (b10 : A10) (b11 : A11), I b1 b2 b3 b4 b5 b6 b7 b8 b9 b10 b11 → μ b1 b2 b3 b4 b5 b6 b7 b8 b9 b10 b11 < μ a1 a2 a3 a4 a5 a6 a7 a8 a9 a10 a11 → W n b1 b2 b3 b4 b5 b6 b7 b8 b9 b10 b11) → W (n + 1) a1 a2 a3 a4 a5 a6 a7 a8 a9 a10 a11) (a1 : A1) (a2 : A2) (a3 : A3) (a4 : A4) (a5 : A5) (a6 : A6) (a7 : A7) (a8 : A8) (a9 : A9) (a10 : A10) (a11 : A11) (h : I a1 a2 a3 a4 a5 a6 a7 a8 a9 a10 a11) : ∃ n, W n a1 a2 a3 a4 a5 a6 a7 a8 a9 a10 a11 :=
  loop_m (σ := A1 × A2 × A3 × A4 × A5 × A6 × A7 × A8 × A9 × A10 × A11) (fun n s => W n s.1 s.2.1 s.2.2.1 s.2.2.2.1 s.2.2.2.2.1 s.2.2.2.2.2.1 s.2.2.2.2.2.2.1 s.2.2.2.2.2.2.2.1 s.2.2.2.2.2.2.2.2.1 s.2.2.2.2.2.2.2.2.2.1 s.2.2.2.2.2.2.2.2.2.2) (fun s => I s.1 s.2.1 s.2.2.1 s.2.2.2.1 s.2.2.2.2.1 s.2.2.2.2.2.1 s.2.2.2.2.2.2.1 s.2.2.2.2.2.2.2.1 s.2.2.2.2.2.2.2.2.1 s.2.2.2.2.2.2.2.2.2.1 s.2.2.2.2.2.2.2.2.2.2) (fun s => μ s.1 s.2.1 s.2.2.1 s.2.2.2.1 s.2.2.2.2.1 s.2.2.2.2.2.1 s.2.2.2.2.2.2.1 s.2.2.2.2.2.2.2.1 s.2.2.2.2.2.2.2.2.1 s.2.2.2.2.2.2.2.2.2.1 s.2.2.2.2.2.2.2.2.2.2) (fun n s hI hk => hs n s.1 s.2.1 s.2.2.1 s.2.2.2.1 s.2.2.2.2.1 s.2.2.2.2.2.1 s.2.2.2.2.2.2.1 s.2.2.2.2.2.2.2.1 s.2.2.2.2.2.2.2.2.1 s.2.2.2.2.2.2.2.2.2.1 s.2.2.2.2.2.2.2.2.2.2 hI (fun b1 b2 b3 b4 b5 b6 b7 b8 b9 b10 b11 h9 hm => hk (b1, b2, b3, b4, b5, b6, b7, b8, b9, b10, b11) h9 hm)) (a1, a2, a3, a4, a5, a6, a7, a8, a9, a10, a11) h
theorem lp12 {A1 A2 A3 A4 A5 A6 A7 A8 A9 A10 A11 A12 : Type} (W : Nat → A1 → A2 → A3 → A4 → A5 → A6 → A7 → A8 → A9 → A10 → A11 → A12 → Prop) (I : A1 → A2 → A3 → A4 → A5 → A6 → A7 → A8 → A9 → A10 → A11 → A12 → Prop) (μ : A1 → A2 → A3 → A4 → A5 → A6 → A7 → A8 → A9 → A10 → A11 → A12 → Nat) (hs : ∀ (n : Nat) (a1 : A1) (a2 : A2) (a3 : A3) (a4 : A4) (a5 : A5) (a6 : A6) (a7 : A7) (a8 : A8) (a9 : A9) (a10 : A10) (a11 : A11) (a12 : A12), I a1 a2 a3 a4 a5 a6 a7 a8 a9 a10 a11 a12 → (∀ (b1 : A1) (b2 : A2) (b3 : A3) (b4 : A4) (b5 : A5) (b6 : A6) (b7 : A7) (b8 : A8) (b9 : A9) (b10 : A10) (b11 : A11) (b12 : A12), I b1 b2 b3 b4 b5 b6 b7 b8 b9 b10 b11 b12 → μ b1 b2 b3 b4 b5 b6 b7 b8 b9 b10 b11 b12 < μ a1 a2 a3 a4 a5 a6 a7 a8 a9 a10 a11 a12 → W n b1 b2 b3 b4 b5 b6 b7 b8 b9 b10 b11 b12) → W (n + 1) a1 a2 a3 a4 a5 a6 a7 a8 a9 a10 a11 a12) (a1 : A1) (a2 : A2) (a3 : A3) (a4 : A4) (a5 : A5) (a6 : A6) (a7 : A7) (a8 : A8) (a9 : A9) (a10 : A10) (a11 : A11) (a12 : A12) (h : I a1 a2 a3 a4 a5 a6 a7 a8 a9 a10 a11 a12) : ∃ n, W n a1 a2 a3 a4 a5 a6 a7 a8 a9 a10 a11 a12 :=
  loop_m (σ := A1 × A2 × A3 × A4 × A5 × A6 × A7 × A8 × A9 × A10 × A11 × A12) (fun n s => W n s.1 s.2.1 s.2.2.1 s.2.2.2.1 s.2.2.2.2.1 s.2.2.2.2.2.1 s.2.2.2.2.2.2.1 s.2.2.2.2.2.2.2.1 s.2.2.2.2.2.2.2.2.1 s.2.2.2.2.2.2.2.2.2.1 s.2.2.2.2.2.2.2.2.2.2.1 s.2.2.2.2.2.2.2.2.2.2.2) (fun s => I s.1 s.2.1 s.2.2.1 s.2.2.2.1 s.2.2.2.2.1 s.2.2.2.2.2.1 s.2.2.2.2.2.2.1 s.2.2.2.2.2.2.2.1 s.2.2.2.2.2.2.2.2.1 s.2.2.2.2.2.2.2.2.2.1 s.2.2.2.2.2.2.2.2.2.2.1 s.2.2.2.2.2.2.2.2.2.2.2) (fun s => μ s.1 s.2.1 s.2.2.1 s.2.2.2.1 s.2.2.2.2.1 s.2.2.2.2.2.1 s.2.2.2.2.2.2.1 s.2.2.2.2.2.2.2.1 s.2.2.2.2.2.2.2.2.1 s.2.2.2.2.2.2.2.2.2.1 s.2.2.2.2.2.2.2.2.2.2.1 s.2.2.2.2.2.2.2.2.2.2.2) (fun n s hI hk => hs n s.1 s.2.1 s.2.2.1 s.2.2.2.1 s.2.2.2.2.1 s.2.2.2.2.2.1 s.2.2.2.2.2.2.1 s.2.2.2.2.2.2.2.1 s.2.2.2.2.2.2.2.2.1 s.2.2.2.2.2.2.2.2.2.1 s.2.2.2.2.2.2.2.2.2.2.1 s.2.2.2.2.2.2.2.2.2.2.2 hI (fun b1 b2 b3 b4 b5 b6 b7 b8 b9 b10 b11 b12 h9 hm => hk (b1, b2, b3, b4, b5, b6, b7, b8, b9, b10, b11, b12) h9 hm)) (a1, a2, a3, a4, a5, a6, a7, a8, a9, a10, a11, a12) h
theorem lp13 {A1 A2 A3 A4 A5 A6 A7 A8 A9 A10 A11 A12 A13 : Type} (W : Nat → A1 → A2 → A3 → A4 → A5 → A6 → A7 → A8 → A9 → A10 → A11 → A12 → A13 → Prop) (I : A1 → A2 → A3 → A4 → A5 → A6 → A7 → A8 → A9 → A10 → A11 → A12 → A13 → Prop) (μ : A1 → A2 → A3 → A4 → A5 → A6 → A7 → A8 → A9 → A10 → A11 → A12 → A13 → Nat) (hs : ∀ (n : Nat) (a1 : A1) (a2 : A2) (a3 : A3) (a4 : A4) (a5 : A5) (a6 : A6) (a7 : A7) (a8 : A8) (a9 : A9) (a10 : A10) (a11 : A11) (a12 : A12) (a13 : A13), I a1 a2 a3 a4 a5 a6 a7 a8 a9 a10 a11 a12 a13 → (∀ (b1 : A1) (b2 : A2) (b3 : A3) (b4 : A4) (b5 : A5) (b6 : A6) (b7 : A7) (b8 : A8) (b9 : A9) (b10 : A10) (b11 : A11) (b12 : A12) (b13 : A13), I b1 b2 b3 b4 b5 b6 b7 b8 b9 b10 b11 b12 b13 → μ b1 b2 b3 b4 b5 b6 b7 b8 b9 b10 b11 b12 b13 < μ a1 a2 a3 a4 a5 a6 a7 a8 a9 a10 a11 a12 a13 → W n b1 b2 b3 b4 b5 b6 b7 b8 b9 b10 b11 b12 b13) → W (n + 1) a1 a2 a3 a4 a5 a6 a7 a8 a9 a10 a11 a12 a13) (a1 : A1) (a2 : A2) (a3 : A3) (a4 : A4) (a5 : A5) (a6 : A6) (a7 : A7) (a8 : A8) (a9 : A9) (a10 : A10) (a11 : A11) (a12 : A12) (a13 : A13) (h : I a1 a2 a3 a4 a5 a6 a7 a8 a9 a10 a11 a12 a13) : ∃ n, W n a1 a2 a3 a4 a5 a6 a7 a8 a9 a10 a11 a12 a13 :=
  loop_m (σ := A1 × A2 × A3 × A4 × A5 × A6 × A7 × A8 × A9 × A10 × A11 × A12 × A13) (fun n s => W n s.1 s.2.1 s.2.2.1 s.2.2.2.1 s.2.2.2.2.1 s.2.2.2.2.2.1 s.2.2.2.2.2.2.1 s.2.2.2.2.2.2.2.1 s.2.2.2.2.2.2.2.2.1 s.2.2.2.2.2.2.2.2.2.1 s.2.2.2.2.2.2.2.2.2.2.1 s.2.2.2.2.2.2.2.2.2.2.2.1 s.2.2.2.2.2.2.2.2.2.2.2.2) (fun s => I s.1 s.2.1 s.2.2.1 s.2.2.2.1 s.2.2.2.2.1 s.2.2.2.2.2.1 s.2.2.2.2.2.2.1 s.2.2.2.2.2.2.2.1 s.2.2.2.2.2.2.2.2.1 s.2.2.2.2.2.2.2.2.2.1 s.2.2.2.2.2.2.2.2.2.2.1 s.2.2.2.2.2.2.2.2.2.2.2.1 s.2.2.2.2.2.2.2.2.2.2.2.2) (fun s => μ s.1 s.2.1 s.2.2.1 s.2.2.2.1 s.2.2.2.2.1 s.2.2.2.2.2.1 s.2.2.2.2.2.2.1 s.2.2.2.2.2.2.2.1 s.2.2.2.2.2.2.2.2.1 s.2.2.2.2.2.2.2.2.2.1 s.2.2.2.2.2.2.2.2.2.2.1 s.2.2.2.2.2.2.2.2.2.2.2.1 s.2.2.2.2.2.2.2.2.2.2.2.2) (fun n s hI hk => hs n s.1 s.2.1 s.2.2.1 s.2.2.2.1 s.2.2.2.2.1 s.2.2.2.2.2.1 s.2.2.2.2.2.2.1 s.2.2.2.2.2.2.2.1 s.2.2.2.2.2.2.2.2.1 s.2.2.2.2.2.2.2.2.2.1 s.2.2.2.2.2.2.2.2.2.2.1 s.2.2.2.2.2.2.2.2.2.2.2.1 s.2.2.2.2.2.2.2.2.2.2.2.2 hI (fun b1 b2 b3 b4 b5 b6 b7 b8 b9 b10 b11 b12 b13 h9 hm => hk (b1, b2, b3, b4, b5, b6, b7, b8, b9, b10, b11, b12, b13) h9 hm)) (a1, a2, a3, a4, a5, a6, a7, a8, a9, a10, a11, a12, a13) h
theorem lp14 {A1 A2 A3 A4 A5 A6 A7 A8 A9 A10 A11 A12 A13 A14 : Type} (W : Nat → A1 → A2 → A3 → A4 → A5 → A6 → A7 → A8 → A9 → A10 → A11 → A12 → A13 → A14 → Prop) (I : A1 → A2 → A3 → A4 → A5 → A6 → A7 → A8 → A9 → A10 → A11 → A12 → A13 → A14 → Prop) (μ : A1 → A2 → A3 → A4 → A5 → A6 → A7 → A8 → A9 → A10 → A11 → A12 → A13 → A14 → Nat) (hs : ∀ (n : Nat) (a1 : A1) (a2 : A2) (a3 : A3) (a4 : A4) (a5 : A5) (a6 : A6) (a7 : A7) (a8 : A8) (a9 : A9) (a10 : A10) (a11 : A11) (a12 : A12) (a13 : A13) (a14 : A14), I a1 a2 a3 a4 a5 a6 a7 a8 a9 a10 a11 a12 a13 a14 → (∀ (b1 : A1) (b2 : A2) (b3 : A3) (b4 : A4) (b5 : A5) (b6 : A6) (b7 : A7) (b8 : A8) (b9 : A9) (b10 : A10) (b11 : A11) (b12 : A12) (b13 : A13) (b14 : A14), I b1 b2 b3 b4 b5 b6 b7 b8 b9 b10 b11 b12 b13 b14 → μ b1 b2 b3 b4 b5 b6 b7 b8 b9 b10 b11 b12 b13 b14 < μ a1 a2 a3 a4 a5 a6 a7 a8 a9 a10 a11 a12 a13 a14 → W n b1 b2 b3 b4 b5 b6 b7 b8 b9 b10 b11 b12 b13 b14) → W (n + 1) a1 a2 a3 a4 a5 a6 a7 a8 a9 a10 a11 a12 a13 a14) (a1 : A1) (a2 : A2) (a3 : A3) (a4 : A4) (a5 : A5) (a6 : A6) (a7 : A7) (a8 : A8) (a9 : A9) (a10 : A10) (a11 : A11) (a12 : A12) (a13 : A13) (a14 : A14) (h : I a1 a2 a3 a4 a5 a6 a7 a8 a9 a10 a11 a12 a13 a14) : ∃ n, W n a1 a2 a3 a4 a5 a6 a7 a8 a9 a10 a11 a12 a13 a14 :=
  loop_m (σ := A1 × A2 × A3 × A4 × A5 × A6 × A7 × A8 × A9 × A10 × A11 × A12 × A13 × A14) (fun n s => W n s.1 s.2.1 s.2.2.1 s.2.2.2.1 s.2.2.2.2.1 s.2.2.2.2.2.1 s.2.2.2.2.2.2.1 s.2.2.2.2.2.2.2.1 s.2.2.2.2.2.2.2.2.1 s.2.2.2.2.2.2.2.2.2.1 s.2.2.2.2.2.2.2.2.2.2.1 s.2.2.2.2.2.2.2.2.2.2.2.1 s.2.2.2.2.2.2.2.2.2.2.2.2.1 s.2.2.2.2.2.2.2.2.2.2.2.2.2) (fun s => I s.1 s.2.1 s.2.2.1 s.2.2.2.1 s.2.2.2.2.1 s.2.2.2.2.2.1 s.2.2.2.2.2.2.1 s.2.2.2.2.2.2.2.1 s.2.2.2.2.2.2.2.2.1 s.2.2.2.2.2.2.2.2.2.1 s.2.2.2.2.2.2.2.2.2.2.1 s.2.2.2.2.2.2.2.2.2.2.2.1 s.2.2.2.2.2.2.2.2.2.2.2.2.1 s.2.2.2.2.2.2.2.2.2.2.2.2.2) (fun s => μ s.1 s.2.1 s.2.2.1 s.2.2.2.1 s.2.2.2.2.1 s.2.2.2.2.2.1 s.2.2.2.2.2.2.1 s.2.2.2.2.2.2.2.1 s.2.2.2.2.2.2.2.2.1 s.2.2.2.2.2.2.2.2.2.1 s.2.2.2.2.2.2.2.2.2.2.1 s.2.2.2.2.2.2.2.2.2.2.2.1 s.2.2.2.2.2.2.2.2.2.2.2.2.1 s.2.2.2.2.2.2.2.2.2.2.2.2.2) (fun n s hI hk => hs n s.1 s.2.1 s.2.2.1 s.2.2.2.1 s.2.2.2.2.1 s.2.2.2.2.2.1 s.2.2.2.2.2.2.1 s.2.2.2.2.2.2.2.1 s.2.2.2.2.2.2.2.2.1 s.2.2.2.2.2.2.2.2.2.1 s.2.2.2.2.2.2.2.2.2.2.1 s.2.2.2.2.2.2.2.2.2.2.2.1 s.2.2.2.2.2.2.2.2.2.2.2.2.1 s.2.2.2.2.2.2.2.2.2.2.2.2.2 hI (fun b1 b2 b3 b4 b5 b6 b7 b8 b9 b10 b11 b12 b13 b14 h9 hm => hk (b1, b2, b3, b4, b5, b6, b7, b8, b9, b10, b11, b12, b13, b14) h9 hm)) (a1, a2, a3, a4, a5, a6, a7, a8, a9, a10, a11, a12, a13, a14) h
theorem lp15 {A1 A2 A3 A4 A5 A6 A7 A8 A9 A10 A11 A12 A13 A14 A15 : Type} (W : Nat → A1 → A2 → A3 → A4 → A5 → A6 → A7 → A8 → A9 → A10 → A11 → A12 → A13 → A14 → A15 → Prop) (I : A1 → A2 → A3 → A4 → A5 → A6 → A7 → A8 → A9 → A10 → A11 → A12 → A13 → A14 → A15 → Prop) (μ : A1 → A2 → A3 → A4 → A5 → A6 → A7 → A8 → A9 → A10 → A11 → A12 → A13 → A14 → A15 → Nat) (hs : ∀ (n : Nat) (a1 : A1) (a2 : A2) (a3 : A3) (a4 : A4) (a5 : A5) (a6 : A6) (a7 : A7) (a8 : A8) (a9 : A9) (a10 : A10) (a11 : A11) (a12 : A12) (a13 : A13) (a14 : A14) (a15 : A15), I a1 a2 a3 a4 a5 a6 a7 a8 a9 a10 a11 a12 a13 a14 a15 → (∀ (b1 : A1) (b2 : A2) (b3 : A3) (b4 : A4) (b5 : A5) (b6 : A6) (b7 : A7) (b8 : A8) (b9 : A9) (b10 : A10) (b11 : A11) (b12 : A12) (b13 : A13) (b14 : A14) (b15 : A15), I b1 b2 b3 b4 b5 b6 b7 b8 b9 b10 b11 b12 b13 b14 b15 → μ b1 b2 b3 b4 b5 b6 b7 b8 b9 b10 b11 b12 b13 b14 b15 < μ a1 a2 a3 a4 a5 a6 a7 a8 a9 a10 a11 a12 a13 a14 a15 → W n b1 b2 b3 b4 b5 b6 b7 b8 b9 b10 b11 b12 b13 b14 b15) → W (n + 1) a1 a2 a3 a4 a5 a6 a7 a8 a9 a10 a11 a12 a13 a14 a15) (a1 : A1) (a2 : A2) (a3 : A3) (a4 : A4) (a5 : A5) (a6 : A6) (a7 : A7) (a8 : A8) (a9 : A9) (a10 : A10) (a11 : A11) (a12 : A12) (a13 : A13) (a14 : A14) (a15 : A15) (h : I a1 a2 a3 a4 a5 a6 a7 a8 a9 a10 a11 a12 a13 a14 a15) : ∃ n, W n a1 a2 a3 a4 a5 a6 a7 a8 a9 a10 a11 a12 a13 a14 a15 :=
  loop_m (σ := A1 × A2 × A3 × A4 × A5 × A6 × A7 × A8 × A9 × A10 × A11 × A12 × A13 × A14 × A15) (fun n s => W n s.1 s.2.1 s.2.2.1 s.2.2.2.1 s.2.2.2.2.1 s.2.2.2.2.2.1 s.2.2.2.2.2.2.1 s.2.2.2.2.2.2.2.1 s.2.2.2.2.2.2.2.2.1 s.2.2.2.2.2.2.2.2.2.1 s.2.2.2.2.2.2.2.2.2.2.1 s.2.2.2.2.2.2.2.2.2.2.2.1 s.2.2.2.2.2.2.2.2.2.2.2.2.1 s.2.2.2.2.2.2.2.2.2.2.2.2.2.1 s.2.2.2.2.2.2.2.2.2.2.2.2.2.2) (fun s => I s.1 s.2.1 s.2.2.1 s.2.2.2.1 s.2.2.2.2.1 s.2.2.2.2.2.1 s.2.2.2.2.2.2.1 s.2.2.2.2.2.2.2.1 s.2.2.2.2.2.2.2.2.1 s.2.2.2.2.2.2.2.2.2.1 s.2.2.2.2.2.2.2.2.2.2.1 s.2.2.2.2.2.2.2.2.2.2.2.1 s.2.2.2.2.2.2.2.2.2.2.2.2.1 s.2.2.2.2.2.2.2.2.2.2.2.2.2.1 s.2.2.2.2.2.2.2.2.2.2.2.2.2.2) (fun s => μ s.1 s.2.1 s.2.2.1 s.2.2.2.1 s.2.2.2.2.1 s.2.2.2.2.2.1 s.2.2.2.2.2.2.1 s.2.2.2.2.2.2.2.1 s.2.2.2.2.2.2.2.2.1 s.2.2.2.2.2.2.2.2.2.1 s.2.2.2.2.2.2.2.2.2.2.1 s.2.2.2.2.2.2.2.2.2.2.2.1 s.2.2.2.2.2.2.2.2.2.2.2.2.1 s.2.2.2.2.2.2.2.2.2.2.2.2.2.1 s.2.2.2.2.2.2.2.2.2.2.2.2.2.2) (fun n s hI hk => hs n s.1 s.2.1 s.2.2.1 s.2.2.2.1 s.2.2.2.2.1 s.2.2.2.2.2.1 s.2.2.2.2.2.2.1 s.2.2.2.2.2.2.2.1 s.2.2.2.2.2.2.2.2.1 s.2.2.2.2.2.2.2.2.2.1 s.2.2.2.2.2.2.2.2.2.2.1 s.2.2.2.2.2.2.2.2.2.2.2.1 s.2.2.2.2.2.2.2.2.2.2.2.2.1 s.2.2.2.2.2.2.2.2.2.2.2.2.2.1 s.2.2.2.2.2.2.2.2.2.2.2.2.2.2 hI (fun b1 b2 b3 b4 b5 b6 b7 b8 b9 b10 b11 b12 b13 b14 b15 h9 hm => hk (b1, b2, b3, b4, b5, b6, b7, b8, b9, b10, b11, b12, b13, b14, b15) h9 hm)) (a1, a2, a3, a4, a5, a6, a7, a8, a9, a10, a11, a12, a13, a14, a15) h
theorem lp16 {A1 A2 A3 A4 A5 A6 A7 A8 A9 A10 A11 A12 A13 A14 A15 A16 : Type} (W : Nat → A1 → A2 → A3 → A4 → A5 → A6 → A7 → A8 → A9 → A10 → A11 → A12 → A13 → A14 → A15 → A16 → Prop) (I : A1 → A2 → A3 → A4 → A5 → A6 → A7 → A8 → A9 → A10 → A11 → A12 → A13 → A14 → A15 → A16 → Prop) (μ : A1 → A2 → A3 → A4 → A5 → A6 → A7 → A8 → A9 → A10 → A11 → A12 → A13 → A14 → A15 → A16 → Nat) (hs : ∀ (n : Nat) (a1 : A1) (a2 : A2) (a3 : A3) (a4 : A4) (a5 : A5) (a6 : A6) (a7 : A7) (a8 : A8) (a9 : A9) (a10 : A10) (a11 : A11) (a12 : A12) (a13 : A13) (a14 : A14) (a15 : A15) (a16 : A16), I a1 a2 a3 a4 a5 a6 a7 a8 a9 a10 a11 a12 a13 a14 a15 a16 → (∀ (b1 : A1) (b2 : A2) (b3 : A3) (b4 : A4) (b5 : A5) (b6 : A6) (b7 : A7) (b8 : A8) (b9 : A9) (b10 : A10) (b11 : A11) (b12 : A12) (b13 : A13) (b14 : A14) (b15 : A15) (b16 : A16), I b1 b2 b3 b4 b5 b6 b7 b8 b9 b10 b11 b12 b13 b14 b15 b16 → μ b1 b2 b3 b4 b5 b6 b7 b8 b9 b10 b11 b12 b13 b14 b15 b16 < μ a1 a2 a3 a4 a5 a6 a7 a8 a9 a10 a11 a12 a13 a14 a15 a16 → W n b1 b2 b3 b4 b5 b6 b7 b8 b9 b10 b11 b12 b13 b14 b15 b16) → W (n + 1) a1 a2 a3 a4 a5 a6 a7 a8 a9 a10 a11 a12 a13 a14 a15 a16) (a1 : A1) (a2 : A2) (a3 : A3) (a4 : A4) (a5 : A5) (a6 : A6) (a7 : A7) (a8 : A8) (a9 : A9) (a10 : A10) (a11 : A11) (a12 : A12) (a13 : A13) (a14 : A14) (a15 : A15) (a16 : A16) (h : I a1 a2 a3 a4 a5 a6 a7 a8 a9 a10 a11 a12 a13 a14 a15 a16) : ∃ n, W n a1 a2 a3 a4 a5 a6 a7 a8 a9 a10 a11 a12 a13 a14 a15 a16 :=
  loop_m (σ := A1 × A2 × A3 × A4 × A5 × A6 × A7 × A8 × A9 × A10 × A11 × A12 × A13 × A14 × A15 × A16) (fun n s => W n s.1 s.2.1 s.2.2.1 s.2.2.2.1 s.2.2.2.2.1 s.2.2.2.2.2.1 s.2.2.2.2.2.2.1 s.2.2.2.2.2.2.2.1 s.2.2.2.2.2.2.2.2.1 s.2.2.2.2.2.2.2.2.2.1 s.2.2.2.2.2.2.2.2.2.2.1 s.2.2.2.2.2.2.2.2.2.2.2.1 s.2.2.2.2.2.2.2.2.2.2.2.2.1 s.2.2.2.2.2.2.2.2.2.2.2.2.2.1 s.2.2.2.2.2.2.2.2.2.2.2.2.2.2.1 s.2.2.2.2.2.2.2.2.2.2.2.2.2.2.2) (fun s => I s.1 s.2.1 s.2.2.1 s.2.2.2.1 s.2.2.2.2.1 s.2.2.2.2.2.1 s.2.2.2.2.2.2.1 s.2.2.2.2.2.2.2.1 s.2.2.2.2.2.2.2.2.1 s.2.2.2.2.2.2.2.2.2.1 s.2.2.2.2.2.2.2.2.2.2.1 s.2.2.2.2.2.2.2.2.2.2.2.1 s.2.2.2.2.2.2.2.2.2.2.2.2.1 s.2.2.2.2.2.2.2.2.2.2.2.2.2.1 s.2.2.2.2.2.2.2.2.2.2.2.2.2.2.1 s.2.2.2.2.2.2.2.2.2.2.2.2.2.2.2) (fun s => μ s.1 s.2.1 s.2.2.1 s.2.2.2.1 s.2.2.2.2.1 s.2.2.2.2.2.1 s.2.2.2.2.2.2.1 s.2.2.2.2.2.2.2.1 s.2.2.2.2.2.2.2.2.1 s.2.2.2.2.2.2.2.2.2.1 s.2.2.2.2.2.2.2.2.2.2.1 s.2.2.2.2.2.2.2.2.2.2.2.1 s.2.2.2.2.2.2.2.2.2.2.2.2.1 s.2.2.2.2.2.2.2.2.2.2.2.2.2.1 s.2.2.2.2.2.2.2.2.2.2.2.2.2.2.1 s.2.2.2.2.2.2.2.2.2.2.2.2.2.2.2) (fun n s hI hk => hs n s.1 s.2.1 s.2.2.1 s.2.2.2.1 s.2.2.2.2.1 s.2.2.2.2.2.1 s.2.2.2.2.2.2.1 s.2.2.2.2.2.2.2.1 s.2.2.2.2.2.2.2.2.1 s.2.2.2.2.2.2.2.2.2.1 s.2.2.2.2.2.2.2.2.2.2.1 s.2.2.2.2.2.2.2.2.2.2.2.1 s.2.2.2.2.2.2.2.2.2.2.2.2.1 s.2.2.2.2.2.2.2.2.2.2.2.2.2.1 s.2.2.2.2.2.2.2.2.2.2.2.2.2.2.1 s.2.2.2.2.2.2.2.2.2.2.2.2.2.2.2 hI (fun b1 b2 b3 b4 b5 b6 b7 b8 b9 b10 b11 b12 b13 b14 b15 b16 h9 hm => hk (b1, b2, b3, b4, b5, b6, b7, b8, b9, b10, b11, b12, b13, b14, b15, b16) h9 hm)) (a1, a2, a3, a4, a5, a6, a7, a8, a9, a10, a11, a12, a13, a14, a15, a16) h
theorem pk_least (P : Nat → Prop) (h : ∃ k, P k) : ∃ k, P k ∧ ∀ j, j < k → ¬ P j := by
  obtain ⟨k, hk⟩ := h
  induction k using Nat.strongRecOn with
  | ind k ih =>
    by_cases e : ∃ j, j < k ∧ P j
    · obtain ⟨j, hj, pj⟩ := e
      exact ih j hj pj
    · exact ⟨k, hk, fun j hj pj => e ⟨j, hj, pj⟩⟩
theorem rp1 {ρ A1 : Type} (W : Nat → (ρ → Prop) → A1 → Prop) (ok : A1 → Prop) (μ : A1 → Nat) (val : A1 → ρ)
    (hs : ∀ (d : Nat) (post : ρ → Prop) (a1 : A1), ok a1 → post (val a1) → (∀ (post' : ρ → Prop) (b1 : A1), ok b1 → μ b1 < μ a1 → post' (val b1) → W d post' b1) → W (d + 1) post a1) :
    ∀ (d : Nat) (post : ρ → Prop) (a1 : A1), ok a1 → μ a1 < d → post (val a1) → W d post a1 := by
  intro d
  induction d with
  | zero => intro post a1 _ h; omega
  | succ d ih =>
    intro post a1 ho hm hp
    exact hs d post a1 ho hp (fun post' b1 ho' hm' hp' => ih post' b1 ho' (by omega) hp')
theorem rp2 {ρ A1 A2 : Type} (W : Nat → (ρ → Prop) → A1 → A2 → Prop) (ok : A1 → A2 → Prop) (μ : A1 → A2 → Nat) (val : A1 → A2 → ρ)
    (hs : ∀ (d : Nat) (post : ρ → Prop) (a1 : A1) (a2 : A2), ok a1 a2 → post (val a1 a2) → (∀ (post' : ρ → Prop) (b1 : A1) (b2 : A2), ok b1 b2 → μ b1 b2 < μ a1 a2 → post' (val b1 b2) → W d post' b1 b2) → W (d + 1) post a1 a2) :
    ∀ (d : Nat) (post : ρ → Prop) (a1 : A1) (a2 : A2), ok a1 a2 → μ a1 a2 < d → post (val a1 a2) → W d post a1 a2 := by
  intro d
  induction d with
  | zero => intro post a1 a2 _ h; omega
  | succ d ih =>
    intro post a1 a2 ho hm hp
    exact hs d post a1 a2 ho hp (fun post' b1 b2 ho' hm' hp' => ih post' b1 b2 ho' (by omega) hp')
theorem rp3 {ρ A1 A2 A3 : Type} (W : Nat → (ρ → Prop) → A1 → A2 → A3 → Prop) (ok : A1 → A2 → A3 → Prop) (μ : A1 → A2 → A3 → Nat) (val : A1 → A2 → A3 → ρ)
    (hs : ∀ (d : Nat) (post : ρ → Prop) (a1 : A1) (a2 : A2) (a3 : A3), ok a1 a2 a3 → post (val a1 a2 a3) → (∀ (post' : ρ → Prop) (b1 : A1) (b2 : A2) (b3 : A3), ok b1 b2 b3 → μ b1 b2 b3 < μ a1 a2 a3 → post' (val b1 b2 b3) → W d post' b1 b2 b3) → W (d + 1) post a1 a2 a3) :
    ∀ (d : Nat) (post : ρ → Prop) (a1 : A1) (a2 : A2) (a3 : A3), ok a1 a2 a3 → μ a1 a2 a3 < d → post (val a1 a2 a3) → W d post a1 a2 a3 := by
  intro d
  induction d with
  | zero => intro post a1 a2 a3 _ h; omega
  | succ d ih =>
    intro post a1 a2 a3 ho hm hp
    exact hs d post a1 a2 a3 ho hp (fun post' b1 b2 b3 ho' hm' hp' => ih post' b1 b2 b3 ho' (by omega) hp')
theorem rp4 {ρ A1 A2 A3 A4 : Type} (W : Nat → (ρ → Prop) → A1 → A2 → A3 → A4 → Prop) (ok : A1 → A2 → A3 → A4 → Prop) (μ : A1 → A2 → A3 → A4 → Nat) (val : A1 → A2 → A3 → A4 → ρ)
    (hs : ∀ (d : Nat) (post : ρ → Prop) (a1 : A1) (a2 : A2) (a3 : A3) (a4 : A4), ok a1 a2 a3 a4 → post (val a1 a2 a3 a4) → (∀ (post' : ρ → Prop) (b1 : A1) (b2 : A2) (b3 : A3) (b4 : A4), ok b1 b2 b3 b4 → μ b1 b2 b3 b4 < μ a1 a2 a3 a4 → post' (val b1 b2 b3 b4) → W d post' b1 b2 b3 b4) → W (d + 1) post a1 a2 a3 a4) :
    ∀ (d : Nat) (post : ρ → Prop) (a1 : A1) (a2 : A2) (a3 : A3) (a4 : A4), ok a1 a2 a3 a4 → μ a1 a2 a3 a4 < d → post (val a1 a2 a3 a4) → W d post a1 a2 a3 a4 := by
  intro d
  induction d with
  | zero => intro post a1 a2 a3 a4 _ h; omega
  | succ d ih =>
    intro post a1 a2 a3 a4 ho hm hp
    exact hs d post a1 a2 a3 a4 ho hp (fun post' b1 b2 b3 b4 ho' hm' hp' => ih post' b1 b2 b3 b4 ho' (by omega) hp')
theorem rp5 {ρ A1 A2 A3 A4 A5 : Type} (W : Nat → (ρ → Prop) → A1 → A2 → A3 → A4 → A5 → Prop) (ok : A1 → A2 → A3 → A4 → A5 → Prop) (μ : A1 → A2 → A3 → A4 → A5 → Nat) (val : A1 → A2 → A3 → A4 → A5 → ρ)
    (hs : ∀ (d : Nat) (post : ρ → Prop) (a1 : A1) (a2 : A2) (a3 : A3) (a4 : A4) (a5 : A5), ok a1 a2 a3 a4 a5 → post (val a1 a2 a3 a4 a5) → (∀ (post' : ρ → Prop) (b1 : A1) (b2 : A2) (b3 : A3) (b4 : A4) (b5 : A5), ok b1 b2 b3 b4 b5 → μ b1 b2 b3 b4 b5 < μ a1 a2 a3 a4 a5 → post' (val b1 b2 b3 b4 b5) → W d post' b1 b2 b3 b4 b5) → W (d + 1) post a1 a2 a3 a4 a5) :
    ∀ (d : Nat) (post : ρ → Prop) (a1 : A1) (a2 : A2) (a3 : A3) (a4 : A4) (a5 : A5), ok a1 a2 a3 a4 a5 → μ a1 a2 a3 a4 a5 < d → post (val a1 a2 a3 a4 a5) → W d post a1 a2 a3 a4 a5 := by
  intro d
  induction d with
  | zero => intro post a1 a2 a3 a4 a5 _ h; omega
  | succ d ih =>
    intro post a1 a2 a3 a4 a5 ho hm hp
    exact hs d post a1 a2 a3 a4 a5 ho hp (fun post' b1 b2 b3 b4 b5 ho' hm' hp' => ih post' b1 b2 b3 b4 b5 ho' (by omega) hp')
theorem rp6 {ρ A1 A2 A3 A4 A5 A6 : Type} (W : Nat → (ρ → Prop) → A1 → A2 → A3 → A4 → A5 → A6 → Prop) (ok : A1 → A2 → A3 → A4 → A5 → A6 → Prop) (μ : A1 → A2 → A3 → A4 → A5 → A6 → Nat) (val : A1 → A2 → A3 → A4 → A5 → A6 → ρ)
    (hs : ∀ (d : Nat) (post : ρ → Prop) (a1 : A1) (a2 : A2) (a3 : A3) (a4 : A4) (a5 : A5) (a6 : A6), ok a1 a2 a3 a4 a5 a6 → post (val a1 a2 a3 a4 a5 a6) → (∀ (post' : ρ → Prop) (b1 : A1) (b2 : A2) (b3 : A3) (b4 : A4) (b5 : A5) (b6 : A6), ok b1 b2 b3 b4 b5 b6 → μ b1 b2 b3 b4 b5 b6 < μ a1 a2 a3 a4 a5 a6 → post' (val b1 b2 b3 b4 b5 b6) → W d post' b1 b2 b3 b4 b5 b6) → W (d + 1) post a1 a2 a3 a4 a5 a6) :
    ∀ (d : Nat) (post : ρ → Prop) (a1 : A1) (a2 : A2) (a3 : A3) (a4 : A4) (a5 : A5) (a6 : A6), ok a1 a2 a3 a4 a5 a6 → μ a1 a2 a3 a4 a5 a6 < d → post (val a1 a2 a3 a4 a5 a6) → W d post a1 a2 a3 a4 a5 a6 := by
  intro d
  induction d with
  | zero => intro post a1 a2 a3 a4 a5 a6 _ h; omega
  | succ d ih =>
    intro post a1 a2 a3 a4 a5 a6 ho hm hp
    exact hs d post a1 a2 a3 a4 a5 a6 ho hp (fun post' b1 b2 b3 b4 b5 b6 ho' hm' hp' => ih post' b1 b2 b3 b4 b5 b6 ho' (by omega) hp')
theorem rec_p {σ ρ : Type} (W : Nat → (ρ → Prop) → σ → Prop) (ok : σ → Prop) (μ : σ → Nat) (val : σ → ρ)
    (hs : ∀ d s post, ok s → post (val s) → (∀ s' post', ok s' → μ s' < μ s → post' (val s') → W d post' s') → W (d + 1) post s) :
    ∀ d s post, ok s → μ s < d → post (val s) → W d post s := by
  intro d
  induction d with
  | zero => intro s post _ h; omega
  | succ d ih =>
    intro s post ho hm hp
    exact hs d s post ho hp (fun s' post' ho' hm' hp' => ih s' post' ho' (by omega) hp')
theorem rec_q {σ ρ : Type} (W : Nat → (ρ → Prop) → σ → Prop) (ok : σ → Prop) (μ : σ → Nat) (Q : σ → ρ → Prop)
    (hs : ∀ d s post, ok s → (∀ r, Q s r → post r) → (∀ s' post', ok s' → μ s' < μ s → (∀ r, Q s' r → post' r) → W d post' s') → W (d + 1) post s) :
    ∀ d s post, ok s → μ s < d → (∀ r, Q s r → post r) → W d post s := by
  intro d
  induction d with
  | zero => intro s post _ h; omega
  | succ d ih =>
    intro s post ho hm hp
    exact hs d s post ho hp (fun s' post' ho' hm' hp' => ih s' post' ho' (by omega) hp')
def bx_sum (f : Nat → Int32) : Nat → Int32
  | 0 => 0
  | n + 1 => bx_sum f n + f n
theorem ek_u {A : Prop} {B : Nat → Prop} {k N : Nat} (hk : k < N) (h : B k) : (some k = none → A) ∧ (∀ y : Nat, some k = some y → (y < N ∧ B y)) :=
  ⟨fun z => absurd z (Option.some_ne_none k), fun _ e => (by cases e; exact ⟨hk, h⟩)⟩
theorem ek_nu {A : Prop} {B : Nat → Prop} (h : A) : ((none : Option Nat) = none → A) ∧ (∀ y : Nat, (none : Option Nat) = some y → B y) :=
  ⟨fun _ => h, fun _ e => (by cases e)⟩
theorem ek_if {c d A B : Prop} (e : c ↔ d) (f : d → A) (g : ¬ d → B) : (c → A) ∧ (¬ c → B) :=
  ⟨fun z => f (e.mp z), fun z => g (fun y => z (e.mpr y))⟩
theorem ek_v {α : Sort _} {P : α → Prop} {a b : α} (e : a = b) (h : P b) : P a := e ▸ h
theorem co_some {x : Option Nat} {A : Prop} {B : Nat → Prop} (i : Nat) (h : B i) (hx : x = some i := by rfl) : (x = none → A) ∧ (∀ y : Nat, x = some y → B y) := by
  subst hx
  exact ⟨fun e => (nomatch e), fun y e => Option.some.inj e ▸ h⟩
theorem co_none {x : Option Nat} {A : Prop} {B : Nat → Prop} (h : A) (hx : x = none := by rfl) : (x = none → A) ∧ (∀ y : Nat, x = some y → B y) := by
  subst hx
  exact ⟨fun _ => h, fun y e => (nomatch e)⟩
theorem co_any {x : Option Nat} {A : Prop} {B : Nat → Prop} (hn : x = none → A) (hs : ∀ i : Nat, x = some i → B i) : (x = none → A) ∧ (∀ y : Nat, x = some y → B y) := ⟨hn, hs⟩
theorem co_2 {P : Nat → Prop} (h0 : P 0) (h1 : P 1) {i : Nat} (hi : i < 2) : P i :=
  match i, hi with
  | 0, _ => h0
  | 1, _ => h1
theorem co_3 {P : Nat → Prop} (h0 : P 0) (h1 : P 1) (h2 : P 2) {i : Nat} (hi : i < 3) : P i :=
  match i, hi with
  | 0, _ => h0
  | 1, _ => h1
  | 2, _ => h2
theorem co_4 {P : Nat → Prop} (h0 : P 0) (h1 : P 1) (h2 : P 2) (h3 : P 3) {i : Nat} (hi : i < 4) : P i :=
  match i, hi with
  | 0, _ => h0
  | 1, _ => h1
  | 2, _ => h2
  | 3, _ => h3
theorem co_dec {N : Nat} {P : Nat → Prop} [DecidablePred P] (h : (List.range N).all (fun i => decide (P i)) = true) {i : Nat} (hi : i < N) : P i := by
  have := List.all_eq_true.mp h i (List.mem_range.mpr hi)
  exact of_decide_eq_true this
theorem co_tab {α : Type} {l : List α} {d : α} {P : α → Prop} (h : ∀ a, a ∈ l → P a) {i : Nat} (hi : i < l.length) : P (l.getD i d) := by
  rw [List.getD_eq_getElem?_getD, List.getElem?_eq_getElem hi]
  exact h _ (List.getElem_mem hi)
theorem pk_mu {x : Int32} {L : Nat} (h0 : ¬ x < 0) (h : ¬ nI L ≤ x) (hL : L < 2 ^ 31) : ∃ j : Nat, j < L ∧ x = nI j ∧ x + 1 = nI (j + 1) ∧ x.toNatClampNeg = j ∧ L - (x + 1).toNatClampNeg < L - x.toNatClampNeg := by
  obtain ⟨j, hj, rfl⟩ := nI_of h0
  have hl : j < L := Nat.not_le.mp fun q => h (nI_le q hj)
  refine ⟨j, hl, rfl, nI_1 j, nI_clamp hj, ?_⟩
  rw [nI_1, nI_clamp (by omega), nI_clamp hj]
  omega
theorem op_s {α : Type} {r : Option α} {A : Prop} {B : α → Prop} {y : α} (h : r = some y) (b : B y) : (r = none → A) ∧ ∀ z, r = some z → B z :=
  ⟨fun e => (by rw [h] at e; cases e), fun z e => (by rw [h] at e; cases e; exact b)⟩
def l_holds {α : Type} (a : Nat → Option Nat) (LP : List Nat) (p : Nat → α) (c : Nat) (b : Nat → α) : Prop :=
  ∀ j, j < c → ∃ y, a j = some y ∧ y ∈ LP ∧ p y = b j
theorem l_holds_0 {α : Type} {a : Nat → Option Nat} {LP : List Nat} {p b : Nat → α} : l_holds a LP p 0 b := fun j h => absurd h (Nat.not_lt_zero j)
theorem l_in_new (LP : List Nat) (q : Nat) : q ∈ LP ++ [q] := List.mem_append.mpr (Or.inr (List.mem_singleton.mpr rfl))
def l_sum (b : Nat → Int32) : Nat → Int32
  | 0 => 0
  | k + 1 => l_sum b k + b k
theorem sb_shr0 (x : Int32) : x >>> ((0 : Int32) &&& 31) = x := by
  rw [show ((0 : Int32) &&& 31) = 0 by decide]
  simp
theorem sb_shl0 (x : Int32) : x <<< ((0 : Int32) &&& 31) = x := by
  rw [show ((0 : Int32) &&& 31) = 0 by decide]
  simp
theorem sb_cl0 : (0 : Int32).toNatClampNeg = 0 := by decide
theorem sb_m1 {p : Nat} (h : 0 < p) : nI p + (-1) = nI (p - 1) := by
  obtain ⟨q, rfl⟩ : ∃ q, p = q + 1 := ⟨p - 1, by omega⟩
  exact pk_m1 q
def sb_b (c : Nat) : Int32 := (nI c).toInt8.toInt32
theorem sb_byte : ∀ c, c < 256 → sb_b c &&& 255 = nI c ∧ ((nI c).toUInt32 % 65536).toInt32 = nI c ∧ nI c ≤ 255 := by decide +kernel
def sb_Fit (a : Nat → Int32) : Prop := ∀ j, fits .byte (.int (a j)) = true
def sb_Lat (t : Nat → Nat) (n : Nat) (a : Nat → Int32) : Prop := ∀ j, j < n → t j < 256 ∧ a j = sb_b (t j)
theorem sb_fitB (c : Nat) : fits .byte (.int (sb_b c)) = true := pk_fb _
theorem sb_fit0 : sb_Fit (fun _ => 0) := fun _ => by
  show fits .byte (.int 0) = true
  decide
theorem sb_fitU {a : Nat → Int32} {k : Nat} {x : Int32} (h : sb_Fit a) (hx : fits .byte (.int x) = true) : sb_Fit (upd a k x) := by
  intro j
  by_cases e : j = k
  · subst e
    rw [pk_us]
    exact hx
  · rw [pk_un e]
    exact h j
def sb_cat (t : Nat → Nat) (n : Nat) (s : Nat → Nat) : Nat → Nat := fun j => if j < n then t j else s (j - n)
theorem sb_cat_lo {t s : Nat → Nat} {n j : Nat} (h : j < n) : sb_cat t n s j = t j := if_pos h
theorem sb_cat_hi {t s : Nat → Nat} {n j : Nat} : sb_cat t n s (n + j) = s j := by
  show (if n + j < n then t (n + j) else s (n + j - n)) = s j
  rw [if_neg (by omega), Nat.add_sub_cancel_left]
theorem sb_latPut {t s : Nat → Nat} {n w : Nat} {a a' : Nat → Int32} (h : sb_Lat t n a) (hk : ∀ j, j < n → a' j = a j) (hs : ∀ i, i < w → s i < 256 ∧ a' (n + i) = sb_b (s i)) : sb_Lat (sb_cat t n s) (n + w) a' := by
  intro j hj
  by_cases e : j < n
  · rw [sb_cat_lo e, hk j e]
    exact h j e
  · obtain ⟨i, rfl⟩ : ∃ i, j = n + i := ⟨j - n, by omega⟩
    rw [sb_cat_hi]
    exact hs i (by omega)
theorem sb_latKeep {t : Nat → Nat} {n : Nat} {a a' : Nat → Int32} (h : sb_Lat t n a) (hk : ∀ j, j < n → a' j = a j) : sb_Lat t n a' := fun j hj => by
  rw [hk j hj]
  exact h j hj
def sb_cap (q m : Nat) : Nat := if q ≤ m then m else if 2 * m + 2 < q then q else 2 * m + 2
def sb_Room (q m mc ms : Nat) : Prop := q ≤ m ∨ (1 ≤ mc ∧ sb_cap q m ≤ ms ∧ sb_cap q m ≤ 65536)
theorem sb_cap_ge (q m : Nat) : q ≤ sb_cap q m := by
  unfold sb_cap
  split
  · omega
  · split <;> omega
theorem sb_cap_gem (q m : Nat) : m ≤ sb_cap q m := by
  unfold sb_cap
  split
  · omega
  · split <;> omega
theorem sb_cap_le {q m mc ms : Nat} (hm : m ≤ 65536) (hr : sb_Room q m mc ms) : sb_cap q m ≤ 65536 := by
  rcases hr with h | h
  · rw [sb_cap, if_pos h]
    exact hm
  · exact h.2.2
theorem sb_at {P : Int32 → Prop} {x y : Int32} (e : x = y) (h : P y) : P x := e ▸ h
def sb_dg (w : Nat) : Nat := if w < 10 then 1 else if w < 100 then 2 else if w < 1000 then 3 else if w < 10000 then 4 else if w < 100000 then 5 else if w < 1000000 then 6 else if w < 10000000 then 7 else if w < 100000000 then 8 else if w < 1000000000 then 9 else 10
def sb_dec (v : Nat) : Nat → Nat := fun i => 48 + v / 10 ^ (sb_dg v - 1 - i) % 10
theorem sb_dg_in (w : Nat) : 1 ≤ sb_dg w ∧ sb_dg w ≤ 10 := by
  unfold sb_dg
  constructor <;> (repeat' split) <;> omega
theorem sb_dg100 {w : Nat} (h : 100 ≤ w) (hw : w < 2 ^ 31) : sb_dg w = sb_dg (w / 100) + 2 := by
  rw [sb_dg, sb_dg, if_neg (show ¬ w < 10 by omega), if_neg (show ¬ w < 100 by omega)]
  by_cases h3 : w < 1000
  · rw [if_pos h3, if_pos (show w / 100 < 10 by omega)]
  rw [if_neg h3, if_neg (show ¬ w / 100 < 10 by omega)]
  by_cases h4 : w < 10000
  · rw [if_pos h4, if_pos (show w / 100 < 100 by omega)]
  rw [if_neg h4, if_neg (show ¬ w / 100 < 100 by omega)]
  by_cases h5 : w < 100000
  · rw [if_pos h5, if_pos (show w / 100 < 1000 by omega)]
  rw [if_neg h5, if_neg (show ¬ w / 100 < 1000 by omega)]
  by_cases h6 : w < 1000000
  · rw [if_pos h6, if_pos (show w / 100 < 10000 by omega)]
  rw [if_neg h6, if_neg (show ¬ w / 100 < 10000 by omega)]
  by_cases h7 : w < 10000000
  · rw [if_pos h7, if_pos (show w / 100 < 100000 by omega)]
  rw [if_neg h7, if_neg (show ¬ w / 100 < 100000 by omega)]
  by_cases h8 : w < 100000000
  · rw [if_pos h8, if_pos (show w / 100 < 1000000 by omega)]
  rw [if_neg h8, if_neg (show ¬ w / 100 < 1000000 by omega)]
  by_cases h9 : w < 1000000000
  · rw [if_pos h9, if_pos (show w / 100 < 10000000 by omega)]
  rw [if_neg h9, if_neg (show ¬ w / 100 < 10000000 by omega)]
  rw [if_pos (show w / 100 < 100000000 by omega)]
theorem sb_negT {w : Nat} (h : w < 2 ^ 31) : (-nI w).toInt = -(w : Int) := by
  rw [Int32.toInt_neg, nI_toInt h]
  exact Int.bmod_eq_of_le (by omega) (by omega)
theorem sb_nle {a b : Nat} (ha : a < 2 ^ 31) (hb : b < 2 ^ 31) : -nI a ≤ -nI b ↔ b ≤ a := by
  rw [Int32.le_iff_toInt_le, sb_negT ha, sb_negT hb]
  omega
theorem sb_nlt {a b : Nat} (ha : a < 2 ^ 31) (hb : b < 2 ^ 31) : -nI a < -nI b ↔ b < a := by
  rw [Int32.lt_iff_toInt_lt, sb_negT ha, sb_negT hb]
  omega
theorem sb_cmp {A B : Prop} {x : Int32} (v c : Nat) (f : c ≤ v → A) (g : v < c → B) (hv : v < 2 ^ 31) (hx : x = -nI c := by rfl) (hc : c < 2 ^ 31 := by omega) : (-nI v ≤ x → A) ∧ (¬ -nI v ≤ x → B) := by
  subst hx
  rw [sb_nle hv hc]
  exact ⟨f, fun z => g (by omega)⟩
theorem sb_ndiv {w : Nat} (hw : w < 2 ^ 31) : (-nI w) / 100 = -nI (w / 100) := by
  apply Int32.toInt_inj.mp
  have h100 : (100 : Int32).toInt = 100 := by decide
  rw [Int32.toInt_div, sb_negT hw, h100, sb_negT (by omega), Int.neg_tdiv, Int.tdiv_eq_ediv_of_nonneg (by omega), Int.bmod_eq_of_le (by omega) (by omega)]
  omega
theorem sb_nrem {w : Nat} (hw : w < 2 ^ 31) : (-nI (w / 100)) * 100 - (-nI w) = nI (w % 100) := by
  have h := pk_rem (a := w) (d := 100) hw (by decide) (by decide)
  rw [pk_div hw (by decide) (by decide)] at h
  rw [← h]
  show (-nI (w / 100)) * nI 100 - (-nI w) = nI w - nI (w / 100) * nI 100
  rw [Int32.neg_mul, Int32.sub_neg, Int32.add_comm, ← Int32.sub_eq_add_neg]
end
section
/-! rows on bits, shifts and unsigned numbers, to paste: each family out of a closed proof of our own, whole with what it rests on; each by itself clean at Lean in its own claim (generation 39, form 5). Take a family whole -/
/-! ===== Int32 by its bits: bt x i ===== -/
def bt (x : Int32) (i : Nat) : Bool := x.toBitVec.getLsbD i
theorem b_ext {x y : Int32} (h : ∀ i, i < 32 → bt x i = bt y i) : x = y := Int32.toBitVec_inj.mp (BitVec.eq_of_getLsbD_eq (fun i hi => h i hi))
theorem b_or (x y : Int32) (i : Nat) : bt (x ||| y) i = (bt x i || bt y i) := by unfold bt; rw [Int32.toBitVec_or, BitVec.getLsbD_or]
theorem b_and (x y : Int32) (i : Nat) : bt (x &&& y) i = (bt x i && bt y i) := by unfold bt; rw [Int32.toBitVec_and, BitVec.getLsbD_and]
theorem b_xor (x y : Int32) (i : Nat) : bt (x ^^^ y) i = (bt x i ^^ bt y i) := by unfold bt; rw [Int32.toBitVec_xor, BitVec.getLsbD_xor]
theorem b_big {x : Int32} {i : Nat} (h : 32 ≤ i) : bt x i = false := BitVec.getLsbD_of_ge _ _ h
theorem b_255 (i : Nat) : bt 255 i = decide (i < 8) := by
  rcases Nat.lt_or_ge i 32 with h | h
  · exact (by decide +kernel : ∀ i, i < 32 → bt 255 i = decide (i < 8)) i h
  · rw [b_big h, decide_eq_false (by omega)]
theorem b_65535 (i : Nat) : bt 65535 i = decide (i < 16) := by
  rcases Nat.lt_or_ge i 32 with h | h
  · exact (by decide +kernel : ∀ i, i < 32 → bt 65535 i = decide (i < 16)) i h
  · rw [b_big h, decide_eq_false (by omega)]
theorem b_m1 : ∀ i, i < 32 → bt (-1) i = true := by decide +kernel
theorem b_0 (i : Nat) : bt 0 i = false := BitVec.getLsbD_zero
theorem s_l : ∀ n, n < 32 → ((nI n &&& 31).toBitVec.smod 32).toNat = n := by decide +kernel
theorem s_u : ∀ n, n < 32 → (((nI n).toUInt32 &&& Int32.toUInt32 31).toBitVec % 32).toNat = n := by decide +kernel
theorem b_shl (n : Nat) (hn : n < 32) (x : Int32) {i : Nat} (hi : i < 32) : bt (x <<< (nI n &&& 31)) i = (decide (n ≤ i) && bt x (i - n)) := by
  unfold bt
  rw [Int32.toBitVec_shiftLeft]
  show (x.toBitVec <<< ((nI n &&& 31).toBitVec.smod 32).toNat).getLsbD i = _
  rw [s_l n hn, BitVec.getLsbD_shiftLeft]
  rcases Nat.lt_or_ge i n with h | h
  · simp [h, Nat.not_le.mpr h]
  · simp [hi, h, Nat.not_lt.mpr h]
theorem b_ushr (n : Nat) (hn : n < 32) (x : Int32) (i : Nat) : bt ((x.toUInt32 >>> ((nI n).toUInt32 &&& Int32.toUInt32 31)).toInt32) i = bt x (n + i) := by
  show (x.toUInt32 >>> ((nI n).toUInt32 &&& Int32.toUInt32 31)).toBitVec.getLsbD i = x.toUInt32.toBitVec.getLsbD (n + i)
  rw [UInt32.toBitVec_shiftRight]
  show (x.toUInt32.toBitVec >>> (((nI n).toUInt32 &&& Int32.toUInt32 31).toBitVec % 32).toNat).getLsbD i = _
  rw [s_u n hn, BitVec.getLsbD_ushiftRight]
theorem b_sshr (n : Nat) (hn : n < 32) (x : Int32) {i : Nat} (hi : i < 32) : bt (x >>> (nI n &&& 31)) i = if n + i < 32 then bt x (n + i) else bt x 31 := by
  unfold bt
  rw [Int32.toBitVec_shiftRight]
  show (x.toBitVec.sshiftRight ((nI n &&& 31).toBitVec.smod 32).toNat).getLsbD i = _
  rw [s_l n hn, BitVec.getLsbD_sshiftRight, BitVec.msb_eq_getLsbD_last]
  simp [hi]
theorem b_shl8 (x : Int32) {i : Nat} (hi : i < 32) : bt (x <<< ((8 : Int32) &&& 31)) i = (decide (8 ≤ i) && bt x (i - 8)) := b_shl 8 (by omega) x hi
theorem b_shl16 (x : Int32) {i : Nat} (hi : i < 32) : bt (x <<< ((16 : Int32) &&& 31)) i = (decide (16 ≤ i) && bt x (i - 16)) := b_shl 16 (by omega) x hi
theorem b_shl24 (x : Int32) {i : Nat} (hi : i < 32) : bt (x <<< ((24 : Int32) &&& 31)) i = (decide (24 ≤ i) && bt x (i - 24)) := b_shl 24 (by omega) x hi
theorem b_sshr8 (x : Int32) {i : Nat} (hi : i < 32) : bt (x >>> ((8 : Int32) &&& 31)) i = if 8 + i < 32 then bt x (8 + i) else bt x 31 := b_sshr 8 (by omega) x hi
/-! ===== nI under and, xor, >>>, one bit, 65535 ===== -/
theorem nx_and (a b : Nat) : nI a &&& nI b = nI (a &&& b) := by
  apply Int32.toBitVec_inj.1
  show BitVec.ofNat 32 a &&& BitVec.ofNat 32 b = BitVec.ofNat 32 (a &&& b)
  apply BitVec.eq_of_getLsbD_eq
  intro i hi
  simp [hi]
theorem nx_xor (a b : Nat) : nI a ^^^ nI b = nI (a ^^^ b) := by
  apply Int32.toBitVec_inj.1
  show BitVec.ofNat 32 a ^^^ BitVec.ofNat 32 b = BitVec.ofNat 32 (a ^^^ b)
  apply BitVec.eq_of_getLsbD_eq
  intro i hi
  simp [hi]
theorem nx_cnt : ∀ j : Fin 32, (UInt32.ofNat j.val &&& Int32.toUInt32 31).toNat % 32 = j.val := by decide +kernel
theorem nx_ush {k j : Nat} (hk : k < 65536) (hj : j < 32) : ((nI k).toUInt32 >>> ((nI j).toUInt32 &&& Int32.toUInt32 31)).toInt32 = nI (k >>> j) := by
  have hs : k >>> j ≤ k := by
    rw [Nat.shiftRight_eq_div_pow]
    exact Nat.div_le_self _ _
  have e2 : UInt32.ofNat k >>> (UInt32.ofNat j &&& Int32.toUInt32 31) = UInt32.ofNat (k >>> j) := by
    apply UInt32.toNat_inj.1
    have h1 : (UInt32.ofNat k).toNat = k := Nat.mod_eq_of_lt (by omega)
    have h2 : (UInt32.ofNat (k >>> j)).toNat = k >>> j := Nat.mod_eq_of_lt (by omega)
    rw [UInt32.toNat_shiftRight, nx_cnt ⟨j, hj⟩, h1, h2]
  show (UInt32.ofNat k >>> (UInt32.ofNat j &&& Int32.toUInt32 31)).toInt32 = _
  rw [e2]
  rfl
theorem nx_bit {k j : Nat} (hk : k < 65536) (hj : j < 16) : (((nI k).toUInt32 >>> ((nI j).toUInt32 &&& Int32.toUInt32 31)).toInt32 &&& 1) = 0 ↔ k.testBit j = false := by
  rw [nx_ush hk (by omega)]
  show nI (k >>> j) &&& nI 1 = 0 ↔ _
  rw [nx_and, Nat.and_one_is_mod, ← nI_0, nI_eq (by omega) (by omega), Nat.testBit_eq_decide_div_mod_eq, Nat.shiftRight_eq_div_pow, decide_eq_false_iff_not]
  generalize k / 2 ^ j = z
  omega
theorem nx_mod (k : Nat) : nI k &&& 65535 = nI (k % 65536) := by
  show nI k &&& nI 65535 = _
  rw [nx_and, show (65535 : Nat) = 2 ^ 16 - 1 from rfl, Nat.and_two_pow_sub_one_eq_mod]
theorem nx_m16 {k : Nat} (h : k < 65536) : nI k &&& 65535 = nI k := by rw [nx_mod, Nat.mod_eq_of_lt h]
theorem nx_mask (x : Int32) : ∃ k, k < 65536 ∧ x &&& 65535 = nI k := by
  have e : x = nI x.toBitVec.toNat := by
    apply Int32.toBitVec_inj.1
    show x.toBitVec = BitVec.ofNat 32 x.toBitVec.toNat
    simp
  refine ⟨x.toBitVec.toNat % 65536, Nat.mod_lt _ (by omega), ?_⟩
  rw [← nx_mod, ← e]
/-! ===== Int32 as a set of bits: test, set ===== -/
def nf_M (m : Int32) : Nat := 4294967296 - m.toBitVec.toNat
theorem nf_sh : ∀ l, l < 32 → ((1 : Int32) <<< (nI l &&& 31)).toBitVec = BitVec.twoPow 32 l := by decide +kernel
theorem nf_sl : ∀ l, l < 32 → (((nI l).toUInt32 &&& Int32.toUInt32 31).toBitVec % 32).toNat = l := by decide +kernel
theorem nf_tp : ∀ l, l < 32 → BitVec.twoPow 32 l ≠ 0#32 := by decide +kernel
theorem nf_bit (m : Int32) (l : Nat) (hl : l < 32) : ((m.toUInt32 >>> ((nI l).toUInt32 &&& Int32.toUInt32 31)).toInt32 &&& 1) = 0 ↔ (m &&& ((1 : Int32) <<< (nI l &&& 31))) = 0 := by
  have e : ((m.toUInt32 >>> ((nI l).toUInt32 &&& Int32.toUInt32 31)).toInt32).toBitVec = m.toBitVec >>> l := by
    show m.toBitVec >>> (((nI l).toUInt32 &&& Int32.toUInt32 31).toBitVec % 32) = m.toBitVec >>> l
    rw [BitVec.ushiftRight_eq', nf_sl l hl]
  rw [← Int32.toBitVec_inj, ← Int32.toBitVec_inj, Int32.toBitVec_and, Int32.toBitVec_and, nf_sh l hl, e, BitVec.and_twoPow]
  show (m.toBitVec >>> l &&& 1#32) = 0#32 ↔ _ = 0#32
  rw [BitVec.and_one_eq_setWidth_ofBool_getLsbD, BitVec.getLsbD_ushiftRight, Nat.add_zero]
  cases hb : m.toBitVec.getLsbD l
  · exact ⟨fun _ => by simp, fun _ => by decide⟩
  · exact ⟨fun z => absurd z (by decide), fun z => absurd ((if_pos rfl).symm.trans z) (nf_tp l hl)⟩
theorem nf_gr (m k : Int32) (h : m &&& k = 0) (hk : k ≠ 0) : nf_M (m ||| k) < nf_M m := by
  have hm := m.toBitVec.isLt
  have hm' := (m ||| k).toBitVec.isLt
  have h1 : m.toBitVec.toNat ≤ (m ||| k).toBitVec.toNat := by
    rw [Int32.toBitVec_or, BitVec.toNat_or]
    exact Nat.left_le_or
  have h2 : m.toBitVec.toNat ≠ (m ||| k).toBitVec.toNat := by
    intro e
    have e2 : m = m ||| k := Int32.toBitVec_inj.mp (BitVec.eq_of_toNat_eq e)
    apply hk
    apply Int32.toBitVec_inj.mp
    show k.toBitVec = 0#32
    apply BitVec.eq_of_getLsbD_eq
    intro i hi
    have a : m.toBitVec.getLsbD i = (m.toBitVec.getLsbD i || k.toBitVec.getLsbD i) := by rw [← BitVec.getLsbD_or, ← Int32.toBitVec_or, ← e2]
    have b : (m.toBitVec.getLsbD i && k.toBitVec.getLsbD i) = false := by
      rw [← BitVec.getLsbD_and, ← Int32.toBitVec_and, h]
      exact BitVec.getLsbD_zero
    rw [BitVec.getLsbD_zero]
    revert a b
    cases m.toBitVec.getLsbD i <;> cases k.toBitVec.getLsbD i <;> simp
  unfold nf_M
  omega
/-! ===== a byte read unsigned ===== -/
theorem bp_b (x : Int32) : x.toInt8.toInt32 &&& 255 = x &&& 255 := by
  apply Int32.toBitVec_inj.mp
  rw [Int32.toBitVec_and, Int32.toBitVec_and, Int8.toBitVec_toInt32, Int32.toBitVec_toInt8]
  apply BitVec.eq_of_getLsbD_eq
  intro i hi
  rw [BitVec.getLsbD_and, BitVec.getLsbD_and]
  have hm : ∀ i < 32, 8 ≤ i → (255 : Int32).toBitVec.getLsbD i = false := by decide
  rcases Nat.lt_or_ge i 8 with z | z
  · rw [BitVec.getLsbD_signExtend, BitVec.getLsbD_signExtend, if_pos z, if_pos hi]
    simp only [z, hi, decide_true, Bool.true_and]
  · rw [hm i hi z]; simp
/-! ===== the char cast and 65535 ===== -/
theorem em_w (v : Int32) : ∃ w : Nat, w < 65536 ∧ (v.toUInt32 % 65536).toInt32 = nI w ∧ v &&& 65535 = nI w := by
  have hr := lw_u16_r v
  have h0 : (0 : Int32).toInt = 0 := by decide
  obtain ⟨w, h1, h2⟩ := nI_of (x := lw_u16 v) (by rw [Int32.lt_iff_toInt_lt]; omega)
  have h3 : (v.toUInt32 % 65536).toInt32 = nI w := h2
  rw [h2, nI_toInt h1] at hr
  exact ⟨w, by omega, h3, by rw [← lg_i2c_mask, ← lg_i2c_nf, h3]⟩
/-! ===== Int64 as a set of bits: test, set, clear ===== -/
theorem ts_nf {x : Bool} (h : ¬ x = false) : x = true := by cases x <;> first | rfl | exact absurd rfl h
theorem ts_nt {x : Bool} (h : ¬ x = true) : x = false := by cases x <;> first | rfl | exact absurd rfl h
theorem ts_bit {w : Int64} {s : UInt64} {j : Nat} (hj : j < 64) (hs : s.toNat = j) : ((w.toUInt64 >>> s).toInt64 &&& 1) = 0 ↔ w.toBitVec.getLsbD j = false := by
  have e : (w.toUInt64 >>> s).toInt64.toBitVec = w.toBitVec >>> j := by
    apply BitVec.eq_of_toNat_eq
    show (w.toUInt64 >>> s).toNat = _
    rw [UInt64.toNat_shiftRight, hs, Nat.mod_eq_of_lt hj, BitVec.toNat_ushiftRight]
    rfl
  rw [← Int64.toBitVec_inj, Int64.toBitVec_and, e]
  show w.toBitVec >>> j &&& 1#64 = 0#64 ↔ _
  constructor
  · intro h
    have t := congrArg (fun x => x.getLsbD 0) h
    simpa using t
  · intro h
    apply BitVec.eq_of_getLsbD_eq
    intro i hi
    cases i with
    | zero => simp [h]
    | succ i => simp
theorem ts_or {w m : Int64} {j : Nat} (hj : j < 64) (hm : m.toBitVec = BitVec.twoPow 64 j) : (w ||| m) = w ↔ w.toBitVec.getLsbD j = true := by
  rw [← Int64.toBitVec_inj, Int64.toBitVec_or, hm]
  constructor
  · intro h
    have t := congrArg (fun x => x.getLsbD j) h
    simp only [BitVec.getLsbD_or, BitVec.getLsbD_twoPow] at t
    simpa [hj] using t.symm
  · intro h
    apply BitVec.eq_of_getLsbD_eq
    intro i hi
    rw [BitVec.getLsbD_or, BitVec.getLsbD_twoPow]
    by_cases e : j = i
    · subst e; rw [h, Bool.true_or]
    · simp [e]
theorem ts_and {w m : Int64} {j : Nat} (hj : j < 64) (hm : m.toBitVec = BitVec.twoPow 64 j) : (w &&& (m ^^^ (-1))) = w ↔ w.toBitVec.getLsbD j = false := by
  have ha : (-1 : Int64).toBitVec = BitVec.allOnes 64 := by decide
  rw [← Int64.toBitVec_inj, Int64.toBitVec_and, Int64.toBitVec_xor, hm, ha]
  constructor
  · intro h
    have t := congrArg (fun x => x.getLsbD j) h
    simp only [BitVec.getLsbD_and, BitVec.getLsbD_xor, BitVec.getLsbD_twoPow, BitVec.getLsbD_allOnes] at t
    simpa [hj] using t.symm
  · intro h
    apply BitVec.eq_of_getLsbD_eq
    intro i hi
    rw [BitVec.getLsbD_and, BitVec.getLsbD_xor, BitVec.getLsbD_twoPow, BitVec.getLsbD_allOnes]
    by_cases e : j = i
    · subst e; rw [h, Bool.false_and]
    · simp [e, hi]
/-! ===== lN n to 2^64: shifts, and, or, masks, one bit ===== -/
theorem wb_tb (n : Nat) : (lN n).toBitVec = BitVec.ofNat 64 n := rfl
theorem wb_inj {a b : Int64} (h : a.toBitVec = b.toBitVec) : a = b := Int64.toBitVec_inj.mp h
theorem wb_tn {n : Nat} (h : n < 2 ^ 64) : (lN n).toBitVec.toNat = n := by rw [wb_tb, BitVec.toNat_ofNat, Nat.mod_eq_of_lt h]
theorem wb_of (x : Int64) : ∃ n, n < 2 ^ 64 ∧ x = lN n := ⟨x.toBitVec.toNat, x.toBitVec.isLt, wb_inj (by rw [wb_tb]; simp)⟩
theorem wb_of32 (x : Int32) : ∃ n, n < 2 ^ 32 ∧ x = nI n := ⟨x.toBitVec.toNat, x.toBitVec.isLt, Int32.toBitVec_inj.mp (by show _ = BitVec.ofNat 32 _; simp)⟩
theorem wb_c : ∀ k, k < 64 → ((nI k).toInt64 &&& 63) = lN k := by decide +kernel
theorem wb_cu : ∀ k, k < 64 → ((nI k).toInt64.toUInt64 &&& Int64.toUInt64 63) = UInt64.ofNat k := by decide +kernel
theorem wb_sm : ∀ k, k < 64 → (BitVec.ofNat 64 k).smod 64 = BitVec.ofNat 64 k := by decide +kernel
theorem wb_pw {a b : Nat} (h : a ≤ b) : 2 ^ b = 2 ^ a * 2 ^ (b - a) := by rw [← Nat.pow_add]; congr 1; omega
theorem wb_lt2 {a b : Nat} (h : a < b) : 2 ^ a < 2 ^ b := Nat.pow_lt_pow_right (by decide) h
theorem wb_mod (n : Nat) : lN n = lN (n % 2 ^ 64) := wb_inj (by rw [wb_tb, wb_tb]; apply BitVec.eq_of_toNat_eq; rw [BitVec.toNat_ofNat, BitVec.toNat_ofNat, Nat.mod_mod])
theorem wb_shr {n k : Nat} (hn : n < 2 ^ 64) (hk : k < 64) : ((lN n).toUInt64 >>> ((nI k).toInt64.toUInt64 &&& Int64.toUInt64 63)).toInt64 = lN (n / 2 ^ k) := by
  rw [wb_cu k hk]
  apply wb_inj
  apply BitVec.eq_of_toNat_eq
  show ((lN n).toUInt64 >>> UInt64.ofNat k).toNat = (BitVec.ofNat 64 _).toNat
  have h1 : (UInt64.ofNat k).toNat = k := by
    show (BitVec.ofNat 64 k).toNat = k
    rw [BitVec.toNat_ofNat, Nat.mod_eq_of_lt (by omega)]
  have h2 : (lN n).toUInt64.toNat = n := wb_tn hn
  rw [UInt64.toNat_shiftRight, h1, h2, Nat.mod_eq_of_lt hk, Nat.shiftRight_eq_div_pow, BitVec.toNat_ofNat, Nat.mod_eq_of_lt (Nat.lt_of_le_of_lt (Nat.div_le_self _ _) hn)]
theorem wb_shl (n : Nat) {k : Nat} (hk : k < 64) : lN n <<< ((nI k).toInt64 &&& 63) = lN (n * 2 ^ k) := by
  rw [wb_c k hk]
  apply wb_inj
  rw [Int64.toBitVec_shiftLeft, wb_tb, wb_tb, wb_tb, wb_sm k hk]
  apply BitVec.eq_of_toNat_eq
  rw [BitVec.shiftLeft_eq', BitVec.toNat_shiftLeft, BitVec.toNat_ofNat, BitVec.toNat_ofNat, BitVec.toNat_ofNat, Nat.mod_eq_of_lt (show k < 2 ^ 64 by omega), Nat.shiftLeft_eq, Nat.mul_mod, Nat.mod_mod, ← Nat.mul_mod]
theorem wb_and {a b : Nat} (ha : a < 2 ^ 64) (hb : b < 2 ^ 64) : lN a &&& lN b = lN (a &&& b) := by
  apply wb_inj
  rw [Int64.toBitVec_and, wb_tb, wb_tb, wb_tb]
  apply BitVec.eq_of_toNat_eq
  rw [BitVec.toNat_and, BitVec.toNat_ofNat, BitVec.toNat_ofNat, BitVec.toNat_ofNat, Nat.mod_eq_of_lt ha, Nat.mod_eq_of_lt hb, Nat.mod_eq_of_lt (Nat.and_lt_two_pow _ hb)]
theorem wb_or {a b : Nat} (ha : a < 2 ^ 64) (hb : b < 2 ^ 64) : lN a ||| lN b = lN (a ||| b) := by
  apply wb_inj
  rw [Int64.toBitVec_or, wb_tb, wb_tb, wb_tb]
  apply BitVec.eq_of_toNat_eq
  rw [BitVec.toNat_or, BitVec.toNat_ofNat, BitVec.toNat_ofNat, BitVec.toNat_ofNat, Nat.mod_eq_of_lt ha, Nat.mod_eq_of_lt hb, Nat.mod_eq_of_lt (Nat.or_lt_two_pow ha hb)]
theorem wb_mask {n k : Nat} (hn : n < 2 ^ 64) (hk : k < 64) : lN n &&& lN (2 ^ k - 1) = lN (n % 2 ^ k) := by
  rw [wb_and hn (by have := wb_lt2 hk; omega), Nat.and_two_pow_sub_one_eq_mod]
theorem wb_a1 {n : Nat} (hn : n < 2 ^ 64) : lN n &&& 1 = lN (n % 2) := wb_mask (k := 1) hn (by decide)
theorem wb_bit {n k : Nat} (hn : n < 2 ^ 64) (hk : k < 64) : ((lN n).toUInt64 >>> ((nI k).toInt64.toUInt64 &&& Int64.toUInt64 63)).toInt64 &&& 1 = lN (n / 2 ^ k % 2) := by
  rw [wb_shr hn hk, wb_a1 (Nat.lt_of_le_of_lt (Nat.div_le_self _ _) hn)]
theorem wb_xor {q k : Nat} (hk : k < 63) (h : 2 ^ k ≤ q) (h2 : q < 2 ^ (k + 1)) : lN q ^^^ lN (2 ^ k) = lN (q - 2 ^ k) := by
  obtain ⟨r, rfl⟩ : ∃ r, q = 2 ^ k + r := ⟨q - 2 ^ k, by omega⟩
  have hr : r < 2 ^ k := by rw [Nat.pow_succ] at h2; omega
  have hx : (2 ^ k + r) ^^^ 2 ^ k = r := by
    apply Nat.eq_of_testBit_eq
    intro i
    rw [Nat.testBit_xor, Nat.testBit_two_pow]
    rcases Nat.lt_trichotomy i k with h | h | h
    · rw [Nat.testBit_two_pow_add_gt h]
      simp [show ¬ k = i by omega]
    · subst h
      rw [Nat.testBit_two_pow_add_eq]
      simp
    · have a1 : 2 ^ (k + 1) ≤ 2 ^ i := Nat.pow_le_pow_right (by decide) h
      rw [Nat.testBit_lt_two_pow (show 2 ^ k + r < 2 ^ i by omega), Nat.testBit_lt_two_pow (show r < 2 ^ i by omega)]
      simp [show ¬ k = i by omega]
  have b1 := wb_lt2 (show k + 1 < 64 by omega)
  have b2 := wb_lt2 (show k < 64 by omega)
  apply wb_inj
  rw [Int64.toBitVec_xor, wb_tb, wb_tb, wb_tb]
  apply BitVec.eq_of_toNat_eq
  rw [BitVec.toNat_xor, BitVec.toNat_ofNat, BitVec.toNat_ofNat, BitVec.toNat_ofNat, Nat.mod_eq_of_lt (by omega : 2 ^ k + r < 2 ^ 64), Nat.mod_eq_of_lt b2, hx, Nat.add_sub_cancel_left, Nat.mod_eq_of_lt (by omega)]
/-! ===== lN: masks, 'or' of parts that don't overlap is a sum ===== -/
theorem u_tn {n : Nat} (h : n < 2 ^ 64) : (UInt64.ofNat n).toNat = n := Nat.mod_eq_of_lt h
theorem g_and {a b c : Nat} (ha : a < 2 ^ 64) (hb : b < 2 ^ 64) (hc : a &&& b = c) : lN a &&& lN b = lN c := by
  subst hc
  have h : UInt64.ofNat a &&& UInt64.ofNat b = UInt64.ofNat (a &&& b) := UInt64.toNat_inj.mp (by rw [UInt64.toNat_and, u_tn ha, u_tn hb, u_tn (Nat.and_lt_two_pow a hb)])
  have h2 := congrArg UInt64.toInt64 h
  exact h2
theorem g_and1 {a : Nat} (ha : a < 2 ^ 64) : lN a &&& 1 = lN (a % 2) := g_and (b := 1) ha (by decide) (Nat.and_two_pow_sub_one_eq_mod a 1)
theorem g_mask {a s p : Nat} (hp : 2 ^ s = p) (hs : s < 64) (ha : a < 2 ^ 64) : lN a &&& lN (p - 1) = lN (a % p) := by
  subst hp
  have := Nat.pow_lt_pow_right (show 1 < 2 by decide) hs
  exact g_and ha (by omega) (Nat.and_two_pow_sub_one_eq_mod a s)
theorem g_or {k p a b : Nat} (hp : 2 ^ k = p) (ha : a < p) (h : b * p + a < 2 ^ 64) : lN (b * p) ||| lN a = lN (b * p + a) := by
  subst hp
  have h1 : b * 2 ^ k ||| a = b * 2 ^ k + a := by rw [← Nat.shiftLeft_eq, Nat.shiftLeft_add_eq_or_of_lt ha]
  have h3 : UInt64.ofNat (b * 2 ^ k) ||| UInt64.ofNat a = UInt64.ofNat (b * 2 ^ k + a) := UInt64.toNat_inj.mp (by rw [UInt64.toNat_or, u_tn (by omega), u_tn (by omega), u_tn h, h1])
  have h2 := congrArg UInt64.toInt64 h3
  exact h2
theorem g_or' {k p a b : Nat} (hp : 2 ^ k = p) (ha : a < p) (h : a + b * p < 2 ^ 64) : lN a ||| lN (b * p) = lN (a + b * p) := by
  rw [Int64.or_comm, g_or hp ha (by omega), Nat.add_comm]
theorem g_ushr {a k p : Nat} {y : UInt64} (hy : y = UInt64.ofNat k) (hk : k < 64) (hp : 2 ^ k = p) (ha : a < 2 ^ 64) : ((lN a).toUInt64 >>> y).toInt64 = lN (a / p) := by
  subst hy hp
  have h : UInt64.ofNat a >>> UInt64.ofNat k = UInt64.ofNat (a / 2 ^ k) := UInt64.toNat_inj.mp (by rw [UInt64.toNat_shiftRight, u_tn ha, u_tn (by omega), u_tn (Nat.lt_of_le_of_lt (Nat.div_le_self _ _) ha), Nat.mod_eq_of_lt hk, Nat.shiftRight_eq_div_pow])
  have h2 := congrArg UInt64.toInt64 h
  exact h2
theorem g_shl {a k p : Nat} {y : Int64} (hy : y.toBitVec.smod 64 = BitVec.ofNat 64 k) (hk : k < 64) (hp : 2 ^ k = p) (ha : a < 2 ^ 64) : lN a <<< y = lN (a * p) := by
  subst hp
  apply Int64.toBitVec_inj.mp
  rw [Int64.toBitVec_shiftLeft, hy]
  apply BitVec.eq_of_toNat_eq
  have hb : (lN a).toBitVec.toNat = a := Nat.mod_eq_of_lt ha
  have hk' : (BitVec.ofNat 64 k).toNat = k := Nat.mod_eq_of_lt (by omega)
  have h : ((lN a).toBitVec <<< BitVec.ofNat 64 k).toNat = (a * 2 ^ k) % 2 ^ 64 := by simp only [BitVec.shiftLeft_eq', BitVec.toNat_shiftLeft, hb, hk', Nat.shiftLeft_eq]
  exact h
/-! ===== lN to 2^62 under >> and >>> ===== -/
theorem pf_lI {a : Nat} (h : a < 2 ^ 63) : (lN a).toInt = (a : Int) := lg_ofNat_toInt h
theorem pf_shr {a d : Nat} {D : Int64} (hD : (D.toBitVec.smod 64).toNat = d) (h : a < 2 ^ 62) : lN a >>> D = lN (a / 2 ^ d) := by
  have hd : a / 2 ^ d ≤ a := Nat.div_le_self _ _
  apply Int64.toInt_inj.mp
  have e : (lN a >>> D).toInt = (lN a).toInt >>> d := by
    rw [← hD]
    exact BitVec.toInt_sshiftRight ..
  rw [e, Int.shiftRight_eq_div_pow, pf_lI (by omega), pf_lI (by omega)]
  rfl
theorem pf_ushr {a d : Nat} {D : UInt64} (hD : D.toNat % 64 = d) (h : a < 2 ^ 62) : ((lN a).toUInt64 >>> D).toInt64 = lN (a / 2 ^ d) := by
  have hd : a / 2 ^ d ≤ a := Nat.div_le_self _ _
  have e : (lN a).toUInt64 >>> D = UInt64.ofNat (a / 2 ^ d) := UInt64.toNat_inj.mp (by
    rw [UInt64.toNat_shiftRight, hD, Nat.shiftRight_eq_div_pow, UInt64.toNat_ofNat']
    show (UInt64.ofNat a).toNat / 2 ^ d = _
    rw [UInt64.toNat_ofNat', Nat.mod_eq_of_lt (by omega), Nat.mod_eq_of_lt (by omega)])
  rw [e]
  rfl
theorem pf_andw (x : Int64) : ∃ m, m < 2 ^ 32 ∧ x &&& 4294967295 = lN m := ⟨x.toBitVec.toNat % 2 ^ 32, Nat.mod_lt _ (by decide), Int64.toBitVec_inj.mp (BitVec.eq_of_toNat_eq (by
  show (x.toBitVec &&& 4294967295#64).toNat = (BitVec.ofNat 64 (x.toBitVec.toNat % 2 ^ 32)).toNat
  rw [BitVec.toNat_and, show (4294967295#64).toNat = 2 ^ 32 - 1 from by decide, Nat.and_two_pow_sub_one_eq_mod, BitVec.toNat_ofNat]
  omega))⟩
/-! ===== Int64 as an unsigned number: uN x ===== -/
def uN (x : Int64) : Nat := x.toUInt64.toNat
theorem uN_lt (x : Int64) : uN x < 18446744073709551616 := x.toUInt64.toNat_lt
theorem uN_inj {x y : Int64} (h : uN x = uN y) : x = y := congrArg UInt64.toInt64 (UInt64.toNat_inj.mp h)
theorem uN_add (x y : Int64) : uN (x + y) = (uN x + uN y) % 18446744073709551616 := by
  show (x.toUInt64 + y.toUInt64).toNat = _
  exact UInt64.toNat_add _ _
theorem uN_mul (x y : Int64) : uN (x * y) = (uN x * uN y) % 18446744073709551616 := by
  show (x.toUInt64 * y.toUInt64).toNat = _
  exact UInt64.toNat_mul _ _
theorem uN_shl (x : Int64) : uN (x <<< ((1 : Int32).toInt64 &&& 63)) = (2 * uN x) % 18446744073709551616 := by
  have h : (((1 : Int32).toInt64 &&& 63).toBitVec.smod 64).toNat = 1 := by decide
  show (x.toBitVec <<< (((1 : Int32).toInt64 &&& 63).toBitVec.smod 64).toNat).toNat = _
  rw [h, BitVec.toNat_shiftLeft, Nat.shiftLeft_eq, Nat.mul_comm]
  rfl
theorem uN_shr (x : Int64) (s : UInt64) : uN (x.toUInt64 >>> s).toInt64 = uN x / 2 ^ (s.toNat % 64) := by
  show (x.toUInt64 >>> s).toNat = _
  rw [UInt64.toNat_shiftRight, Nat.shiftRight_eq_div_pow]
  rfl
theorem uN_s32 (x : Int64) : uN (x.toUInt64 >>> ((32 : Int32).toInt64.toUInt64 &&& Int64.toUInt64 63)).toInt64 = uN x / 4294967296 := by
  have h : ((32 : Int32).toInt64.toUInt64 &&& Int64.toUInt64 63).toNat % 64 = 32 := by decide
  rw [uN_shr, h]
theorem uN_s63 (x : Int64) : uN (x.toUInt64 >>> ((63 : Int32).toInt64.toUInt64 &&& Int64.toUInt64 63)).toInt64 = uN x / 9223372036854775808 := by
  have h : ((63 : Int32).toInt64.toUInt64 &&& Int64.toUInt64 63).toNat % 64 = 63 := by decide
  rw [uN_shr, h]
theorem uN_lo (x : Int64) : uN (x &&& 4294967295) = uN x % 4294967296 := by
  show (x.toUInt64 &&& Int64.toUInt64 4294967295).toNat = _
  rw [UInt64.toNat_and]
  exact Nat.and_two_pow_sub_one_eq_mod _ 32
theorem uN_bit (x : Int64) : (x &&& 1) = 0 ↔ uN x % 2 = 0 := by
  have h : uN (x &&& 1) = uN x % 2 := by
    show (x.toUInt64 &&& Int64.toUInt64 1).toNat = _
    rw [UInt64.toNat_and]
    exact Nat.and_two_pow_sub_one_eq_mod _ 1
  rw [← h]
  exact ⟨fun z => by rw [z]; rfl, fun z => uN_inj (z.trans rfl)⟩
theorem uN_or {x y : Int64} (hy : uN y < 2) : uN ((x <<< ((1 : Int32).toInt64 &&& 63)) ||| y) = (2 * uN x) % 18446744073709551616 + uN y := by
  have h1 : uN ((x <<< ((1 : Int32).toInt64 &&& 63)) ||| y) = uN (x <<< ((1 : Int32).toInt64 &&& 63)) ||| uN y := UInt64.toNat_or _ _
  have h2 : (2 * uN x) % 18446744073709551616 = 2 ^ 1 * (uN x % 9223372036854775808) := by omega
  rw [h1, uN_shl, h2]
  exact (Nat.two_pow_add_eq_or_of_lt (i := 1) hy _).symm
theorem nat_xor {a : Nat} (h : a < 18446744073709551616) : a ^^^ 2 ^ 63 = (a + 9223372036854775808) % 18446744073709551616 := by
  have h1 : (a ^^^ 2 ^ 63) % 2 ^ 63 = a % 2 ^ 63 := by rw [Nat.xor_mod_two_pow, Nat.mod_self, Nat.xor_zero]
  have h2 : (a ^^^ 2 ^ 63) / 2 ^ 63 = (a / 2 ^ 63) ^^^ 1 := by rw [Nat.xor_div_two_pow, Nat.div_self (Nat.two_pow_pos 63)]
  have h3 : a / 2 ^ 63 = 0 ∨ a / 2 ^ 63 = 1 := by omega
  generalize a ^^^ 2 ^ 63 = t at h1 h2
  rcases h3 with h3 | h3
  · rw [h3] at h2
    have h2 : t / 2 ^ 63 = 1 := h2
    omega
  · rw [h3] at h2
    have h2 : t / 2 ^ 63 = 0 := h2
    omega
theorem uN_xor (x : Int64) : uN (x ^^^ (-9223372036854775808)) = (uN x + 9223372036854775808) % 18446744073709551616 := by
  rw [← nat_xor (uN_lt x)]
  exact UInt64.toNat_xor _ _
theorem uN_int (x : Int64) : x.toInt = if 2 * uN x < 18446744073709551616 then (uN x : Int) else (uN x : Int) - 18446744073709551616 := BitVec.toInt_eq_toNat_cond _
theorem uN_le (x y : Int64) : (x ^^^ (-9223372036854775808)) ≤ (y ^^^ (-9223372036854775808)) ↔ uN x ≤ uN y := by
  have hx := uN_lt x
  have hy := uN_lt y
  rw [Int64.le_iff_toInt_le, uN_int, uN_int, uN_xor, uN_xor]
  omega
theorem uN_sk (x : Int64) {k : Nat} (hk : k < 64) : uN (x.toUInt64 >>> ((nI k).toInt64.toUInt64 &&& Int64.toUInt64 63)).toInt64 = uN x / 2 ^ k := by
  have h : ((nI k).toInt64.toUInt64 &&& Int64.toUInt64 63).toNat % 64 = k := by
    rw [nI_l (by omega), UInt64.toNat_and]
    have e : (lN k).toUInt64.toNat = k % 2 ^ 64 := rfl
    have e2 : (Int64.toUInt64 63).toNat = 2 ^ 6 - 1 := by decide
    rw [e, e2, Nat.and_two_pow_sub_one_eq_mod]
    omega
  rw [uN_shr, h]
/-! ===== unsigned comparison by xor with the least ===== -/
theorem lN_bv (n : Nat) : (lN n).toBitVec = BitVec.ofNat 64 n := rfl
theorem lN_nat {n : Nat} (h : n < 2 ^ 64) : (lN n).toBitVec.toNat = n := by rw [lN_bv, BitVec.toNat_ofNat]; exact Nat.mod_eq_of_lt h
theorem lN_xor (a b : Nat) : lN a ^^^ lN b = lN (a ^^^ b) := by
  apply Int64.toBitVec_inj.mp; rw [Int64.toBitVec_xor, lN_bv, lN_bv, lN_bv]; apply BitVec.eq_of_getLsbD_eq; intro i hi; simp [BitVec.getLsbD_ofNat, Nat.testBit_xor, hi]
theorem lN_ti {m : Nat} (h : m < 2 ^ 64) : (lN m).toInt = if m < 2 ^ 63 then (m : Int) else (m : Int) - 2 ^ 64 := by
  have c := BitVec.toInt_eq_toNat_cond (lN m).toBitVec
  rw [lN_nat h] at c
  show (lN m).toBitVec.toInt = _
  rw [c]
  split <;> split <;> omega
theorem xor63 {x : Nat} (h : x < 2 ^ 63) : x ^^^ 2 ^ 63 = 2 ^ 63 + x := by
  apply Nat.eq_of_testBit_eq
  intro i
  rw [Nat.testBit_xor, Nat.testBit_two_pow]
  rcases Nat.lt_trichotomy i 63 with z | z | z
  · rw [Nat.testBit_two_pow_add_gt z, decide_eq_false (by omega)]; simp
  · subst z; rw [Nat.testBit_two_pow_add_eq]; simp
  · have hp : 2 ^ 64 ≤ 2 ^ i := Nat.pow_le_pow_right (by decide) z
    rw [Nat.testBit_lt_two_pow (show x < 2 ^ i by omega), Nat.testBit_lt_two_pow (show 2 ^ 63 + x < 2 ^ i by omega), decide_eq_false (by omega)]; rfl
theorem xorS {a : Nat} (h : a < 2 ^ 64) : (lN a ^^^ (-9223372036854775808)).toInt = (a : Int) - 2 ^ 63 := by
  rw [show (-9223372036854775808 : Int64) = lN (2 ^ 63) from by decide +kernel, lN_xor]
  rcases Nat.lt_or_ge a (2 ^ 63) with z | z
  · rw [xor63 z, lN_ti (by omega), if_neg (by omega)]; omega
  · obtain ⟨x, rfl⟩ : ∃ x, a = 2 ^ 63 + x := ⟨a - 2 ^ 63, by omega⟩
    rw [← xor63 (by omega), Nat.xor_assoc, Nat.xor_self, Nat.xor_zero, lN_ti (by omega), if_pos (by omega), xor63 (by omega)]; omega
theorem ultL {a b : Nat} (ha : a < 2 ^ 64) (hb : b < 2 ^ 64) : ((lN b ^^^ (-9223372036854775808)) ≤ (lN a ^^^ (-9223372036854775808))) ↔ b ≤ a := by
  rw [Int64.le_iff_toInt_le, xorS ha, xorS hb]; omega
/-! ===== Int64 masks of n low bits ===== -/
theorem cr_bits (W U M : BitVec 64) : ((W &&& U) &&& (U &&& (M ^^^ BitVec.allOnes 64))) = 0#64 ↔ (W &&& U) &&& M = W &&& U := by
  constructor
  · intro h
    apply BitVec.eq_of_getLsbD_eq
    intro i hi
    have e := congrArg (fun x => BitVec.getLsbD x i) h
    simp only [BitVec.getLsbD_and, BitVec.getLsbD_xor, BitVec.getLsbD_allOnes, BitVec.getLsbD_zero, hi, decide_true] at e ⊢
    revert e
    cases W.getLsbD i <;> cases U.getLsbD i <;> cases M.getLsbD i <;> decide
  · intro h
    apply BitVec.eq_of_getLsbD_eq
    intro i hi
    have e := congrArg (fun x => BitVec.getLsbD x i) h
    simp only [BitVec.getLsbD_and, BitVec.getLsbD_xor, BitVec.getLsbD_allOnes, BitVec.getLsbD_zero, hi, decide_true] at e ⊢
    revert e
    cases W.getLsbD i <;> cases U.getLsbD i <;> cases M.getLsbD i <;> decide
theorem cr_mask (w U m : Int64) (n : Nat) (hm : m.toBitVec.toNat = 2 ^ n - 1) : ((w &&& U) &&& (U &&& (m ^^^ (-1)))) = 0 ↔ (w &&& U).toBitVec.toNat < 2 ^ n := by
  have e0 : (-1 : Int64).toBitVec = BitVec.allOnes 64 := by decide
  have z0 : (0 : Int64).toBitVec = 0#64 := by decide
  rw [← Int64.toBitVec_inj, z0, Int64.toBitVec_and, Int64.toBitVec_and, Int64.toBitVec_and, Int64.toBitVec_xor, e0, cr_bits]
  generalize w.toBitVec &&& U.toBitVec = T
  rw [← BitVec.toNat_inj, BitVec.toNat_and, hm, Nat.and_two_pow_sub_one_eq_mod]
  constructor
  · intro h
    have t := Nat.mod_lt T.toNat (Nat.two_pow_pos n)
    rw [h] at t
    exact t
  · exact Nat.mod_eq_of_lt
theorem cr_shr (t : Int64) (x : UInt64) (n : Nat) (hx : x.toNat % 64 = n) : (t.toUInt64 >>> x).toInt64 = 0 ↔ t.toBitVec.toNat < 2 ^ n := by
  rw [← Int64.toBitVec_inj, ← BitVec.toNat_inj]
  show (t.toUInt64 >>> x).toNat = 0 ↔ t.toUInt64.toNat < 2 ^ n
  rw [UInt64.toNat_shiftRight, hx, Nat.shiftRight_eq_div_pow]
  constructor
  · intro h
    have d : t.toUInt64.toNat / 2 ^ n < 1 := by
      rw [h]
      decide
    have e := (Nat.div_lt_iff_lt_mul (Nat.two_pow_pos n)).mp d
    rw [Nat.one_mul] at e
    exact e
  · exact Nat.div_eq_of_lt
theorem cr_amt (s : Int64) : ∃ n, n < 64 ∧ s &&& 63 = lN n ∧ (s.toUInt64 &&& Int64.toUInt64 63).toNat % 64 = n := by
  have e : (s.toUInt64 &&& Int64.toUInt64 63).toNat = s.toUInt64.toNat % 2 ^ 6 := by
    rw [UInt64.toNat_and, show (Int64.toUInt64 63).toNat = 2 ^ 6 - 1 from by decide, Nat.and_two_pow_sub_one_eq_mod]
  refine ⟨s.toUInt64.toNat % 2 ^ 6, by omega, ?_, by omega⟩
  rw [← Int64.toBitVec_inj, ← BitVec.toNat_inj]
  show (s.toUInt64 &&& Int64.toUInt64 63).toNat = (BitVec.ofNat 64 (s.toUInt64.toNat % 2 ^ 6)).toNat
  rw [e, BitVec.toNat_ofNat]
  omega
end
section
/-! ints of any sign by Int; folds in a commutative monoid; the law of rows -/
def rs_I (x : Int) : Int32 := Int32.ofInt x
def rs_B (x : Int) : Prop := -2000000 ≤ x ∧ x ≤ 2000000
theorem rs_add (a b : Int) : rs_I a + rs_I b = rs_I (a + b) := (Int32.ofInt_add a b).symm
theorem rs_sub (a b : Int) : rs_I a - rs_I b = rs_I (a - b) := (Int32.ofInt_sub a b).symm
theorem rs_nI (n : Nat) : nI n = rs_I (n : Int) := Int32.ofInt_eq_ofNat.symm
theorem rs_toInt {x : Int} (h : rs_B x) : (rs_I x).toInt = x := by
  unfold rs_B at h
  exact Int32.toInt_ofInt_of_le (by omega) (by omega)
theorem rs_le {a b : Int} (ha : rs_B a) (hb : rs_B b) : rs_I a ≤ rs_I b ↔ a ≤ b := by
  rw [Int32.le_iff_toInt_le, rs_toInt ha, rs_toInt hb]
theorem rs_lt {a b : Int} (ha : rs_B a) (hb : rs_B b) : rs_I a < rs_I b ↔ a < b := by
  rw [Int32.lt_iff_toInt_lt, rs_toInt ha, rs_toInt hb]
theorem rs_eq {a b : Int} (ha : rs_B a) (hb : rs_B b) : rs_I a = rs_I b ↔ a = b := by
  rw [← Int32.toInt_inj, rs_toInt ha, rs_toInt hb]
section
variable {α β : Type}
def rs_CM (op : Int → Int → Int) (z : Int) : Prop := (∀ a b, op a b = op b a) ∧ (∀ a b c, op (op a b) c = op a (op b c)) ∧ (∀ a, op z a = a)
def rs_fd (op : Int → Int → Int) (z : Int) (f : α → Int) : List α → Int
  | [] => z
  | a :: l => op (f a) (rs_fd op z f l)
variable {op : Int → Int → Int} {z : Int}
theorem rs_idr (H : rs_CM op z) (a : Int) : op a z = a := by rw [H.1, H.2.2]
theorem rs_mid (H : rs_CM op z) (a b c d : Int) : op (op a b) (op c d) = op (op a c) (op b d) := by
  rw [H.2.1, H.2.1, ← H.2.1 b c d, H.1 b c, H.2.1 c b d]
theorem rs_fd_append (H : rs_CM op z) (f : α → Int) (l m : List α) : rs_fd op z f (l ++ m) = op (rs_fd op z f l) (rs_fd op z f m) := by
  induction l with
  | nil => exact (H.2.2 _).symm
  | cons a l ih =>
    show op (f a) (rs_fd op z f (l ++ m)) = op (op (f a) (rs_fd op z f l)) _
    rw [ih, H.2.1]
theorem rs_fd_congr {f g : α → Int} {l : List α} (h : ∀ a ∈ l, f a = g a) : rs_fd op z f l = rs_fd op z g l := by
  induction l with
  | nil => rfl
  | cons a l ih =>
    show op (f a) (rs_fd op z f l) = op (g a) (rs_fd op z g l)
    rw [h a (List.mem_cons_self ..), ih (fun b hb => h b (List.mem_cons_of_mem _ hb))]
theorem rs_fd_z (H : rs_CM op z) {f : α → Int} {l : List α} (h : ∀ a ∈ l, f a = z) : rs_fd op z f l = z := by
  induction l with
  | nil => rfl
  | cons a l ih =>
    show op (f a) (rs_fd op z f l) = z
    rw [h a (List.mem_cons_self ..), ih (fun b hb => h b (List.mem_cons_of_mem _ hb)), H.2.2]
theorem rs_fd_op (H : rs_CM op z) (f g : α → Int) (l : List α) : rs_fd op z (fun a => op (f a) (g a)) l = op (rs_fd op z f l) (rs_fd op z g l) := by
  induction l with
  | nil => exact (H.2.2 z).symm
  | cons a l ih =>
    show op (op (f a) (g a)) (rs_fd op z (fun a => op (f a) (g a)) l) = op (op (f a) (rs_fd op z f l)) (op (g a) (rs_fd op z g l))
    rw [ih, rs_mid H]
theorem rs_fd_swap (H : rs_CM op z) (h : α → β → Int) (l : List α) (m : List β) : rs_fd op z (fun a => rs_fd op z (h a) m) l = rs_fd op z (fun b => rs_fd op z (fun a => h a b) l) m := by
  induction l with
  | nil => exact (rs_fd_z H (fun _ _ => rfl)).symm
  | cons a l ih =>
    show op (rs_fd op z (h a) m) (rs_fd op z (fun a => rs_fd op z (h a) m) l) = _
    rw [ih]
    exact (rs_fd_op H (h a) (fun b => rs_fd op z (fun a => h a b) l) m).symm
theorem rs_fd_pick (H : rs_CM op z) (x : Nat → Int) {K : List Nat} (hn : K.Nodup) {a : Nat} (ha : a ∈ K) : rs_fd op z (fun k => if a = k then x k else z) K = x a := by
  induction K with
  | nil => cases ha
  | cons k K ih =>
    show op (if a = k then x k else z) (rs_fd op z (fun k => if a = k then x k else z) K) = x a
    have hk : k ∉ K ∧ K.Nodup := List.nodup_cons.mp hn
    by_cases e : a = k
    · subst e
      rw [if_pos rfl, rs_fd_z H (l := K) (f := fun k => if a = k then x k else z) (fun b hb => if_neg (fun e : a = b => hk.1 (by rw [e]; exact hb))), rs_idr H]
    · rw [if_neg e, H.2.2]
      exact ih hk.2 ((List.mem_cons.mp ha).resolve_left e)
def rs_v (op : Int → Int → Int) (z : Int) (g : Int → Int) (P : List (Nat × Int)) (k : Nat) : Int := rs_fd op z (fun e => if e.1 = k then g e.2 else z) P
def rs_q (op : Int → Int → Int) (z : Int) (g : Int → Int) (p : Nat → Bool) (P : List (Nat × Int)) : Int := rs_fd op z (fun e => if p e.1 = true then g e.2 else z) P
theorem rs_rows (H : rs_CM op z) (g : Int → Int) (p : Nat → Bool) {K : List Nat} {P : List (Nat × Int)} (hn : K.Nodup) (hk : ∀ e ∈ P, e.1 ∈ K) : rs_fd op z (fun k => if p k = true then rs_v op z g P k else z) K = rs_q op z g p P := by
  have e1 : ∀ k ∈ K, (if p k = true then rs_v op z g P k else z) = rs_fd op z (fun e => if e.1 = k then (if p k = true then g e.2 else z) else z) P := by
    intro k _
    by_cases hp : p k = true
    · simp only [if_pos hp]; rfl
    · simp only [if_neg hp, ite_self]
      exact (rs_fd_z H fun _ _ => rfl).symm
  rw [rs_fd_congr e1, rs_fd_swap H]
  apply rs_fd_congr
  intro e he
  exact rs_fd_pick H (fun k => if p k = true then g e.2 else z) hn (hk e he)
/-! counted loops -/
def rs_rg (op : Int → Int → Int) (z : Int) (f : Nat → Int) : Nat → Int
  | 0 => z
  | n + 1 => op (rs_rg op z f n) (f n)
def rs_ov (z : Int) (f : α → Int) : Option α → Int
  | none => z
  | some a => f a
theorem rs_rg_list (H : rs_CM op z) (f : α → Int) (l : List α) (n : Nat) : rs_rg op z (fun r => rs_ov z f l[r]?) n = rs_fd op z f (l.take n) := by
  induction n with
  | zero => rw [List.take_zero]; rfl
  | succ n ih =>
    show op (rs_rg op z (fun r => rs_ov z f l[r]?) n) (rs_ov z f l[n]?) = _
    rw [ih, List.take_add_one, rs_fd_append H]
    cases l[n]? with
    | none => rfl
    | some a =>
      show op _ (f a) = op _ (op (f a) z)
      rw [rs_idr H]
theorem rs_rg_congr {f g : Nat → Int} {n : Nat} (h : ∀ i, i < n → f i = g i) : rs_rg op z f n = rs_rg op z g n := by
  induction n with
  | zero => rfl
  | succ n ih =>
    show op (rs_rg op z f n) (f n) = op (rs_rg op z g n) (g n)
    rw [ih (fun i hi => h i (by omega)), h n (by omega)]
theorem rs_rg_split (H : rs_CM op z) (f : Nat → Int) (a b : Nat) : rs_rg op z f (a + b) = op (rs_rg op z f a) (rs_rg op z (fun i => f (a + i)) b) := by
  induction b with
  | zero => exact (rs_idr H _).symm
  | succ b ih =>
    show op (rs_rg op z f (a + b)) (f (a + b)) = op _ (op (rs_rg op z (fun i => f (a + i)) b) (f (a + b)))
    rw [ih, H.2.1]
def rs_tw (z : Int) (f g : Nat → Int) (C O : List Nat) (r : Nat) : Int := if r < 40 then rs_ov z f C[r]? else rs_ov z g O[r - 40]?
theorem rs_two (H : rs_CM op z) (f g : Nat → Int) {C O : List Nat} (hC : C.length ≤ 40) (hO : O.length ≤ 40) : rs_rg op z (rs_tw z f g C O) 80 = op (rs_fd op z f C) (rs_fd op z g O) := by
  have a : rs_rg op z (rs_tw z f g C O) 40 = rs_fd op z f C := by
    rw [rs_rg_congr (f := rs_tw z f g C O) (g := fun r => rs_ov z f C[r]?) (fun i hi => if_pos hi), rs_rg_list H, List.take_of_length_le hC]
  have b : rs_rg op z (fun i => rs_tw z f g C O (40 + i)) 40 = rs_fd op z g O := by
    rw [rs_rg_congr (f := fun i => rs_tw z f g C O (40 + i)) (g := fun r => rs_ov z g O[r]?) (fun i hi => ?_), rs_rg_list H, List.take_of_length_le hO]
    show (if 40 + i < 40 then rs_ov z f C[40 + i]? else rs_ov z g O[40 + i - 40]?) = _
    rw [if_neg (by omega), Nat.add_sub_cancel_left]
  rw [show (80 : Nat) = 40 + 40 from rfl, rs_rg_split H, a, b]
/-- what both sides' rows give: the fold over all events -/
theorem rs_ans (H : rs_CM op z) (g : Int → Int) (p : Nat → Bool) {C O : List Nat} {P Q : List (Nat × Int)} (hC : C.length ≤ 40) (hO : O.length ≤ 40) (nC : C.Nodup) (nO : O.Nodup) (kC : ∀ e ∈ P, e.1 ∈ C) (kO : ∀ e ∈ Q, e.1 ∈ O) : rs_rg op z (rs_tw z (fun k => if p k = true then rs_v op z g P k else z) (fun k => if p k = true then rs_v op z g Q k else z) C O) 80 = rs_q op z g p (P ++ Q) := by
  rw [rs_two H _ _ hC hO, rs_rows H g p nC kC, rs_rows H g p nO kO]
  exact (rs_fd_append H _ P Q).symm
theorem rs_ansY (H : rs_CM op z) (g : Int → Int) (p : Nat → Bool) (E : List (Nat × Int)) : rs_rg op z (fun i => rs_ov z (fun e => if p e.1 = true then g e.2 else z) E[i]?) E.length = rs_q op z g p E := by
  rw [rs_rg_list H, List.take_length]
  rfl
end
/-! the three monoids -/
def rs_pl (a b : Int) : Int := a + b
def rs_mn (a b : Int) : Int := if a = -1000000 then b else if b = -1000000 then a else if b < a then b else a
def rs_mx (a b : Int) : Int := if a = -1000000 then b else if b = -1000000 then a else if a < b then b else a
theorem rs_plM : rs_CM rs_pl 0 := ⟨fun a b => by unfold rs_pl; omega, fun a b c => by unfold rs_pl; omega, fun a => by unfold rs_pl; omega⟩
theorem rs_mnM : rs_CM rs_mn (-1000000) := by
  refine ⟨fun a b => ?_, fun a b c => ?_, fun a => ?_⟩
  · unfold rs_mn; repeat' split
    all_goals omega
  · unfold rs_mn; repeat' split
    all_goals omega
  · unfold rs_mn; rw [if_pos rfl]
theorem rs_mxM : rs_CM rs_mx (-1000000) := by
  refine ⟨fun a b => ?_, fun a b c => ?_, fun a => ?_⟩
  · unfold rs_mx; repeat' split
    all_goals omega
  · unfold rs_mx; repeat' split
    all_goals omega
  · unfold rs_mx; rw [if_pos rfl]
/-! the four values of a key -/
def rs_g1 (_ : Int) : Int := 1
def rs_gi (x : Int) : Int := x
abbrev rs_vc (P : List (Nat × Int)) (k : Nat) : Int := rs_v rs_pl 0 rs_g1 P k
abbrev rs_vs (P : List (Nat × Int)) (k : Nat) : Int := rs_v rs_pl 0 rs_gi P k
abbrev rs_vl (P : List (Nat × Int)) (k : Nat) : Int := rs_v rs_mn (-1000000) rs_gi P k
abbrev rs_vg (P : List (Nat × Int)) (k : Nat) : Int := rs_v rs_mx (-1000000) rs_gi P k
section
variable {α : Type}
theorem rs_bd (lo hi : Int) (f : α → Int) (l : List α) (h : ∀ a ∈ l, lo ≤ f a ∧ f a ≤ hi) : lo * l.length ≤ rs_fd rs_pl 0 f l ∧ rs_fd rs_pl 0 f l ≤ hi * l.length := by
  induction l with
  | nil => exact ⟨by simp [rs_fd], by simp [rs_fd]⟩
  | cons a l ih =>
    have h1 := h a (List.mem_cons_self ..)
    have h2 := ih (fun b hb => h b (List.mem_cons_of_mem _ hb))
    show lo * ((l.length + 1 : Nat) : Int) ≤ f a + rs_fd rs_pl 0 f l ∧ f a + rs_fd rs_pl 0 f l ≤ hi * ((l.length + 1 : Nat) : Int)
    rw [Int.natCast_add, Int.mul_add, Int.mul_add, Int.natCast_one, Int.mul_one, Int.mul_one]
    omega
def rs_R (x : Int) : Prop := x = -1000000 ∨ (-100 ≤ x ∧ x ≤ 100)
theorem rs_mnR {a b : Int} (ha : rs_R a) (hb : rs_R b) : rs_R (rs_mn a b) := by
  unfold rs_R at *; unfold rs_mn; repeat' split
  all_goals omega
theorem rs_mxR {a b : Int} (ha : rs_R a) (hb : rs_R b) : rs_R (rs_mx a b) := by
  unfold rs_R at *; unfold rs_mx; repeat' split
  all_goals omega
theorem rs_mnS {a b : Int} (ha : rs_R a) (hb : rs_R b) (h : rs_mn a b = -1000000) : a = -1000000 ∧ b = -1000000 := by
  unfold rs_R at *; unfold rs_mn at h; repeat' split at h
  all_goals omega
theorem rs_mxS {a b : Int} (ha : rs_R a) (hb : rs_R b) (h : rs_mx a b = -1000000) : a = -1000000 ∧ b = -1000000 := by
  unfold rs_R at *; unfold rs_mx at h; repeat' split at h
  all_goals omega
theorem rs_fdR {op : Int → Int → Int} (hop : ∀ a b, rs_R a → rs_R b → rs_R (op a b)) (f : α → Int) (l : List α) (h : ∀ a ∈ l, rs_R (f a)) : rs_R (rs_fd op (-1000000) f l) := by
  induction l with
  | nil => exact Or.inl rfl
  | cons a l ih => exact hop _ _ (h a (List.mem_cons_self ..)) (ih (fun b hb => h b (List.mem_cons_of_mem _ hb)))
theorem rs_fdS {op : Int → Int → Int} (hop : ∀ a b, rs_R a → rs_R b → rs_R (op a b)) (hs : ∀ a b, rs_R a → rs_R b → op a b = -1000000 → a = -1000000 ∧ b = -1000000) (f : α → Int) (l : List α) (h : ∀ a ∈ l, rs_R (f a)) (e : rs_fd op (-1000000) f l = -1000000) : ∀ a ∈ l, f a = -1000000 := by
  induction l with
  | nil => intro a ha; cases ha
  | cons a l ih =>
    have hl : ∀ b ∈ l, rs_R (f b) := fun b hb => h b (List.mem_cons_of_mem _ hb)
    have h2 := hs _ _ (h a (List.mem_cons_self ..)) (rs_fdR hop f l hl) e
    intro b hb
    rcases List.mem_cons.mp hb with rfl | hb
    · exact h2.1
    · exact ih hl h2.2 b hb
end
end
section
/-! the relation: the sealed part's events P, the fresh part's Q, their keys C and O in the order of the rows -/
def rs_lb (x : Int64) (r : Nat) : Bool := x.toBitVec.getLsbD r
def rs_Ev (P : List (Nat × Int)) : Prop := ∀ e ∈ P, e.1 < 256 ∧ -100 ≤ e.2 ∧ e.2 ≤ 100
def rs_Ks (K : List Nat) (P : List (Nat × Int)) : Prop := K.Nodup ∧ ∀ k, k ∈ K ↔ ∃ e, e ∈ P ∧ e.1 = k
def rs_Row (off : Nat) (K : List Nat) (c s l g : Nat → Int) (ak an au al ag : Nat → Int32) : Prop := ∀ r k, K[r]? = some k → ak (off + r) = nI k ∧ an (off + r) = rs_I (c k) ∧ au (off + r) = rs_I (s k) ∧ al (off + r) = rs_I (l k) ∧ ag (off + r) = rs_I (g k)
def rs_Ix (C : List Nat) (ah ap ai : Nat → Int64) : Prop := ∀ r k, C[r]? = some k → (∀ h, h < 16 → rs_lb (ah h) r = decide (k % 16 = h)) ∧ (∀ v, v < 4 → rs_lb (ap v) r = decide (k / 16 % 4 = v)) ∧ (∀ v, v < 4 → rs_lb (ai v) r = decide (k / 64 = v))
def rs_nw (C O : List Nat) : List Nat := O.filter (fun k => decide (k ∉ C))
def rs_FX (P Q : List (Nat × Int)) (C O : List Nat) (ak an au al ag : Nat → Int32) (ah ap ai : Nat → Int64) : Prop :=
  rs_Ks C P ∧ rs_Ks O Q ∧ C.length + (rs_nw C O).length ≤ 40 ∧ rs_Row 0 C (rs_vc P) (rs_vs P) (rs_vl P) (rs_vg P) ak an au al ag ∧ rs_Row 40 O (rs_vc Q) (rs_vs Q) (rs_vl Q) (rs_vg Q) ak an au al ag ∧ rs_Ix C ah ap ai
def rs_FY (E : List (Nat × Int)) (yh yp yk ya : Nat → Int32) : Prop :=
  E.length ≤ 400 ∧ rs_Ev E ∧ ∀ i e, E[i]? = some e → yh i = nI (e.1 % 16) ∧ yp i = nI (e.1 / 16 % 4) ∧ yk i = nI (e.1 / 64) ∧ ya i = rs_I e.2
def i_Rel (_ : Nat) (u : SX) (v : SY) : Prop := ∃ (P Q : List (Nat × Int)) (C O : List Nat), (match u with | (fc, fo, fe, gc, go, ak, an, au, al, ag, ah, ap, ai) => fc = nI C.length ∧ fo = nI O.length ∧ fe = nI (P ++ Q).length ∧ rs_FX P Q C O ak an au al ag ah ap ai) ∧ (match v with | (ys, yh, yp, yk, ya, yb, yu, yt) => ys = nI (P ++ Q).length ∧ rs_FY (P ++ Q) yh yp yk ya)
theorem rs_in {k : Nat} {P Q : List (Nat × Int)} {C O : List Nat} {gc go : Int64} {ak an au al ag : Nat → Int32} {ah ap ai : Nat → Int64} {yh yp yk ya yb yu yt : Nat → Int32} (hX : rs_FX P Q C O ak an au al ag ah ap ai) (hY : rs_FY (P ++ Q) yh yp yk ya) : i_Rel k (nI C.length, nI O.length, nI (P ++ Q).length, gc, go, ak, an, au, al, ag, ah, ap, ai) (nI (P ++ Q).length, yh, yp, yk, ya, yb, yu, yt) := ⟨P, Q, C, O, ⟨rfl, rfl, rfl, hX⟩, ⟨rfl, hY⟩⟩
theorem rs_el {G : SX → SY → Prop} {k : Nat} {u : SX} {v : SY} (I : i_Rel k u v) (h : ∀ (P Q : List (Nat × Int)) (C O : List Nat) (gc go : Int64) (ak an au al ag : Nat → Int32) (ah ap ai : Nat → Int64) (yh yp yk ya yb yu yt : Nat → Int32), rs_FX P Q C O ak an au al ag ah ap ai → rs_FY (P ++ Q) yh yp yk ya → G (nI C.length, nI O.length, nI (P ++ Q).length, gc, go, ak, an, au, al, ag, ah, ap, ai) (nI (P ++ Q).length, yh, yp, yk, ya, yb, yu, yt)) : G u v := by
  obtain ⟨fc, fo, fe, gc, go, ak, an, au, al, ag, ah, ap, ai⟩ := u
  obtain ⟨ys, yh, yp, yk, ya, yb, yu, yt⟩ := v
  obtain ⟨P, Q, C, O, hX, hY⟩ := I
  obtain ⟨e1, e2, e3, hX⟩ := hX
  obtain ⟨e4, hY⟩ := hY
  subst e1 e2 e3 e4
  exact h P Q C O gc go ak an au al ag ah ap ai yh yp yk ya yb yu yt hX hY
theorem i_up {k : Nat} {u : SX} {v : SY} (h : i_Rel k u v) : i_Rel (k + 5) u v := h
theorem i_vc0 : wpX_init (fun u => wpY_init (fun v => i_Rel 0 u v)) := by
  have hX : rs_FX [] [] [] [] (fun _ => 0) (fun _ => 0) (fun _ => 0) (fun _ => 0) (fun _ => 0) (fun _ => 0) (fun _ => 0) (fun _ => 0) := by
    refine ⟨⟨List.nodup_nil, fun k => ⟨fun h => (nomatch h), fun ⟨e, h, _⟩ => (nomatch h)⟩⟩, ⟨List.nodup_nil, fun k => ⟨fun h => (nomatch h), fun ⟨e, h, _⟩ => (nomatch h)⟩⟩, by decide, ?_, ?_, ?_⟩
    · intro r k h; simp at h
    · intro r k h; simp at h
    · intro r k h; simp at h
  have hY : rs_FY ([] ++ []) (fun _ => 0) (fun _ => 0) (fun _ => 0) (fun _ => 0) := by
    refine ⟨by decide, fun e h => (nomatch h), ?_⟩
    intro i e h; simp at h
  exact ⟨[], [], [], [], ⟨rfl, rfl, rfl, hX⟩, ⟨rfl, hY⟩⟩
/-! facts that follow from the relation -/
theorem rs_getMem {α : Type} {l : List α} {i : Nat} {a : α} (h : l[i]? = some a) : a ∈ l := List.mem_of_getElem? h
theorem rs_getLt {α : Type} {l : List α} {i : Nat} {a : α} (h : l[i]? = some a) : i < l.length := by
  rw [List.getElem?_eq_some_iff] at h
  exact h.1
theorem rs_getEx {α : Type} {l : List α} {i : Nat} (h : i < l.length) : ∃ a, l[i]? = some a := ⟨l[i], List.getElem?_eq_getElem h⟩
theorem rs_olen {C O : List Nat} (nO : O.Nodup) (h : C.length + (rs_nw C O).length ≤ 40) : O.length ≤ 40 := by
  have s : O.length ≤ (C ++ rs_nw C O).length := by
    apply List.Nodup.length_le_of_subset nO
    intro k hk
    by_cases hc : k ∈ C
    · exact List.mem_append_left _ hc
    · exact List.mem_append_right _ (List.mem_filter.mpr ⟨hk, decide_eq_true hc⟩)
  rw [List.length_append] at s
  omega
theorem rs_kb {K : List Nat} {P : List (Nat × Int)} (hK : rs_Ks K P) (hP : rs_Ev P) : ∀ k ∈ K, k < 256 := by
  intro k hk
  obtain ⟨e, he, rfl⟩ := (hK.2 k).mp hk
  exact (hP e he).1
theorem rs_EvL {P Q : List (Nat × Int)} (h : rs_Ev (P ++ Q)) : rs_Ev P := fun e he => h e (List.mem_append_left _ he)
theorem rs_EvR {P Q : List (Nat × Int)} (h : rs_Ev (P ++ Q)) : rs_Ev Q := fun e he => h e (List.mem_append_right _ he)
theorem rs_vcB (P : List (Nat × Int)) (k : Nat) : 0 ≤ rs_vc P k ∧ rs_vc P k ≤ P.length := by
  have h := rs_bd 0 1 (fun e : Nat × Int => if e.1 = k then rs_g1 e.2 else 0) P (fun e _ => by
    show 0 ≤ (if e.1 = k then (1 : Int) else 0) ∧ (if e.1 = k then (1 : Int) else 0) ≤ 1
    split <;> omega)
  rw [Int.zero_mul, Int.one_mul] at h
  exact h
theorem rs_vsB {P : List (Nat × Int)} (hP : rs_Ev P) (k : Nat) : -100 * (P.length : Int) ≤ rs_vs P k ∧ rs_vs P k ≤ 100 * P.length := by
  refine rs_bd (-100) 100 (fun e : Nat × Int => if e.1 = k then rs_gi e.2 else 0) P (fun e he => ?_)
  have := hP e he
  show -100 ≤ (if e.1 = k then e.2 else 0) ∧ (if e.1 = k then e.2 else 0) ≤ 100
  split <;> omega
theorem rs_qsB {P : List (Nat × Int)} (hP : rs_Ev P) (p : Nat → Bool) : -100 * (P.length : Int) ≤ rs_q rs_pl 0 rs_gi p P ∧ rs_q rs_pl 0 rs_gi p P ≤ 100 * P.length := by
  refine rs_bd (-100) 100 (fun e : Nat × Int => if p e.1 = true then rs_gi e.2 else 0) P (fun e he => ?_)
  have := hP e he
  show -100 ≤ (if p e.1 = true then e.2 else 0) ∧ (if p e.1 = true then e.2 else 0) ≤ 100
  split <;> omega
theorem rs_vlR {P : List (Nat × Int)} (hP : rs_Ev P) (k : Nat) : rs_R (rs_vl P k) := by
  refine rs_fdR (fun a b => rs_mnR) _ P (fun e he => ?_)
  have := hP e he
  show rs_R (if e.1 = k then e.2 else -1000000)
  unfold rs_R
  split <;> omega
theorem rs_vgR {P : List (Nat × Int)} (hP : rs_Ev P) (k : Nat) : rs_R (rs_vg P k) := by
  refine rs_fdR (fun a b => rs_mxR) _ P (fun e he => ?_)
  have := hP e he
  show rs_R (if e.1 = k then e.2 else -1000000)
  unfold rs_R
  split <;> omega
theorem rs_vlB {P : List (Nat × Int)} (hP : rs_Ev P) {k : Nat} (hk : ∃ e, e ∈ P ∧ e.1 = k) : -100 ≤ rs_vl P k ∧ rs_vl P k ≤ 100 := by
  rcases rs_vlR hP k with h | h
  · exfalso
    obtain ⟨e, he, ek⟩ := hk
    have z := rs_fdS (fun a b => rs_mnR) (fun a b => rs_mnS) _ P (fun e he => by
      have := hP e he
      show rs_R (if e.1 = k then e.2 else -1000000)
      unfold rs_R
      split <;> omega) h e he
    have z : (if e.1 = k then e.2 else -1000000) = (-1000000 : Int) := z
    rw [if_pos ek] at z
    have := hP e he
    omega
  · exact h
theorem rs_vgB {P : List (Nat × Int)} (hP : rs_Ev P) {k : Nat} (hk : ∃ e, e ∈ P ∧ e.1 = k) : -100 ≤ rs_vg P k ∧ rs_vg P k ≤ 100 := by
  rcases rs_vgR hP k with h | h
  · exfalso
    obtain ⟨e, he, ek⟩ := hk
    have z := rs_fdS (fun a b => rs_mxR) (fun a b => rs_mxS) _ P (fun e he => by
      have := hP e he
      show rs_R (if e.1 = k then e.2 else -1000000)
      unfold rs_R
      split <;> omega) h e he
    have z : (if e.1 = k then e.2 else -1000000) = (-1000000 : Int) := z
    rw [if_pos ek] at z
    have := hP e he
    omega
  · exact h
end
section
/-! what a filter lets through: both sides' own way -/
def rs_b : Bool → Int32
  | true => 1
  | false => 0
def rs_bit (f s : Int32) : Bool := decide ((f >>> (s &&& 31)) &&& 1 = 1)
def rs_md (f : Int32) : Int32 := (f >>> ((8 : Int32) &&& 31)) &&& 3
def rs_set (m : Int32) (a b : Bool) : Bool := if m = 0 then a && b else if m = 1 then a || b else if m = 2 then !(a && b) else !(a || b)
def rs_tm (f h : Int32) : Bool := !decide (h < ((f >>> ((10 : Int32) &&& 31)) &&& 15)) && !decide ((f >>> ((14 : Int32) &&& 31)) < h)
def rs_ps (f : Int32) (k : Nat) : Bool := rs_tm f (nI (k % 16)) && rs_set (rs_md f) (rs_bit f (nI (k / 16 % 4))) (rs_bit f (4 + nI (k / 64)))
theorem rs_01 (x : Int32) : x &&& 1 = 0 ∨ x &&& 1 = 1 := by
  obtain ⟨j, hj, e⟩ := pk_andE x (m := 1) 1 (by decide)
  rw [e]
  have : j = 0 ∨ j = 1 := by omega
  rcases this with rfl | rfl
  · exact Or.inl rfl
  · exact Or.inr rfl
theorem rs_bitX {f s : Int32} {A B : Prop} (a : rs_bit f s = false → A) (b : rs_bit f s = true → B) : (((f >>> (s &&& 31)) &&& 1) = 0 → A) ∧ (¬ ((f >>> (s &&& 31)) &&& 1) = 0 → B) :=
  ⟨fun h => a (decide_eq_false (by rw [h]; decide)), fun h => b (decide_eq_true ((rs_01 _).resolve_left h))⟩
theorem rs_bitY {f s : Int32} {A B : Prop} (a : rs_bit f s = true → A) (b : rs_bit f s = false → B) : (((f >>> (s &&& 31)) &&& 1) = 1 → A) ∧ (¬ ((f >>> (s &&& 31)) &&& 1) = 1 → B) :=
  ⟨fun h => a (decide_eq_true h), fun h => b (decide_eq_false h)⟩
theorem rs_tmF1 {f h : Int32} (h1 : h < ((f >>> ((10 : Int32) &&& 31)) &&& 15)) : rs_tm f h = false := by unfold rs_tm; rw [decide_eq_true h1]; rfl
theorem rs_tmF2 {f h : Int32} (h1 : ¬ h < ((f >>> ((10 : Int32) &&& 31)) &&& 15)) (h2 : (f >>> ((14 : Int32) &&& 31)) < h) : rs_tm f h = false := by unfold rs_tm; rw [decide_eq_false h1, decide_eq_true h2]; rfl
theorem rs_tmT {f h : Int32} (h1 : ¬ h < ((f >>> ((10 : Int32) &&& 31)) &&& 15)) (h2 : ¬ (f >>> ((14 : Int32) &&& 31)) < h) : rs_tm f h = true := by unfold rs_tm; rw [decide_eq_false h1, decide_eq_false h2]; rfl
section
variable {ys : Int32} {yh yp yk ya yb yu yt : Nat → Int32}
variable {post : Int32 → Prop}
theorem rs_y170 (a b : Bool) (h : post (rs_b (a && b))) : wY_passes_170 post (rs_b a) (rs_b b) ys yh yp yk ya yb yu yt := by
  cases a
  · exact br_t rfl h
  · cases b
    · exact br_f (by decide) (br_t rfl h)
    · exact br_f (by decide) (br_f (by decide) h)
theorem rs_y85 (m : Int32) (a b t : Bool) (h : post (rs_b (t && rs_set m a b))) : wY_passes_85 post m (rs_b a) (rs_b b) (rs_b t) ys yh yp yk ya yb yu yt := by
  by_cases h0 : m = 0
  · rw [show rs_set m a b = (a && b) from if_pos h0] at h
    refine br_t h0 ?_
    cases a
    · exact br_t rfl (rs_y170 t false h)
    · refine br_f (by decide) ?_
      cases b
      · exact br_t rfl (rs_y170 t false h)
      · exact br_f (by decide) (rs_y170 t true h)
  · refine br_f h0 ?_
    by_cases h1 : m = 1
    · rw [show rs_set m a b = (a || b) from (if_neg h0).trans (if_pos h1)] at h
      refine br_t h1 ?_
      cases a
      · refine br_t rfl ?_
        cases b
        · exact br_t rfl (rs_y170 t false h)
        · exact br_f (by decide) (rs_y170 t true h)
      · exact br_f (by decide) (rs_y170 t true h)
    · refine br_f h1 ?_
      by_cases h2 : m = 2
      · rw [show rs_set m a b = !(a && b) from (if_neg h0).trans ((if_neg h1).trans (if_pos h2))] at h
        refine br_t h2 ?_
        cases a
        · exact br_t rfl (rs_y170 t true h)
        · refine br_f (by decide) ?_
          cases b
          · exact br_t rfl (rs_y170 t true h)
          · exact br_f (by decide) (rs_y170 t false h)
      · rw [show rs_set m a b = !(a || b) from (if_neg h0).trans ((if_neg h1).trans (if_neg h2))] at h
        refine br_f h2 ?_
        cases a
        · refine br_t rfl ?_
          cases b
          · exact br_t rfl (rs_y170 t true h)
          · exact br_f (by decide) (rs_y170 t false h)
        · exact br_f (by decide) (rs_y170 t false h)
theorem rs_y49 {f m hh : Int32} {a b : Bool} {i : Nat} (hi : i < 400) (eh : yh i = hh) (h : post (rs_b (rs_tm f hh && rs_set m a b))) : wY_passes_49 post f (nI i) m (rs_b a) (rs_b b) ys yh yp yk ya yb yu yt := by
  have iv : vp_in (nI i) 400 := vp_in_nI hi (by omega)
  unfold wY_passes_49
  rw [nI_clamp (n := i) (by omega), eh]
  refine ⟨iv, br_c (fun h1 => ?_) (fun h1 => ⟨iv, br_c (fun h2 => ?_) (fun h2 => ?_)⟩)⟩
  · rw [rs_tmF1 h1] at h
    exact rs_y85 m a b false h
  · rw [rs_tmF2 h1 h2] at h
    exact rs_y85 m a b false h
  · rw [rs_tmT h1 h2] at h
    exact rs_y85 m a b true h
theorem rs_y26 {f m hh kk : Int32} {a : Bool} {i : Nat} (hi : i < 400) (eh : yh i = hh) (ek : yk i = kk) (h : post (rs_b (rs_tm f hh && rs_set m a (rs_bit f (4 + kk))))) : wY_passes_26 post f (nI i) m (rs_b a) ys yh yp yk ya yb yu yt := by
  have iv : vp_in (nI i) 400 := vp_in_nI hi (by omega)
  unfold wY_passes_26
  rw [nI_clamp (n := i) (by omega), ek]
  refine ⟨iv, rs_bitY (fun e => ?_) (fun e => ?_)⟩
  · rw [e] at h
    exact rs_y49 (b := true) hi eh h
  · rw [e] at h
    exact rs_y49 (b := false) hi eh h
theorem rs_ypass {f : Int32} {i : Nat} {E : List (Nat × Int)} {e : Nat × Int} (hY : rs_FY E yh yp yk ya) (he : E[i]? = some e) (h : post (rs_b (rs_ps f e.1))) : wpY_passes post (ys, yh, yp, yk, ya, yb, yu, yt) f (nI i) := by
  have hi : i < 400 := Nat.lt_of_lt_of_le (rs_getLt he) hY.1
  have iv : vp_in (nI i) 400 := vp_in_nI hi (by omega)
  obtain ⟨eh, ep, ek, _⟩ := hY.2.2 i e he
  unfold wpY_passes
  dsimp only
  rw [nI_clamp (n := i) (by omega), ep]
  refine nm_e ⟨iv, rs_bitY (fun x => ?_) (fun x => ?_)⟩
  · unfold rs_ps at h
    rw [x] at h
    exact rs_y26 (a := true) hi eh ek h
  · unfold rs_ps at h
    rw [x] at h
    exact rs_y26 (a := false) hi eh ek h
end
section
variable {post : Int32 → Prop}
theorem rs_hour {k : Nat} (hk : k < 256) : nI k &&& 15 = nI (k % 16) := pk_andN (by omega) 4 (by decide)
theorem rs_place {k : Nat} (hk : k < 256) : (nI k >>> ((4 : Int32) &&& 31)) &&& 3 = nI (k / 16 % 4) := by
  rw [pk_shrN (by omega) _ 4 (by decide), pk_andN (by omega) 2 (by decide)]
theorem rs_kind {k : Nat} (hk : k < 256) : nI k >>> ((6 : Int32) &&& 31) = nI (k / 64) := pk_shrN (by omega) _ 6 (by decide)
theorem rs_xh {k : Nat} (hk : k < 256) (h : post (nI (k % 16))) : wpX_hourOf post (nI k) := by
  unfold wpX_hourOf
  rw [rs_hour hk]
  exact h
theorem rs_xp {k : Nat} (hk : k < 256) (h : post (nI (k / 16 % 4))) : wpX_placeOf post (nI k) := by
  unfold wpX_placeOf
  rw [rs_place hk]
  exact h
theorem rs_xk {k : Nat} (hk : k < 256) (h : post (nI (k / 64))) : wpX_kindOf post (nI k) := by
  unfold wpX_kindOf
  rw [rs_kind hk]
  exact h
theorem rs_x122 (a b : Bool) (h : post (rs_b (a == b))) : wX_passes_122 post (rs_b b) (rs_b a) := by
  cases a <;> cases b
  · exact br_t rfl h
  · exact br_f (by decide) h
  · exact br_f (by decide) h
  · exact br_t rfl h
theorem rs_x88 {f hh m : Int32} (a : Bool) (h : post (rs_b (rs_tm f hh && (a == decide (¬ 2 ≤ m))))) : wX_passes_88 post f hh m (rs_b a) := by
  refine br_c (fun h1 => ?_) (fun h1 => br_c (fun h2 => ?_) (fun h2 => br_c (fun h3 => ?_) (fun h3 => ?_)))
  · rw [rs_tmF1 h1] at h
    exact h
  · rw [rs_tmF2 h1 h2] at h
    exact h
  · rw [rs_tmT h1 h2, decide_eq_false (fun z => z h3)] at h
    exact rs_x122 a false h
  · rw [rs_tmT h1 h2, decide_eq_true h3] at h
    exact rs_x122 a true h
theorem rs_x40 {f hh : Int32} (a b : Bool) (h : post (rs_b (rs_tm f hh && ((if rs_md f &&& 1 = 0 then a && b else a || b) == decide (¬ 2 ≤ rs_md f))))) : wX_passes_40 post f hh (rs_b a) (rs_b b) := by
  refine nm_r (e' := rs_md f) rfl (br_c (fun h1 => ?_) (fun h1 => ?_))
  · rw [if_pos h1] at h
    cases a
    · exact br_t rfl (rs_x88 false h)
    · refine br_f (by decide) ?_
      cases b
      · exact br_t rfl (rs_x88 false h)
      · exact br_f (by decide) (rs_x88 true h)
  · rw [if_neg h1] at h
    cases a
    · refine br_t rfl ?_
      cases b
      · exact br_t rfl (rs_x88 false h)
      · exact br_f (by decide) (rs_x88 true h)
    · exact br_f (by decide) (rs_x88 true h)
theorem rs_setX : ∀ j, j < 4 → ∀ a b : Bool, rs_set (nI j) a b = ((if nI j &&& 1 = 0 then a && b else a || b) == decide (¬ 2 ≤ nI j)) := by decide +kernel
theorem rs_mdE (f : Int32) : ∃ j, j < 4 ∧ rs_md f = nI j := pk_andE _ 2 (by decide)
theorem rs_setE (f : Int32) (a b : Bool) : rs_set (rs_md f) a b = ((if rs_md f &&& 1 = 0 then a && b else a || b) == decide (¬ 2 ≤ rs_md f)) := by
  obtain ⟨j, hj, e⟩ := rs_mdE f
  rw [e]
  exact rs_setX j hj a b
theorem rs_x21 {f hh : Int32} {k : Nat} (hk : k < 256) (a : Bool) (h : post (rs_b (rs_tm f hh && rs_set (rs_md f) a (rs_bit f (4 + nI (k / 64)))))) : wX_passes_21 post f (nI k) hh (rs_b a) := by
  unfold wX_passes_21
  refine rs_xk hk ?_
  refine rs_bitX (fun x => ?_) (fun x => ?_)
  · rw [x, rs_setE] at h
    exact rs_x40 a false h
  · rw [x, rs_setE] at h
    exact rs_x40 a true h
theorem rs_xpass {f : Int32} {k : Nat} (hk : k < 256) (h : post (rs_b (rs_ps f k))) : wpX_passes post f (nI k) := by
  unfold wpX_passes
  refine rs_xh hk (rs_xp hk ?_)
  refine rs_bitX (fun x => ?_) (fun x => ?_)
  · unfold rs_ps at h
    rw [x] at h
    exact rs_x21 hk false h
  · unfold rs_ps at h
    rw [x] at h
    exact rs_x21 hk true h
end
end
section
/-! the rows: the row of a key, the sorts, whether a row passes -/
def rs_row (C O : List Nat) (r : Nat) : Option Nat := if r < 40 then C[r]? else O[r - 40]?
def rs_At (A : Nat → Int32) (f g : Nat → Int) (C O : List Nat) : Prop := (∀ r k, C[r]? = some k → A r = rs_I (f k)) ∧ (∀ r k, O[r]? = some k → A (40 + r) = rs_I (g k))
theorem rs_twN {p : Nat → Bool} {C O : List Nat} {r : Nat} (h : (rs_row C O r).any p = false) (z : Int) (f g : Nat → Int) : rs_tw z (fun k => if p k = true then f k else z) (fun k => if p k = true then g k else z) C O r = z := by
  unfold rs_tw
  unfold rs_row at h
  by_cases h40 : r < 40
  · rw [if_pos h40] at h
    rw [if_pos h40]
    cases e : C[r]? with
    | none => rfl
    | some k =>
      rw [e] at h
      have h : p k = false := h
      show (if p k = true then f k else z) = z
      rw [h]; rfl
  · rw [if_neg h40] at h
    rw [if_neg h40]
    cases e : O[r - 40]? with
    | none => rfl
    | some k =>
      rw [e] at h
      have h : p k = false := h
      show (if p k = true then g k else z) = z
      rw [h]; rfl
theorem rs_twY {A : Nat → Int32} {f g : Nat → Int} {p : Nat → Bool} {C O : List Nat} {r k : Nat} (hA : rs_At A f g C O) (e : rs_row C O r = some k) (h : p k = true) (z : Int) : A r = rs_I (rs_tw z (fun k => if p k = true then f k else z) (fun k => if p k = true then g k else z) C O r) := by
  unfold rs_tw
  unfold rs_row at e
  by_cases h40 : r < 40
  · rw [if_pos h40] at e
    rw [if_pos h40, e]
    show A r = rs_I (if p k = true then f k else z)
    rw [if_pos h]
    exact hA.1 r k e
  · rw [if_neg h40] at e
    rw [if_neg h40, e]
    show A r = rs_I (if p k = true then g k else z)
    rw [if_pos h]
    have := hA.2 (r - 40) k e
    rw [Nat.add_sub_cancel' (by omega)] at this
    exact this
theorem rs_rowK {ak : Nat → Int32} {C O : List Nat} {r k : Nat} (kC : ∀ r k, C[r]? = some k → ak r = nI k) (kO : ∀ r k, O[r]? = some k → ak (40 + r) = nI k) (e : rs_row C O r = some k) : ak r = nI k := by
  unfold rs_row at e
  by_cases h40 : r < 40
  · rw [if_pos h40] at e
    exact kC r k e
  · rw [if_neg h40] at e
    have := kO (r - 40) k e
    rw [Nat.add_sub_cancel' (by omega)] at this
    exact this
theorem rs_rowB {C O : List Nat} {r k : Nat} (bC : ∀ k ∈ C, k < 256) (bO : ∀ k ∈ O, k < 256) (e : rs_row C O r = some k) : k < 256 := by
  unfold rs_row at e
  by_cases h40 : r < 40
  · rw [if_pos h40] at e
    exact bC k (rs_getMem e)
  · rw [if_neg h40] at e
    exact bO k (rs_getMem e)
theorem rs_nwS {C O : List Nat} {j k : Nat} (e : O[j]? = some k) : rs_nw C (O.take (j + 1)) = rs_nw C (O.take j) ++ (if k ∈ C then [] else [k]) := by
  unfold rs_nw
  rw [List.take_add_one, e, List.filter_append]
  congr 1
  show List.filter (fun k => decide (k ∉ C)) [k] = _
  by_cases h : k ∈ C
  · rw [if_pos h]
    exact List.filter_cons_of_neg (by rw [decide_eq_false (fun z => z h)]; decide)
  · rw [if_neg h]
    exact List.filter_cons_of_pos (decide_eq_true h)
theorem rs_lbt {w : Int64} {j : Nat} (hj : j < 64) : ((w.toUInt64 >>> ((nI j).toInt64.toUInt64 &&& Int64.toUInt64 63)).toInt64 &&& 1) = 0 ↔ rs_lb w j = false := ts_bit hj (by rw [wb_cu j hj]; exact u_tn (by omega))
section
variable {fc fo fe : Int32} {gc go : Int64} {ak an au al ag : Nat → Int32} {ah ap ai : Nat → Int64}
variable {post : Int32 → Prop} {C O : List Nat}
theorem rs_xcr (hC : C.length ≤ 40) (kC : ∀ r k, C[r]? = some k → ak r = nI k) (bC : ∀ k ∈ C, k < 256) {key : Nat} (hk : key < 256) (h1 : ∀ r, C[r]? = some key → post (nI r)) (h2 : key ∉ C → post (-1)) : wpX_closedRow post (nI C.length, fo, fe, gc, go, ak, an, au, al, ag, ah, ap, ai) (nI key) := by
  have L : ∀ d j, j + d = C.length → (∀ i, i < j → C[i]? ≠ some key) → wX_closedRow_2 post (nI key) (nI C.length) fo fe gc go ak an au al ag ah ap ai (d + 1) (nI j) := by
    intro d
    induction d with
    | zero =>
      intro j hj hn
      refine br_t (nI_le (by omega) (by omega)) (h2 ?_)
      intro hm
      obtain ⟨i, hi⟩ := List.getElem?_of_mem hm
      exact hn i (by have := rs_getLt hi; omega) hi
    | succ d ih =>
      intro j hj hn
      obtain ⟨k, ek⟩ := rs_getEx (l := C) (i := j) (by omega)
      have hkb := bC k (rs_getMem ek)
      refine br_f (nI_ge (by omega) (by omega)) ⟨vp_in_nI (by omega) (by omega), ?_⟩
      rw [nI_clamp (n := j) (by omega), kC j k ek]
      refine br_c (fun e => ?_) (fun e => ?_)
      · rw [nI_eq (by omega) (by omega)] at e
        subst e
        exact h1 j ek
      · refine nm_r (nI_1 j) (ih (j + 1) (by omega) ?_)
        intro i hi
        by_cases hij : i = j
        · subst hij
          rw [ek]
          exact fun z => e (congrArg nI (Option.some.inj z))
        · exact hn i (by omega)
  exact Exists.intro (C.length + 1) (L C.length 0 (by omega) (fun i hi => by omega))
theorem rs_xor (hO : O.length ≤ 40) (kO : ∀ r k, O[r]? = some k → ak (40 + r) = nI k) (bO : ∀ k ∈ O, k < 256) {key : Nat} (hk : key < 256) (h1 : ∀ r, O[r]? = some key → post (nI (40 + r))) (h2 : key ∉ O → post (-1)) : wpX_openRow post (fc, nI O.length, fe, gc, go, ak, an, au, al, ag, ah, ap, ai) (nI key) := by
  have e40 : (40 : Int32) + nI O.length = nI (40 + O.length) := nI_add 40 _
  have L : ∀ d j, j + d = O.length → (∀ i, i < j → O[i]? ≠ some key) → wX_openRow_3 post (nI key) fc (nI O.length) fe gc go ak an au al ag ah ap ai (d + 1) (nI (40 + j)) := by
    intro d
    induction d with
    | zero =>
      intro j hj hn
      refine br_t (by rw [e40]; exact nI_le (by omega) (by omega)) (h2 ?_)
      intro hm
      obtain ⟨i, hi⟩ := List.getElem?_of_mem hm
      exact hn i (by have := rs_getLt hi; omega) hi
    | succ d ih =>
      intro j hj hn
      obtain ⟨k, ek⟩ := rs_getEx (l := O) (i := j) (by omega)
      have hkb := bO k (rs_getMem ek)
      refine br_f (by rw [e40]; exact nI_ge (by omega) (by omega)) ⟨vp_in_nI (by omega) (by omega), ?_⟩
      rw [nI_clamp (n := 40 + j) (by omega), kO j k ek]
      refine br_c (fun e => ?_) (fun e => ?_)
      · rw [nI_eq (by omega) (by omega)] at e
        subst e
        exact h1 j ek
      · refine nm_r (nI_1 (40 + j)) (ih (j + 1) (by omega) ?_)
        intro i hi
        by_cases hij : i = j
        · subst hij
          rw [ek]
          exact fun z => e (congrArg nI (Option.some.inj z))
        · exact hn i (by omega)
  exact Exists.intro (O.length + 1) (L O.length 0 (by omega) (fun i hi => by omega))
theorem rs_xsorts (hC : C.length ≤ 40) (hO : O.length ≤ 40) (kC : ∀ r k, C[r]? = some k → ak r = nI k) (kO : ∀ r k, O[r]? = some k → ak (40 + r) = nI k) (bC : ∀ k ∈ C, k < 256) (bO : ∀ k ∈ O, k < 256) (h : post (nI (C.length + (rs_nw C O).length))) : wpX_sorts post (nI C.length, nI O.length, fe, gc, go, ak, an, au, al, ag, ah, ap, ai) := by
  have e40 : (40 : Int32) + nI O.length = nI (40 + O.length) := nI_add 40 _
  have L : ∀ d j, j + d = O.length → wX_sorts_8 post (nI C.length) (nI O.length) fe gc go ak an au al ag ah ap ai (d + 1) (nI (C.length + (rs_nw C (O.take j)).length)) (nI (40 + j)) := by
    intro d
    induction d with
    | zero =>
      intro j hj
      rw [List.take_of_length_le (by omega)]
      exact br_t (by rw [e40]; exact nI_le (by omega) (by omega)) h
    | succ d ih =>
      intro j hj
      obtain ⟨k, ek⟩ := rs_getEx (l := O) (i := j) (by omega)
      have hkb := bO k (rs_getMem ek)
      have ih2 := ih (j + 1) (by omega)
      rw [rs_nwS ek, List.length_append] at ih2
      refine br_f (by rw [e40]; exact nI_ge (by omega) (by omega)) ⟨vp_in_nI (by omega) (by omega), ?_⟩
      rw [nI_clamp (n := 40 + j) (by omega), kO j k ek]
      refine rs_xcr hC kC bC hkb (fun r er => ?_) (fun hn => ?_)
      · rw [if_pos (rs_getMem er)] at ih2
        refine br_t (nI_pos' (by have := rs_getLt er; omega)) (nm_r (nI_add _ 0) (nm_r (nI_1 (40 + j)) ?_))
        exact ih2
      · rw [if_neg hn] at ih2
        refine br_f (by decide) (nm_r (nI_1 _) (nm_r (nI_1 (40 + j)) ?_))
        exact ih2
  exact Exists.intro (O.length + 1) (L O.length 0 (by omega))
theorem rs_xpg {p : Nat → Bool} (hC : C.length ≤ 40) (hO : O.length ≤ 40) (pC : ∀ r k, C[r]? = some k → rs_lb gc r = p k) (pO : ∀ r k, O[r]? = some k → rs_lb go r = p k) {r : Nat} (hr : r < 80) (h0 : (rs_row C O r).any p = false → post 0) (h1 : ∀ k, rs_row C O r = some k → p k = true → post 1) : wpX_passing post (nI C.length, nI O.length, fe, gc, go, ak, an, au, al, ag, ah, ap, ai) (nI r) := by
  have e40 : (40 : Int32) + nI O.length = nI (40 + O.length) := nI_add 40 _
  unfold wpX_passing
  dsimp only
  by_cases h40 : r < 40
  · have er : rs_row C O r = C[r]? := if_pos h40
    rw [er] at h0 h1
    refine br_f (nI_ge (b := 40) h40 (by decide)) ?_
    by_cases hc : r < C.length
    · obtain ⟨k, ek⟩ := rs_getEx hc
      rw [ek] at h0 h1
      refine br_f (nI_ge hc (by omega)) (br_c (fun e => ?_) (fun e => ?_))
      · rw [rs_lbt (by omega), pC r k ek] at e
        exact h0 e
      · rw [rs_lbt (by omega), pC r k ek] at e
        exact h1 k rfl (ts_nf e)
    · refine br_t (nI_le (by omega) (by omega)) (h0 ?_)
      rw [List.getElem?_eq_none (by omega)]
      rfl
  · have er : rs_row C O r = O[r - 40]? := if_neg h40
    rw [er] at h0 h1
    have es : nI r - 40 = nI (r - 40) := pk_sub (b := 40) (by omega)
    refine br_t (nI_le (a := 40) (by omega) (by omega)) ?_
    by_cases hc : r - 40 < O.length
    · obtain ⟨k, ek⟩ := rs_getEx hc
      rw [ek] at h0 h1
      refine br_f (by rw [e40]; exact nI_ge (by omega) (by omega)) (br_c (fun e => ?_) (fun e => ?_))
      · rw [es, rs_lbt (by omega), pO (r - 40) k ek] at e
        exact h0 e
      · rw [es, rs_lbt (by omega), pO (r - 40) k ek] at e
        exact h1 k rfl (ts_nf e)
    · refine br_t (by rw [e40]; exact nI_le (by omega) (by omega)) (h0 ?_)
      rw [List.getElem?_eq_none (by omega)]
      rfl
end
end
section
/-! selecting rows -/
theorem rs_lb_or (x y : Int64) (r : Nat) : rs_lb (x ||| y) r = (rs_lb x r || rs_lb y r) := by unfold rs_lb; rw [Int64.toBitVec_or, BitVec.getLsbD_or]
theorem rs_lb_and (x y : Int64) (r : Nat) : rs_lb (x &&& y) r = (rs_lb x r && rs_lb y r) := by unfold rs_lb; rw [Int64.toBitVec_and, BitVec.getLsbD_and]
theorem rs_lb_not (x : Int64) {r : Nat} (hr : r < 64) : rs_lb (x ^^^ (-1)) r = !rs_lb x r := by
  unfold rs_lb
  rw [Int64.toBitVec_xor, show (-1 : Int64).toBitVec = BitVec.allOnes 64 from by decide, BitVec.getLsbD_xor, BitVec.getLsbD_allOnes, decide_eq_true hr, Bool.xor_true]
theorem rs_lb_0 (r : Nat) : rs_lb 0 r = false := BitVec.getLsbD_zero
theorem rs_sh : ∀ l, l < 64 → ((1 : Int64) <<< ((nI l).toInt64 &&& 63)).toBitVec = BitVec.twoPow 64 l := by decide +kernel
theorem rs_lb_1 {j : Nat} (hj : j < 64) (r : Nat) : rs_lb ((1 : Int64) <<< ((nI j).toInt64 &&& 63)) r = decide (r = j) := by
  unfold rs_lb
  rw [rs_sh j hj, BitVec.getLsbD_twoPow, decide_eq_true hj, Bool.true_and]
  exact decide_eq_decide.mpr ⟨Eq.symm, Eq.symm⟩
def rs_ok (f : Int32) : Prop := ¬ f < 0 ∧ ¬ 262144 ≤ f
theorem rs_okN {f : Int32} (h : rs_ok f) : ∃ F, F < 262144 ∧ f = nI F := by
  obtain ⟨j, hj, rfl⟩ := nI_of h.1
  refine ⟨j, ?_, rfl⟩
  have h2 : ¬ nI 262144 ≤ nI j := h.2
  rw [nI_leI (by omega) hj] at h2
  omega
theorem rs_xif {post : Int32 → Prop} {f : Int32} (h0 : ¬ rs_ok f → post 0) (h1 : rs_ok f → post 1) : wpX_isFilter post f :=
  br_c (fun a => h0 (fun z => z.1 a)) (fun a => br_c (fun b => h0 (fun z => z.2 b)) (fun b => h1 ⟨a, b⟩))
theorem rs_tmN {f : Int32} {fr tt x : Nat} (ef : (f >>> ((10 : Int32) &&& 31)) &&& 15 = nI fr) (et : f >>> ((14 : Int32) &&& 31) = nI tt) (hf : fr < 16) (ht : tt < 16) (hx : x < 16) : rs_tm f (nI x) = decide (fr ≤ x ∧ x ≤ tt) := by
  have a : (nI x < nI fr) ↔ x < fr := nI_ltI (by omega) (by omega)
  have b : (nI tt < nI x) ↔ tt < x := nI_ltI (by omega) (by omega)
  unfold rs_tm
  rw [ef, et]
  by_cases h1 : x < fr
  · rw [decide_eq_true (a.mpr h1), decide_eq_false (by omega : ¬ (fr ≤ x ∧ x ≤ tt))]; rfl
  · rw [decide_eq_false (fun z => h1 (a.mp z))]
    by_cases h2 : tt < x
    · rw [decide_eq_true (b.mpr h2), decide_eq_false (by omega : ¬ (fr ≤ x ∧ x ≤ tt))]; rfl
    · rw [decide_eq_false (fun z => h2 (b.mp z)), decide_eq_true (by omega : fr ≤ x ∧ x ≤ tt)]; rfl
theorem rs_fromE (f : Int32) : ∃ fr, fr < 16 ∧ (f >>> ((10 : Int32) &&& 31)) &&& 15 = nI fr := pk_andE _ 4 (by decide)
theorem rs_toE {F : Nat} (h : F < 262144) : F / 16384 < 16 ∧ nI F >>> ((14 : Int32) &&& 31) = nI (F / 16384) := ⟨by omega, pk_shrN (by omega) _ 14 (by decide)⟩
def rs_V2 (f : Int32) (C : List Nat) (v : Nat) (x : Int64) : Prop := ∀ r k, C[r]? = some k → rs_lb x r = (decide (k / 16 % 4 < v) && rs_bit f (nI (k / 16 % 4)))
def rs_V4 (f : Int32) (C : List Nat) (v : Nat) (x : Int64) : Prop := ∀ r k, C[r]? = some k → rs_lb x r = (decide (k / 64 < v) && rs_bit f (4 + nI (k / 64)))
theorem rs_V2s {f : Int32} {C : List Nat} {v : Nat} {x z : Int64} (h : rs_V2 f C v x) (hz : ∀ r k, C[r]? = some k → rs_lb z r = (decide (k / 16 % 4 = v) && rs_bit f (nI v))) : rs_V2 f C (v + 1) (x ||| z) := by
  intro r k e
  rw [rs_lb_or, h r k e, hz r k e]
  by_cases h1 : k / 16 % 4 = v
  · rw [h1, decide_eq_true rfl, decide_eq_false (by omega : ¬ v < v), decide_eq_true (by omega : v < v + 1)]
    rfl
  · rw [decide_eq_false h1, Bool.false_and, Bool.or_false]
    congr 1
    exact decide_eq_decide.mpr (by omega)
theorem rs_V4s {f : Int32} {C : List Nat} {v : Nat} {x z : Int64} (h : rs_V4 f C v x) (hz : ∀ r k, C[r]? = some k → rs_lb z r = (decide (k / 64 = v) && rs_bit f (4 + nI v))) : rs_V4 f C (v + 1) (x ||| z) := by
  intro r k e
  rw [rs_lb_or, h r k e, hz r k e]
  by_cases h1 : k / 64 = v
  · rw [h1, decide_eq_true rfl, decide_eq_false (by omega : ¬ v < v), decide_eq_true (by omega : v < v + 1)]
    rfl
  · rw [decide_eq_false h1, Bool.false_and, Bool.or_false]
    congr 1
    exact decide_eq_decide.mpr (by omega)
section
variable {fc fo fe : Int32} {gc go : Int64} {ak an au al ag : Nat → Int32} {ah ap ai : Nat → Int64}
variable {C O : List Nat} {f : Int32}
section
variable {post : SX → Prop}
theorem rs_x143 {x6 z0 : Int64} (hC : C.length ≤ 40) (h6 : ∀ r k, C[r]? = some k → rs_lb x6 r = rs_tm f (nI (k % 16))) (hz : ∀ r k, C[r]? = some k → rs_lb z0 r = if rs_md f &&& 1 = 0 then rs_bit f (nI (k / 16 % 4)) && rs_bit f (4 + nI (k / 64)) else rs_bit f (nI (k / 16 % 4)) || rs_bit f (4 + nI (k / 64))) (K : ∀ gc', (∀ r k, C[r]? = some k → rs_lb gc' r = rs_ps f k) → post (fc, fo, fe, gc', go, ak, an, au, al, ag, ah, ap, ai)) : wX_selectClosed_143 post x6 (rs_md f) z0 fc fo fe gc go ak an au al ag ah ap ai := by
  refine br_c (fun h => nm_e (K _ ?_)) (fun h => nm_e (K _ ?_))
  · intro r k e
    have hr := rs_getLt e
    rw [rs_lb_and, rs_lb_not _ (by omega), h6 r k e, hz r k e]
    unfold rs_ps
    rw [rs_setE, decide_eq_false (fun z => z h), Bool.and_comm]
    congr 1
    generalize (if rs_md f &&& 1 = 0 then rs_bit f (nI (k / 16 % 4)) && rs_bit f (4 + nI (k / 64)) else rs_bit f (nI (k / 16 % 4)) || rs_bit f (4 + nI (k / 64))) = b
    cases b <;> rfl
  · intro r k e
    rw [rs_lb_and, h6 r k e, hz r k e]
    unfold rs_ps
    rw [rs_setE, decide_eq_true h, Bool.and_comm]
    congr 1
    generalize (if rs_md f &&& 1 = 0 then rs_bit f (nI (k / 16 % 4)) && rs_bit f (4 + nI (k / 64)) else rs_bit f (nI (k / 16 % 4)) || rs_bit f (4 + nI (k / 64))) = b
    cases b <;> rfl
theorem rs_x92 {x2 x4 : Int64} {fr tt : Nat} (hC : C.length ≤ 40) (hI : rs_Ix C ah ap ai) (ef : (f >>> ((10 : Int32) &&& 31)) &&& 15 = nI fr) (et : f >>> ((14 : Int32) &&& 31) = nI tt) (hf : fr < 16) (ht : tt < 16) (h2 : ∀ r k, C[r]? = some k → rs_lb x2 r = rs_bit f (nI (k / 16 % 4))) (h4 : ∀ r k, C[r]? = some k → rs_lb x4 r = rs_bit f (4 + nI (k / 64))) (K : ∀ gc', (∀ r k, C[r]? = some k → rs_lb gc' r = rs_ps f k) → post (fc, fo, fe, gc', go, ak, an, au, al, ag, ah, ap, ai)) : ∀ n h x6, 17 ≤ h + n → fr ≤ h → (h ≤ fr ∨ h ≤ tt + 1) → (∀ r k, C[r]? = some k → rs_lb x6 r = decide (fr ≤ k % 16 ∧ k % 16 < h)) → wX_selectClosed_92 post f x2 x4 (nI tt) fc fo fe gc go ak an au al ag ah ap ai n x6 (nI h) := by
  intro n
  induction n with
  | zero => intro h x6 a b c; exfalso; omega
  | succ n ih =>
    intro h x6 a b c h6
    by_cases hh : tt < h
    · have h6' : ∀ r k, C[r]? = some k → rs_lb x6 r = rs_tm f (nI (k % 16)) := by
        intro r k e
        rw [h6 r k e, rs_tmN ef et hf ht (by omega)]
        exact decide_eq_decide.mpr (by omega)
      refine br_t (nI_lt hh (by omega)) (nm_r (e' := rs_md f) rfl (br_c (fun m => ?_) (fun m => ?_)))
      · refine rs_x143 hC h6' (fun r k e => ?_) K
        rw [if_pos m, rs_lb_and, h2 r k e, h4 r k e]
      · refine rs_x143 hC h6' (fun r k e => ?_) K
        rw [if_neg m, rs_lb_or, h2 r k e, h4 r k e]
    · refine br_f (nI_nlt (by omega) (by omega)) ⟨vp_in_nI (by omega) (by omega), ?_⟩
      rw [nI_clamp (n := h) (by omega)]
      refine nm_e (nm_r (nI_1 h) (ih (h + 1) _ (by omega) (by omega) (by omega) ?_))
      intro r k e
      rw [rs_lb_or, h6 r k e, (hI r k e).1 h (by omega)]
      by_cases hk : k % 16 = h
      · rw [decide_eq_true hk, decide_eq_true (by omega : fr ≤ k % 16 ∧ k % 16 < h + 1), Bool.or_true]
      · rw [decide_eq_false hk, Bool.or_false]
        exact decide_eq_decide.mpr (by omega)
theorem rs_x38 {J : Int64 → Int64 → Int32 → Prop} {x2 x4 z0 : Int64} {v : Nat} (hI : rs_Ix C ah ap ai) (hv : v < 4) (h2 : rs_V2 f C v x2) (h4 : rs_V4 f C v x4) (hz : ∀ r k, C[r]? = some k → rs_lb z0 r = (decide (k / 16 % 4 = v) && rs_bit f (nI v))) (K : ∀ a b, rs_V2 f C (v + 1) a → rs_V4 f C (v + 1) b → J a b (nI (v + 1))) : wX_selectClosed_38 post J f x4 0 (nI v) z0 x2 fc fo fe gc go ak an au al ag ah ap ai := by
  refine nm_e (rs_bitX (fun e => ?_) (fun e => ?_))
  · refine nm_e (nm_r (nI_1 v) (K _ _ (rs_V2s h2 hz) (rs_V4s h4 ?_)))
    intro r k _
    rw [rs_lb_0, e, Bool.and_false]
  · refine ⟨vp_in_nI hv (by omega), ?_⟩
    rw [nI_clamp (n := v) (by omega)]
    refine nm_e (nm_r (nI_1 v) (K _ _ (rs_V2s h2 hz) (rs_V4s h4 ?_)))
    intro r k er
    rw [(hI r k er).2.2 v hv, e, Bool.and_true]
theorem rs_x11 {F : Nat} (hF : F < 262144) (eF : f = nI F) (hC : C.length ≤ 40) (bC : ∀ k ∈ C, k < 256) (hI : rs_Ix C ah ap ai) (K : ∀ gc', (∀ r k, C[r]? = some k → rs_lb gc' r = rs_ps f k) → post (fc, fo, fe, gc', go, ak, an, au, al, ag, ah, ap, ai)) : ∀ n v x2 x4, 5 ≤ v + n → v ≤ 4 → rs_V2 f C v x2 → rs_V4 f C v x4 → wX_selectClosed_11 post f 0 fc fo fe gc go ak an au al ag ah ap ai n x2 x4 (nI v) := by
  intro n
  induction n with
  | zero => intro v x2 x4 a b; exfalso; omega
  | succ n ih =>
    intro v x2 x4 a b h2 h4
    by_cases hv : v < 4
    · refine br_f (nI_ge (b := 4) hv (by decide)) (rs_bitX (fun e => ?_) (fun e => ?_))
      · refine rs_x38 hI hv h2 h4 (fun r k _ => ?_) (fun x y hx hy => ih (v + 1) x y (by omega) (by omega) hx hy)
        rw [rs_lb_0, e, Bool.and_false]
      · refine ⟨vp_in_nI hv (by omega), ?_⟩
        rw [nI_clamp (n := v) (by omega)]
        refine rs_x38 hI hv h2 h4 (fun r k er => ?_) (fun x y hx hy => ih (v + 1) x y (by omega) (by omega) hx hy)
        rw [(hI r k er).2.1 v hv, e, Bool.and_true]
    · have ev : v = 4 := by omega
      subst ev
      obtain ⟨fr, hf, ef⟩ := rs_fromE f
      obtain ⟨ht, et⟩ := rs_toE hF
      rw [← eF] at et
      refine br_t (nI_le (a := 4) (by omega) (by omega)) (nm_r ef (nm_r et ⟨17, ?_⟩))
      refine rs_x92 hC hI ef et hf ht (fun r k e => ?_) (fun r k e => ?_) K 17 fr 0 (by omega) (by omega) (by omega) ?_
      · rw [h2 r k e, decide_eq_true (by omega), Bool.true_and]
      · have := bC k (rs_getMem e)
        rw [h4 r k e, decide_eq_true (by omega), Bool.true_and]
      · intro r k _
        rw [rs_lb_0, decide_eq_false (by omega)]
theorem rs_xsc (hf : rs_ok f) (hC : C.length ≤ 40) (bC : ∀ k ∈ C, k < 256) (hI : rs_Ix C ah ap ai) (K : ∀ gc', (∀ r k, C[r]? = some k → rs_lb gc' r = rs_ps f k) → post (fc, fo, fe, gc', go, ak, an, au, al, ag, ah, ap, ai)) : wpX_selectClosed post (fc, fo, fe, gc, go, ak, an, au, al, ag, ah, ap, ai) f := by
  obtain ⟨F, hF, eF⟩ := rs_okN hf
  refine Exists.intro 5 (rs_x11 hF eF hC bC hI K 5 0 0 0 (by omega) (by omega) ?_ ?_)
  · intro r k _
    rw [rs_lb_0, decide_eq_false (by omega), Bool.false_and]
  · intro r k _
    rw [rs_lb_0, decide_eq_false (by omega), Bool.false_and]
end
section
variable {post : Int32 → SX → Prop}
theorem rs_xsel21 (hO : O.length ≤ 40) (kO : ∀ r k, O[r]? = some k → ak (40 + r) = nI k) (bO : ∀ k ∈ O, k < 256) (K : ∀ go', (∀ r k, O[r]? = some k → rs_lb go' r = rs_ps f k) → post 1 (fc, nI O.length, fe, gc, go', ak, an, au, al, ag, ah, ap, ai)) : ∀ d j go', j + d = O.length → (∀ r k, O[r]? = some k → rs_lb go' r = (decide (r < j) && rs_ps f k)) → wX_select_21 post f fc (nI O.length) fe gc ak an au al ag ah ap ai (d + 1) (nI j) go' := by
  intro d
  induction d with
  | zero =>
    intro j go' hj h
    refine br_t (nI_le (by omega) (by omega)) (K go' ?_)
    intro r k e
    have := rs_getLt e
    rw [h r k e, decide_eq_true (by omega), Bool.true_and]
  | succ d ih =>
    intro j go' hj h
    obtain ⟨k, ek⟩ := rs_getEx (l := O) (i := j) (by omega)
    have hkb := bO k (rs_getMem ek)
    have e40 : (40 : Int32) + nI j = nI (40 + j) := nI_add 40 j
    refine br_f (nI_ge (by omega) (by omega)) ?_
    rw [e40, nI_clamp (n := 40 + j) (by omega), kO j k ek]
    refine ⟨vp_in_nI (by omega) (by omega), rs_xpass hkb ?_⟩
    cases hp : rs_ps f k
    · refine br_t rfl (nm_r (nI_1 j) (ih (j + 1) go' (by omega) ?_))
      intro r k' e
      rw [h r k' e]
      by_cases hr : r = j
      · subst hr
        rw [ek] at e
        rw [← Option.some.inj e, hp, Bool.and_false, Bool.and_false]
      · congr 1
        exact decide_eq_decide.mpr (by omega)
    · refine br_f (by decide) (nm_e (nm_r (nI_1 j) (ih (j + 1) _ (by omega) ?_)))
      intro r k' e
      rw [rs_lb_or, rs_lb_1 (by omega), h r k' e]
      by_cases hr : r = j
      · subst hr
        rw [ek] at e
        rw [← Option.some.inj e, hp, decide_eq_true rfl, decide_eq_true (by omega : r < r + 1), Bool.or_true]
        rfl
      · rw [decide_eq_false hr, Bool.or_false]
        congr 1
        exact decide_eq_decide.mpr (by omega)
theorem rs_xsel (hC : C.length ≤ 40) (hO : O.length ≤ 40) (kO : ∀ r k, O[r]? = some k → ak (40 + r) = nI k) (bC : ∀ k ∈ C, k < 256) (bO : ∀ k ∈ O, k < 256) (hI : rs_Ix C ah ap ai) (h0 : ¬ rs_ok f → post 0 (nI C.length, nI O.length, fe, gc, go, ak, an, au, al, ag, ah, ap, ai)) (h1 : rs_ok f → ∀ gc' go', (∀ r k, C[r]? = some k → rs_lb gc' r = rs_ps f k) → (∀ r k, O[r]? = some k → rs_lb go' r = rs_ps f k) → post 1 (nI C.length, nI O.length, fe, gc', go', ak, an, au, al, ag, ah, ap, ai)) : wpX_select post (nI C.length, nI O.length, fe, gc, go, ak, an, au, al, ag, ah, ap, ai) f := by
  unfold wpX_select
  dsimp only
  refine rs_xif (fun h => ?_) (fun h => ?_)
  · exact br_t rfl (h0 h)
  · refine br_f (by decide) (rs_xsc h hC bC hI (fun gc' hg => ?_))
    refine Exists.intro (O.length + 1) (rs_xsel21 hO kO bO (fun go' hg' => h1 h gc' go' hg hg') O.length 0 0 (by omega) ?_)
    intro r k _
    rw [rs_lb_0, decide_eq_false (by omega), Bool.false_and]
end
end
end
section
/-! the component's loops over its 80 rows -/
def rs_an (q : Nat → Bool) : Nat → Bool
  | 0 => false
  | n + 1 => rs_an q n || q n
theorem rs_anI {q : Nat → Bool} {n : Nat} : rs_an q n = true ↔ ∃ i, i < n ∧ q i = true := by
  induction n with
  | zero => exact ⟨fun h => (nomatch h), fun ⟨i, h, _⟩ => (by omega)⟩
  | succ n ih =>
    show (rs_an q n || q n) = true ↔ _
    rw [Bool.or_eq_true, ih]
    constructor
    · rintro (⟨i, h1, h2⟩ | h)
      · exact ⟨i, by omega, h2⟩
      · exact ⟨n, by omega, h⟩
    · rintro ⟨i, h1, h2⟩
      by_cases e : i = n
      · subst e; exact Or.inr h2
      · exact Or.inl ⟨i, by omega, h2⟩
theorem rs_rgR {op : Int → Int → Int} (hop : ∀ a b, rs_R a → rs_R b → rs_R (op a b)) {F : Nat → Int} (hF : ∀ r, rs_R (F r)) (n : Nat) : rs_R (rs_rg op (-1000000) F n) := by
  induction n with
  | zero => exact Or.inl rfl
  | succ n ih => exact hop _ _ ih (hF n)
theorem rs_RB {x : Int} (h : rs_R x) : rs_B x := by unfold rs_R at h; unfold rs_B; omega
theorem rs_BN : rs_B (-1000000) := by unfold rs_B; omega
theorem rs_N : rs_I (-1000000) = -1000000 := by decide
theorem rs_eqN {x : Int} (h : rs_R x) : rs_I x = -1000000 ↔ x = -1000000 := by
  rw [← rs_N]
  exact rs_eq (rs_RB h) rs_BN
/-- the part of a key: hour, place, kind -/
def rs_pt (by_ k : Nat) : Nat := if by_ = 0 then k % 16 else if by_ = 1 then k / 16 % 4 else k / 64
def rs_pv (p : Nat → Bool) (by_ : Nat) (x : Int32) (k : Nat) : Bool := p k && decide (nI (rs_pt by_ k) = x)
theorem rs_ptB {by_ k : Nat} (hk : k < 256) : rs_pt by_ k < 16 := by
  unfold rs_pt
  split
  · omega
  · split <;> omega
theorem rs_xpart {post : Int32 → Prop} {by_ k : Nat} (hb : by_ < 3) (hk : k < 256) (h : post (nI (rs_pt by_ k))) : wpX_part post (nI k) (nI by_) := by
  unfold rs_pt at h
  by_cases h0 : by_ = 0
  · subst h0
    exact br_t rfl (rs_xh hk h)
  · rw [if_neg h0] at h
    have n0 : ¬ nI by_ = nI 0 := by rw [nI_eq (by omega) (by omega)]; exact h0
    refine br_f n0 ?_
    by_cases h1 : by_ = 1
    · subst h1
      exact br_t rfl (rs_xp hk h)
    · rw [if_neg h1] at h
      have n1 : ¬ nI by_ = nI 1 := by rw [nI_eq (by omega) (by omega)]; exact h1
      exact br_f n1 (rs_xk hk h)
section
variable {fc fo fe : Int32} {gc go : Int64} {ak an au al ag : Nat → Int32} {ah ap ai : Nat → Int64}
variable {C O : List Nat} {p : Nat → Bool} {F : Nat → Int}
section
variable {post : Int32 → SX → Prop}
theorem rs_xcount (hC : C.length ≤ 40) (hO : O.length ≤ 40) (pC : ∀ r k, C[r]? = some k → rs_lb gc r = p k) (pO : ∀ r k, O[r]? = some k → rs_lb go r = p k) (F0 : ∀ r, (rs_row C O r).any p = false → F r = 0) (F1 : ∀ r k, rs_row C O r = some k → p k = true → an r = rs_I (F r)) (h : post (rs_I (rs_rg rs_pl 0 F 80)) (nI C.length, nI O.length, fe, gc, go, ak, an, au, al, ag, ah, ap, ai)) : ∃ n, wX_count_14 post (nI C.length) (nI O.length) fe gc go ak an au al ag ah ap ai n 0 0 := by
  have L : ∀ d r, r + d = 80 → wX_count_14 post (nI C.length) (nI O.length) fe gc go ak an au al ag ah ap ai (d + 1) (rs_I (rs_rg rs_pl 0 F r)) (nI r) := by
    intro d
    induction d with
    | zero =>
      intro r hr
      have er : r = 80 := by omega
      subst er
      exact br_t (nI_le (a := 80) (by omega) (by omega)) h
    | succ d ih =>
      intro r hr
      refine br_f (nI_ge (b := 80) (by omega) (by decide)) (rs_xpg hC hO pC pO (by omega) (fun e => ?_) (fun k e hp => ?_))
      · refine br_t rfl (nm_r (e' := rs_I (rs_rg rs_pl 0 F (r + 1))) ?_ (nm_r (nI_1 r) (ih (r + 1) (by omega))))
        show _ = rs_I (rs_rg rs_pl 0 F r + F r)
        rw [F0 r e, Int.add_zero]
        exact Int32.add_zero _
      · refine br_f (by decide) ⟨vp_in_nI (by omega) (by omega), ?_⟩
        rw [nI_clamp (n := r) (by omega), F1 r k e hp]
        exact nm_r (rs_add _ _) (nm_r (nI_1 r) (ih (r + 1) (by omega)))
  exact ⟨81, L 80 0 (by omega)⟩
theorem rs_xsum (hC : C.length ≤ 40) (hO : O.length ≤ 40) (pC : ∀ r k, C[r]? = some k → rs_lb gc r = p k) (pO : ∀ r k, O[r]? = some k → rs_lb go r = p k) (F0 : ∀ r, (rs_row C O r).any p = false → F r = 0) (F1 : ∀ r k, rs_row C O r = some k → p k = true → au r = rs_I (F r)) (h : post (rs_I (rs_rg rs_pl 0 F 80)) (nI C.length, nI O.length, fe, gc, go, ak, an, au, al, ag, ah, ap, ai)) : ∃ n, wX_sum_15 post (nI C.length) (nI O.length) fe gc go ak an au al ag ah ap ai n 0 0 := by
  have L : ∀ d r, r + d = 80 → wX_sum_15 post (nI C.length) (nI O.length) fe gc go ak an au al ag ah ap ai (d + 1) (rs_I (rs_rg rs_pl 0 F r)) (nI r) := by
    intro d
    induction d with
    | zero =>
      intro r hr
      have er : r = 80 := by omega
      subst er
      exact br_t (nI_le (a := 80) (by omega) (by omega)) h
    | succ d ih =>
      intro r hr
      refine br_f (nI_ge (b := 80) (by omega) (by decide)) (rs_xpg hC hO pC pO (by omega) (fun e => ?_) (fun k e hp => ?_))
      · refine br_t rfl (nm_r (e' := rs_I (rs_rg rs_pl 0 F (r + 1))) ?_ (nm_r (nI_1 r) (ih (r + 1) (by omega))))
        show _ = rs_I (rs_rg rs_pl 0 F r + F r)
        rw [F0 r e, Int.add_zero]
        exact Int32.add_zero _
      · refine br_f (by decide) ⟨vp_in_nI (by omega) (by omega), ?_⟩
        rw [nI_clamp (n := r) (by omega), F1 r k e hp]
        exact nm_r (rs_add _ _) (nm_r (nI_1 r) (ih (r + 1) (by omega)))
  exact ⟨81, L 80 0 (by omega)⟩
theorem rs_xleast (hC : C.length ≤ 40) (hO : O.length ≤ 40) (pC : ∀ r k, C[r]? = some k → rs_lb gc r = p k) (pO : ∀ r k, O[r]? = some k → rs_lb go r = p k) (hR : ∀ r, rs_R (F r)) (F0 : ∀ r, (rs_row C O r).any p = false → F r = -1000000) (F1 : ∀ r k, rs_row C O r = some k → p k = true → al r = rs_I (F r) ∧ F r ≠ -1000000) (h : post (rs_I (rs_rg rs_mn (-1000000) F 80)) (nI C.length, nI O.length, fe, gc, go, ak, an, au, al, ag, ah, ap, ai)) : ∃ n, wX_least_12 post 1 (nI C.length) (nI O.length) fe gc go ak an au al ag ah ap ai n (-1000000) 0 := by
  have L : ∀ d r, r + d = 80 → wX_least_12 post 1 (nI C.length) (nI O.length) fe gc go ak an au al ag ah ap ai (d + 1) (rs_I (rs_rg rs_mn (-1000000) F r)) (nI r) := by
    intro d
    induction d with
    | zero =>
      intro r hr
      have er : r = 80 := by omega
      subst er
      exact br_t (nI_le (a := 80) (by omega) (by omega)) h
    | succ d ih =>
      intro r hr
      have ih := ih (r + 1) (by omega)
      have e1 : rs_rg rs_mn (-1000000) F (r + 1) = rs_mn (rs_rg rs_mn (-1000000) F r) (F r) := rfl
      have hr1 := rs_rgR (fun a b => rs_mnR) hR r
      rw [e1] at ih
      refine br_f (nI_ge (b := 80) (by omega) (by decide)) (br_f (by decide) (rs_xpg hC hO pC pO (by omega) (fun e => ?_) (fun k e hp => ?_)))
      · rw [F0 r e, rs_idr rs_mnM] at ih
        exact br_t rfl (nm_r (nI_1 r) ih)
      · obtain ⟨ea, hn⟩ := F1 r k e hp
        have iv : vp_in (nI r) 80 := vp_in_nI (by omega) (by omega)
        refine br_f (by decide) ?_
        rw [nI_clamp (n := r) (by omega), ea]
        generalize rs_rg rs_mn (-1000000) F r = a at *
        unfold rs_mn at ih
        refine br_c (fun z => ?_) (fun z => ?_)
        · rw [rs_eqN hr1] at z
          rw [if_pos z] at ih
          exact ⟨iv, nm_e (nm_r (nI_1 r) ih)⟩
        · rw [rs_eqN hr1] at z
          rw [if_neg z, if_neg hn] at ih
          refine ⟨iv, br_c (fun w => ?_) (fun w => ?_)⟩
          · rw [rs_le (rs_RB hr1) (rs_RB (hR r))] at w
            rw [if_neg (by omega)] at ih
            exact nm_r (nI_1 r) ih
          · rw [rs_le (rs_RB hr1) (rs_RB (hR r))] at w
            rw [if_pos (by omega)] at ih
            exact ⟨iv, nm_e (nm_r (nI_1 r) ih)⟩
  exact ⟨81, L 80 0 (by omega)⟩
theorem rs_xgreatest (hC : C.length ≤ 40) (hO : O.length ≤ 40) (pC : ∀ r k, C[r]? = some k → rs_lb gc r = p k) (pO : ∀ r k, O[r]? = some k → rs_lb go r = p k) (hR : ∀ r, rs_R (F r)) (F0 : ∀ r, (rs_row C O r).any p = false → F r = -1000000) (F1 : ∀ r k, rs_row C O r = some k → p k = true → ag r = rs_I (F r) ∧ F r ≠ -1000000) (h : post (rs_I (rs_rg rs_mx (-1000000) F 80)) (nI C.length, nI O.length, fe, gc, go, ak, an, au, al, ag, ah, ap, ai)) : ∃ n, wX_greatest_12 post 1 (nI C.length) (nI O.length) fe gc go ak an au al ag ah ap ai n (-1000000) 0 := by
  have L : ∀ d r, r + d = 80 → wX_greatest_12 post 1 (nI C.length) (nI O.length) fe gc go ak an au al ag ah ap ai (d + 1) (rs_I (rs_rg rs_mx (-1000000) F r)) (nI r) := by
    intro d
    induction d with
    | zero =>
      intro r hr
      have er : r = 80 := by omega
      subst er
      exact br_t (nI_le (a := 80) (by omega) (by omega)) h
    | succ d ih =>
      intro r hr
      have ih := ih (r + 1) (by omega)
      have e1 : rs_rg rs_mx (-1000000) F (r + 1) = rs_mx (rs_rg rs_mx (-1000000) F r) (F r) := rfl
      have hr1 := rs_rgR (fun a b => rs_mxR) hR r
      rw [e1] at ih
      refine br_f (nI_ge (b := 80) (by omega) (by decide)) (br_f (by decide) (rs_xpg hC hO pC pO (by omega) (fun e => ?_) (fun k e hp => ?_)))
      · rw [F0 r e, rs_idr rs_mxM] at ih
        exact br_t rfl (nm_r (nI_1 r) ih)
      · obtain ⟨ea, hn⟩ := F1 r k e hp
        have iv : vp_in (nI r) 80 := vp_in_nI (by omega) (by omega)
        refine br_f (by decide) ?_
        rw [nI_clamp (n := r) (by omega), ea]
        generalize rs_rg rs_mx (-1000000) F r = a at *
        unfold rs_mx at ih
        refine br_c (fun z => ?_) (fun z => ?_)
        · rw [rs_eqN hr1] at z
          rw [if_pos z] at ih
          exact ⟨iv, nm_e (nm_r (nI_1 r) ih)⟩
        · rw [rs_eqN hr1] at z
          rw [if_neg z, if_neg hn] at ih
          refine ⟨iv, br_c (fun w => ?_) (fun w => ?_)⟩
          · rw [rs_le (rs_RB (hR r)) (rs_RB hr1)] at w
            rw [if_neg (by omega)] at ih
            exact nm_r (nI_1 r) ih
          · rw [rs_le (rs_RB (hR r)) (rs_RB hr1)] at w
            rw [if_pos (by omega)] at ih
            exact ⟨iv, nm_e (nm_r (nI_1 r) ih)⟩
  exact ⟨81, L 80 0 (by omega)⟩
theorem rs_x52 {J : Int32 → Int32 → Prop} {x : Int32} {r : Nat} (z : Bool) (hC : C.length ≤ 40) (hO : O.length ≤ 40) (pC : ∀ r k, C[r]? = some k → rs_lb gc r = p k) (pO : ∀ r k, O[r]? = some k → rs_lb go r = p k) (hr : r < 80) (h0 : ((rs_row C O r).any p = false ∨ z = true) → J x (nI (r + 1))) (h1 : ∀ k, rs_row C O r = some k → p k = true → z = false → J (x + 1) (nI (r + 1))) : wX_sortsPassing_52 post J x (nI r) (rs_b z) (nI C.length) (nI O.length) fe gc go ak an au al ag ah ap ai := by
  refine rs_xpg hC hO pC pO hr (fun e => ?_) (fun k e hp => ?_)
  · exact br_t rfl (nm_r (Int32.add_zero x) (nm_r (nI_1 r) (h0 (Or.inl e))))
  · refine br_f (by decide) ?_
    cases z
    · exact br_t rfl (nm_e (nm_r (nI_1 r) (h1 k e hp rfl)))
    · exact br_f (by decide) (nm_r (Int32.add_zero x) (nm_r (nI_1 r) (h0 (Or.inr rfl))))
theorem rs_xsp (hC : C.length ≤ 40) (hO : O.length ≤ 40) (kC : ∀ r k, C[r]? = some k → ak r = nI k) (kO : ∀ r k, O[r]? = some k → ak (40 + r) = nI k) (bC : ∀ k ∈ C, k < 256) (bO : ∀ k ∈ O, k < 256) (pC : ∀ r k, C[r]? = some k → rs_lb gc r = p k) (pO : ∀ r k, O[r]? = some k → rs_lb go r = p k) (F0 : ∀ r, (rs_row C O r).any p = false → F r = 0) (F1 : ∀ r k, rs_row C O r = some k → p k = true → F r = if 40 ≤ r ∧ k ∈ C then 0 else 1) (h : post (rs_I (rs_rg rs_pl 0 F 80)) (nI C.length, nI O.length, fe, gc, go, ak, an, au, al, ag, ah, ap, ai)) : ∃ n, wX_sortsPassing_14 post (nI C.length) (nI O.length) fe gc go ak an au al ag ah ap ai n 0 0 := by
  have L : ∀ d r, r + d = 80 → wX_sortsPassing_14 post (nI C.length) (nI O.length) fe gc go ak an au al ag ah ap ai (d + 1) (rs_I (rs_rg rs_pl 0 F r)) (nI r) := by
    intro d
    induction d with
    | zero =>
      intro r hr
      have er : r = 80 := by omega
      subst er
      exact br_t (nI_le (a := 80) (by omega) (by omega)) h
    | succ d ih =>
      intro r hr
      have ih := ih (r + 1) (by omega)
      have e1 : rs_rg rs_pl 0 F (r + 1) = rs_rg rs_pl 0 F r + F r := rfl
      rw [e1] at ih
      generalize hJ : wX_sortsPassing_14 post (nI C.length) (nI O.length) fe gc go ak an au al ag ah ap ai (d + 1) = J at ih
      have i0 : F r = 0 → J (rs_I (rs_rg rs_pl 0 F r)) (nI (r + 1)) := fun e => by rw [e, Int.add_zero] at ih; exact ih
      have i1 : F r = 1 → J (rs_I (rs_rg rs_pl 0 F r) + 1) (nI (r + 1)) := fun e => by rw [e, ← rs_add] at ih; exact ih
      have S : (¬ 40 ≤ r ∨ (∀ k, rs_row C O r = some k → k ∉ C) ∨ (rs_row C O r).any p = false) → wX_sortsPassing_52 post J (rs_I (rs_rg rs_pl 0 F r)) (nI r) (rs_b false) (nI C.length) (nI O.length) fe gc go ak an au al ag ah ap ai := by
        intro hs
        refine rs_x52 false hC hO pC pO (by omega) (fun z => i0 (F0 r (z.resolve_right (by decide)))) (fun k e hp _ => i1 ?_)
        rw [F1 r k e hp, if_neg]
        rintro ⟨a, b⟩
        rcases hs with hs | hs | hs
        · exact hs a
        · exact hs k e b
        · rw [e] at hs
          have hs : p k = false := hs
          rw [hp] at hs
          exact absurd hs (by decide)
      show (80 ≤ nI r → _) ∧ (¬ 80 ≤ nI r → _)
      rw [hJ]
      refine br_f (nI_ge (b := 80) (by omega) (by decide)) ?_
      by_cases h40 : r < 40
      · exact br_t (nI_lt (b := 40) h40 (by decide)) (S (Or.inl (by omega)))
      · refine br_f (nI_nlt (b := 40) (by omega) (by omega)) (rs_xpg hC hO pC pO (by omega) (fun e => ?_) (fun k e hp => ?_))
        · exact br_t rfl (S (Or.inr (Or.inr e)))
        · refine br_f (by decide) ⟨vp_in_nI (by omega) (by omega), ?_⟩
          rw [nI_clamp (n := r) (by omega), rs_rowK kC kO e]
          refine rs_xcr hC kC bC (rs_rowB bC bO e) (fun i ei => ?_) (fun hn => ?_)
          · refine br_f (nI_pos (by have := rs_getLt ei; omega)) ?_
            refine rs_x52 true hC hO pC pO (by omega) (fun _ => i0 ?_) (fun _ _ _ z => absurd z (by decide))
            rw [F1 r k e hp, if_pos ⟨by omega, rs_getMem ei⟩]
          · refine br_t (by decide) (S (Or.inr (Or.inl ?_)))
            intro k' e'
            rw [e] at e'
            rw [← Option.some.inj e']
            exact hn
  exact ⟨81, L 80 0 (by omega)⟩
end
section
variable {post : Int32 → Prop}
theorem rs_xso {by_ : Nat} {x : Int32} (hb : by_ < 3) (hC : C.length ≤ 40) (hO : O.length ≤ 40) (kC : ∀ r k, C[r]? = some k → ak r = nI k) (kO : ∀ r k, O[r]? = some k → ak (40 + r) = nI k) (bC : ∀ k ∈ C, k < 256) (bO : ∀ k ∈ O, k < 256) (pC : ∀ r k, C[r]? = some k → rs_lb gc r = p k) (pO : ∀ r k, O[r]? = some k → rs_lb go r = p k) (F0 : ∀ r, (rs_row C O r).any (rs_pv p by_ x) = false → F r = 0) (F1 : ∀ r k, rs_row C O r = some k → rs_pv p by_ x k = true → au r = rs_I (F r)) (h0 : rs_an (fun r => (rs_row C O r).any (rs_pv p by_ x)) 80 = false → post (-1000000)) (h1 : rs_an (fun r => (rs_row C O r).any (rs_pv p by_ x)) 80 = true → post (rs_I (rs_rg rs_pl 0 F 80))) : wpX_sumOf post (nI C.length, nI O.length, fe, gc, go, ak, an, au, al, ag, ah, ap, ai) (nI by_) x := by
  have L : ∀ d r, r + d = 80 → wX_sumOf_8 post (nI by_) x (nI C.length) (nI O.length) fe gc go ak an au al ag ah ap ai (d + 1) (rs_b (rs_an (fun r => (rs_row C O r).any (rs_pv p by_ x)) r)) (rs_I (rs_rg rs_pl 0 F r)) (nI r) := by
    intro d
    induction d with
    | zero =>
      intro r hr
      have er : r = 80 := by omega
      subst er
      refine br_t (nI_le (a := 80) (by omega) (by omega)) ?_
      cases e : rs_an (fun r => (rs_row C O r).any (rs_pv p by_ x)) 80
      · exact br_t rfl (h0 e)
      · exact br_f (by decide) (h1 e)
    | succ d ih =>
      intro r hr
      have ih := ih (r + 1) (by omega)
      have e1 : rs_rg rs_pl 0 F (r + 1) = rs_rg rs_pl 0 F r + F r := rfl
      have e2 : rs_an (fun r => (rs_row C O r).any (rs_pv p by_ x)) (r + 1) = (rs_an (fun r => (rs_row C O r).any (rs_pv p by_ x)) r || (rs_row C O r).any (rs_pv p by_ x)) := rfl
      rw [e1, e2] at ih
      have i0 : (rs_row C O r).any (rs_pv p by_ x) = false → wX_sumOf_8 post (nI by_) x (nI C.length) (nI O.length) fe gc go ak an au al ag ah ap ai (d + 1) (rs_b (rs_an (fun r => (rs_row C O r).any (rs_pv p by_ x)) r)) (rs_I (rs_rg rs_pl 0 F r)) (nI (r + 1)) := by
        intro e
        rw [F0 r e, e, Int.add_zero, Bool.or_false] at ih
        exact ih
      refine br_f (nI_ge (b := 80) (by omega) (by decide)) (rs_xpg hC hO pC pO (by omega) (fun e => ?_) (fun k e hp => ?_))
      · refine br_t rfl (nm_r (nI_1 r) (i0 ?_))
        cases eo : rs_row C O r with
        | none => rfl
        | some k =>
          rw [eo] at e
          have e : p k = false := e
          show (p k && _) = false
          rw [e, Bool.false_and]
      · refine br_f (by decide) ⟨vp_in_nI (by omega) (by omega), ?_⟩
        rw [nI_clamp (n := r) (by omega), rs_rowK kC kO e]
        refine rs_xpart hb (rs_rowB bC bO e) (br_c (fun z => ?_) (fun z => ?_))
        · have hv : rs_pv p by_ x k = true := by unfold rs_pv; rw [hp, decide_eq_true z]; rfl
          have hw : (rs_row C O r).any (rs_pv p by_ x) = true := by rw [e]; exact hv
          rw [hw, Bool.or_true, ← rs_add] at ih
          rw [F1 r k e hv]
          exact ⟨vp_in_nI (by omega) (by omega), nm_e (nm_r (nI_1 r) ih)⟩
        · refine nm_r (nI_1 r) (i0 ?_)
          rw [e]
          show (p k && decide _) = false
          rw [decide_eq_false z, Bool.and_false]
  exact Exists.intro 81 (L 80 0 (by omega))
end
end
end
section
/-! the sets of rows made anew -/
def rs_bf (D : Nat → Nat) (B : Nat) (C : List Nat) (j : Nat) (A : Nat → Int64) : Prop := ∀ r k, C[r]? = some k → ∀ h, h < B → rs_lb (A h) r = (decide (r < j) && decide (D k = h))
theorem rs_bfs {D : Nat → Nat} {B : Nat} {C : List Nat} {j k : Nat} {A : Nat → Int64} (H : rs_bf D B C j A) (ek : C[j]? = some k) (hj : j < 64) : rs_bf D B C (j + 1) (vp_updL A (D k) (A (D k) ||| ((1 : Int64) <<< ((nI j).toInt64 &&& 63)))) := by
  intro r k' e h hh
  have H1 := H r k' e h hh
  by_cases hD : h = D k
  · subst hD
    rw [pk_uLs, rs_lb_or, rs_lb_1 hj, H1]
    by_cases hr : r = j
    · subst hr
      rw [ek] at e
      rw [← Option.some.inj e, decide_eq_true rfl, decide_eq_true rfl, decide_eq_true (by omega : r < r + 1), Bool.or_true]
      rfl
    · rw [decide_eq_false hr, Bool.or_false]
      congr 1
      exact decide_eq_decide.mpr (by omega)
  · rw [pk_uLn hD, H1]
    by_cases hr : r = j
    · subst hr
      rw [ek] at e
      rw [← Option.some.inj e, decide_eq_false (p := D k = h) (fun z => hD z.symm), Bool.and_false, Bool.and_false]
    · congr 1
      exact decide_eq_decide.mpr (by omega)
theorem rs_bf0 {D : Nat → Nat} {B : Nat} {C : List Nat} {A : Nat → Int64} (h : ∀ i, i < B → A i = 0) : rs_bf D B C 0 A := by
  intro r k _ i hi
  rw [h i hi, rs_lb_0, decide_eq_false (by omega), Bool.false_and]
section
variable {fc fo fe : Int32} {gc go : Int64} {ak an au al ag : Nat → Int32} {ah ap ai : Nat → Int64}
variable {C : List Nat} {post : SX → Prop}
theorem rs_x50 (hC : C.length ≤ 40) (kC : ∀ r k, C[r]? = some k → ak r = nI k) (bC : ∀ k ∈ C, k < 256) (K : ∀ ah ap ai, rs_Ix C ah ap ai → post (nI C.length, fo, fe, gc, go, ak, an, au, al, ag, ah, ap, ai)) : ∀ d j ah ap ai, j + d = C.length → rs_bf (· % 16) 16 C j ah → rs_bf (· / 16 % 4) 4 C j ap → rs_bf (· / 64) 4 C j ai → wX_index_50 post (nI C.length) fo fe gc go (d + 1) (nI j) ak an au al ag ah ap ai := by
  intro d
  induction d with
  | zero =>
    intro j ah ap ai hj h1 h2 h3
    refine br_t (nI_le (by omega) (by omega)) (K ah ap ai ?_)
    intro r k e
    have := rs_getLt e
    refine ⟨fun h hh => ?_, fun h hh => ?_, fun h hh => ?_⟩
    · rw [h1 r k e h hh, decide_eq_true (by omega), Bool.true_and]
    · rw [h2 r k e h hh, decide_eq_true (by omega), Bool.true_and]
    · rw [h3 r k e h hh, decide_eq_true (by omega), Bool.true_and]
  | succ d ih =>
    intro j ah ap ai hj h1 h2 h3
    obtain ⟨k, ek⟩ := rs_getEx (l := C) (i := j) (by omega)
    have hkb := bC k (rs_getMem ek)
    have iv : vp_in (nI j) 80 := vp_in_nI (by omega) (by omega)
    have v1 : vp_in (nI (k % 16)) 16 := vp_in_nI (by omega) (by omega)
    have v2 : vp_in (nI (k / 16 % 4)) 4 := vp_in_nI (by omega) (by omega)
    have v3 : vp_in (nI (k / 64)) 4 := vp_in_nI (by omega) (by omega)
    refine br_f (nI_ge (by omega) (by omega)) (nm_e ⟨iv, ?_⟩)
    rw [nI_clamp (n := j) (by omega), kC j k ek]
    refine rs_xh hkb ⟨iv, rs_xp hkb ⟨iv, rs_xk hkb ?_⟩⟩
    rw [nI_clamp (n := k % 16) (by omega), nI_clamp (n := k / 16 % 4) (by omega), nI_clamp (n := k / 64) (by omega)]
    exact ⟨v1, v1, nm_e ⟨v2, v2, nm_e ⟨v3, v3, nm_e (nm_r (nI_1 j) (ih (j + 1) _ _ _ (by omega) (rs_bfs h1 ek (by omega)) (rs_bfs h2 ek (by omega)) (rs_bfs h3 ek (by omega))))⟩⟩⟩
theorem rs_x23 (hC : C.length ≤ 40) (kC : ∀ r k, C[r]? = some k → ak r = nI k) (bC : ∀ k ∈ C, k < 256) (hh : ∀ i, i < 16 → ah i = 0) (K : ∀ ah ap ai, rs_Ix C ah ap ai → post (nI C.length, fo, fe, gc, go, ak, an, au, al, ag, ah, ap, ai)) : ∀ d j ap ai, j + d = 4 → (∀ i, i < j → ap i = 0) → (∀ i, i < j → ai i = 0) → wX_index_23 post (nI C.length) fo fe gc go (d + 1) (nI j) ak an au al ag ah ap ai := by
  intro d
  induction d with
  | zero =>
    intro j ap ai hj h1 h2
    have ej : j = 4 := by omega
    subst ej
    exact br_t (nI_le (a := 4) (by omega) (by omega)) ⟨C.length + 1, rs_x50 hC kC bC K C.length 0 ah ap ai (by omega) (rs_bf0 hh) (rs_bf0 h1) (rs_bf0 h2)⟩
  | succ d ih =>
    intro j ap ai hj h1 h2
    have iv : vp_in (nI j) 4 := vp_in_nI (by omega) (by omega)
    refine br_f (nI_ge (b := 4) (by omega) (by decide)) ?_
    rw [nI_clamp (n := j) (by omega)]
    refine ⟨iv, nm_e ⟨iv, nm_e (nm_r (nI_1 j) (ih (j + 1) _ _ (by omega) ?_ ?_))⟩⟩
    · intro i hi
      by_cases e : i = j
      · subst e; exact pk_uLs
      · rw [pk_uLn e]; exact h1 i (by omega)
    · intro i hi
      by_cases e : i = j
      · subst e; exact pk_uLs
      · rw [pk_uLn e]; exact h2 i (by omega)
theorem rs_x2 (hC : C.length ≤ 40) (kC : ∀ r k, C[r]? = some k → ak r = nI k) (bC : ∀ k ∈ C, k < 256) (K : ∀ ah ap ai, rs_Ix C ah ap ai → post (nI C.length, fo, fe, gc, go, ak, an, au, al, ag, ah, ap, ai)) : ∀ d j ah, j + d = 16 → (∀ i, i < j → ah i = 0) → wX_index_2 post (nI C.length) fo fe gc go (d + 1) (nI j) ak an au al ag ah ap ai := by
  intro d
  induction d with
  | zero =>
    intro j ah hj h1
    have ej : j = 16 := by omega
    subst ej
    exact br_t (nI_le (a := 16) (by omega) (by omega)) ⟨5, rs_x23 hC kC bC h1 K 4 0 ap ai (by omega) (fun i hi => by omega) (fun i hi => by omega)⟩
  | succ d ih =>
    intro j ah hj h1
    have iv : vp_in (nI j) 16 := vp_in_nI (by omega) (by omega)
    refine br_f (nI_ge (b := 16) (by omega) (by decide)) ?_
    rw [nI_clamp (n := j) (by omega)]
    refine ⟨iv, nm_e (nm_r (nI_1 j) (ih (j + 1) _ (by omega) ?_))⟩
    intro i hi
    by_cases e : i = j
    · subst e; exact pk_uLs
    · rw [pk_uLn e]; exact h1 i (by omega)
theorem rs_xix (hC : C.length ≤ 40) (kC : ∀ r k, C[r]? = some k → ak r = nI k) (bC : ∀ k ∈ C, k < 256) (K : ∀ ah ap ai, rs_Ix C ah ap ai → post (nI C.length, fo, fe, gc, go, ak, an, au, al, ag, ah, ap, ai)) : wpX_index post (nI C.length, fo, fe, gc, go, ak, an, au, al, ag, ah, ap, ai) :=
  Exists.intro 17 (rs_x2 hC kC bC K 16 0 ah (by omega) (fun i hi => by omega))
end
end
section
/-! hours as a mask; gaps between them -/
theorem rs_bt0 (y : Int32) : y &&& 1 = 1 ↔ bt y 0 = true := by
  have h1 : bt 1 0 = true := by decide
  have h2 : bt (y &&& 1) 0 = bt y 0 := by rw [b_and, h1, Bool.and_true]
  rcases rs_01 y with h | h
  · rw [h] at h2
    have h3 : bt 0 0 = false := b_0 0
    rw [h3] at h2
    rw [h, ← h2]
    decide
  · rw [h, h1] at h2
    exact ⟨fun _ => h2.symm, fun _ => h⟩
theorem rs_bitE (x : Int32) {h : Nat} (hh : h < 32) : rs_bit x (nI h) = bt x h := by
  unfold rs_bit
  have e := b_sshr h hh x (i := 0) (by omega)
  rw [if_pos (by omega), Nat.add_zero] at e
  cases hb : bt x h
  · exact decide_eq_false (fun z => by rw [rs_bt0, e, hb] at z; exact absurd z (by decide))
  · exact decide_eq_true (by rw [rs_bt0, e, hb])
theorem rs_bt1 {b i : Nat} (hb : b < 32) (hi : i < 32) : bt ((1 : Int32) <<< (nI b &&& 31)) i = decide (i = b) := by
  unfold bt
  rw [nf_sh b hb, BitVec.getLsbD_twoPow, decide_eq_true hb, Bool.true_and]
  exact decide_eq_decide.mpr ⟨Eq.symm, Eq.symm⟩
def rs_gf (hb : Nat → Bool) : Nat → Int
  | 0 => 16
  | n + 1 => if hb n = true ∧ rs_gf hb n = 16 then n else rs_gf hb n
def rs_gl (hb : Nat → Bool) : Nat → Int
  | 0 => -1
  | n + 1 => if hb n = true then n else rs_gl hb n
def rs_gc (hb : Nat → Bool) : Nat → Int
  | 0 => 0
  | n + 1 => if hb n = true then rs_gc hb n + 1 else rs_gc hb n
def rs_GI (hb : Nat → Bool) (v : Nat) : Prop := (rs_gf hb v = 16 ∧ rs_gl hb v = -1 ∧ rs_gc hb v = 0) ∨ (0 ≤ rs_gf hb v ∧ rs_gf hb v ≤ rs_gl hb v ∧ rs_gl hb v < v ∧ rs_gf hb v < 16)
theorem rs_gcB (hb : Nat → Bool) (v : Nat) : 0 ≤ rs_gc hb v ∧ rs_gc hb v ≤ v := by
  induction v with
  | zero => exact ⟨Int.le_refl 0, Int.le_refl 0⟩
  | succ v ih =>
    show 0 ≤ (if hb v = true then rs_gc hb v + 1 else rs_gc hb v) ∧ (if hb v = true then rs_gc hb v + 1 else rs_gc hb v) ≤ ((v + 1 : Nat) : Int)
    split <;> omega
theorem rs_GIp (hb : Nat → Bool) (v : Nat) (hv : v ≤ 16) : rs_GI hb v := by
  induction v with
  | zero => exact Or.inl ⟨rfl, rfl, rfl⟩
  | succ v ih =>
    have ih := ih (by omega)
    unfold rs_GI at ih ⊢
    simp only [rs_gf, rs_gl, rs_gc]
    by_cases h : hb v = true
    · simp only [h, true_and, if_true]
      split <;> omega
    · simp only [h, false_and, if_false, Bool.false_eq_true]
      omega
def rs_ga (hb : Nat → Bool) : Int := if 0 ≤ rs_gl hb 16 then rs_gl hb 16 - rs_gf hb 16 + 1 - rs_gc hb 16 else 0
def rs_GX (hb : Nat → Bool) (v : Nat) (n run : Int) (begun : Bool) : Prop := (rs_gf hb v = 16 ∧ begun = false ∧ n = 0) ∨ (rs_gf hb v < 16 ∧ begun = true ∧ n = rs_gl hb v - rs_gf hb v + 1 - rs_gc hb v ∧ run = v - 1 - rs_gl hb v)
theorem rs_GXs {hb : Nat → Bool} {v : Nat} {n run : Int} {begun : Bool} (hv : v < 16) (h : rs_GX hb v n run begun) : rs_GX hb (v + 1) (n + (if hb v && begun then run else 0)) (if hb v then 0 else run + 1) (begun || hb v) := by
  have g := rs_GIp hb v (by omega)
  unfold rs_GI at g
  unfold rs_GX at h ⊢
  simp only [rs_gf, rs_gl, rs_gc]
  by_cases hh : hb v = true
  · rcases h with ⟨h1, rfl, h3⟩ | ⟨h1, rfl, h3, h4⟩
    · simp only [hh, true_and, if_true, h1, Bool.and_false, Bool.false_eq_true, if_false, Bool.or_true]
      omega
    · simp only [hh, true_and, if_true, Bool.and_true, Bool.or_true]
      rw [if_neg (by omega)]
      omega
  · simp only [Bool.not_eq_true] at hh
    rcases h with ⟨h1, rfl, h3⟩ | ⟨h1, rfl, h3, h4⟩
    · simp only [hh, false_and, if_false, Bool.false_eq_true, Bool.false_and, Bool.or_false, true_and, and_false, or_false, false_or, reduceCtorEq]
      omega
    · simp only [hh, false_and, if_false, Bool.false_eq_true, Bool.false_and, Bool.or_false, true_and, and_false, or_false, false_or, reduceCtorEq]
      omega
section
variable {fc fo fe : Int32} {gc go : Int64} {ak an au al ag : Nat → Int32} {ah ap ai : Nat → Int64}
variable {C O : List Nat} {p : Nat → Bool} {post : Int32 → SX → Prop}
theorem rs_x107 {J : Int32 → Int32 → Int32 → Int32 → Prop} {m : Int32} {n run w : Int} {bg hh : Bool} {v : Nat} (h : J (rs_I (n + w)) (rs_I (if hh then 0 else run + 1)) (rs_b (bg || hh)) (nI (v + 1))) : wX_gaps_107 post J m (rs_I run) (rs_b bg) (nI v) (rs_b hh) (rs_I w) (rs_I n) fc fo fe gc go ak an au al ag ah ap ai := by
  have e : rs_b bg ||| rs_b hh = rs_b (bg || hh) := by cases bg <;> cases hh <;> decide
  refine nm_r (rs_add n w) ?_
  cases hh
  · exact br_t rfl (nm_r (e' := rs_I (run + 1)) (rs_add run 1) (nm_r e (nm_r (nI_1 v) h)))
  · exact br_f (by decide) (nm_r e (nm_r (nI_1 v) h))
theorem rs_x88g {J : Int32 → Int32 → Int32 → Int32 → Prop} {m : Int32} {n run : Int} {bg hh : Bool} {v : Nat} (h : J (rs_I (n + (if hh && bg then run else 0))) (rs_I (if hh then 0 else run + 1)) (rs_b (bg || hh)) (nI (v + 1))) : wX_gaps_88 post J m (rs_I n) (rs_I run) (rs_b bg) (nI v) (rs_b hh) fc fo fe gc go ak an au al ag ah ap ai := by
  cases hh
  · exact br_t rfl (rs_x107 (hh := false) (w := 0) h)
  · refine br_f (by decide) ?_
    cases bg
    · exact br_t rfl (rs_x107 (hh := true) (bg := false) (w := 0) h)
    · exact br_f (by decide) (rs_x107 (hh := true) (bg := true) (w := run) h)
theorem rs_x67 {m : Int32} {hb : Nat → Bool} (hm : ∀ h, h < 16 → bt m h = hb h) (h : post (rs_I (rs_ga hb)) (fc, fo, fe, gc, go, ak, an, au, al, ag, ah, ap, ai)) : ∀ d v n run bg, v + d = 16 → rs_GX hb v n run bg → wX_gaps_67 post m fc fo fe gc go ak an au al ag ah ap ai (d + 1) (rs_I n) (rs_I run) (rs_b bg) (nI v) := by
  intro d
  induction d with
  | zero =>
    intro v n run bg hv g
    have ev : v = 16 := by omega
    subst ev
    have g2 := rs_GIp hb 16 (by omega)
    have e : n = rs_ga hb := by
      unfold rs_ga
      unfold rs_GX at g
      unfold rs_GI at g2
      split <;> omega
    rw [e]
    exact br_t (nI_le (a := 16) (by omega) (by omega)) h
  | succ d ih =>
    intro v n run bg hv g
    have g1 := ih (v + 1) _ _ _ (by omega) (rs_GXs (by omega) g)
    refine br_f (nI_ge (b := 16) (by omega) (by decide)) (rs_bitX (fun e => ?_) (fun e => ?_))
    · rw [rs_bitE _ (by omega), hm v (by omega)] at e
      rw [e] at g1
      exact rs_x88g (hh := false) g1
    · rw [rs_bitE _ (by omega), hm v (by omega)] at e
      rw [e] at g1
      exact rs_x88g (hh := true) g1
theorem rs_xgaps (hC : C.length ≤ 40) (hO : O.length ≤ 40) (kC : ∀ r k, C[r]? = some k → ak r = nI k) (kO : ∀ r k, O[r]? = some k → ak (40 + r) = nI k) (bC : ∀ k ∈ C, k < 256) (bO : ∀ k ∈ O, k < 256) (pC : ∀ r k, C[r]? = some k → rs_lb gc r = p k) (pO : ∀ r k, O[r]? = some k → rs_lb go r = p k) {hb : Nat → Bool} (hh : ∀ h, h < 16 → hb h = rs_an (fun r => (rs_row C O r).any (rs_pv p 0 (nI h))) 80) (h : post (rs_I (rs_ga hb)) (nI C.length, nI O.length, fe, gc, go, ak, an, au, al, ag, ah, ap, ai)) : ∃ n, wX_gaps_14 post (nI C.length) (nI O.length) fe gc go ak an au al ag ah ap ai n 0 0 := by
  have L : ∀ d r m, r + d = 80 → (∀ h, h < 16 → bt m h = rs_an (fun r => (rs_row C O r).any (rs_pv p 0 (nI h))) r) → wX_gaps_14 post (nI C.length) (nI O.length) fe gc go ak an au al ag ah ap ai (d + 1) m (nI r) := by
    intro d
    induction d with
    | zero =>
      intro r m hr hm
      have er : r = 80 := by omega
      subst er
      refine br_t (nI_le (a := 80) (by omega) (by omega)) ⟨17, ?_⟩
      exact rs_x67 (hb := hb) (fun i hi => (hm i hi).trans (hh i hi).symm) h 16 0 0 0 false (by omega) (Or.inl ⟨rfl, rfl, rfl⟩)
    | succ d ih =>
      intro r m hr hm
      refine br_f (nI_ge (b := 80) (by omega) (by decide)) (rs_xpg hC hO pC pO (by omega) (fun e => ?_) (fun k e hp => ?_))
      · refine br_t rfl (nm_r (Int32.or_zero) (nm_r (nI_1 r) (ih (r + 1) m (by omega) ?_)))
        intro i hi
        show _ = (rs_an _ r || (rs_row C O r).any (rs_pv p 0 (nI i)))
        have e3 : (rs_row C O r).any (rs_pv p 0 (nI i)) = false := by
          cases eo : rs_row C O r with
          | none => rfl
          | some k =>
            rw [eo] at e
            have e : p k = false := e
            show (p k && _) = false
            rw [e, Bool.false_and]
        rw [e3, Bool.or_false]
        exact hm i hi
      · have hk := rs_rowB bC bO e
        refine br_f (by decide) ⟨vp_in_nI (by omega) (by omega), ?_⟩
        rw [nI_clamp (n := r) (by omega), rs_rowK kC kO e]
        refine rs_xh hk (nm_e (nm_e (nm_r (nI_1 r) (ih (r + 1) _ (by omega) ?_))))
        intro i hi
        show _ = (rs_an _ r || (rs_row C O r).any (rs_pv p 0 (nI i)))
        rw [b_or, rs_bt1 (by omega) (by omega), hm i hi, e]
        congr 1
        show _ = (p k && decide (nI (rs_pt 0 k) = nI i))
        rw [hp, Bool.true_and]
        apply decide_eq_decide.mpr
        show i = k % 16 ↔ nI (k % 16) = nI i
        rw [nI_eq (by omega) (by omega)]
        exact ⟨Eq.symm, Eq.symm⟩
  exact ⟨81, L 80 0 0 (by omega) (fun i _ => b_0 i)⟩
end
end
section
/-! counting below a bound; ranks; the component's top -/
def rs_cn (q : Nat → Bool) : Nat → Nat
  | 0 => 0
  | n + 1 => rs_cn q n + (if q n = true then 1 else 0)
theorem rs_cnB (q : Nat → Bool) (n : Nat) : rs_cn q n ≤ n := by
  induction n with
  | zero => exact Nat.le_refl 0
  | succ n ih =>
    show rs_cn q n + (if q n = true then 1 else 0) ≤ n + 1
    split <;> omega
theorem rs_cn_le {q q' : Nat → Bool} {n : Nat} (h : ∀ i, i < n → q i = true → q' i = true) : rs_cn q n ≤ rs_cn q' n := by
  induction n with
  | zero => exact Nat.le_refl 0
  | succ n ih =>
    have ih := ih (fun i hi => h i (by omega))
    show rs_cn q n + (if q n = true then 1 else 0) ≤ rs_cn q' n + (if q' n = true then 1 else 0)
    by_cases hq : q n = true
    · rw [if_pos hq, if_pos (h n (by omega) hq)]; omega
    · rw [if_neg hq]; omega
theorem rs_cn_lt {q q' : Nat → Bool} {n : Nat} (h : ∀ i, i < n → q i = true → q' i = true) {j : Nat} (hj : j < n) (h1 : q' j = true) (h2 : q j = false) : rs_cn q n < rs_cn q' n := by
  induction n with
  | zero => omega
  | succ n ih =>
    show rs_cn q n + (if q n = true then 1 else 0) < rs_cn q' n + (if q' n = true then 1 else 0)
    by_cases e : j = n
    · subst e
      have := rs_cn_le (q := q) (q' := q') (n := j) (fun i hi => h i (by omega))
      rw [h1, h2]
      simp only [if_true, Bool.false_eq_true, if_false]
      omega
    · have ih := ih (fun i hi => h i (by omega)) (by omega)
      by_cases hq : q n = true
      · rw [if_pos hq, if_pos (h n (by omega) hq)]; omega
      · rw [if_neg hq]; omega
theorem rs_cn_congr {q q' : Nat → Bool} {n : Nat} (h : ∀ i, i < n → q i = q' i) : rs_cn q n = rs_cn q' n :=
  Nat.le_antisymm (rs_cn_le (fun i hi e => by rw [← h i hi]; exact e)) (rs_cn_le (fun i hi e => by rw [h i hi]; exact e))
theorem rs_cn_add {T : Nat → Bool} {b n : Nat} (hb : b < n) (hT : T b = false) : rs_cn (fun i => T i || decide (i = b)) n = rs_cn T n + 1 := by
  induction n with
  | zero => omega
  | succ n ih =>
    show rs_cn (fun i => T i || decide (i = b)) n + (if (T n || decide (n = b)) = true then 1 else 0) = rs_cn T n + (if T n = true then 1 else 0) + 1
    by_cases e : b = n
    · subst e
      rw [rs_cn_congr (q' := T) (fun i hi => by rw [decide_eq_false (by omega), Bool.or_false]), hT, decide_eq_true rfl]
      rfl
    · rw [ih (by omega), decide_eq_false (fun z => e z.symm), Bool.or_false]
      omega
def rs_be (hb : Nat → Bool) (sm : Nat → Int) (u v : Nat) : Bool := hb u && decide (sm v < sm u ∨ (sm u = sm v ∧ u < v))
theorem rs_beI {hb : Nat → Bool} {sm : Nat → Int} {u v : Nat} : rs_be hb sm u v = true ↔ hb u = true ∧ (sm v < sm u ∨ (sm u = sm v ∧ u < v)) := by
  unfold rs_be
  rw [Bool.and_eq_true, decide_eq_true_eq]
theorem rs_beF {hb : Nat → Bool} {sm : Nat → Int} {u : Nat} : rs_be hb sm u u = false := by
  cases h : rs_be hb sm u u with
  | false => rfl
  | true =>
    have := (rs_beI.mp h).2
    omega
def rs_rk (hb : Nat → Bool) (sm : Nat → Int) (v : Nat) : Nat := rs_cn (fun u => rs_be hb sm u v) 16
theorem rs_rkL {hb : Nat → Bool} {sm : Nat → Int} {u v : Nat} (hu : u < 16) (h : rs_be hb sm u v = true) : rs_rk hb sm u < rs_rk hb sm v := by
  refine rs_cn_lt (fun w hw e => ?_) hu h rs_beF
  rw [rs_beI] at *
  refine ⟨e.1, ?_⟩
  have := e.2
  have := h.2
  omega
theorem rs_rkI {hb : Nat → Bool} {sm : Nat → Int} {u v : Nat} (hu : u < 16) (hv : v < 16) (bu : hb u = true) (bv : hb v = true) (e : rs_rk hb sm u = rs_rk hb sm v) : u = v := by
  by_cases h : u = v
  · exact h
  · exfalso
    by_cases h1 : sm v < sm u ∨ (sm u = sm v ∧ u < v)
    · have := rs_rkL hu (rs_beI.mpr ⟨bu, h1⟩)
      omega
    · have := rs_rkL hv (rs_beI.mpr ⟨bv, (by omega : sm u < sm v ∨ (sm v = sm u ∧ v < u))⟩)
      omega
def rs_BI (s : Nat → Int) (v : Nat) (x3 x4 : Int32) : Prop := (x3 = -1 ∧ ∀ u, u < v → s u = -1000000) ∨ ∃ b, b < v ∧ x3 = nI b ∧ x4 = rs_I (s b) ∧ s b ≠ -1000000 ∧ ∀ u, u < v → s u ≠ -1000000 → s u < s b ∨ (s u = s b ∧ b ≤ u)
section
variable {fc fo fe : Int32} {gc go : Int64} {ak an au al ag : Nat → Int32} {ah ap ai : Nat → Int64}
variable {s : Nat → Int}
section
variable {post : Int32 → Prop}
theorem rs_x36 {J : Int32 → Int32 → Int32 → Prop} {x1 x2 x3 x4 : Int32} {v : Nat} (hv : v < 16) (hs : ∀ v, v < 16 → rs_B (s v)) (hB : rs_BI s v x3 x4) (K : ∀ a b, rs_BI s (v + 1) a b → J a b (nI (v + 1))) : wX_bestOf_36 post J x1 x2 x3 x4 (nI v) (rs_I (s v)) fc fo fe gc go ak an au al ag ah ap ai := by
  have hN : rs_I (s v) = -1000000 ↔ s v = -1000000 := by rw [← rs_N]; exact rs_eq (hs v hv) rs_BN
  refine br_c (fun z => nm_r (nI_1 v) (K _ _ ?_)) (fun z => ?_)
  · rw [hN] at z
    rcases hB with ⟨e, h⟩ | ⟨b, hb, e1, e2, e3, h⟩
    · refine Or.inl ⟨e, fun u hu => ?_⟩
      by_cases huv : u = v
      · subst huv; exact z
      · exact h u (by omega)
    · refine Or.inr ⟨b, by omega, e1, e2, e3, fun u hu hn => ?_⟩
      by_cases huv : u = v
      · subst huv; exact absurd z hn
      · exact h u (by omega) hn
  · rw [hN] at z
    rcases hB with ⟨rfl, h⟩ | ⟨b, hb, rfl, rfl, e3, h⟩
    · refine br_t (by decide) (nm_r (nI_1 v) (K _ _ (Or.inr ⟨v, by omega, rfl, rfl, z, fun u hu hn => ?_⟩)))
      by_cases huv : u = v
      · subst huv; exact Or.inr ⟨rfl, Nat.le_refl _⟩
      · exact absurd (h u (by omega)) hn
    · refine br_f (nI_pos (by omega)) (br_c (fun w => ?_) (fun w => ?_))
      · rw [rs_le (hs v hv) (hs b (by omega))] at w
        refine nm_r (nI_1 v) (K _ _ (Or.inr ⟨b, by omega, rfl, rfl, e3, fun u hu hn => ?_⟩))
        by_cases huv : u = v
        · subst huv; omega
        · exact h u (by omega) hn
      · rw [rs_le (hs v hv) (hs b (by omega))] at w
        refine nm_r (nI_1 v) (K _ _ (Or.inr ⟨v, by omega, rfl, rfl, z, fun u hu hn => ?_⟩))
        by_cases huv : u = v
        · subst huv; exact Or.inr ⟨rfl, Nat.le_refl _⟩
        · have := h u (by omega) hn
          omega
theorem rs_xbest {by_ x2 : Int32} (hs : ∀ v, v < 16 → rs_B (s v)) (hT : ∀ v, v < 16 → rs_bit x2 (nI v) = true → s v = -1000000) (hS : ∀ v, v < 16 → rs_bit x2 (nI v) = false → ∀ post' : Int32 → Prop, post' (rs_I (s v)) → wpX_sumOf post' (fc, fo, fe, gc, go, ak, an, au, al, ag, ah, ap, ai) by_ (nI v)) (h0 : (∀ u, u < 16 → s u = -1000000) → post (-1)) (h1 : ∀ b, b < 16 → s b ≠ -1000000 → (∀ u, u < 16 → s u ≠ -1000000 → s u < s b ∨ (s u = s b ∧ b ≤ u)) → post (nI b)) : wpX_bestOf post (fc, fo, fe, gc, go, ak, an, au, al, ag, ah, ap, ai) by_ x2 := by
  have L : ∀ d v x3 x4, v + d = 16 → rs_BI s v x3 x4 → wX_bestOf_8 post by_ x2 fc fo fe gc go ak an au al ag ah ap ai (d + 1) x3 x4 (nI v) := by
    intro d
    induction d with
    | zero =>
      intro v x3 x4 hv hB
      have ev : v = 16 := by omega
      subst ev
      refine br_t (nI_le (a := 16) (by omega) (by omega)) ?_
      rcases hB with ⟨rfl, h⟩ | ⟨b, hb, rfl, rfl, e3, h⟩
      · exact h0 h
      · exact h1 b hb e3 h
    | succ d ih =>
      intro v x3 x4 hv hB
      refine br_f (nI_ge (b := 16) (by omega) (by decide)) (rs_bitX (fun e => ?_) (fun e => ?_))
      · exact hS v (by omega) e _ (rs_x36 (by omega) hs hB (fun a b h => ih (v + 1) a b (by omega) h))
      · have ez := hT v (by omega) e
        have := rs_x36 (post := post) (x1 := by_) (x2 := x2) (J := wX_bestOf_8 post by_ x2 fc fo fe gc go ak an au al ag ah ap ai (d + 1)) (fc := fc) (fo := fo) (fe := fe) (gc := gc) (go := go) (ak := ak) (an := an) (au := au) (al := al) (ag := ag) (ah := ah) (ap := ap) (ai := ai) (by omega) hs hB (fun a b h => ih (v + 1) a b (by omega) h)
        rw [ez, rs_N] at this
        exact this
  exact Exists.intro 17 (L 16 0 (-1) 0 (by omega) (Or.inl ⟨rfl, fun u hu => by omega⟩))
end
section
variable {post : Int32 → SX → Prop}
def rs_TI (hb : Nat → Bool) (sm : Nat → Int) (x4 : Int32) (k : Nat) : Prop := (∀ v, v < 16 → bt x4 v = true → hb v = true) ∧ rs_cn (bt x4) 16 = k ∧ ∀ u, u < 16 → ∀ w, w < 16 → bt x4 u = true → bt x4 w = false → hb w = true → rs_be hb sm u w = true
theorem rs_xtop {by_ : Int32} {n : Nat} {hb : Nat → Bool} {sm : Nat → Int} (hn : n < 2 ^ 31) (hsm : ∀ v, v < 16 → rs_B (sm v) ∧ sm v ≠ -1000000) (hS : ∀ v, v < 16 → ∀ post' : Int32 → Prop, post' (rs_I (if hb v = true then sm v else -1000000)) → wpX_sumOf post' (fc, fo, fe, gc, go, ak, an, au, al, ag, ah, ap, ai) by_ (nI v)) (h1 : ∀ v, v < 16 → hb v = true → rs_rk hb sm v = n → post (nI v) (fc, fo, fe, gc, go, ak, an, au, al, ag, ah, ap, ai)) (h0 : (∀ v, v < 16 → hb v = true → rs_rk hb sm v ≠ n) → post (-1) (fc, fo, fe, gc, go, ak, an, au, al, ag, ah, ap, ai)) : ∃ n32, wX_top_32 post by_ (nI n) fc fo fe gc go ak an au al ag ah ap ai n32 0 (-1) 0 := by
  have L : ∀ d k x4 x5, k + d = 17 → k ≤ n + 1 → rs_TI hb sm x4 k → (k = 0 ∨ ∃ b, b < 16 ∧ hb b = true ∧ rs_rk hb sm b + 1 = k ∧ x5 = nI b) → wX_top_32 post by_ (nI n) fc fo fe gc go ak an au al ag ah ap ai (d + 1) x4 x5 (nI k) := by
    intro d
    induction d with
    | zero =>
      intro k x4 x5 hk _ hT _
      have := rs_cnB (bt x4) 16
      have := hT.2.1
      exfalso
      omega
    | succ d ih =>
      intro k x4 x5 hk hkn hT hx
      by_cases hnk : n < k
      · refine br_t (nI_lt hnk (by omega)) ?_
        rcases hx with h | ⟨b, hb1, hb2, hb3, rfl⟩
        · omega
        · exact h1 b hb1 hb2 (by omega)
      · refine br_f (nI_nlt (by omega) hn) (br_f (nI_nlt (a := 16) (by omega) (by omega)) ?_)
        · have hbit : ∀ v, v < 16 → rs_bit x4 (nI v) = bt x4 v := fun v hv => rs_bitE x4 (by omega)
          refine rs_xbest (s := fun v => if bt x4 v = true then -1000000 else if hb v = true then sm v else -1000000) ?_ ?_ ?_ ?_ ?_
          · intro v hv
            split
            · exact rs_BN
            · split
              · exact (hsm v hv).1
              · exact rs_BN
          · intro v hv e
            rw [hbit v hv] at e
            exact if_pos e
          · intro v hv e post' hp
            rw [hbit v hv] at e
            rw [e] at hp
            exact hS v hv post' hp
          · intro hu
            refine br_f (by decide) (h0 ?_)
            intro v hv hbv
            have hTv : bt x4 v = true := by
              cases e : bt x4 v with
              | true => rfl
              | false =>
                have := hu v hv
                rw [e, hbv] at this
                exact absurd this (hsm v hv).2
            have : rs_rk hb sm v < rs_cn (bt x4) 16 := by
              refine rs_cn_lt (fun w hw e => ?_) hv hTv rs_beF
              cases ew : bt x4 w with
              | true => rfl
              | false =>
                have a := rs_beI.mp (hT.2.2 v hv w hw hTv ew (rs_beI.mp e).1)
                have b := rs_beI.mp e
                have := a.2
                have := b.2
                omega
            have := hT.2.1
            omega
          · intro b hb16 hne hmax
            have hTb : bt x4 b = false := by
              cases e : bt x4 b with
              | false => rfl
              | true => rw [if_pos e] at hne; exact absurd rfl hne
            have hbb : hb b = true := by
              cases e : hb b with
              | true => rfl
              | false => rw [hTb, e] at hne; exact absurd rfl hne
            have hmax2 : ∀ u, u < 16 → bt x4 u = false → hb u = true → sm u < sm b ∨ (sm u = sm b ∧ b ≤ u) := by
              intro u hu e1 e2
              have := hmax u hu
              rw [e1, e2, hTb, hbb] at this
              exact this (hsm u hu).2
            have hrk : rs_rk hb sm b = k := by
              rw [← hT.2.1]
              apply rs_cn_congr
              intro u hu
              cases e : bt x4 u with
              | true => exact hT.2.2 u hu b hb16 e hTb hbb
              | false =>
                cases e2 : rs_be hb sm u b with
                | false => rfl
                | true =>
                  have a := rs_beI.mp e2
                  have := hmax2 u hu e a.1
                  have := a.2
                  omega
            have hbt : ∀ i, i < 16 → bt (x4 ||| ((1 : Int32) <<< (nI b &&& 31))) i = (bt x4 i || decide (i = b)) := by
              intro i hi
              rw [b_or, rs_bt1 (by omega) (by omega)]
            refine br_t (nI_pos' (by omega)) (nm_e (nm_r (nI_1 k) (ih (k + 1) _ _ (by omega) (by omega) ⟨?_, ?_, ?_⟩ (Or.inr ⟨b, hb16, hbb, by omega, rfl⟩))))
            · intro v hv e
              rw [hbt v hv, Bool.or_eq_true, decide_eq_true_eq] at e
              rcases e with e | rfl
              · exact hT.1 v hv e
              · exact hbb
            · rw [rs_cn_congr hbt, rs_cn_add hb16 hTb, hT.2.1]
            · intro u hu w hw e1 e2 e3
              rw [hbt u hu, Bool.or_eq_true, decide_eq_true_eq] at e1
              rw [hbt w hw, Bool.or_eq_false_iff, decide_eq_false_iff_not] at e2
              rcases e1 with e1 | rfl
              · exact hT.2.2 u hu w hw e1 e2.1 e3
              · have := hmax2 w hw e2.1 e3
                exact rs_beI.mpr ⟨hbb, by omega⟩
  refine ⟨18, L 17 0 0 (-1) (by omega) (by omega) ⟨?_, ?_, ?_⟩ (Or.inl rfl)⟩
  · intro v _ e
    rw [b_0] at e
    exact absurd e (by decide)
  · rw [rs_cn_congr (q' := fun _ => false) (fun i _ => b_0 i)]
    decide
  · intro u _ w _ e
    rw [b_0] at e
    exact absurd e (by decide)
end
end
end
section
/-! the reference's loops over its events -/
def rs_sk (k : Nat) : Nat := 16 * (k % 16) + 4 * (k / 16 % 4) + k / 64
theorem rs_skB {k : Nat} (hk : k < 256) : rs_sk k < 256 := by unfold rs_sk; omega
theorem rs_skI {k k' : Nat} (hk : k < 256) (hk' : k' < 256) (h : rs_sk k = rs_sk k') : k = k' := by
  unfold rs_sk at h
  have d1 : k / 64 = k / 16 / 4 := by omega
  have d2 : k' / 64 = k' / 16 / 4 := by omega
  rw [d1, d2] at h
  have e1 : k = 16 * (k / 16) + k % 16 := by omega
  have e2 : k' = 16 * (k' / 16) + k' % 16 := by omega
  have b1 : k / 16 < 16 := by omega
  have b2 : k' / 16 < 16 := by omega
  have m1 : k % 16 < 16 := by omega
  have m2 : k' % 16 < 16 := by omega
  generalize k / 16 = a at *
  generalize k' / 16 = a' at *
  generalize k % 16 = m at *
  generalize k' % 16 = m' at *
  omega
theorem rs_skN {k k' : Nat} (hk : k < 256) (hk' : k' < 256) : nI (rs_sk k) = nI (rs_sk k') ↔ k = k' := by
  have := rs_skB hk
  have := rs_skB hk'
  rw [nI_eq (by omega) (by omega)]
  exact ⟨rs_skI hk hk', fun e => by rw [e]⟩
section
variable {ys : Int32} {yh yp yk ya yb yu yt : Nat → Int32}
variable {E : List (Nat × Int)} {f : Int32}
section
variable {post : Int32 → Prop}
theorem rs_yif (h0 : ¬ rs_ok f → post 0) (h1 : rs_ok f → post 1) : wpY_filter post (ys, yh, yp, yk, ya, yb, yu, yt) f :=
  br_c (fun a => h0 (fun z => z.1 a)) (fun a => br_c (fun b => h0 (fun z => z.2 b)) (fun b => h1 ⟨a, b⟩))
theorem rs_ysort {i : Nat} {e : Nat × Int} (hY : rs_FY E yh yp yk ya) (he : E[i]? = some e) (h : post (nI (rs_sk e.1))) : wpY_sort post (ys, yh, yp, yk, ya, yb, yu, yt) (nI i) := by
  have hi : i < 400 := Nat.lt_of_lt_of_le (rs_getLt he) hY.1
  have iv : vp_in (nI i) 400 := vp_in_nI hi (by omega)
  obtain ⟨eh, ep, ek, _⟩ := hY.2.2 i e he
  unfold wpY_sort
  dsimp only
  rw [nI_clamp (n := i) (by omega), eh, ep, ek, show (16 : Int32) * nI (e.1 % 16) = nI (16 * (e.1 % 16)) from pk_mul 16 _, show (4 : Int32) * nI (e.1 / 16 % 4) = nI (4 * (e.1 / 16 % 4)) from pk_mul 4 _, nI_add, nI_add]
  exact ⟨iv, iv, iv, h⟩
theorem rs_yof {key : Nat} (hY : rs_FY E yh yp yk ya) (hk : key < 256) (h : post (rs_I (rs_vc E key))) : wpY_ofSort post (nI E.length, yh, yp, yk, ya, yb, yu, yt) (nI (rs_sk key)) := by
  have hE := hY.1
  have L : ∀ d j, j + d = E.length → wY_ofSort_4 post (nI (rs_sk key)) (nI E.length) yh yp yk ya yb yu yt (d + 1) (rs_I (rs_rg rs_pl 0 (fun i => rs_ov 0 (fun e : Nat × Int => if e.1 = key then rs_g1 e.2 else 0) E[i]?) j)) (nI j) := by
    intro d
    induction d with
    | zero =>
      intro j hj
      have ej : j = E.length := by omega
      rw [ej, rs_rg_list rs_plM, List.take_length]
      exact br_t (nI_le (by omega) (by omega)) h
    | succ d ih =>
      intro j hj
      obtain ⟨e, he⟩ := rs_getEx (l := E) (i := j) (by omega)
      have ih := ih (j + 1) (by omega)
      have e1 : rs_rg rs_pl 0 (fun i => rs_ov 0 (fun e : Nat × Int => if e.1 = key then rs_g1 e.2 else 0) E[i]?) (j + 1) = rs_rg rs_pl 0 (fun i => rs_ov 0 (fun e : Nat × Int => if e.1 = key then rs_g1 e.2 else 0) E[i]?) j + rs_ov 0 (fun e : Nat × Int => if e.1 = key then rs_g1 e.2 else 0) E[j]? := rfl
      rw [e1, he, show rs_ov 0 (fun e : Nat × Int => if e.1 = key then rs_g1 e.2 else 0) (some e) = (if e.1 = key then 1 else 0) from rfl] at ih
      have hkb := (hY.2.1 e (rs_getMem he)).1
      refine br_f (nI_ge (by omega) (by omega)) (rs_ysort hY he (br_c (fun z => ?_) (fun z => ?_)))
      · rw [rs_skN hkb hk] at z
        rw [if_pos z, ← rs_add] at ih
        exact nm_e (nm_r (nI_1 j) ih)
      · rw [rs_skN hkb hk] at z
        rw [if_neg z, Int.add_zero] at ih
        exact nm_r (nI_1 j) ih
  exact Exists.intro (E.length + 1) (L E.length 0 (by omega))
theorem rs_ycount (hY : rs_FY E yh yp yk ya) (h0 : ¬ rs_ok f → post (-1)) (h1 : rs_ok f → post (rs_I (rs_q rs_pl 0 rs_g1 (rs_ps f) E))) : wpY_count post (nI E.length, yh, yp, yk, ya, yb, yu, yt) f := by
  have hE := hY.1
  have L : ∀ d j, j + d = E.length → wY_count_4 post f (nI E.length) yh yp yk ya yb yu yt (d + 1) (rs_I (rs_rg rs_pl 0 (fun i => rs_ov 0 (fun e : Nat × Int => if rs_ps f e.1 = true then rs_g1 e.2 else 0) E[i]?) j)) (nI j) := by
    intro d
    induction d with
    | zero =>
      intro j hj
      have ej : j = E.length := by omega
      rw [ej, rs_ansY rs_plM]
      exact br_t (nI_le (by omega) (by omega)) (rs_yif (fun z => br_t rfl (h0 z)) (fun z => br_f (by decide) (h1 z)))
    | succ d ih =>
      intro j hj
      obtain ⟨e, he⟩ := rs_getEx (l := E) (i := j) (by omega)
      have ih := ih (j + 1) (by omega)
      have e1 : rs_rg rs_pl 0 (fun i => rs_ov 0 (fun e : Nat × Int => if rs_ps f e.1 = true then rs_g1 e.2 else 0) E[i]?) (j + 1) = rs_rg rs_pl 0 (fun i => rs_ov 0 (fun e : Nat × Int => if rs_ps f e.1 = true then rs_g1 e.2 else 0) E[i]?) j + rs_ov 0 (fun e : Nat × Int => if rs_ps f e.1 = true then rs_g1 e.2 else 0) E[j]? := rfl
      rw [e1, he, show rs_ov 0 (fun e : Nat × Int => if rs_ps f e.1 = true then rs_g1 e.2 else 0) (some e) = (if rs_ps f e.1 = true then 1 else 0) from rfl] at ih
      refine br_f (nI_ge (by omega) (by omega)) (rs_ypass hY he ?_)
      cases hp : rs_ps f e.1
      · rw [hp, if_neg (by decide), Int.add_zero] at ih
        exact br_t rfl (nm_r (nI_1 j) ih)
      · rw [hp, if_pos rfl, ← rs_add] at ih
        exact br_f (by decide) (nm_e (nm_r (nI_1 j) ih))
  exact Exists.intro (E.length + 1) (L E.length 0 (by omega))
theorem rs_ysum (hY : rs_FY E yh yp yk ya) (h0 : ¬ rs_ok f → post (-1000000)) (h1 : rs_ok f → post (rs_I (rs_q rs_pl 0 rs_gi (rs_ps f) E))) : wpY_sum post (nI E.length, yh, yp, yk, ya, yb, yu, yt) f := by
  have hE := hY.1
  have L : ∀ d j, j + d = E.length → wY_sum_4 post f (nI E.length) yh yp yk ya yb yu yt (d + 1) (rs_I (rs_rg rs_pl 0 (fun i => rs_ov 0 (fun e : Nat × Int => if rs_ps f e.1 = true then rs_gi e.2 else 0) E[i]?) j)) (nI j) := by
    intro d
    induction d with
    | zero =>
      intro j hj
      have ej : j = E.length := by omega
      rw [ej, rs_ansY rs_plM]
      exact br_t (nI_le (by omega) (by omega)) (rs_yif (fun z => br_t rfl (h0 z)) (fun z => br_f (by decide) (h1 z)))
    | succ d ih =>
      intro j hj
      obtain ⟨e, he⟩ := rs_getEx (l := E) (i := j) (by omega)
      have ih := ih (j + 1) (by omega)
      have e1 : rs_rg rs_pl 0 (fun i => rs_ov 0 (fun e : Nat × Int => if rs_ps f e.1 = true then rs_gi e.2 else 0) E[i]?) (j + 1) = rs_rg rs_pl 0 (fun i => rs_ov 0 (fun e : Nat × Int => if rs_ps f e.1 = true then rs_gi e.2 else 0) E[i]?) j + rs_ov 0 (fun e : Nat × Int => if rs_ps f e.1 = true then rs_gi e.2 else 0) E[j]? := rfl
      rw [e1, he, show rs_ov 0 (fun e : Nat × Int => if rs_ps f e.1 = true then rs_gi e.2 else 0) (some e) = (if rs_ps f e.1 = true then e.2 else 0) from rfl] at ih
      refine br_f (nI_ge (by omega) (by omega)) (rs_ypass hY he ?_)
      cases hp : rs_ps f e.1
      · rw [hp, if_neg (by decide), Int.add_zero] at ih
        exact br_t rfl (nm_r (nI_1 j) ih)
      · rw [hp, if_pos rfl, ← rs_add] at ih
        refine br_f (by decide) ⟨vp_in_nI (by omega) (by omega), ?_⟩
        rw [nI_clamp (n := j) (by omega), (hY.2.2 j e he).2.2.2]
        exact nm_e (nm_r (nI_1 j) ih)
  exact Exists.intro (E.length + 1) (L E.length 0 (by omega))
theorem rs_yFR (hE : rs_Ev E) (p : Nat → Bool) (r : Nat) : rs_R (rs_ov (-1000000) (fun e : Nat × Int => if p e.1 = true then rs_gi e.2 else -1000000) E[r]?) := by
  cases e : E[r]? with
  | none => exact Or.inl rfl
  | some a =>
    have := hE a (rs_getMem e)
    show rs_R (if p a.1 = true then a.2 else -1000000)
    unfold rs_R
    split <;> omega
theorem rs_yleast (hY : rs_FY E yh yp yk ya) (h0 : ¬ rs_ok f → post (-1000000)) (h1 : rs_ok f → post (rs_I (rs_q rs_mn (-1000000) rs_gi (rs_ps f) E))) : wpY_least post (nI E.length, yh, yp, yk, ya, yb, yu, yt) f := by
  have hE := hY.1
  by_cases ok : rs_ok f
  · have L : ∀ d j, j + d = E.length → wY_least_5 post f (nI E.length) yh yp yk ya yb yu yt (d + 1) (rs_I (rs_rg rs_mn (-1000000) (fun i => rs_ov (-1000000) (fun e : Nat × Int => if rs_ps f e.1 = true then rs_gi e.2 else -1000000) E[i]?) j)) (nI j) := by
      intro d
      induction d with
      | zero =>
        intro j hj
        have ej : j = E.length := by omega
        rw [ej, rs_ansY rs_mnM]
        exact br_t (nI_le (by omega) (by omega)) (h1 ok)
      | succ d ih =>
        intro j hj
        obtain ⟨e, he⟩ := rs_getEx (l := E) (i := j) (by omega)
        have ih := ih (j + 1) (by omega)
        have hr1 := rs_rgR (fun a b => rs_mnR) (rs_yFR hY.2.1 (rs_ps f)) j
        have e1 : rs_rg rs_mn (-1000000) (fun i => rs_ov (-1000000) (fun e : Nat × Int => if rs_ps f e.1 = true then rs_gi e.2 else -1000000) E[i]?) (j + 1) = rs_mn (rs_rg rs_mn (-1000000) (fun i => rs_ov (-1000000) (fun e : Nat × Int => if rs_ps f e.1 = true then rs_gi e.2 else -1000000) E[i]?) j) (rs_ov (-1000000) (fun e : Nat × Int => if rs_ps f e.1 = true then rs_gi e.2 else -1000000) E[j]?) := rfl
        rw [e1, he, show rs_ov (-1000000) (fun e : Nat × Int => if rs_ps f e.1 = true then rs_gi e.2 else -1000000) (some e) = (if rs_ps f e.1 = true then e.2 else -1000000) from rfl] at ih
        have iv : vp_in (nI j) 400 := vp_in_nI (by omega) (by omega)
        have hev := hY.2.1 e (rs_getMem he)
        have hB : rs_B e.2 := by unfold rs_B; omega
        refine br_f (nI_ge (by omega) (by omega)) (rs_yif (fun z => absurd ok z) (fun _ => br_f (by decide) (rs_ypass hY he ?_)))
        generalize rs_rg rs_mn (-1000000) (fun i => rs_ov (-1000000) (fun e : Nat × Int => if rs_ps f e.1 = true then rs_gi e.2 else -1000000) E[i]?) j = a at *
        cases hp : rs_ps f e.1
        · rw [hp, if_neg (by decide), rs_idr rs_mnM] at ih
          exact br_t rfl (nm_r (nI_1 j) ih)
        · rw [hp, if_pos rfl] at ih
          unfold rs_mn at ih
          unfold wY_least_46
          rw [nI_clamp (n := j) (by omega), (hY.2.2 j e he).2.2.2]
          refine br_f (by decide) (br_c (fun z => ?_) (fun z => ?_))
          · rw [rs_eqN hr1] at z
            rw [if_pos z] at ih
            exact ⟨iv, nm_e (nm_r (nI_1 j) ih)⟩
          · rw [rs_eqN hr1] at z
            rw [if_neg z, if_neg (by omega)] at ih
            refine ⟨iv, br_c (fun w => ?_) (fun w => ?_)⟩
            · rw [rs_le (rs_RB hr1) hB] at w
              rw [if_neg (by omega)] at ih
              exact nm_r (nI_1 j) ih
            · rw [rs_le (rs_RB hr1) hB] at w
              rw [if_pos (by omega)] at ih
              exact ⟨iv, nm_e (nm_r (nI_1 j) ih)⟩
    exact Exists.intro (E.length + 1) (L E.length 0 (by omega))
  · exact Exists.intro 1 (br_c (fun _ => h0 ok) (fun _ => rs_yif (fun _ => br_t rfl (h0 ok)) (fun z => absurd z ok)))
theorem rs_ygreatest (hY : rs_FY E yh yp yk ya) (h0 : ¬ rs_ok f → post (-1000000)) (h1 : rs_ok f → post (rs_I (rs_q rs_mx (-1000000) rs_gi (rs_ps f) E))) : wpY_greatest post (nI E.length, yh, yp, yk, ya, yb, yu, yt) f := by
  have hE := hY.1
  by_cases ok : rs_ok f
  · have L : ∀ d j, j + d = E.length → wY_greatest_5 post f (nI E.length) yh yp yk ya yb yu yt (d + 1) (rs_I (rs_rg rs_mx (-1000000) (fun i => rs_ov (-1000000) (fun e : Nat × Int => if rs_ps f e.1 = true then rs_gi e.2 else -1000000) E[i]?) j)) (nI j) := by
      intro d
      induction d with
      | zero =>
        intro j hj
        have ej : j = E.length := by omega
        rw [ej, rs_ansY rs_mxM]
        exact br_t (nI_le (by omega) (by omega)) (h1 ok)
      | succ d ih =>
        intro j hj
        obtain ⟨e, he⟩ := rs_getEx (l := E) (i := j) (by omega)
        have ih := ih (j + 1) (by omega)
        have hr1 := rs_rgR (fun a b => rs_mxR) (rs_yFR hY.2.1 (rs_ps f)) j
        have e1 : rs_rg rs_mx (-1000000) (fun i => rs_ov (-1000000) (fun e : Nat × Int => if rs_ps f e.1 = true then rs_gi e.2 else -1000000) E[i]?) (j + 1) = rs_mx (rs_rg rs_mx (-1000000) (fun i => rs_ov (-1000000) (fun e : Nat × Int => if rs_ps f e.1 = true then rs_gi e.2 else -1000000) E[i]?) j) (rs_ov (-1000000) (fun e : Nat × Int => if rs_ps f e.1 = true then rs_gi e.2 else -1000000) E[j]?) := rfl
        rw [e1, he, show rs_ov (-1000000) (fun e : Nat × Int => if rs_ps f e.1 = true then rs_gi e.2 else -1000000) (some e) = (if rs_ps f e.1 = true then e.2 else -1000000) from rfl] at ih
        have iv : vp_in (nI j) 400 := vp_in_nI (by omega) (by omega)
        have hev := hY.2.1 e (rs_getMem he)
        have hB : rs_B e.2 := by unfold rs_B; omega
        refine br_f (nI_ge (by omega) (by omega)) (rs_yif (fun z => absurd ok z) (fun _ => br_f (by decide) (rs_ypass hY he ?_)))
        generalize rs_rg rs_mx (-1000000) (fun i => rs_ov (-1000000) (fun e : Nat × Int => if rs_ps f e.1 = true then rs_gi e.2 else -1000000) E[i]?) j = a at *
        cases hp : rs_ps f e.1
        · rw [hp, if_neg (by decide), rs_idr rs_mxM] at ih
          exact br_t rfl (nm_r (nI_1 j) ih)
        · rw [hp, if_pos rfl] at ih
          unfold rs_mx at ih
          unfold rs_R at hr1
          rw [nI_clamp (n := j) (by omega), (hY.2.2 j e he).2.2.2]
          refine br_f (by decide) ⟨iv, br_c (fun w => ?_) (fun w => ?_)⟩
          · rw [rs_le hB (rs_RB hr1)] at w
            rw [if_neg (by omega), if_neg (by omega), if_neg (by omega)] at ih
            exact nm_r (nI_1 j) ih
          · rw [rs_le hB (rs_RB hr1)] at w
            have e3 : (if a = -1000000 then e.2 else if e.2 = -1000000 then a else if a < e.2 then e.2 else a) = e.2 := by
              split
              · rfl
              · rw [if_neg (by omega), if_pos (by omega)]
            rw [e3] at ih
            exact ⟨iv, nm_e (nm_r (nI_1 j) ih)⟩
    exact Exists.intro (E.length + 1) (L E.length 0 (by omega))
  · exact Exists.intro 1 (br_c (fun _ => h0 ok) (fun _ => rs_yif (fun _ => br_t rfl (h0 ok)) (fun z => absurd z ok)))
end
end
end
section
/-! the reference's methods that store: sorts that pass, gathering; top and gaps -/
def rs_Dk (f : Int32) (E : List (Nat × Int)) (D : List Nat) : Prop := D.Nodup ∧ ∀ k, k ∈ D ↔ rs_ps f k = true ∧ ∃ e, e ∈ E ∧ e.1 = k
def rs_St (D : List Nat) (yt : Nat → Int32) : Prop := ∀ k, k < 256 → yt (rs_sk k) = rs_b (decide (k ∈ D))
theorem rs_takeS {α : Type} {E : List α} {j : Nat} {e : α} (he : E[j]? = some e) : E.take (j + 1) = E.take j ++ [e] := by
  rw [List.take_add_one, he]
  rfl
theorem rs_StU {D D' : List Nat} {yt : Nat → Int32} {key : Nat} {x : Int32} (h : rs_St D yt) (hk : key < 256) (hx : x = rs_b (decide (key ∈ D'))) (hD : ∀ k, k ≠ key → (k ∈ D' ↔ k ∈ D)) : rs_St D' (upd yt (rs_sk key) x) := by
  intro k hk'
  by_cases e : k = key
  · subst e
    rw [pk_us]
    exact hx
  · rw [pk_un (fun z => e (rs_skI hk' hk z)), h k hk']
    congr 1
    exact decide_eq_decide.mpr (hD k e).symm
theorem rs_exS {E : List (Nat × Int)} {e : Nat × Int} {k : Nat} : (∃ x, x ∈ E ++ [e] ∧ x.1 = k) ↔ (∃ x, x ∈ E ∧ x.1 = k) ∨ e.1 = k := by
  constructor
  · rintro ⟨x, hx, hk⟩
    rcases List.mem_append.mp hx with h | h
    · exact Or.inl ⟨x, h, hk⟩
    · rw [List.mem_singleton.mp h] at hk
      exact Or.inr hk
  · rintro (⟨x, hx, hk⟩ | hk)
    · exact ⟨x, List.mem_append_left _ hx, hk⟩
    · exact ⟨e, List.mem_append_right _ (List.mem_singleton.mpr rfl), hk⟩
def rs_hs (p : Nat → Bool) (E : List (Nat × Int)) : Bool := E.any (fun e => p e.1)
def rs_Gt (p : Nat → Bool) (by_ : Nat) (E : List (Nat × Int)) (yb yu : Nat → Int32) : Prop := ∀ v, v < 16 → yb v = rs_b (rs_hs (rs_pv p by_ (nI v)) E) ∧ yu v = rs_I (rs_q rs_pl 0 rs_gi (rs_pv p by_ (nI v)) E)
theorem rs_hsS {p : Nat → Bool} {E : List (Nat × Int)} {e : Nat × Int} : rs_hs p (E ++ [e]) = (rs_hs p E || p e.1) := by
  unfold rs_hs
  rw [List.any_append]
  simp
theorem rs_qS {op : Int → Int → Int} {z : Int} (H : rs_CM op z) (g : Int → Int) {p : Nat → Bool} {E : List (Nat × Int)} {e : Nat × Int} : rs_q op z g p (E ++ [e]) = op (rs_q op z g p E) (if p e.1 = true then g e.2 else z) := by
  unfold rs_q
  rw [rs_fd_append H]
  show op _ (op (if p e.1 = true then g e.2 else z) z) = _
  rw [rs_idr H]
section
variable {ys : Int32} {yh yp yk ya yb yu yt : Nat → Int32}
variable {E : List (Nat × Int)} {f : Int32}
section
variable {post : Int32 → SY → Prop}
theorem rs_ysp26 (hY : rs_FY E yh yp yk ya) (h0 : ¬ rs_ok f → ∀ yt, post (-1) (nI E.length, yh, yp, yk, ya, yb, yu, yt)) (h1 : rs_ok f → ∀ yt D, rs_Dk f E D → post (nI D.length) (nI E.length, yh, yp, yk, ya, yb, yu, yt)) : ∀ d j D yt, j + d = E.length → rs_Dk f (E.take j) D → rs_St D yt → wY_sortsPassing_26 post f (nI E.length) (d + 1) (nI D.length) (nI j) yh yp yk ya yb yu yt := by
  have hE := hY.1
  intro d
  induction d with
  | zero =>
    intro j D yt hj hD _
    rw [List.take_of_length_le (by omega)] at hD
    exact br_t (nI_le (by omega) (by omega)) (rs_yif (fun z => br_t rfl (h0 z yt)) (fun z => br_f (by decide) (h1 z yt D hD)))
  | succ d ih =>
    intro j D yt hj hD hS
    obtain ⟨e, he⟩ := rs_getEx (l := E) (i := j) (by omega)
    have hkb := (hY.2.1 e (rs_getMem he)).1
    have hsb := rs_skB hkb
    have iv : vp_in (nI (rs_sk e.1)) 256 := vp_in_nI hsb (by omega)
    have ec : (nI (rs_sk e.1)).toNatClampNeg = rs_sk e.1 := nI_clamp (by omega)
    have hS1 := hS e.1 hkb
    refine br_f (nI_ge (by omega) (by omega)) (rs_ysort hY he (rs_ypass hY he ?_))
    unfold wY_sortsPassing_66 wY_sortsPassing_67
    rw [ec, hS1]
    cases hp : rs_ps f e.1
    · have hn : e.1 ∉ D := fun z => by
        have := ((hD.2 e.1).mp z).1
        rw [hp] at this
        exact absurd this (by decide)
      have hD' : rs_Dk f (E.take (j + 1)) D := by
        refine ⟨hD.1, fun k => ?_⟩
        rw [rs_takeS he, rs_exS, hD.2 k]
        refine ⟨fun z => ⟨z.1, Or.inl z.2⟩, fun z => ⟨z.1, z.2.resolve_right ?_⟩⟩
        intro ek
        have := z.1
        rw [← ek, hp] at this
        exact absurd this (by decide)
      rw [decide_eq_false hn]
      refine br_t rfl ⟨iv, br_t rfl (rs_ypass hY he ?_)⟩
      rw [hp]
      exact br_t rfl ⟨iv, nm_e (nm_r (nI_1 j) (ih (j + 1) D _ (by omega) hD' (rs_StU hS hkb (by rw [decide_eq_false hn]; rfl) (fun k _ => Iff.rfl))))⟩
    · refine br_f (by decide) ⟨iv, ?_⟩
      by_cases hn : e.1 ∈ D
      · have hD' : rs_Dk f (E.take (j + 1)) D := by
          refine ⟨hD.1, fun k => ?_⟩
          rw [rs_takeS he, rs_exS, hD.2 k]
          refine ⟨fun z => ⟨z.1, Or.inl z.2⟩, fun z => ⟨z.1, z.2.elim id (fun ek => ?_)⟩⟩
          rw [← ek]
          exact ((hD.2 e.1).mp hn).2
        rw [decide_eq_true hn]
        exact br_f (by decide) ⟨iv, br_f (by decide) ⟨iv, nm_e (nm_r (nI_1 j) (ih (j + 1) D _ (by omega) hD' (rs_StU hS hkb (by rw [decide_eq_true hn]; rfl) (fun k _ => Iff.rfl))))⟩⟩
      · have hD' : rs_Dk f (E.take (j + 1)) (e.1 :: D) := by
          refine ⟨List.nodup_cons.mpr ⟨hn, hD.1⟩, fun k => ?_⟩
          rw [rs_takeS he, rs_exS, List.mem_cons, hD.2 k]
          constructor
          · rintro (rfl | z)
            · exact ⟨hp, Or.inr rfl⟩
            · exact ⟨z.1, Or.inl z.2⟩
          · rintro ⟨z1, z2 | z2⟩
            · exact Or.inr ⟨z1, z2⟩
            · exact Or.inl z2.symm
        rw [decide_eq_false hn]
        refine br_t rfl ⟨iv, br_t rfl (rs_ypass hY he ?_)⟩
        rw [hp]
        refine br_f (by decide) ⟨iv, nm_e (nm_r (nI_1 j) ?_)⟩
        rw [nI_1]
        exact ih (j + 1) (e.1 :: D) _ (by omega) hD' (rs_StU hS hkb (by rw [decide_eq_true (List.mem_cons_self ..)]; rfl) (fun k hk => by rw [List.mem_cons]; exact ⟨fun z => z.resolve_left hk, Or.inr⟩))
theorem rs_ysp (hY : rs_FY E yh yp yk ya) (h0 : ¬ rs_ok f → ∀ yt, post (-1) (nI E.length, yh, yp, yk, ya, yb, yu, yt)) (h1 : rs_ok f → ∀ yt D, rs_Dk f E D → post (nI D.length) (nI E.length, yh, yp, yk, ya, yb, yu, yt)) : wpY_sortsPassing post (nI E.length, yh, yp, yk, ya, yb, yu, yt) f := by
  have L : ∀ d j yt, j + d = 256 → (∀ i, i < j → yt i = 0) → wY_sortsPassing_2 post f (nI E.length) (d + 1) (nI j) yh yp yk ya yb yu yt := by
    intro d
    induction d with
    | zero =>
      intro j yt hj h
      have ej : j = 256 := by omega
      subst ej
      refine br_t (nI_le (a := 256) (by omega) (by omega)) ⟨E.length + 1, rs_ysp26 hY h0 h1 E.length 0 [] yt (by omega) ⟨List.nodup_nil, fun k => ?_⟩ (fun k hk => ?_)⟩
      · rw [List.take_zero]
        exact ⟨fun h => (nomatch h), fun ⟨_, e, h, _⟩ => (nomatch h)⟩
      · rw [h _ (rs_skB hk)]
        rfl
    | succ d ih =>
      intro j yt hj h
      have iv : vp_in (nI j) 256 := vp_in_nI (by omega) (by omega)
      refine br_f (nI_ge (b := 256) (by omega) (by decide)) ?_
      rw [nI_clamp (n := j) (by omega)]
      refine ⟨iv, nm_e (nm_r (nI_1 j) (ih (j + 1) _ (by omega) ?_))⟩
      intro i hi
      by_cases e : i = j
      · subst e
        rw [pk_us]
        rfl
      · rw [pk_un e]
        exact h i (by omega)
  exact Exists.intro 257 (L 256 0 yt (by omega) (fun i hi => by omega))
end
theorem rs_ypart {post : Int32 → Prop} {by_ i : Nat} {e : Nat × Int} (hb : by_ < 3) (hY : rs_FY E yh yp yk ya) (he : E[i]? = some e) (h : post (nI (rs_pt by_ e.1))) : wpY_part post (ys, yh, yp, yk, ya, yb, yu, yt) (nI by_) (nI i) := by
  have hi : i < 400 := Nat.lt_of_lt_of_le (rs_getLt he) hY.1
  have iv : vp_in (nI i) 400 := vp_in_nI hi (by omega)
  obtain ⟨eh, ep, ek, _⟩ := hY.2.2 i e he
  unfold wpY_part
  dsimp only
  rw [nI_clamp (n := i) (by omega), eh, ep, ek]
  unfold rs_pt at h
  by_cases h0 : by_ = 0
  · subst h0
    exact br_t rfl ⟨iv, h⟩
  · rw [if_neg h0] at h
    have n0 : ¬ nI by_ = nI 0 := by rw [nI_eq (by omega) (by omega)]; exact h0
    refine br_f n0 ?_
    by_cases h1 : by_ = 1
    · subst h1
      exact br_t rfl ⟨iv, h⟩
    · rw [if_neg h1] at h
      have n1 : ¬ nI by_ = nI 1 := by rw [nI_eq (by omega) (by omega)]; exact h1
      exact br_f n1 ⟨iv, h⟩
section
variable {post : SY → Prop}
theorem rs_yg30 {by_ : Nat} (hb : by_ < 3) (hY : rs_FY E yh yp yk ya) (K : ∀ yb yu, rs_Gt (rs_ps f) by_ E yb yu → post (nI E.length, yh, yp, yk, ya, yb, yu, yt)) : ∀ d j yb yu, j + d = E.length → rs_Gt (rs_ps f) by_ (E.take j) yb yu → wY_gather_30 post f (nI by_) (nI E.length) (d + 1) (nI j) yh yp yk ya yb yu yt := by
  have hE := hY.1
  intro d
  induction d with
  | zero =>
    intro j yb yu hj hG
    rw [List.take_of_length_le (by omega)] at hG
    exact br_t (nI_le (by omega) (by omega)) (K yb yu hG)
  | succ d ih =>
    intro j yb yu hj hG
    obtain ⟨e, he⟩ := rs_getEx (l := E) (i := j) (by omega)
    have hkb := (hY.2.1 e (rs_getMem he)).1
    have hpt := rs_ptB (by_ := by_) hkb
    refine br_f (nI_ge (by omega) (by omega)) (rs_ypass hY he ?_)
    cases hp : rs_ps f e.1
    · refine br_t rfl (nm_r (nI_1 j) (ih (j + 1) yb yu (by omega) ?_))
      intro v hv
      have hv1 : rs_pv (rs_ps f) by_ (nI v) e.1 = false := by unfold rs_pv; rw [hp, Bool.false_and]
      rw [rs_takeS he, rs_hsS, rs_qS rs_plM, hv1, Bool.or_false, if_neg (by decide)]
      show _ ∧ yu v = rs_I (rs_q rs_pl 0 rs_gi (rs_pv (rs_ps f) by_ (nI v)) (E.take j) + 0)
      rw [Int.add_zero]
      exact hG v hv
    · refine br_f (by decide) (rs_ypart hb hY he ?_)
      have iv : vp_in (nI (rs_pt by_ e.1)) 16 := vp_in_nI hpt (by omega)
      rw [nI_clamp (n := rs_pt by_ e.1) (by omega), nI_clamp (n := j) (by omega), (hG _ hpt).2, (hY.2.2 j e he).2.2.2]
      refine ⟨iv, nm_e ⟨iv, vp_in_nI (by omega) (by omega), iv, nm_e (nm_r (nI_1 j) (ih (j + 1) _ _ (by omega) ?_))⟩⟩
      intro v hv
      rw [rs_takeS he, rs_hsS, rs_qS rs_plM]
      by_cases ev : v = rs_pt by_ e.1
      · have hv1 : rs_pv (rs_ps f) by_ (nI v) e.1 = true := by unfold rs_pv; rw [hp, ev, decide_eq_true rfl]; rfl
        rw [hv1, Bool.or_true, if_pos rfl, ev, pk_us, pk_us]
        exact ⟨rfl, rs_add _ _⟩
      · have hv1 : rs_pv (rs_ps f) by_ (nI v) e.1 = false := by
          unfold rs_pv
          rw [decide_eq_false (by rw [nI_eq (by omega) (by omega)]; exact fun z => ev z.symm), Bool.and_false]
        rw [hv1, Bool.or_false, if_neg (by decide), pk_un ev, pk_un ev]
        show _ ∧ yu v = rs_I (rs_q rs_pl 0 rs_gi (rs_pv (rs_ps f) by_ (nI v)) (E.take j) + 0)
        rw [Int.add_zero]
        exact hG v hv
theorem rs_yg {by_ : Nat} (hb : by_ < 3) (hY : rs_FY E yh yp yk ya) (K : ∀ yb yu, rs_Gt (rs_ps f) by_ E yb yu → post (nI E.length, yh, yp, yk, ya, yb, yu, yt)) : wpY_gather post (nI E.length, yh, yp, yk, ya, yb, yu, yt) f (nI by_) := by
  have L : ∀ d j yb yu, j + d = 16 → (∀ i, i < j → yb i = 0 ∧ yu i = 0) → wY_gather_2 post f (nI by_) (nI E.length) (d + 1) (nI j) yh yp yk ya yb yu yt := by
    intro d
    induction d with
    | zero =>
      intro j yb yu hj h
      have ej : j = 16 := by omega
      subst ej
      refine br_t (nI_le (a := 16) (by omega) (by omega)) ⟨E.length + 1, rs_yg30 hb hY K E.length 0 yb yu (by omega) (fun v hv => ?_)⟩
      rw [List.take_zero, (h v hv).1, (h v hv).2]
      exact ⟨rfl, rfl⟩
    | succ d ih =>
      intro j yb yu hj h
      have iv : vp_in (nI j) 16 := vp_in_nI (by omega) (by omega)
      refine br_f (nI_ge (b := 16) (by omega) (by decide)) ?_
      rw [nI_clamp (n := j) (by omega)]
      refine ⟨iv, nm_e ⟨iv, nm_e (nm_r (nI_1 j) (ih (j + 1) _ _ (by omega) ?_))⟩⟩
      intro i hi
      by_cases e : i = j
      · subst e
        rw [pk_us, pk_us]
        exact ⟨rfl, rfl⟩
      · rw [pk_un e, pk_un e]
        exact h i (by omega)
  exact Exists.intro 17 (L 16 0 yb yu (by omega) (fun i hi => by omega))
end
section
variable {post : Int32 → SY → Prop} {hb : Nat → Bool} {sm : Nat → Int}
theorem rs_y41 {J : Int32 → Prop} {x : Int32} {v : Nat} (hv : v < 16) (hyb : ∀ u, u < 16 → yb u = rs_b (hb u)) (hyu : ∀ u, u < 16 → yu u = rs_I (sm u)) (hsm : ∀ u, u < 16 → rs_B (sm u)) (K0 : (hb v = false ∨ nI (rs_rk hb sm v) ≠ x) → J (nI (v + 1))) (K1 : hb v = true → nI (rs_rk hb sm v) = x → post (nI v) (ys, yh, yp, yk, ya, yb, yu, yt)) : ∀ d u, u + d = 16 → wY_top_41 post J x (nI v) ys yh yp yk ya yb yu yt (d + 1) (nI (rs_cn (fun u => rs_be hb sm u v) u)) (nI u) := by
  have ivv : vp_in (nI v) 16 := vp_in_nI hv (by omega)
  intro d
  induction d with
  | zero =>
    intro u hu
    have eu : u = 16 := by omega
    subst eu
    refine br_t (nI_le (a := 16) (by omega) (by omega)) ?_
    rw [nI_clamp (n := v) (by omega), hyb v hv]
    refine ⟨ivv, ?_⟩
    cases h : hb v
    · exact br_t rfl (nm_r (nI_1 v) (K0 (Or.inl h)))
    · refine br_f (by decide) (br_c (fun z => K1 h z) (fun z => nm_r (nI_1 v) (K0 (Or.inr z))))
  | succ d ih =>
    intro u hu
    have ivu : vp_in (nI u) 16 := vp_in_nI (by omega) (by omega)
    have ih := ih (u + 1) (by omega)
    have e1 : rs_cn (fun u => rs_be hb sm u v) (u + 1) = rs_cn (fun u => rs_be hb sm u v) u + (if rs_be hb sm u v = true then 1 else 0) := rfl
    rw [e1] at ih
    have i0 : rs_be hb sm u v = false → wY_top_41 post J x (nI v) ys yh yp yk ya yb yu yt (d + 1) (nI (rs_cn (fun u => rs_be hb sm u v) u)) (nI (u + 1)) := by
      intro e
      rw [e, if_neg (by decide), Nat.add_zero] at ih
      exact ih
    have i1 : rs_be hb sm u v = true → wY_top_41 post J x (nI v) ys yh yp yk ya yb yu yt (d + 1) (nI (rs_cn (fun u => rs_be hb sm u v) u) + 1) (nI (u + 1)) := by
      intro e
      rw [e, if_pos rfl, ← nI_1] at ih
      exact ih
    refine br_f (nI_ge (b := 16) (by omega) (by decide)) ?_
    rw [nI_clamp (n := v) (by omega), nI_clamp (n := u) (by omega), hyb u (by omega), hyu u (by omega), hyu v hv]
    refine ⟨ivu, ?_⟩
    cases h : hb u
    · refine br_t rfl (nm_r (nI_1 u) (i0 ?_))
      unfold rs_be
      rw [h, Bool.false_and]
    · refine br_f (by decide) ⟨ivu, ivv, br_c (fun z => ?_) (fun z => ⟨ivu, ivv, br_c (fun w => br_c (fun y => ?_) (fun y => ?_)) (fun w => ?_)⟩)⟩
      · rw [rs_lt (hsm v hv) (hsm u (by omega))] at z
        exact nm_e (nm_r (nI_1 u) (i1 (rs_beI.mpr ⟨h, Or.inl z⟩)))
      · rw [rs_lt (hsm v hv) (hsm u (by omega))] at z
        rw [rs_eq (hsm u (by omega)) (hsm v hv)] at w
        rw [nI_leI (by omega) (by omega)] at y
        refine nm_r (nI_1 u) (i0 ?_)
        unfold rs_be
        rw [decide_eq_false (by omega), Bool.and_false]
      · rw [rs_eq (hsm u (by omega)) (hsm v hv)] at w
        rw [nI_leI (by omega) (by omega)] at y
        exact nm_e (nm_r (nI_1 u) (i1 (rs_beI.mpr ⟨h, Or.inr ⟨w, by omega⟩⟩)))
      · rw [rs_lt (hsm v hv) (hsm u (by omega))] at z
        rw [rs_eq (hsm u (by omega)) (hsm v hv)] at w
        refine nm_r (nI_1 u) (i0 ?_)
        unfold rs_be
        rw [decide_eq_false (by omega), Bool.and_false]
theorem rs_y28 {x : Int32} (hyb : ∀ u, u < 16 → yb u = rs_b (hb u)) (hyu : ∀ u, u < 16 → yu u = rs_I (sm u)) (hsm : ∀ u, u < 16 → rs_B (sm u)) (h1 : ∀ v, v < 16 → hb v = true → nI (rs_rk hb sm v) = x → post (nI v) (ys, yh, yp, yk, ya, yb, yu, yt)) (h0 : (∀ v, v < 16 → hb v = true → nI (rs_rk hb sm v) ≠ x) → post (-1) (ys, yh, yp, yk, ya, yb, yu, yt)) : ∃ n, wY_top_28 post x ys yh yp yk ya yb yu yt n 0 := by
  have L : ∀ d v, v + d = 16 → (∀ w, w < v → hb w = true → nI (rs_rk hb sm w) ≠ x) → wY_top_28 post x ys yh yp yk ya yb yu yt (d + 1) (nI v) := by
    intro d
    induction d with
    | zero =>
      intro v hv h
      have ev : v = 16 := by omega
      subst ev
      exact br_t (nI_le (a := 16) (by omega) (by omega)) (h0 h)
    | succ d ih =>
      intro v hv h
      refine br_f (nI_ge (b := 16) (by omega) (by decide)) ⟨17, rs_y41 (by omega) hyb hyu hsm (fun z => ih (v + 1) (by omega) ?_) (h1 v (by omega)) 16 0 (by omega)⟩
      intro w hw hbw
      by_cases e : w = v
      · subst e
        exact z.resolve_left (by rw [hbw]; decide)
      · exact h w (by omega) hbw
  exact ⟨17, L 16 0 (by omega) (fun w hw => by omega)⟩
theorem rs_ygaps (hyb : ∀ u, u < 16 → yb u = rs_b (hb u)) (h : post (rs_I (rs_ga hb)) (ys, yh, yp, yk, ya, yb, yu, yt)) : ∃ n, wY_gaps_27 post ys yh yp yk ya yb yu yt n 16 (-1) 0 0 := by
  have L : ∀ d v, v + d = 16 → wY_gaps_27 post ys yh yp yk ya yb yu yt (d + 1) (rs_I (rs_gf hb v)) (rs_I (rs_gl hb v)) (rs_I (rs_gc hb v)) (nI v) := by
    intro d
    induction d with
    | zero =>
      intro v hv
      have ev : v = 16 := by omega
      subst ev
      have g := rs_GIp hb 16 (by omega)
      have gc := rs_gcB hb 16
      unfold rs_GI at g
      have z0 : (0 : Int32) = rs_I 0 := by decide
      have b0 : rs_B 0 := by unfold rs_B; omega
      have b1 : rs_B (rs_gl hb 16) := by unfold rs_B; omega
      refine br_t (nI_le (a := 16) (by omega) (by omega)) ?_
      unfold rs_ga at h
      refine br_c (fun z => ?_) (fun z => ?_)
      · rw [z0, rs_le b0 b1] at z
        rw [if_pos z] at h
        rw [rs_sub, show rs_I (rs_gl hb 16 - rs_gf hb 16) + 1 = rs_I (rs_gl hb 16 - rs_gf hb 16 + 1) from rs_add _ 1, rs_sub]
        exact h
      · rw [z0, rs_le b0 b1] at z
        rw [if_neg z] at h
        exact h
    | succ d ih =>
      intro v hv
      have ih := ih (v + 1) (by omega)
      have iv : vp_in (nI v) 16 := vp_in_nI (by omega) (by omega)
      have g := rs_GIp hb v (by omega)
      unfold rs_GI at g
      have e16 : rs_I (rs_gf hb v) = 16 ↔ rs_gf hb v = 16 := rs_eq (b := 16) (by unfold rs_B; omega) (by unfold rs_B; omega)
      have f1 : rs_gf hb (v + 1) = if hb v = true ∧ rs_gf hb v = 16 then (v : Int) else rs_gf hb v := rfl
      have f2 : rs_gl hb (v + 1) = if hb v = true then (v : Int) else rs_gl hb v := rfl
      have f3 : rs_gc hb (v + 1) = if hb v = true then rs_gc hb v + 1 else rs_gc hb v := rfl
      rw [f1, f2, f3] at ih
      refine br_f (nI_ge (b := 16) (by omega) (by decide)) ?_
      unfold wY_gaps_55 wY_gaps_56 wY_gaps_73
      rw [nI_clamp (n := v) (by omega), hyb v (by omega)]
      refine ⟨iv, ?_⟩
      cases hh : hb v
      · rw [hh] at ih
        rw [if_neg (by simp), if_neg (by decide), if_neg (by decide)] at ih
        exact br_t rfl ⟨iv, br_t rfl ⟨iv, br_t rfl (nm_r (nI_1 v) ih)⟩⟩
      · rw [hh] at ih
        rw [if_pos rfl, if_pos rfl, ← rs_add] at ih
        refine br_f (by decide) (br_c (fun z => ?_) (fun z => ?_))
        · rw [e16] at z
          rw [if_pos ⟨rfl, z⟩, ← rs_nI] at ih
          exact ⟨iv, br_f (by decide) ⟨iv, br_f (by decide) (nm_e (nm_r (nI_1 v) ih))⟩⟩
        · rw [e16] at z
          rw [if_neg (fun y => z y.2), ← rs_nI] at ih
          exact ⟨iv, br_f (by decide) ⟨iv, br_f (by decide) (nm_e (nm_r (nI_1 v) ih))⟩⟩
  exact ⟨17, L 16 0 (by omega)⟩
end
end
end
section
/-! the questions: both sides give the fold over all events -/
section
variable {P Q : List (Nat × Int)} {C O : List Nat} {ak an au al ag : Nat → Int32} {ah ap ai : Nat → Int64} {yh yp yk ya : Nat → Int32}
theorem rs_bas (hX : rs_FX P Q C O ak an au al ag ah ap ai) (hY : rs_FY (P ++ Q) yh yp yk ya) : C.length ≤ 40 ∧ O.length ≤ 40 ∧ (∀ r k, C[r]? = some k → ak r = nI k) ∧ (∀ r k, O[r]? = some k → ak (40 + r) = nI k) ∧ (∀ k ∈ C, k < 256) ∧ (∀ k ∈ O, k < 256) ∧ rs_Ix C ah ap ai := by
  obtain ⟨h1, h2, h3, h4, h5, h6⟩ := hX
  refine ⟨by omega, rs_olen h2.1 h3, fun r k e => ?_, fun r k e => (h5 r k e).1, rs_kb h1 (rs_EvL hY.2.1), rs_kb h2 (rs_EvR hY.2.1), h6⟩
  have := (h4 r k e).1
  rw [Nat.zero_add] at this
  exact this
theorem rs_AtN (hX : rs_FX P Q C O ak an au al ag ah ap ai) : rs_At an (rs_vc P) (rs_vc Q) C O := by
  obtain ⟨h1, h2, h3, h4, h5, h6⟩ := hX
  refine ⟨fun r k e => ?_, fun r k e => (h5 r k e).2.1⟩
  have := (h4 r k e).2.1
  rw [Nat.zero_add] at this
  exact this
theorem rs_AtU (hX : rs_FX P Q C O ak an au al ag ah ap ai) : rs_At au (rs_vs P) (rs_vs Q) C O := by
  obtain ⟨h1, h2, h3, h4, h5, h6⟩ := hX
  refine ⟨fun r k e => ?_, fun r k e => (h5 r k e).2.2.1⟩
  have := (h4 r k e).2.2.1
  rw [Nat.zero_add] at this
  exact this
theorem rs_AtL (hX : rs_FX P Q C O ak an au al ag ah ap ai) : rs_At al (rs_vl P) (rs_vl Q) C O := by
  obtain ⟨h1, h2, h3, h4, h5, h6⟩ := hX
  refine ⟨fun r k e => ?_, fun r k e => (h5 r k e).2.2.2.1⟩
  have := (h4 r k e).2.2.2.1
  rw [Nat.zero_add] at this
  exact this
theorem rs_AtG (hX : rs_FX P Q C O ak an au al ag ah ap ai) : rs_At ag (rs_vg P) (rs_vg Q) C O := by
  obtain ⟨h1, h2, h3, h4, h5, h6⟩ := hX
  refine ⟨fun r k e => ?_, fun r k e => (h5 r k e).2.2.2.2⟩
  have := (h4 r k e).2.2.2.2
  rw [Nat.zero_add] at this
  exact this
theorem rs_ksIn {K : List Nat} {P : List (Nat × Int)} (h : rs_Ks K P) : ∀ e ∈ P, e.1 ∈ K := fun e he => (h.2 e.1).mpr ⟨e, he, rfl⟩
theorem rs_ansX {op : Int → Int → Int} {z : Int} (H : rs_CM op z) (g : Int → Int) (p : Nat → Bool) (hX : rs_FX P Q C O ak an au al ag ah ap ai) : rs_rg op z (rs_tw z (fun k => if p k = true then rs_v op z g P k else z) (fun k => if p k = true then rs_v op z g Q k else z) C O) 80 = rs_q op z g p (P ++ Q) :=
  rs_ans H g p (by have := hX.2.2.1; omega) (rs_olen hX.2.1.1 hX.2.2.1) hX.1.1 hX.2.1.1 (rs_ksIn hX.1) (rs_ksIn hX.2.1)
theorem rs_rowM {r k : Nat} (e : rs_row C O r = some k) : (r < 40 ∧ k ∈ C) ∨ (40 ≤ r ∧ k ∈ O) := by
  unfold rs_row at e
  by_cases h40 : r < 40
  · rw [if_pos h40] at e
    exact Or.inl ⟨h40, rs_getMem e⟩
  · rw [if_neg h40] at e
    exact Or.inr ⟨by omega, rs_getMem e⟩
theorem rs_twV {f g : Nat → Int} {p : Nat → Bool} {r k : Nat} (e : rs_row C O r = some k) (h : p k = true) (z : Int) : rs_tw z (fun k => if p k = true then f k else z) (fun k => if p k = true then g k else z) C O r = if r < 40 then f k else g k := by
  unfold rs_tw
  unfold rs_row at e
  by_cases h40 : r < 40
  · rw [if_pos h40] at e
    rw [if_pos h40, if_pos h40, e]
    exact if_pos h
  · rw [if_neg h40] at e
    rw [if_neg h40, if_neg h40, e]
    exact if_pos h
theorem rs_twR {f g : Nat → Int} {p : Nat → Bool} (hf : ∀ k, rs_R (f k)) (hg : ∀ k, rs_R (g k)) (r : Nat) : rs_R (rs_tw (-1000000) (fun k => if p k = true then f k else -1000000) (fun k => if p k = true then g k else -1000000) C O r) := by
  cases h : (rs_row C O r).any p with
  | false => rw [rs_twN h]; exact Or.inl rfl
  | true =>
    cases e : rs_row C O r with
    | none => rw [e] at h; exact absurd h Bool.false_ne_true
    | some k =>
      rw [e] at h
      rw [rs_twV e h]
      split
      · exact hf k
      · exact hg k
theorem rs_anE (hX : rs_FX P Q C O ak an au al ag ah ap ai) (q : Nat → Bool) : rs_an (fun r => (rs_row C O r).any q) 80 = rs_hs q (P ++ Q) := by
  have hC : C.length ≤ 40 := by have := hX.2.2.1; omega
  have hO := rs_olen hX.2.1.1 hX.2.2.1
  apply Bool.eq_iff_iff.mpr
  rw [rs_anI]
  unfold rs_hs
  rw [List.any_eq_true]
  constructor
  · rintro ⟨r, hr, h⟩
    cases e : rs_row C O r with
    | none => rw [e] at h; exact absurd h Bool.false_ne_true
    | some k =>
      rw [e] at h
      rcases rs_rowM e with ⟨_, hk⟩ | ⟨_, hk⟩
      · obtain ⟨x, hx, rfl⟩ := (hX.1.2 k).mp hk
        exact ⟨x, List.mem_append_left _ hx, h⟩
      · obtain ⟨x, hx, rfl⟩ := (hX.2.1.2 k).mp hk
        exact ⟨x, List.mem_append_right _ hx, h⟩
  · rintro ⟨x, hx, h⟩
    rcases List.mem_append.mp hx with hx | hx
    · obtain ⟨r, hr⟩ := List.getElem?_of_mem (rs_ksIn hX.1 x hx)
      have := rs_getLt hr
      refine ⟨r, by omega, ?_⟩
      unfold rs_row
      rw [if_pos (by omega), hr]
      exact h
    · obtain ⟨r, hr⟩ := List.getElem?_of_mem (rs_ksIn hX.2.1 x hx)
      have := rs_getLt hr
      refine ⟨40 + r, by omega, ?_⟩
      unfold rs_row
      rw [if_neg (by omega), Nat.add_sub_cancel_left, hr]
      exact h
theorem rs_fdc (q : Nat → Bool) (K : List Nat) : rs_fd rs_pl 0 (fun k => if q k = true then 1 else 0) K = ((K.filter q).length : Int) := by
  induction K with
  | nil => rfl
  | cons k K ih =>
    show (if q k = true then 1 else 0) + rs_fd rs_pl 0 (fun k => if q k = true then 1 else 0) K = _
    rw [ih]
    by_cases h : q k = true
    · rw [if_pos h, List.filter_cons_of_pos h, List.length_cons]
      omega
    · rw [if_neg h, List.filter_cons_of_neg h]
      omega
/-- the sorts that pass, counted by rows and by events -/
theorem rs_dlen {f : Int32} {D : List Nat} (hX : rs_FX P Q C O ak an au al ag ah ap ai) (hD : rs_Dk f (P ++ Q) D) : D.length = (C.filter (rs_ps f)).length + (O.filter (fun k => rs_ps f k && decide (k ∉ C))).length := by
  rw [← List.length_append]
  apply List.Perm.length_eq
  rw [List.perm_ext_iff_of_nodup hD.1]
  · intro k
    rw [hD.2 k, List.mem_append, List.mem_filter, List.mem_filter, Bool.and_eq_true, decide_eq_true_eq, hX.1.2 k, hX.2.1.2 k]
    constructor
    · rintro ⟨hp, e, he, ek⟩
      by_cases hc : ∃ e, e ∈ P ∧ e.1 = k
      · exact Or.inl ⟨hc, hp⟩
      · refine Or.inr ⟨?_, hp, hc⟩
        rcases List.mem_append.mp he with he | he
        · exact absurd ⟨e, he, ek⟩ hc
        · exact ⟨e, he, ek⟩
    · rintro (⟨⟨e, he, ek⟩, hp⟩ | ⟨⟨e, he, ek⟩, hp, _⟩)
      · exact ⟨hp, e, List.mem_append_left _ he, ek⟩
      · exact ⟨hp, e, List.mem_append_right _ he, ek⟩
  · rw [List.nodup_append]
    refine ⟨hX.1.1.sublist List.filter_sublist, hX.2.1.1.sublist List.filter_sublist, ?_⟩
    intro a ha b hb e
    subst e
    have h1 := (List.mem_filter.mp ha).1
    have h2 := (List.mem_filter.mp hb).2
    rw [Bool.and_eq_true, decide_eq_true_eq] at h2
    exact h2.2 h1
theorem rs_all : ∀ k, k < 256 → rs_ps 246015 k = true := by decide +kernel
theorem rs_okA : rs_ok 246015 := by unfold rs_ok; decide
theorem rs_dall {D : List Nat} (hX : rs_FX P Q C O ak an au al ag ah ap ai) (hY : rs_FY (P ++ Q) yh yp yk ya) (hD : rs_Dk 246015 (P ++ Q) D) : D.length = C.length + (rs_nw C O).length := by
  obtain ⟨hC, hO, kC, kO, bC, bO, hI⟩ := rs_bas hX hY
  rw [rs_dlen hX hD]
  congr 1
  · congr 1
    rw [List.filter_eq_self]
    exact fun k hk => rs_all k (bC k hk)
  · congr 1
    unfold rs_nw
    apply List.filter_congr
    intro k hk
    rw [rs_all k (bO k hk), Bool.true_and]
end
theorem i_vc_events {k : Nat} {u : SX} {v : SY} (I : i_Rel k u v) (hk : k + 5 ≤ 2560) : wpX_events (fun r => wpY_events (fun r' => r' = r ∧ i_Rel (k + 5) u v) v) u := by
  refine rs_el (G := fun u v => wpX_events (fun r => wpY_events (fun r' => r' = r ∧ i_Rel (k + 5) u v) v) u) I ?_
  intro P Q C O gc go ak an au al ag ah ap ai yh yp yk ya yb yu yt hX hY
  exact ⟨rfl, rs_in hX hY⟩
theorem i_vc_sorts {k : Nat} {u : SX} {v : SY} (I : i_Rel k u v) (hk : k + 5 ≤ 2560) : wpX_sorts (fun r => wpY_sorts (fun r' v' => r' = r ∧ i_Rel (k + 5) u v') v) u := by
  refine rs_el (G := fun u v => wpX_sorts (fun r => wpY_sorts (fun r' v' => r' = r ∧ i_Rel (k + 5) u v') v) u) I ?_
  intro P Q C O gc go ak an au al ag ah ap ai yh yp yk ya yb yu yt hX hY
  obtain ⟨hC, hO, kC, kO, bC, bO, hI⟩ := rs_bas hX hY
  refine rs_xsorts hC hO kC kO bC bO ?_
  unfold wpY_sorts
  dsimp only
  refine rs_ysp hY (fun z => absurd rs_okA z) (fun _ yt' D hD => ⟨?_, rs_in hX hY⟩)
  rw [rs_dall hX hY hD]
theorem i_vc_count {k : Nat} {u : SX} {v : SY} (I : i_Rel k u v) (hk : k + 5 ≤ 2560) (v1 : Int32) : wpX_count (fun r u' => wpY_count (fun r' => r' = r ∧ i_Rel (k + 5) u' v) v v1) u v1 := by
  refine rs_el (G := fun u v => wpX_count (fun r u' => wpY_count (fun r' => r' = r ∧ i_Rel (k + 5) u' v) v v1) u v1) I ?_
  intro P Q C O gc go ak an au al ag ah ap ai yh yp yk ya yb yu yt hX hY
  obtain ⟨hC, hO, kC, kO, bC, bO, hI⟩ := rs_bas hX hY
  unfold wpX_count
  dsimp only
  refine rs_xsel hC hO kO bC bO hI (fun ok => ?_) (fun ok gc' go' pC pO => ?_)
  · exact br_t rfl (rs_ycount hY (fun _ => ⟨rfl, rs_in hX hY⟩) (fun z => absurd z ok))
  · refine br_f (by decide) (rs_xcount hC hO pC pO (fun r e => rs_twN e 0 (rs_vc P) (rs_vc Q)) (fun r k e hp => rs_twY (rs_AtN hX) e hp 0) ?_)
    rw [rs_ansX rs_plM rs_g1 (rs_ps v1) hX]
    exact rs_ycount hY (fun z => absurd ok z) (fun _ => ⟨rfl, rs_in hX hY⟩)
theorem i_vc_sum {k : Nat} {u : SX} {v : SY} (I : i_Rel k u v) (hk : k + 5 ≤ 2560) (v1 : Int32) : wpX_sum (fun r u' => wpY_sum (fun r' => r' = r ∧ i_Rel (k + 5) u' v) v v1) u v1 := by
  refine rs_el (G := fun u v => wpX_sum (fun r u' => wpY_sum (fun r' => r' = r ∧ i_Rel (k + 5) u' v) v v1) u v1) I ?_
  intro P Q C O gc go ak an au al ag ah ap ai yh yp yk ya yb yu yt hX hY
  obtain ⟨hC, hO, kC, kO, bC, bO, hI⟩ := rs_bas hX hY
  unfold wpX_sum
  dsimp only
  refine rs_xsel hC hO kO bC bO hI (fun ok => ?_) (fun ok gc' go' pC pO => ?_)
  · exact br_t rfl (rs_ysum hY (fun _ => ⟨rfl, rs_in hX hY⟩) (fun z => absurd z ok))
  · refine br_f (by decide) (rs_xsum hC hO pC pO (fun r e => rs_twN e 0 (rs_vs P) (rs_vs Q)) (fun r k e hp => rs_twY (rs_AtU hX) e hp 0) ?_)
    rw [rs_ansX rs_plM rs_gi (rs_ps v1) hX]
    exact rs_ysum hY (fun z => absurd ok z) (fun _ => ⟨rfl, rs_in hX hY⟩)
theorem i_vc_least {k : Nat} {u : SX} {v : SY} (I : i_Rel k u v) (hk : k + 5 ≤ 2560) (v1 : Int32) : wpX_least (fun r u' => wpY_least (fun r' => r' = r ∧ i_Rel (k + 5) u' v) v v1) u v1 := by
  refine rs_el (G := fun u v => wpX_least (fun r u' => wpY_least (fun r' => r' = r ∧ i_Rel (k + 5) u' v) v v1) u v1) I ?_
  intro P Q C O gc go ak an au al ag ah ap ai yh yp yk ya yb yu yt hX hY
  obtain ⟨hC, hO, kC, kO, bC, bO, hI⟩ := rs_bas hX hY
  have hP := rs_EvL hY.2.1
  have hQ := rs_EvR hY.2.1
  unfold wpX_least
  dsimp only
  refine rs_xsel hC hO kO bC bO hI (fun ok => ?_) (fun ok gc' go' pC pO => ?_)
  · exact ⟨1, br_f (by decide) (br_t rfl (rs_yleast hY (fun _ => ⟨rfl, rs_in hX hY⟩) (fun z => absurd z ok)))⟩
  · refine rs_xleast hC hO pC pO (rs_twR (rs_vlR hP) (rs_vlR hQ)) (fun r e => rs_twN e (-1000000) (rs_vl P) (rs_vl Q)) (fun r k e hp => ⟨rs_twY (rs_AtL hX) e hp (-1000000), ?_⟩) ?_
    · rw [rs_twV e hp]
      rcases rs_rowM e with ⟨h, hm⟩ | ⟨h, hm⟩
      · have := rs_vlB hP ((hX.1.2 k).mp hm)
        rw [if_pos h]
        omega
      · have := rs_vlB hQ ((hX.2.1.2 k).mp hm)
        rw [if_neg (by omega)]
        omega
    · rw [rs_ansX rs_mnM rs_gi (rs_ps v1) hX]
      exact rs_yleast hY (fun z => absurd ok z) (fun _ => ⟨rfl, rs_in hX hY⟩)
theorem i_vc_greatest {k : Nat} {u : SX} {v : SY} (I : i_Rel k u v) (hk : k + 5 ≤ 2560) (v1 : Int32) : wpX_greatest (fun r u' => wpY_greatest (fun r' => r' = r ∧ i_Rel (k + 5) u' v) v v1) u v1 := by
  refine rs_el (G := fun u v => wpX_greatest (fun r u' => wpY_greatest (fun r' => r' = r ∧ i_Rel (k + 5) u' v) v v1) u v1) I ?_
  intro P Q C O gc go ak an au al ag ah ap ai yh yp yk ya yb yu yt hX hY
  obtain ⟨hC, hO, kC, kO, bC, bO, hI⟩ := rs_bas hX hY
  have hP := rs_EvL hY.2.1
  have hQ := rs_EvR hY.2.1
  unfold wpX_greatest
  dsimp only
  refine rs_xsel hC hO kO bC bO hI (fun ok => ?_) (fun ok gc' go' pC pO => ?_)
  · exact ⟨1, br_f (by decide) (br_t rfl (rs_ygreatest hY (fun _ => ⟨rfl, rs_in hX hY⟩) (fun z => absurd z ok)))⟩
  · refine rs_xgreatest hC hO pC pO (rs_twR (rs_vgR hP) (rs_vgR hQ)) (fun r e => rs_twN e (-1000000) (rs_vg P) (rs_vg Q)) (fun r k e hp => ⟨rs_twY (rs_AtG hX) e hp (-1000000), ?_⟩) ?_
    · rw [rs_twV e hp]
      rcases rs_rowM e with ⟨h, hm⟩ | ⟨h, hm⟩
      · have := rs_vgB hP ((hX.1.2 k).mp hm)
        rw [if_pos h]
        omega
      · have := rs_vgB hQ ((hX.2.1.2 k).mp hm)
        rw [if_neg (by omega)]
        omega
    · rw [rs_ansX rs_mxM rs_gi (rs_ps v1) hX]
      exact rs_ygreatest hY (fun z => absurd ok z) (fun _ => ⟨rfl, rs_in hX hY⟩)
theorem i_vc_sortsPassing {k : Nat} {u : SX} {v : SY} (I : i_Rel k u v) (hk : k + 5 ≤ 2560) (v1 : Int32) : wpX_sortsPassing (fun r u' => wpY_sortsPassing (fun r' v' => r' = r ∧ i_Rel (k + 5) u' v') v v1) u v1 := by
  refine rs_el (G := fun u v => wpX_sortsPassing (fun r u' => wpY_sortsPassing (fun r' v' => r' = r ∧ i_Rel (k + 5) u' v') v v1) u v1) I ?_
  intro P Q C O gc go ak an au al ag ah ap ai yh yp yk ya yb yu yt hX hY
  obtain ⟨hC, hO, kC, kO, bC, bO, hI⟩ := rs_bas hX hY
  unfold wpX_sortsPassing
  dsimp only
  refine rs_xsel hC hO kO bC bO hI (fun ok => ?_) (fun ok gc' go' pC pO => ?_)
  · exact br_t rfl (rs_ysp hY (fun _ yt' => ⟨rfl, rs_in hX hY⟩) (fun z => absurd z ok))
  · refine br_f (by decide) (rs_xsp hC hO kC kO bC bO pC pO (fun r e => rs_twN e 0 (fun _ => 1) (fun k => if k ∈ C then 0 else 1)) (fun r k e hp => ?_) ?_)
    · rw [rs_twV e hp]
      rcases rs_rowM e with ⟨h, hm⟩ | ⟨h, hm⟩
      · rw [if_pos h, if_neg (by omega)]
      · rw [if_neg (by omega)]
        by_cases hc : k ∈ C
        · rw [if_pos hc, if_pos ⟨h, hc⟩]
        · rw [if_neg hc, if_neg (fun z => hc z.2)]
    · refine rs_ysp hY (fun z => absurd ok z) (fun _ yt' D hD => ⟨?_, rs_in hX hY⟩)
      rw [rs_dlen hX hD, rs_nI, rs_two rs_plM _ _ hC hO, rs_fdc]
      congr 1
      rw [Int.natCast_add]
      show _ = _ + _
      congr 1
      rw [← rs_fdc]
      apply rs_fd_congr
      intro k _
      by_cases hp : rs_ps v1 k = true
      · by_cases hc : k ∈ C
        · simp [hp, hc]
        · simp [hp, hc]
      · simp [hp]
end
section
/-! sums by a part, the top, the gaps -/
theorem rs_hsO {p : Nat → Bool} {b : Nat} {x : Int32} {E : List (Nat × Int)} (hE : rs_Ev E) (hx : ∀ w, w < 16 → nI w ≠ x) : rs_hs (rs_pv p b x) E = false := by
  unfold rs_hs
  rw [List.any_eq_false]
  intro e he
  unfold rs_pv
  rw [decide_eq_false (hx _ (rs_ptB (hE e he).1)), Bool.and_false]
  decide
theorem rs_smB {p : Nat → Bool} {E : List (Nat × Int)} (hE : rs_Ev E) (hl : E.length ≤ 400) : rs_B (rs_q rs_pl 0 rs_gi p E) ∧ rs_q rs_pl 0 rs_gi p E ≠ -1000000 := by
  have := rs_qsB hE p
  unfold rs_B
  omega
section
variable {fc fo fe : Int32} {gc go : Int64} {ak an au al ag : Nat → Int32} {ah ap ai : Nat → Int64}
variable {P Q : List (Nat × Int)} {C O : List Nat} {yh yp yk ya : Nat → Int32} {p : Nat → Bool} {post : Int32 → Prop}
theorem rs_xsoE {b : Nat} {x : Int32} (hb : b < 3) (hX : rs_FX P Q C O ak an au al ag ah ap ai) (hY : rs_FY (P ++ Q) yh yp yk ya) (pC : ∀ r k, C[r]? = some k → rs_lb gc r = p k) (pO : ∀ r k, O[r]? = some k → rs_lb go r = p k) (h : post (rs_I (if rs_hs (rs_pv p b x) (P ++ Q) = true then rs_q rs_pl 0 rs_gi (rs_pv p b x) (P ++ Q) else -1000000))) : wpX_sumOf post (nI C.length, nI O.length, fe, gc, go, ak, an, au, al, ag, ah, ap, ai) (nI b) x := by
  obtain ⟨hC, hO, kC, kO, bC, bO, hI⟩ := rs_bas hX hY
  refine rs_xso hb hC hO kC kO bC bO pC pO (fun r e => rs_twN e 0 (rs_vs P) (rs_vs Q)) (fun r k e hp => rs_twY (rs_AtU hX) e hp 0) (fun z => ?_) (fun z => ?_)
  · rw [rs_anE hX] at z
    rw [z, if_neg (by decide), rs_N] at h
    exact h
  · rw [rs_anE hX] at z
    rw [z, if_pos rfl] at h
    rw [rs_ansX rs_plM rs_gi (rs_pv p b x) hX]
    exact h
end
theorem rs_by {x : Int32} (h0 : ¬ x < 0) (h2 : ¬ 2 < x) : ∃ b, b < 3 ∧ x = nI b := by
  obtain ⟨j, hj, rfl⟩ := nI_of h0
  have h2 : ¬ nI 2 < nI j := h2
  rw [nI_ltI (by omega) hj] at h2
  exact ⟨j, by omega, rfl⟩
theorem i_vc_sumFor {k : Nat} {u : SX} {v : SY} (I : i_Rel k u v) (hk : k + 5 ≤ 2560) (v1 : Int32) (v2 : Int32) (v3 : Int32) : wpX_sumFor (fun r u' => wpY_sumFor (fun r' v' => r' = r ∧ i_Rel (k + 5) u' v') v v1 v2 v3) u v1 v2 v3 := by
  refine rs_el (G := fun u v => wpX_sumFor (fun r u' => wpY_sumFor (fun r' v' => r' = r ∧ i_Rel (k + 5) u' v') v v1 v2 v3) u v1 v2 v3) I ?_
  intro P Q C O gc go ak an au al ag ah ap ai yh yp yk ya yb yu yt hX hY
  obtain ⟨hC, hO, kC, kO, bC, bO, hI⟩ := rs_bas hX hY
  unfold wpX_sumFor wpY_sumFor
  dsimp only
  refine br_c (fun a => ?_) (fun a => br_c (fun b => ?_) (fun b => ?_))
  · exact rs_yif (fun _ => br_t rfl ⟨rfl, rs_in hX hY⟩) (fun _ => br_f (by decide) (br_t a ⟨rfl, rs_in hX hY⟩))
  · exact rs_yif (fun _ => br_t rfl ⟨rfl, rs_in hX hY⟩) (fun _ => br_f (by decide) (br_f a (br_t b ⟨rfl, rs_in hX hY⟩)))
  · refine rs_xsel hC hO kO bC bO hI (fun ok => ?_) (fun ok gc' go' pC pO => ?_)
    · exact br_t rfl (rs_yif (fun _ => br_t rfl ⟨rfl, rs_in hX hY⟩) (fun z => absurd z ok))
    · obtain ⟨y, hy, rfl⟩ := rs_by a b
      refine br_f (by decide) (rs_xsoE hy hX hY pC pO (rs_yif (fun z => absurd ok z) (fun _ => br_f (by decide) (br_f a (br_f b ?_)))))
      have out : (∀ w, w < 16 → nI w ≠ v3) → (-1000000 : Int32) = rs_I (if rs_hs (rs_pv (rs_ps v1) y v3) (P ++ Q) = true then rs_q rs_pl 0 rs_gi (rs_pv (rs_ps v1) y v3) (P ++ Q) else -1000000) := by
        intro hw
        rw [rs_hsO hY.2.1 hw, if_neg (by decide), rs_N]
      refine br_c (fun c => ?_) (fun c => br_c (fun d => ?_) (fun d => ?_))
      · refine ⟨out (fun w hw e => ?_), rs_in hX hY⟩
        rw [← e] at c
        exact nI_pos (by omega) c
      · obtain ⟨w, hw, rfl⟩ := nI_of2 (n := 15) (by decide) c d
        have iv : vp_in (nI w) 16 := vp_in_nI (by omega) (by omega)
        refine rs_yg hy hY (fun yb' yu' hG => ?_)
        obtain ⟨g1, g2⟩ := hG w (by omega)
        dsimp only
        rw [nI_clamp (n := w) (by omega), g1, g2]
        refine ⟨iv, ?_⟩
        cases hh : rs_hs (rs_pv (rs_ps v1) y (nI w)) (P ++ Q)
        · exact br_t rfl ⟨by rw [if_neg (by decide), rs_N], rs_in hX hY⟩
        · exact br_f (by decide) ⟨iv, by rw [if_pos rfl], rs_in hX hY⟩
      · refine ⟨out (fun w hw e => ?_), rs_in hX hY⟩
        rw [← e] at d
        exact d (nI_le (b := 15) (by omega) (by omega))
theorem i_vc_gaps {k : Nat} {u : SX} {v : SY} (I : i_Rel k u v) (hk : k + 5 ≤ 2560) (v1 : Int32) : wpX_gaps (fun r u' => wpY_gaps (fun r' v' => r' = r ∧ i_Rel (k + 5) u' v') v v1) u v1 := by
  refine rs_el (G := fun u v => wpX_gaps (fun r u' => wpY_gaps (fun r' v' => r' = r ∧ i_Rel (k + 5) u' v') v v1) u v1) I ?_
  intro P Q C O gc go ak an au al ag ah ap ai yh yp yk ya yb yu yt hX hY
  obtain ⟨hC, hO, kC, kO, bC, bO, hI⟩ := rs_bas hX hY
  unfold wpX_gaps wpY_gaps
  dsimp only
  refine rs_xsel hC hO kO bC bO hI (fun ok => ?_) (fun ok gc' go' pC pO => ?_)
  · exact br_t rfl (rs_yif (fun _ => br_t rfl ⟨rfl, rs_in hX hY⟩) (fun z => absurd z ok))
  · refine br_f (by decide) (rs_xgaps (hb := fun h => rs_hs (rs_pv (rs_ps v1) 0 (nI h)) (P ++ Q)) hC hO kC kO bC bO pC pO (fun h _ => (rs_anE hX _).symm) ?_)
    refine rs_yif (fun z => absurd ok z) (fun _ => br_f (by decide) (rs_yg (by_ := 0) (by omega) hY (fun yb' yu' hG => ?_)))
    exact rs_ygaps (hb := fun h => rs_hs (rs_pv (rs_ps v1) 0 (nI h)) (P ++ Q)) (fun u hu => (hG u hu).1) ⟨rfl, rs_in hX hY⟩
theorem i_vc_top {k : Nat} {u : SX} {v : SY} (I : i_Rel k u v) (hk : k + 5 ≤ 2560) (v1 : Int32) (v2 : Int32) (v3 : Int32) : wpX_top (fun r u' => wpY_top (fun r' v' => r' = r ∧ i_Rel (k + 5) u' v') v v1 v2 v3) u v1 v2 v3 := by
  refine rs_el (G := fun u v => wpX_top (fun r u' => wpY_top (fun r' v' => r' = r ∧ i_Rel (k + 5) u' v') v v1 v2 v3) u v1 v2 v3) I ?_
  intro P Q C O gc go ak an au al ag ah ap ai yh yp yk ya yb yu yt hX hY
  obtain ⟨hC, hO, kC, kO, bC, bO, hI⟩ := rs_bas hX hY
  have n2 : v2 < 0 → v2 ≤ 2 := fun a => by
    rw [Int32.lt_iff_toInt_lt, show (0 : Int32).toInt = 0 from by decide] at a
    rw [Int32.le_iff_toInt_le, show (2 : Int32).toInt = 2 from by decide]
    omega
  have n3 : ¬ 2 < v2 → v2 ≤ 2 := fun a => Int32.not_lt.mp a
  have n4 : 2 < v2 → ¬ v2 ≤ 2 := fun a => Int32.not_le.mpr a
  unfold wpX_top wpY_top
  dsimp only
  refine br_c (fun a => ?_) (fun a => br_c (fun b => ?_) (fun b => ?_))
  · exact rs_yif (fun _ => br_t rfl ⟨rfl, rs_in hX hY⟩) (fun _ => br_f (by decide) (br_t a ⟨rfl, rs_in hX hY⟩))
  · exact rs_yif (fun _ => br_t rfl ⟨rfl, rs_in hX hY⟩) (fun _ => br_f (by decide) (br_f a (br_f (n4 b) ⟨rfl, rs_in hX hY⟩)))
  · obtain ⟨y, hy, rfl⟩ := rs_by a b
    refine br_c (fun c => ?_) (fun c => ?_)
    · refine rs_yif (fun _ => br_t rfl ⟨rfl, rs_in hX hY⟩) (fun ok => br_f (by decide) (br_f a (br_t (n3 b) (rs_yg hy hY (fun yb' yu' hG => ?_)))))
      refine rs_y28 (hb := fun h => rs_hs (rs_pv (rs_ps v1) y (nI h)) (P ++ Q)) (sm := fun h => rs_q rs_pl 0 rs_gi (rs_pv (rs_ps v1) y (nI h)) (P ++ Q)) (fun u hu => (hG u hu).1) (fun u hu => (hG u hu).2) (fun u _ => (rs_smB hY.2.1 hY.1).1) (fun v hv _ e => ?_) (fun _ => ⟨rfl, rs_in hX hY⟩)
      have hr := rs_cnB (fun u => rs_be (fun h => rs_hs (rs_pv (rs_ps v1) y (nI h)) (P ++ Q)) (fun h => rs_q rs_pl 0 rs_gi (rs_pv (rs_ps v1) y (nI h)) (P ++ Q)) u v) 16
      rw [← e] at c
      exact absurd c (nI_pos (Nat.lt_of_le_of_lt hr (by omega)))
    · obtain ⟨n, hn, rfl⟩ := nI_of c
      refine rs_xsel hC hO kO bC bO hI (fun ok => ?_) (fun ok gc' go' pC pO => ?_)
      · exact br_t rfl (rs_yif (fun _ => br_t rfl ⟨rfl, rs_in hX hY⟩) (fun z => absurd z ok))
      · have Y : ∀ (r : Int32) (u' : SX), (∀ yb yu, i_Rel (k + 5) u' (nI (P ++ Q).length, yh, yp, yk, ya, yb, yu, yt)) → ((∃ v, v < 16 ∧ rs_hs (rs_pv (rs_ps v1) y (nI v)) (P ++ Q) = true ∧ rs_rk (fun h => rs_hs (rs_pv (rs_ps v1) y (nI h)) (P ++ Q)) (fun h => rs_q rs_pl 0 rs_gi (rs_pv (rs_ps v1) y (nI h)) (P ++ Q)) v = n ∧ r = nI v) ∨ ((∀ v, v < 16 → rs_hs (rs_pv (rs_ps v1) y (nI v)) (P ++ Q) = true → rs_rk (fun h => rs_hs (rs_pv (rs_ps v1) y (nI h)) (P ++ Q)) (fun h => rs_q rs_pl 0 rs_gi (rs_pv (rs_ps v1) y (nI h)) (P ++ Q)) v ≠ n) ∧ r = -1)) → wpY_top (fun r' v' => r' = r ∧ i_Rel (k + 5) u' v') (nI (P ++ Q).length, yh, yp, yk, ya, yb, yu, yt) v1 (nI y) (nI n) := by
          intro r u' hR hr
          unfold wpY_top
          dsimp only
          refine rs_yif (fun z => absurd ok z) (fun _ => br_f (by decide) (br_f a (br_t (n3 b) (rs_yg hy hY (fun yb' yu' hG => ?_)))))
          have rkB : ∀ v, rs_rk (fun h => rs_hs (rs_pv (rs_ps v1) y (nI h)) (P ++ Q)) (fun h => rs_q rs_pl 0 rs_gi (rs_pv (rs_ps v1) y (nI h)) (P ++ Q)) v ≤ 16 := fun v => rs_cnB _ 16
          refine rs_y28 (hb := fun h => rs_hs (rs_pv (rs_ps v1) y (nI h)) (P ++ Q)) (sm := fun h => rs_q rs_pl 0 rs_gi (rs_pv (rs_ps v1) y (nI h)) (P ++ Q)) (fun u hu => (hG u hu).1) (fun u hu => (hG u hu).2) (fun u _ => (rs_smB hY.2.1 hY.1).1) (fun v hv hh e => ⟨?_, hR yb' yu'⟩) (fun hno => ⟨?_, hR yb' yu'⟩)
          · have e2 := (nI_eq (by have := rkB v; omega) hn).mp e
            rcases hr with ⟨w, hw, hhw, ew, rfl⟩ | ⟨hno, _⟩
            · rw [rs_rkI hv hw hh hhw (e2.trans ew.symm)]
            · exact absurd e2 (hno v hv hh)
          · rcases hr with ⟨w, hw, hhw, ew, rfl⟩ | ⟨_, rfl⟩
            · exact absurd (congrArg nI ew) (hno w hw hhw)
            · rfl
        refine br_f (by decide) (rs_xtop (hb := fun h => rs_hs (rs_pv (rs_ps v1) y (nI h)) (P ++ Q)) (sm := fun h => rs_q rs_pl 0 rs_gi (rs_pv (rs_ps v1) y (nI h)) (P ++ Q)) hn (fun v _ => rs_smB hY.2.1 hY.1) (fun v hv post' hp => rs_xsoE hy hX hY pC pO hp) (fun v hv hh e => ?_) (fun hno => ?_))
        · exact Y (nI v) _ (fun yb yu => rs_in hX hY) (Or.inl ⟨v, hv, hh, e, rfl⟩)
        · exact Y (-1) _ (fun yb yu => rs_in hX hY) (Or.inr ⟨hno, rfl⟩)
end
section
/-! rows and events changed: the pure side of take, seal and forget -/
theorem rs_nB {x : Int} (h : -128 ≤ x ∧ x < 128) : vp_nar .byte (rs_I x).toInt8.toInt32 = rs_I x := by
  have e : (rs_I x).toInt = x := rs_toInt (by unfold rs_B; omega)
  rw [pk_vb]
  exact lg_i2b_small (by rw [e]; exact h.1) (by rw [e]; exact h.2)
theorem rs_nS {x : Int} (h : -32768 ≤ x ∧ x < 32768) : vp_nar .short (rs_I x).toInt16.toInt32 = rs_I x := by
  have e : (rs_I x).toInt = x := rs_toInt (by unfold rs_B; omega)
  rw [pk_vs]
  exact lg_i2s_small (by rw [e]; exact h.1) (by rw [e]; exact h.2)
theorem rs_nB1 {x : Int} (h : -128 ≤ x ∧ x < 128) : vp_nar .byte (rs_I x) = rs_I x := by
  have e : (rs_I x).toInt = x := rs_toInt (by unfold rs_B; omega)
  rw [vp_nar_byte]
  exact lg_i2b_small (by rw [e]; exact h.1) (by rw [e]; exact h.2)
theorem rs_nS1 {x : Int} (h : -32768 ≤ x ∧ x < 32768) : vp_nar .short (rs_I x) = rs_I x := by
  have e : (rs_I x).toInt = x := rs_toInt (by unfold rs_B; omega)
  rw [vp_nar_short]
  exact lg_i2s_small (by rw [e]; exact h.1) (by rw [e]; exact h.2)
theorem rs_RowU {off R : Nat} {K K' : List Nat} {c s l g c' s' l' g' : Nat → Int} {ak an au al ag ak' an' au' al' ag' : Nat → Int32} (h : rs_Row off K c s l g ak an au al ag) (hO : ∀ i, i ≠ R → ak' i = ak i ∧ an' i = an i ∧ au' i = au i ∧ al' i = al i ∧ ag' i = ag i) (h1 : ∀ r k, K'[r]? = some k → off + r ≠ R → K[r]? = some k ∧ c' k = c k ∧ s' k = s k ∧ l' k = l k ∧ g' k = g k) (h2 : ∀ r k, K'[r]? = some k → off + r = R → ak' R = nI k ∧ an' R = rs_I (c' k) ∧ au' R = rs_I (s' k) ∧ al' R = rs_I (l' k) ∧ ag' R = rs_I (g' k)) : rs_Row off K' c' s' l' g' ak' an' au' al' ag' := by
  intro r k e
  by_cases hr : off + r = R
  · rw [hr]
    exact h2 r k e hr
  · obtain ⟨e', q1, q2, q3, q4⟩ := h1 r k e hr
    obtain ⟨o1, o2, o3, o4, o5⟩ := hO (off + r) hr
    rw [o1, o2, o3, o4, o5, q1, q2, q3, q4]
    exact h r k e'
section
variable {op : Int → Int → Int} {z : Int}
theorem rs_vA (H : rs_CM op z) (g : Int → Int) (P Q : List (Nat × Int)) (k : Nat) : rs_v op z g (P ++ Q) k = op (rs_v op z g P k) (rs_v op z g Q k) := rs_fd_append H _ P Q
theorem rs_vS (H : rs_CM op z) (g : Int → Int) (Q : List (Nat × Int)) (e : Nat × Int) (k : Nat) : rs_v op z g (Q ++ [e]) k = op (rs_v op z g Q k) (if e.1 = k then g e.2 else z) := by
  rw [rs_vA H]
  show op _ (op (if e.1 = k then g e.2 else z) z) = _
  rw [rs_idr H]
theorem rs_v0 (H : rs_CM op z) (g : Int → Int) {P : List (Nat × Int)} {k : Nat} (h : ¬ ∃ e, e ∈ P ∧ e.1 = k) : rs_v op z g P k = z := rs_fd_z H (fun e he => if_neg (fun y => h ⟨e, he, y⟩))
end
theorem rs_vc1 {P : List (Nat × Int)} {k : Nat} (h : ∃ e, e ∈ P ∧ e.1 = k) : 0 < rs_vc P k := by
  induction P with
  | nil => obtain ⟨e, he, _⟩ := h; cases he
  | cons a P ih =>
    show 0 < (if a.1 = k then (1 : Int) else 0) + rs_vc P k
    have hb := rs_vcB P k
    by_cases ha : a.1 = k
    · rw [if_pos ha]; omega
    · rw [if_neg ha]
      have := ih (by
        obtain ⟨e, he, ek⟩ := h
        rcases List.mem_cons.mp he with rfl | he
        · exact absurd ek ha
        · exact ⟨e, he, ek⟩)
      omega
theorem rs_nodupI {K : List Nat} (h : K.Nodup) {i j k : Nat} (ei : K[i]? = some k) (ej : K[j]? = some k) : i = j := by
  have hi := rs_getLt ei
  exact (List.getElem?_inj hi h).mp (ei.trans ej.symm)
section
variable {P Q : List (Nat × Int)} {C O O' : List Nat} {ak an au al ag ak' an' au' al' ag' : Nat → Int32} {ah ap ai : Nat → Int64}
theorem rs_nodupS {K : List Nat} {key : Nat} (h : K.Nodup) (hk : key ∉ K) : (K ++ [key]).Nodup := by
  rw [List.nodup_append]
  refine ⟨h, List.nodup_cons.mpr ⟨fun z => (nomatch z), List.nodup_nil⟩, ?_⟩
  intro a ha b hb e
  rw [List.mem_singleton] at hb
  exact hk (by rw [← hb, ← e]; exact ha)
theorem rs_nwB {key : Nat} (h : C.length + (rs_nw C O).length ≤ 40) (hs : key ∉ C → C.length + (rs_nw C O).length < 40) : C.length + (rs_nw C (O ++ [key])).length ≤ 40 := by
  unfold rs_nw at *
  rw [List.filter_append, List.length_append]
  by_cases hc : key ∈ C
  · rw [List.filter_cons_of_neg (by rw [decide_eq_false (fun y => y hc)]; decide)]
    show _ + (_ + 0) ≤ 40
    omega
  · have := hs hc
    rw [List.filter_cons_of_pos (p := fun k => decide (k ∉ C)) (decide_eq_true hc)]
    show _ + (_ + 1) ≤ 40
    omega
theorem rs_FXt {key R : Nat} {a : Int} (hX : rs_FX P Q C O ak an au al ag ah ap ai) (hO' : (O' = O ∧ ∃ j, O[j]? = some key ∧ R = 40 + j) ∨ (O' = O ++ [key] ∧ key ∉ O ∧ R = 40 + O.length)) (hs : key ∉ C → key ∉ O → C.length + (rs_nw C O).length < 40) (hout : ∀ i, i ≠ R → ak' i = ak i ∧ an' i = an i ∧ au' i = au i ∧ al' i = al i ∧ ag' i = ag i) (hk : ak' R = nI key) (hn : an' R = rs_I (rs_vc Q key + 1)) (hu : au' R = rs_I (rs_vs Q key + a)) (hl : al' R = rs_I (rs_mn (rs_vl Q key) a)) (hg : ag' R = rs_I (rs_mx (rs_vg Q key) a)) : rs_FX P (Q ++ [(key, a)]) C O' ak' an' au' al' ag' ah ap ai := by
  obtain ⟨h1, h2, h3, h4, h5, h6⟩ := hX
  have hRge : 40 ≤ R := by
    rcases hO' with ⟨_, j, _, e⟩ | ⟨_, _, e⟩ <;> omega
  have vO : ∀ k, k ≠ key → rs_vc (Q ++ [(key, a)]) k = rs_vc Q k ∧ rs_vs (Q ++ [(key, a)]) k = rs_vs Q k ∧ rs_vl (Q ++ [(key, a)]) k = rs_vl Q k ∧ rs_vg (Q ++ [(key, a)]) k = rs_vg Q k := by
    intro k hk
    have hk' : ¬ key = k := fun y => hk y.symm
    refine ⟨?_, ?_, ?_, ?_⟩
    · rw [rs_vc, rs_vS rs_plM, if_neg hk', rs_idr rs_plM]
    · rw [rs_vs, rs_vS rs_plM, if_neg hk', rs_idr rs_plM]
    · rw [rs_vl, rs_vS rs_mnM, if_neg hk', rs_idr rs_mnM]
    · rw [rs_vg, rs_vS rs_mxM, if_neg hk', rs_idr rs_mxM]
  have vK : ak' R = nI key ∧ an' R = rs_I (rs_vc (Q ++ [(key, a)]) key) ∧ au' R = rs_I (rs_vs (Q ++ [(key, a)]) key) ∧ al' R = rs_I (rs_vl (Q ++ [(key, a)]) key) ∧ ag' R = rs_I (rs_vg (Q ++ [(key, a)]) key) := by
    refine ⟨hk, ?_, ?_, ?_, ?_⟩
    · rw [hn]; exact congrArg rs_I (((rs_vS rs_plM rs_g1 Q (key, a) key).trans (congrArg _ (if_pos rfl))).symm)
    · rw [hu]; exact congrArg rs_I (((rs_vS rs_plM rs_gi Q (key, a) key).trans (congrArg _ (if_pos rfl))).symm)
    · rw [hl]; exact congrArg rs_I (((rs_vS rs_mnM rs_gi Q (key, a) key).trans (congrArg _ (if_pos rfl))).symm)
    · rw [hg]; exact congrArg rs_I (((rs_vS rs_mxM rs_gi Q (key, a) key).trans (congrArg _ (if_pos rfl))).symm)
  have hC : C.length ≤ 40 := by omega
  refine ⟨h1, ?_, ?_, ?_, ?_, h6⟩
  · rcases hO' with ⟨rfl, j, ej, _⟩ | ⟨rfl, hno, _⟩
    · refine ⟨h2.1, fun k => ?_⟩
      rw [rs_exS, h2.2 k]
      refine ⟨Or.inl, fun y => y.elim id (fun e => ?_)⟩
      have e : key = k := e
      rw [← e]
      exact (h2.2 key).mp (rs_getMem ej)
    · refine ⟨rs_nodupS h2.1 hno, fun k => ?_⟩
      rw [rs_exS, List.mem_append, List.mem_singleton, h2.2 k]
      exact ⟨fun y => y.elim Or.inl (fun e => Or.inr e.symm), fun y => y.elim Or.inl (fun e => Or.inr e.symm)⟩
  · rcases hO' with ⟨rfl, j, ej, _⟩ | ⟨rfl, hno, _⟩
    · exact h3
    · exact rs_nwB h3 (fun y => hs y hno)
  · refine rs_RowU h4 hout (fun r k e _ => ⟨e, rfl, rfl, rfl, rfl⟩) (fun r k e y => ?_)
    have := rs_getLt e
    omega
  · rcases hO' with ⟨rfl, j, ej, rfl⟩ | ⟨rfl, hno, rfl⟩
    · refine rs_RowU h5 hout (fun r k e y => ⟨e, vO k (fun ek => ?_)⟩) (fun r k e y => ?_)
      · rw [ek] at e
        have := rs_nodupI h2.1 e ej
        omega
      · have er : r = j := by omega
        rw [er, ej] at e
        rw [← Option.some.inj e]
        exact vK
    · refine rs_RowU h5 hout (fun r k e y => ?_) (fun r k e y => ?_)
      · have hr := rs_getLt e
        rw [List.length_append, List.length_singleton] at hr
        rw [List.getElem?_append_left (by omega)] at e
        refine ⟨e, vO k (fun ek => ?_)⟩
        rw [ek] at e
        exact hno (rs_getMem e)
      · have er : r = O.length := by omega
        rw [er, List.getElem?_append_right (Nat.le_refl _), Nat.sub_self] at e
        rw [← Option.some.inj e]
        exact vK
theorem rs_FYt {E : List (Nat × Int)} {yh yp yk ya : Nat → Int32} {key : Nat} {a : Int} (hY : rs_FY E yh yp yk ya) (hl : E.length < 400) (hk : key < 256) (ha : -100 ≤ a ∧ a ≤ 100) : rs_FY (E ++ [(key, a)]) (upd yh E.length (nI (key % 16))) (upd yp E.length (nI (key / 16 % 4))) (upd yk E.length (nI (key / 64))) (upd ya E.length (rs_I a)) := by
  obtain ⟨h1, h2, h3⟩ := hY
  refine ⟨by rw [List.length_append, List.length_singleton]; omega, ?_, ?_⟩
  · intro e he
    rcases List.mem_append.mp he with he | he
    · exact h2 e he
    · rw [List.mem_singleton.mp he]
      exact ⟨hk, ha⟩
  · intro i e he
    by_cases hi : i = E.length
    · subst hi
      rw [List.getElem?_append_right (Nat.le_refl _), Nat.sub_self] at he
      rw [← Option.some.inj he, pk_us, pk_us, pk_us, pk_us]
      exact ⟨rfl, rfl, rfl, rfl⟩
    · have hr := rs_getLt he
      rw [List.length_append, List.length_singleton] at hr
      rw [List.getElem?_append_left (by omega)] at he
      rw [pk_un hi, pk_un hi, pk_un hi, pk_un hi]
      exact h3 i e he
end
end
section
/-! take -/
theorem rs_mnE {l0 a v : Int} (ha : -100 ≤ a ∧ a ≤ 100) (h : (l0 = v ∧ l0 ≠ -1000000) ∨ (v = -1000000 ∧ l0 = 100)) : (if l0 ≤ a then l0 else a) = rs_mn v a := by
  unfold rs_mn
  repeat' split
  all_goals omega
theorem rs_mxE {g0 a v : Int} (ha : -100 ≤ a ∧ a ≤ 100) (h : (g0 = v ∧ g0 ≠ -1000000) ∨ (v = -1000000 ∧ g0 = -100)) : (if a ≤ g0 then g0 else a) = rs_mx v a := by
  unfold rs_mx
  repeat' split
  all_goals omega
section
variable {fc fo fe : Int32} {gc go : Int64} {ak an au al ag : Nat → Int32} {ah ap ai : Nat → Int64}
theorem rs_xstart {post : SX → Prop} {R key : Nat} (hR : R < 80) (hk : key < 256) (h : post (fc, fo, fe, gc, go, upd ak R (nI key), upd an R (rs_I 0), upd au R (rs_I 0), upd al R (rs_I 100), upd ag R (rs_I (-100)), ah, ap, ai)) : wpX_startRow post (fc, fo, fe, gc, go, ak, an, au, al, ag, ah, ap, ai) (nI R) (nI key) := by
  have iv : vp_in (nI R) 80 := vp_in_nI hR (by omega)
  have e1 : vp_nar .short (nI key).toInt16.toInt32 = nI key := by rw [rs_nI]; exact rs_nS (by omega)
  have e2 : vp_nar .short 0 = rs_I 0 := by rw [show (0 : Int32) = rs_I 0 from by decide]; exact rs_nS1 (by omega)
  have e3 : vp_nar .byte 100 = rs_I 100 := by rw [show (100 : Int32) = rs_I 100 from by decide]; exact rs_nB1 (by omega)
  have e4 : vp_nar .byte (-100) = rs_I (-100) := by rw [show (-100 : Int32) = rs_I (-100) from by decide]; exact rs_nB1 (by omega)
  unfold wpX_startRow
  dsimp only
  rw [nI_clamp (n := R) (by omega), e1, e2, e3, e4, show (0 : Int32) = rs_I 0 from by decide]
  exact ⟨iv, nm_e ⟨iv, nm_e ⟨iv, nm_e ⟨iv, nm_e ⟨iv, nm_e h⟩⟩⟩⟩⟩
section
variable {post : Int32 → SX → Prop}
theorem rs_x237 {R : Nat} {x6 : Int32} {g c1 : Int} (hR : R < 80) (hg : -100 ≤ g ∧ g ≤ 100) (en : an R = rs_I c1) (K : (x6 = -1 ∧ post (rs_I c1) (fc, fo, fe + 1, gc, go, ak, an, au, al, upd ag R (rs_I g), ah, ap, ai)) ∨ ∃ c, c < 40 ∧ x6 = nI c ∧ post (rs_I c1 + an c) (fc, fo, fe + 1, gc, go, ak, an, au, al, upd ag R (rs_I g), ah, ap, ai)) : wX_take_237 post x6 (nI R) (rs_I g) (nI R) fc fo fe gc go ak an au al ag ah ap ai := by
  have iv : vp_in (nI R) 80 := vp_in_nI hR (by omega)
  unfold wX_take_237
  rw [nI_clamp (n := R) (by omega), rs_nB (by omega), en]
  refine ⟨iv, nm_e (nm_e ?_)⟩
  rcases K with ⟨rfl, K⟩ | ⟨c, hc, rfl, K⟩
  · exact br_f (by decide) ⟨iv, K⟩
  · rw [nI_clamp (n := c) (by omega)]
    exact br_t (nI_pos' (by omega)) ⟨iv, vp_in_nI (by omega) (by omega), K⟩
theorem rs_x205 {R : Nat} {x6 : Int32} {a l g0 c1 : Int} (hR : R < 80) (hl : -100 ≤ l ∧ l ≤ 100) (hg : -100 ≤ g0 ∧ g0 ≤ 100) (ha : -100 ≤ a ∧ a ≤ 100) (en : an R = rs_I c1) (eg : ag R = rs_I g0) (K : (x6 = -1 ∧ post (rs_I c1) (fc, fo, fe + 1, gc, go, ak, an, au, upd al R (rs_I l), upd ag R (rs_I (if a ≤ g0 then g0 else a)), ah, ap, ai)) ∨ ∃ c, c < 40 ∧ x6 = nI c ∧ post (rs_I c1 + an c) (fc, fo, fe + 1, gc, go, ak, an, au, upd al R (rs_I l), upd ag R (rs_I (if a ≤ g0 then g0 else a)), ah, ap, ai)) : wX_take_205 post (rs_I a) x6 (nI R) (rs_I l) (nI R) fc fo fe gc go ak an au al ag ah ap ai := by
  have iv : vp_in (nI R) 80 := vp_in_nI hR (by omega)
  have ba : rs_B a := by unfold rs_B; omega
  have bg : rs_B g0 := by unfold rs_B; omega
  unfold wX_take_205
  rw [nI_clamp (n := R) (by omega), rs_nB (by omega), eg]
  refine ⟨iv, nm_e ⟨iv, br_c (fun z => ⟨iv, ?_⟩) (fun z => ?_)⟩⟩
  · rw [rs_le ba bg] at z
    rw [if_pos z] at K
    exact rs_x237 hR hg en K
  · rw [rs_le ba bg] at z
    rw [if_neg z] at K
    exact rs_x237 hR ha en K
theorem rs_x151 {R : Nat} {x6 : Int32} {a c0 s0 l0 g0 : Int} (hR : 40 ≤ R ∧ R < 80) (hc : 0 ≤ c0 ∧ c0 ≤ 400) (hl : -100 ≤ l0 ∧ l0 ≤ 100) (hg : -100 ≤ g0 ∧ g0 ≤ 100) (ha : -100 ≤ a ∧ a ≤ 100) (en : an R = rs_I c0) (eu : au R = rs_I s0) (el : al R = rs_I l0) (eg : ag R = rs_I g0) (K : (x6 = -1 ∧ post (rs_I (c0 + 1)) (fc, fo, fe + 1, gc, go, ak, upd an R (rs_I (c0 + 1)), upd au R (rs_I (s0 + a)), upd al R (rs_I (if l0 ≤ a then l0 else a)), upd ag R (rs_I (if a ≤ g0 then g0 else a)), ah, ap, ai)) ∨ ∃ c, c < 40 ∧ x6 = nI c ∧ post (rs_I (c0 + 1) + an c) (fc, fo, fe + 1, gc, go, ak, upd an R (rs_I (c0 + 1)), upd au R (rs_I (s0 + a)), upd al R (rs_I (if l0 ≤ a then l0 else a)), upd ag R (rs_I (if a ≤ g0 then g0 else a)), ah, ap, ai)) : wX_take_151 post (rs_I a) x6 (nI R) fc fo fe gc go ak an au al ag ah ap ai := by
  have iv : vp_in (nI R) 80 := vp_in_nI hR.2 (by omega)
  have ba : rs_B a := by unfold rs_B; omega
  have bl : rs_B l0 := by unfold rs_B; omega
  have K' : (x6 = -1 ∧ post (rs_I (c0 + 1)) (fc, fo, fe + 1, gc, go, ak, upd an R (rs_I (c0 + 1)), upd au R (rs_I (s0 + a)), upd al R (rs_I (if l0 ≤ a then l0 else a)), upd ag R (rs_I (if a ≤ g0 then g0 else a)), ah, ap, ai)) ∨ ∃ c, c < 40 ∧ x6 = nI c ∧ post (rs_I (c0 + 1) + (upd an R (rs_I (c0 + 1))) c) (fc, fo, fe + 1, gc, go, ak, upd an R (rs_I (c0 + 1)), upd au R (rs_I (s0 + a)), upd al R (rs_I (if l0 ≤ a then l0 else a)), upd ag R (rs_I (if a ≤ g0 then g0 else a)), ah, ap, ai) := by
    rcases K with K | ⟨c, hc, e, K⟩
    · exact Or.inl K
    · refine Or.inr ⟨c, hc, e, ?_⟩
      rw [pk_un (by omega : c ≠ R)]
      exact K
  unfold wX_take_151
  rw [nI_clamp (n := R) (by omega), en, eu, el, rs_add, show rs_I c0 + 1 = rs_I (c0 + 1) from rs_add c0 1, rs_nS (by omega)]
  refine ⟨iv, iv, nm_e ⟨iv, iv, nm_e ⟨iv, br_c (fun z => ⟨iv, ?_⟩) (fun z => ?_)⟩⟩⟩
  · rw [rs_le bl ba] at z
    rw [if_pos z] at K'
    exact rs_x205 hR.2 hl hg ha pk_us eg K'
  · rw [rs_le bl ba] at z
    rw [if_neg z] at K'
    exact rs_x205 hR.2 ha hg ha pk_us eg K'
variable {P Q : List (Nat × Int)} {C O : List Nat} {yh yp yk ya : Nat → Int32}
theorem rs_x119 {key : Nat} {a : Int} {x6 x7 : Int32} (hX : rs_FX P Q C O ak an au al ag ah ap ai) (hY : rs_FY (P ++ Q) yh yp yk ya) (hk : key < 256) (ha : -100 ≤ a ∧ a ≤ 100) (h6 : (x6 = -1 ∧ key ∉ C) ∨ ∃ c, C[c]? = some key ∧ x6 = nI c) (h7 : (x7 = -1 ∧ key ∉ O) ∨ ∃ j, O[j]? = some key ∧ x7 = nI (40 + j)) (hs : key ∉ C → key ∉ O → C.length + (rs_nw C O).length < 40) (K : ∀ O' ak' an' au' al' ag', rs_FX P (Q ++ [(key, a)]) C O' ak' an' au' al' ag' ah ap ai → post (rs_I (rs_vc (P ++ (Q ++ [(key, a)])) key)) (nI C.length, nI O'.length, nI (P ++ (Q ++ [(key, a)])).length, gc, go, ak', an', au', al', ag', ah, ap, ai)) : wX_take_119 post (rs_I a) (nI key) x6 x7 (nI C.length) (nI O.length) (nI (P ++ Q).length) gc go ak an au al ag ah ap ai := by
  obtain ⟨hC, hO, kC, kO, bC, bO, hI⟩ := rs_bas hX hY
  have hQ := rs_EvR hY.2.1
  have hfe : nI (P ++ Q).length + 1 = nI (P ++ (Q ++ [(key, a)])).length := by
    rw [nI_1, ← List.append_assoc, List.length_append (as := P ++ Q)]
    rfl
  have hcB := rs_vcB Q key
  have hlen := hY.1
  rw [List.length_append] at hlen
  have hans : rs_vc (P ++ (Q ++ [(key, a)])) key = rs_vc P key + (rs_vc Q key + 1) := by
    rw [rs_vc, rs_vA rs_plM, rs_vS rs_plM, if_pos rfl]
    rfl
  have hA := rs_AtN hX
  -- the answer, by the closed row
  have fin : ∀ (c0 : Int) (S : SX), c0 = rs_vc Q key → post (rs_I (rs_vc (P ++ (Q ++ [(key, a)])) key)) S → ((x6 = -1 ∧ post (rs_I (c0 + 1)) S) ∨ ∃ c, c < 40 ∧ x6 = nI c ∧ post (rs_I (c0 + 1) + an c) S) := by
    intro c0 S e hS
    subst e
    rcases h6 with ⟨e6, hc⟩ | ⟨c, ec, e6⟩
    · refine Or.inl ⟨e6, ?_⟩
      rw [hans, rs_vc, rs_v0 rs_plM rs_g1 (fun y => hc ((hX.1.2 key).mpr y)), Int.zero_add] at hS
      exact hS
    · refine Or.inr ⟨c, by have := rs_getLt ec; omega, e6, ?_⟩
      rw [hans, Int.add_comm, ← rs_add] at hS
      rw [hA.1 c key ec]
      exact hS
  unfold wX_take_119
  rcases h7 with ⟨rfl, hno⟩ | ⟨j, ej, rfl⟩
  · have hO1 : (O ++ [key]).length ≤ 40 := rs_olen (rs_nodupS hX.2.1.1 hno) (rs_nwB hX.2.2.1 (fun y => hs y hno))
    rw [List.length_append, List.length_singleton] at hO1
    have nq : ¬ ∃ e, e ∈ Q ∧ e.1 = key := fun y => hno ((hX.2.1.2 key).mpr y)
    have z1 : rs_vc Q key = 0 := rs_v0 rs_plM rs_g1 nq
    have z2 : rs_vs Q key = 0 := rs_v0 rs_plM rs_gi nq
    have z3 : rs_vl Q key = -1000000 := rs_v0 rs_mnM rs_gi nq
    have z4 : rs_vg Q key = -1000000 := rs_v0 rs_mxM rs_gi nq
    refine br_f (by decide) (nm_r (nI_add 40 O.length) (rs_xstart (by omega) hk ?_))
    refine nm_r (nI_1 O.length) (rs_x151 (c0 := 0) (s0 := 0) (l0 := 100) (g0 := -100) (by omega) (by omega) (by omega) (by omega) ha pk_us pk_us pk_us pk_us ?_)
    have K1 := K (O ++ [key]) (upd ak (40 + O.length) (nI key)) (upd (upd an (40 + O.length) (rs_I 0)) (40 + O.length) (rs_I (0 + 1))) (upd (upd au (40 + O.length) (rs_I 0)) (40 + O.length) (rs_I (0 + a))) (upd (upd al (40 + O.length) (rs_I 100)) (40 + O.length) (rs_I (if 100 ≤ a then 100 else a))) (upd (upd ag (40 + O.length) (rs_I (-100))) (40 + O.length) (rs_I (if a ≤ -100 then -100 else a))) (rs_FXt (R := 40 + O.length) hX (Or.inr ⟨rfl, hno, rfl⟩) hs (fun i hi => ⟨pk_un hi, by rw [pk_un hi, pk_un hi], by rw [pk_un hi, pk_un hi], by rw [pk_un hi, pk_un hi], by rw [pk_un hi, pk_un hi]⟩) pk_us (by rw [pk_us, z1]) (by rw [pk_us, z2]) (by rw [pk_us, rs_mnE ha (Or.inr ⟨z3, rfl⟩)]) (by rw [pk_us, rs_mxE ha (Or.inr ⟨z4, rfl⟩)]))
    rw [← hfe, List.length_append (as := O), List.length_singleton] at K1
    have F := fin 0 _ z1.symm K1
    rcases F with F | ⟨c, hc, e6, F⟩
    · exact Or.inl F
    · refine Or.inr ⟨c, hc, e6, ?_⟩
      rw [pk_un (by omega : c ≠ 40 + O.length)]
      exact F
  · have hj := rs_getLt ej
    have hm : ∃ e, e ∈ Q ∧ e.1 = key := (hX.2.1.2 key).mp (rs_getMem ej)
    obtain ⟨r1, r2, r3, r4, r5⟩ := hX.2.2.2.2.1 j key ej
    have b3 := rs_vlB hQ hm
    have b4 := rs_vgB hQ hm
    refine br_t (nI_pos' (by omega)) (rs_x151 (by omega) ⟨hcB.1, by omega⟩ b3 b4 ha r2 r3 r4 r5 ?_)
    have K1 := K O ak (upd an (40 + j) (rs_I (rs_vc Q key + 1))) (upd au (40 + j) (rs_I (rs_vs Q key + a))) (upd al (40 + j) (rs_I (if rs_vl Q key ≤ a then rs_vl Q key else a))) (upd ag (40 + j) (rs_I (if a ≤ rs_vg Q key then rs_vg Q key else a))) (rs_FXt (R := 40 + j) hX (Or.inl ⟨rfl, j, ej, rfl⟩) hs (fun i hi => ⟨rfl, pk_un hi, pk_un hi, pk_un hi, pk_un hi⟩) r1 pk_us pk_us (by rw [pk_us, rs_mnE ha (Or.inl ⟨rfl, by omega⟩)]) (by rw [pk_us, rs_mxE ha (Or.inl ⟨rfl, by omega⟩)]))
    rw [← hfe] at K1
    exact fin _ _ rfl K1
theorem rs_x90 {key : Nat} {a : Int} {x6 x7 : Int32} (z : Bool) (hX : rs_FX P Q C O ak an au al ag ah ap ai) (hY : rs_FY (P ++ Q) yh yp yk ya) (hf : (400 ≤ (P ++ Q).length ∨ (z = true ∧ 40 ≤ C.length + (rs_nw C O).length)) → post (-2) (nI C.length, nI O.length, nI (P ++ Q).length, gc, go, ak, an, au, al, ag, ah, ap, ai)) (K : (P ++ Q).length < 400 → (z = true → C.length + (rs_nw C O).length < 40) → wX_take_119 post (rs_I a) (nI key) x6 x7 (nI C.length) (nI O.length) (nI (P ++ Q).length) gc go ak an au al ag ah ap ai) : wX_take_90 post (rs_I a) (nI key) x6 x7 (rs_b z) (nI C.length) (nI O.length) (nI (P ++ Q).length) gc go ak an au al ag ah ap ai := by
  obtain ⟨hC, hO, kC, kO, bC, bO, hI⟩ := rs_bas hX hY
  have hlen := hY.1
  have hs := hX.2.2.1
  have e400 : ((400 : Int32) ≤ nI (P ++ Q).length) ↔ 400 ≤ (P ++ Q).length := nI_leI (a := 400) (by omega) (by omega)
  refine br_c (fun y => hf (Or.inl (e400.mp y))) (fun y => ?_)
  rw [e400] at y
  cases z
  · exact br_t rfl (K (by omega) (fun w => absurd w (by decide)))
  · refine br_f (by decide) (rs_xsorts hC hO kC kO bC bO ?_)
    have e40 : (nI (C.length + (rs_nw C O).length) < (40 : Int32)) ↔ C.length + (rs_nw C O).length < 40 := nI_ltI (b := 40) (by omega) (by omega)
    exact br_c (fun w => K (by omega) (fun _ => e40.mp w)) (fun w => hf (Or.inr ⟨rfl, by rw [e40] at w; omega⟩))
theorem rs_xtake {t p d key : Nat} {a : Int} (ht : t < 64) (hp : p < 4) (hd : d < 4) (ha : -100 ≤ a ∧ a ≤ 100) (ek : key = t / 4 + 16 * p + 64 * d) (hX : rs_FX P Q C O ak an au al ag ah ap ai) (hY : rs_FY (P ++ Q) yh yp yk ya) (hf : (400 ≤ (P ++ Q).length ∨ (key ∉ C ∧ key ∉ O ∧ 40 ≤ C.length + (rs_nw C O).length)) → post (-2) (nI C.length, nI O.length, nI (P ++ Q).length, gc, go, ak, an, au, al, ag, ah, ap, ai)) (K : (P ++ Q).length < 400 → (key ∉ C → key ∉ O → C.length + (rs_nw C O).length < 40) → ∀ O' ak' an' au' al' ag', rs_FX P (Q ++ [(key, a)]) C O' ak' an' au' al' ag' ah ap ai → post (rs_I (rs_vc (P ++ (Q ++ [(key, a)])) key)) (nI C.length, nI O'.length, nI (P ++ (Q ++ [(key, a)])).length, gc, go, ak', an', au', al', ag', ah, ap, ai)) : wpX_take post (nI C.length, nI O.length, nI (P ++ Q).length, gc, go, ak, an, au, al, ag, ah, ap, ai) (nI t) (nI p) (nI d) (rs_I a) := by
  obtain ⟨hC, hO, kC, kO, bC, bO, hI⟩ := rs_bas hX hY
  have hk : key < 256 := by omega
  have ba : rs_B a := by unfold rs_B; omega
  have c1 : ¬ rs_I a < -100 := fun y => by
    rw [show (-100 : Int32) = rs_I (-100) from by decide, rs_lt ba (by unfold rs_B; omega)] at y
    omega
  have c2 : rs_I a ≤ 100 := (rs_le (b := 100) ba (by unfold rs_B; omega)).mpr ha.2
  have e1 : ((nI t / 4) + (16 * nI p)) + (64 * nI d) = nI key := by
    rw [show nI t / 4 = nI (t / 4) from pk_div (d := 4) (by omega) (by omega) (by omega), show (16 : Int32) * nI p = nI (16 * p) from pk_mul 16 p, show (64 : Int32) * nI d = nI (64 * d) from pk_mul 64 d, nI_add, nI_add, ek]
  unfold wpX_take
  dsimp only
  refine br_f (nI_pos (by omega)) (br_f (nI_nlt (a := 63) (by omega) (by omega)) (br_f (nI_pos (by omega)) (br_f (nI_nlt (a := 3) (by omega) (by omega)) (br_f (nI_pos (by omega)) (br_f (nI_nlt (a := 3) (by omega) (by omega)) (br_f c1 (br_t c2 ⟨by decide, nm_r e1 ?_⟩)))))))
  refine rs_xcr hC kC bC hk (fun rc ec => ?_) (fun nc => ?_)
  · refine rs_xor hO kO bO hk (fun ro eo => ?_) (fun no => ?_)
    · refine br_t (nI_pos' (by have := rs_getLt ec; omega)) (rs_x90 false hX hY (fun y => hf (y.elim Or.inl (fun w => absurd w.1 (by decide)))) (fun y _ => ?_))
      exact rs_x119 hX hY hk ha (Or.inr ⟨rc, ec, rfl⟩) (Or.inr ⟨ro, eo, rfl⟩) (fun w => absurd (rs_getMem ec) w) (K y (fun w => absurd (rs_getMem ec) w))
    · refine br_t (nI_pos' (by have := rs_getLt ec; omega)) (rs_x90 false hX hY (fun y => hf (y.elim Or.inl (fun w => absurd w.1 (by decide)))) (fun y _ => ?_))
      exact rs_x119 hX hY hk ha (Or.inr ⟨rc, ec, rfl⟩) (Or.inl ⟨rfl, no⟩) (fun w => absurd (rs_getMem ec) w) (K y (fun w => absurd (rs_getMem ec) w))
  · refine rs_xor hO kO bO hk (fun ro eo => ?_) (fun no => ?_)
    · refine br_f (by decide) (br_t (nI_pos' (by have := rs_getLt eo; omega)) (rs_x90 false hX hY (fun y => hf (y.elim Or.inl (fun w => absurd w.1 (by decide)))) (fun y _ => ?_)))
      exact rs_x119 hX hY hk ha (Or.inl ⟨rfl, nc⟩) (Or.inr ⟨ro, eo, rfl⟩) (fun _ w => absurd (rs_getMem eo) w) (K y (fun _ w => absurd (rs_getMem eo) w))
    · refine br_f (by decide) (br_f (by decide) (rs_x90 true hX hY (fun y => hf (y.elim Or.inl (fun w => Or.inr ⟨nc, no, w.2⟩))) (fun y w => ?_)))
      exact rs_x119 hX hY hk ha (Or.inl ⟨rfl, nc⟩) (Or.inl ⟨rfl, no⟩) (fun _ _ => w rfl) (K y (fun _ _ => w rfl))
end
end
section
variable {ys : Int32} {yh yp yk ya yb yu yt : Nat → Int32}
variable {E : List (Nat × Int)} {post : Int32 → SY → Prop}
theorem rs_y89 {t p d key : Nat} {a : Int} (ht : t < 64) (hp : p < 4) (hd : d < 4) (ha : -100 ≤ a ∧ a ≤ 100) (ek : key = t / 4 + 16 * p + 64 * d) (hY : rs_FY E yh yp yk ya) (hl : E.length < 400) (K : ∀ yh' yp' yk' ya', rs_FY (E ++ [(key, a)]) yh' yp' yk' ya' → post (rs_I (rs_vc (E ++ [(key, a)]) key)) (nI (E ++ [(key, a)]).length, yh', yp', yk', ya', yb, yu, yt)) : wY_take_89 post (nI t) (nI p) (nI d) (rs_I a) (nI (rs_sk key)) (nI E.length) yh yp yk ya yb yu yt := by
  have iv : vp_in (nI E.length) 400 := vp_in_nI hl (by omega)
  have hY' := rs_FYt hY hl (show key < 256 by omega) ha
  have es : nI E.length + 1 = nI (E ++ [(key, a)]).length := by
    rw [nI_1, List.length_append]
    rfl
  have K' := K _ _ _ _ hY'
  have f1 : key % 16 = t / 4 := by omega
  have f2 : key / 16 % 4 = p := by omega
  have f3 : key / 64 = d := by omega
  rw [f1, f2, f3] at K' hY'
  unfold wY_take_89
  rw [nI_clamp (n := E.length) (by omega), show nI t / 4 = nI (t / 4) from pk_div (d := 4) (by omega) (by omega) (by omega)]
  refine ⟨by decide, iv, nm_e ⟨iv, nm_e ⟨iv, nm_e ⟨iv, nm_e (nm_r es ?_)⟩⟩⟩⟩
  exact rs_yof hY' (by omega) K'
theorem rs_ytake {t p d key S : Nat} {a : Int} (ht : t < 64) (hp : p < 4) (hd : d < 4) (ha : -100 ≤ a ∧ a ≤ 100) (ek : key = t / 4 + 16 * p + 64 * d) (hY : rs_FY E yh yp yk ya) (hS : ∀ D, rs_Dk 246015 E D → D.length = S) (hS40 : S ≤ 40) (hf : (400 ≤ E.length ∨ (rs_vc E key = 0 ∧ 40 ≤ S)) → ∀ yt, post (-2) (nI E.length, yh, yp, yk, ya, yb, yu, yt)) (K : E.length < 400 → (rs_vc E key = 0 → S < 40) → ∀ yt yh' yp' yk' ya', rs_FY (E ++ [(key, a)]) yh' yp' yk' ya' → post (rs_I (rs_vc (E ++ [(key, a)]) key)) (nI (E ++ [(key, a)]).length, yh', yp', yk', ya', yb, yu, yt)) : wpY_take post (nI E.length, yh, yp, yk, ya, yb, yu, yt) (nI t) (nI p) (nI d) (rs_I a) := by
  have hk : key < 256 := by omega
  have hlen := hY.1
  have ba : rs_B a := by unfold rs_B; omega
  have c1 : ¬ rs_I a < -100 := fun y => by
    rw [show (-100 : Int32) = rs_I (-100) from by decide, rs_lt ba (by unfold rs_B; omega)] at y
    omega
  have c2 : rs_I a ≤ 100 := (rs_le (b := 100) ba (by unfold rs_B; omega)).mpr ha.2
  have e1 : ((16 * (nI t / 4)) + (4 * nI p)) + nI d = nI (rs_sk key) := by
    have f1 : key % 16 = t / 4 := by omega
    have f2 : key / 16 % 4 = p := by omega
    have f3 : key / 64 = d := by omega
    rw [show nI t / 4 = nI (t / 4) from pk_div (d := 4) (by omega) (by omega) (by omega), show (16 : Int32) * nI (t / 4) = nI (16 * (t / 4)) from pk_mul 16 _, show (4 : Int32) * nI p = nI (4 * p) from pk_mul 4 p, nI_add, nI_add]
    unfold rs_sk
    rw [f1, f2, f3]
  have e400 : ((400 : Int32) ≤ nI E.length) ↔ 400 ≤ E.length := nI_leI (a := 400) (by omega) (by omega)
  have hcB := rs_vcB E key
  have ev : rs_I (rs_vc E key) = 0 ↔ rs_vc E key = 0 := rs_eq (b := 0) (by unfold rs_B; omega) (by unfold rs_B; omega)
  unfold wpY_take
  dsimp only
  refine br_f (nI_pos (by omega)) (br_f (nI_nlt (a := 63) (by omega) (by omega)) (br_f (nI_pos (by omega)) (br_f (nI_nlt (a := 3) (by omega) (by omega)) (br_f (nI_pos (by omega)) (br_f (nI_nlt (a := 3) (by omega) (by omega)) (br_f c1 (br_t c2 ⟨by decide, nm_r e1 (br_c (fun y => hf (Or.inl (e400.mp y)) yt) (fun y => rs_yof hY hk (br_c (fun z => ?_) (fun z => ?_))))⟩)))))))
  · rw [e400] at y
    rw [ev] at z
    unfold wpY_sorts
    dsimp only
    refine rs_ysp hY (fun w => absurd rs_okA w) (fun _ yt' D hD => ?_)
    rw [hS D hD]
    have e40 : (nI S < (40 : Int32)) ↔ S < 40 := nI_ltI (b := 40) (by omega) (by omega)
    exact br_c (fun w => rs_y89 ht hp hd ha ek hY (by omega) (K (by omega) (fun _ => e40.mp w) yt')) (fun w => hf (Or.inr ⟨z, by rw [e40] at w; omega⟩) yt')
  · rw [e400] at y
    rw [ev] at z
    exact rs_y89 ht hp hd ha ek hY (by omega) (K (by omega) (fun w => absurd w z) yt)
end
theorem i_vc_take {k : Nat} {u : SX} {v : SY} (I : i_Rel k u v) (hk : k + 5 ≤ 2560) (v1 : Int32) (v2 : Int32) (v3 : Int32) (v4 : Int32) : wpX_take (fun r u' => wpY_take (fun r' v' => r' = r ∧ i_Rel (k + 5) u' v') v v1 v2 v3 v4) u v1 v2 v3 v4 := by
  refine rs_el (G := fun u v => wpX_take (fun r u' => wpY_take (fun r' v' => r' = r ∧ i_Rel (k + 5) u' v') v v1 v2 v3 v4) u v1 v2 v3 v4) I ?_
  intro P Q C O gc go ak an au al ag ah ap ai yh yp yk ya yb yu yt hX hY
  by_cases a1 : v1 < 0
  · exact br_t a1 (br_t a1 ⟨rfl, rs_in hX hY⟩)
  by_cases a2 : 63 < v1
  · exact br_f a1 (br_t a2 (br_f a1 (br_t a2 ⟨rfl, rs_in hX hY⟩)))
  by_cases a3 : v2 < 0
  · exact br_f a1 (br_f a2 (br_t a3 (br_f a1 (br_f a2 (br_t a3 ⟨rfl, rs_in hX hY⟩)))))
  by_cases a4 : 3 < v2
  · exact br_f a1 (br_f a2 (br_f a3 (br_t a4 (br_f a1 (br_f a2 (br_f a3 (br_t a4 ⟨rfl, rs_in hX hY⟩)))))))
  by_cases a5 : v3 < 0
  · exact br_f a1 (br_f a2 (br_f a3 (br_f a4 (br_t a5 (br_f a1 (br_f a2 (br_f a3 (br_f a4 (br_t a5 ⟨rfl, rs_in hX hY⟩)))))))))
  by_cases a6 : 3 < v3
  · exact br_f a1 (br_f a2 (br_f a3 (br_f a4 (br_f a5 (br_t a6 (br_f a1 (br_f a2 (br_f a3 (br_f a4 (br_f a5 (br_t a6 ⟨rfl, rs_in hX hY⟩)))))))))))
  by_cases a7 : v4 < -100
  · exact br_f a1 (br_f a2 (br_f a3 (br_f a4 (br_f a5 (br_f a6 (br_t a7 (br_f a1 (br_f a2 (br_f a3 (br_f a4 (br_f a5 (br_f a6 (br_t a7 ⟨rfl, rs_in hX hY⟩)))))))))))))
  by_cases a8 : v4 ≤ 100
  · obtain ⟨t, ht, rfl⟩ := nI_of a1
    obtain ⟨p, hp, rfl⟩ := nI_of a3
    obtain ⟨d, hd, rfl⟩ := nI_of a5
    have ht2 : t < 64 := by
      have : ¬ nI 63 < nI t := a2
      rw [nI_ltI (by omega) ht] at this
      omega
    have hp2 : p < 4 := by
      have : ¬ nI 3 < nI p := a4
      rw [nI_ltI (by omega) hp] at this
      omega
    have hd2 : d < 4 := by
      have : ¬ nI 3 < nI d := a6
      rw [nI_ltI (by omega) hd] at this
      omega
    have ha : -100 ≤ v4.toInt ∧ v4.toInt ≤ 100 := by
      rw [Int32.lt_iff_toInt_lt, show (-100 : Int32).toInt = -100 from by decide] at a7
      rw [Int32.le_iff_toInt_le, show (100 : Int32).toInt = 100 from by decide] at a8
      omega
    have ev4 : v4 = rs_I v4.toInt := (Int32.ofInt_toInt v4).symm
    generalize v4.toInt = a at ha ev4
    subst ev4
    have vc0 : ∀ key, rs_vc (P ++ Q) key = 0 ↔ (key ∉ C ∧ key ∉ O) := by
      intro key
      have hA : rs_vc (P ++ Q) key = rs_vc P key + rs_vc Q key := rs_vA rs_plM rs_g1 P Q key
      have b1 := rs_vcB P key
      have b2 := rs_vcB Q key
      rw [hA]
      constructor
      · intro e
        refine ⟨fun m => ?_, fun m => ?_⟩
        · have := rs_vc1 ((hX.1.2 key).mp m)
          omega
        · have := rs_vc1 ((hX.2.1.2 key).mp m)
          omega
      · rintro ⟨m1, m2⟩
        have z1 : rs_vc P key = 0 := rs_v0 rs_plM rs_g1 (fun y => m1 ((hX.1.2 key).mpr y))
        have z2 : rs_vc Q key = 0 := rs_v0 rs_plM rs_g1 (fun y => m2 ((hX.2.1.2 key).mpr y))
        rw [z1, z2]
        rfl
    refine rs_xtake ht2 hp2 hd2 ha rfl hX hY (fun hfull => ?_) (fun hlen hs O' ak' an' au' al' ag' hX' => ?_)
    · refine rs_ytake (S := C.length + (rs_nw C O).length) ht2 hp2 hd2 ha rfl hY (fun D hD => rs_dall hX hY hD) hX.2.2.1 (fun _ yt' => ⟨rfl, rs_in hX hY⟩) (fun hl hv => ?_)
      exfalso
      rcases hfull with h | ⟨h1, h2, h3⟩
      · omega
      · have := hv ((vc0 _).mpr ⟨h1, h2⟩)
        omega
    · refine rs_ytake (S := C.length + (rs_nw C O).length) ht2 hp2 hd2 ha rfl hY (fun D hD => rs_dall hX hY hD) hX.2.2.1 (fun hfull => ?_) (fun hl hv yt' yh' yp' yk' ya' hY' => ?_)
      · exfalso
        rcases hfull with h | ⟨h1, h2⟩
        · omega
        · obtain ⟨m1, m2⟩ := (vc0 _).mp h1
          have := hs m1 m2
          omega
      · rw [List.append_assoc] at hY' ⊢
        exact ⟨rfl, rs_in hX' hY'⟩
  · exact br_f a1 (br_f a2 (br_f a3 (br_f a4 (br_f a5 (br_f a6 (br_f a7 (br_f a8 (br_f a1 (br_f a2 (br_f a3 (br_f a4 (br_f a5 (br_f a6 (br_f a7 (br_f a8 ⟨rfl, rs_in hX hY⟩)))))))))))))))
end
section
/-! seal -/
def rs_w (op : Int → Int → Int) (z : Int) (g : Int → Int) (P Q : List (Nat × Int)) (T : List Nat) (k : Nat) : Int := op (rs_v op z g P k) (if k ∈ T then rs_v op z g Q k else z)
def rs_SI (P Q : List (Nat × Int)) (C O : List Nat) (j : Nat) (D : List Nat) (ak an au al ag : Nat → Int32) : Prop :=
  D.Nodup ∧ (∀ k, k ∈ D ↔ k ∈ C ∨ k ∈ O.take j) ∧ rs_Row 0 D (rs_w rs_pl 0 rs_g1 P Q (O.take j)) (rs_w rs_pl 0 rs_gi P Q (O.take j)) (rs_w rs_mn (-1000000) rs_gi P Q (O.take j)) (rs_w rs_mx (-1000000) rs_gi P Q (O.take j)) ak an au al ag ∧ rs_Row 40 O (rs_vc Q) (rs_vs Q) (rs_vl Q) (rs_vg Q) ak an au al ag
theorem rs_takeN {O : List Nat} {j key : Nat} (hn : O.Nodup) (e : O[j]? = some key) : key ∉ O.take j := by
  intro h
  obtain ⟨i, hi⟩ := List.getElem?_of_mem h
  rw [List.getElem?_take] at hi
  by_cases hij : i < j
  · rw [if_pos hij] at hi
    have := rs_nodupI hn hi e
    omega
  · rw [if_neg hij] at hi
    exact absurd hi (by simp)
theorem rs_lenN {C O D : List Nat} (h : C.length + (rs_nw C O).length ≤ 40) (hn : D.Nodup) (hD : ∀ k, k ∈ D → k ∈ C ∨ k ∈ O) : D.length ≤ 40 := by
  have s : D.length ≤ (C ++ rs_nw C O).length := by
    apply List.Nodup.length_le_of_subset hn
    intro k hk
    by_cases hc : k ∈ C
    · exact List.mem_append_left _ hc
    · exact List.mem_append_right _ (List.mem_filter.mpr ⟨(hD k hk).resolve_left hc, decide_eq_true hc⟩)
  rw [List.length_append] at s
  omega
section
variable {op : Int → Int → Int} {z : Int} {g : Int → Int} {P Q : List (Nat × Int)} {O : List Nat} {j key : Nat}
theorem rs_wO (e : O[j]? = some key) {k : Nat} (hk : k ≠ key) : rs_w op z g P Q (O.take (j + 1)) k = rs_w op z g P Q (O.take j) k := by
  unfold rs_w
  rw [rs_takeS e]
  by_cases h : k ∈ O.take j
  · rw [if_pos h, if_pos (List.mem_append_left _ h)]
  · rw [if_neg h, if_neg]
    intro y
    rcases List.mem_append.mp y with y | y
    · exact h y
    · exact hk (List.mem_singleton.mp y)
theorem rs_wK (e : O[j]? = some key) : rs_w op z g P Q (O.take (j + 1)) key = op (rs_v op z g P key) (rs_v op z g Q key) := by
  unfold rs_w
  rw [rs_takeS e, if_pos (List.mem_append_right _ (List.mem_singleton.mpr rfl))]
theorem rs_wB (H : rs_CM op z) (hn : O.Nodup) (e : O[j]? = some key) : rs_w op z g P Q (O.take j) key = rs_v op z g P key := by
  unfold rs_w
  rw [if_neg (rs_takeN hn e), rs_idr H]
end
section
variable {P Q : List (Nat × Int)} {C O D D' : List Nat} {ak an au al ag ak' an' au' al' ag' : Nat → Int32} {j key c : Nat}
theorem rs_SIlen (hs : C.length + (rs_nw C O).length ≤ 40) (h : rs_SI P Q C O j D ak an au al ag) : D.length ≤ 40 :=
  rs_lenN hs h.1 (fun k hk => ((h.2.1 k).mp hk).elim Or.inl (fun y => Or.inr (List.mem_of_mem_take y)))
theorem rs_SIlen1 (hs : C.length + (rs_nw C O).length ≤ 40) (h : rs_SI P Q C O j D ak an au al ag) (e : O[j]? = some key) (hk : key ∉ D) : D.length < 40 := by
  have : (D ++ [key]).length ≤ 40 := by
    refine rs_lenN hs (rs_nodupS h.1 hk) (fun k hk => ?_)
    rcases List.mem_append.mp hk with hk | hk
    · exact ((h.2.1 k).mp hk).elim Or.inl (fun y => Or.inr (List.mem_of_mem_take y))
    · rw [List.mem_singleton.mp hk]
      exact Or.inr (rs_getMem e)
  rw [List.length_append, List.length_singleton] at this
  omega
theorem rs_SIs (h : rs_SI P Q C O j D ak an au al ag) (nO : O.Nodup) (e : O[j]? = some key) (hc : c < 40) (hD : (D' = D ∧ D[c]? = some key) ∨ (D' = D ++ [key] ∧ key ∉ D ∧ c = D.length)) (hout : ∀ i, i ≠ c → ak' i = ak i ∧ an' i = an i ∧ au' i = au i ∧ al' i = al i ∧ ag' i = ag i) (hk : ak' c = nI key) (hn : an' c = rs_I (rs_vc P key + rs_vc Q key)) (hu : au' c = rs_I (rs_vs P key + rs_vs Q key)) (hl : al' c = rs_I (rs_mn (rs_vl P key) (rs_vl Q key))) (hg : ag' c = rs_I (rs_mx (rs_vg P key) (rs_vg Q key))) : rs_SI P Q C O (j + 1) D' ak' an' au' al' ag' := by
  obtain ⟨h1, h2, h3, h4⟩ := h
  have vK : ak' c = nI key ∧ an' c = rs_I (rs_w rs_pl 0 rs_g1 P Q (O.take (j + 1)) key) ∧ au' c = rs_I (rs_w rs_pl 0 rs_gi P Q (O.take (j + 1)) key) ∧ al' c = rs_I (rs_w rs_mn (-1000000) rs_gi P Q (O.take (j + 1)) key) ∧ ag' c = rs_I (rs_w rs_mx (-1000000) rs_gi P Q (O.take (j + 1)) key) := by
    rw [rs_wK e, rs_wK e, rs_wK e, rs_wK e]
    exact ⟨hk, hn, hu, hl, hg⟩
  have vO : ∀ k, k ≠ key → rs_w rs_pl 0 rs_g1 P Q (O.take (j + 1)) k = rs_w rs_pl 0 rs_g1 P Q (O.take j) k ∧ rs_w rs_pl 0 rs_gi P Q (O.take (j + 1)) k = rs_w rs_pl 0 rs_gi P Q (O.take j) k ∧ rs_w rs_mn (-1000000) rs_gi P Q (O.take (j + 1)) k = rs_w rs_mn (-1000000) rs_gi P Q (O.take j) k ∧ rs_w rs_mx (-1000000) rs_gi P Q (O.take (j + 1)) k = rs_w rs_mx (-1000000) rs_gi P Q (O.take j) k := fun k hk => ⟨rs_wO e hk, rs_wO e hk, rs_wO e hk, rs_wO e hk⟩
  refine ⟨?_, ?_, ?_, ?_⟩
  · rcases hD with ⟨rfl, _⟩ | ⟨rfl, hno, _⟩
    · exact h1
    · exact rs_nodupS h1 hno
  · intro k
    rw [rs_takeS e, List.mem_append, List.mem_singleton]
    rcases hD with ⟨rfl, ec⟩ | ⟨rfl, hno, _⟩
    · rw [h2 k]
      refine ⟨fun y => y.elim Or.inl (fun w => Or.inr (Or.inl w)), fun y => y.elim Or.inl (fun w => w.elim Or.inr (fun ek => ?_))⟩
      rw [ek]
      exact (h2 key).mp (rs_getMem ec)
    · rw [List.mem_append, List.mem_singleton, h2 k, or_assoc]
  · rcases hD with ⟨rfl, ec⟩ | ⟨rfl, hno, rfl⟩
    · refine rs_RowU h3 hout (fun r k er y => ⟨er, vO k (fun ek => ?_)⟩) (fun r k er y => ?_)
      · rw [ek] at er
        have := rs_nodupI h1 er ec
        omega
      · have hr : r = c := by omega
        rw [hr, ec] at er
        rw [← Option.some.inj er]
        exact vK
    · refine rs_RowU h3 hout (fun r k er y => ?_) (fun r k er y => ?_)
      · have hr := rs_getLt er
        rw [List.length_append, List.length_singleton] at hr
        rw [List.getElem?_append_left (by omega)] at er
        refine ⟨er, vO k (fun ek => ?_)⟩
        rw [ek] at er
        exact hno (rs_getMem er)
      · have hr : r = D.length := by omega
        rw [hr, List.getElem?_append_right (Nat.le_refl _), Nat.sub_self] at er
        rw [← Option.some.inj er]
        exact vK
  · refine rs_RowU h4 hout (fun r k er _ => ⟨er, rfl, rfl, rfl, rfl⟩) (fun r k er y => ?_)
    omega
theorem rs_SIe (hC : rs_Ks C P) (hO : rs_Ks O Q) (hs : C.length + (rs_nw C O).length ≤ 40) (h : rs_SI P Q C O O.length D ak an au al ag) {ah ap ai : Nat → Int64} (hI : rs_Ix D ah ap ai) : rs_FX (P ++ Q) [] D [] ak an au al ag ah ap ai := by
  have hlen := rs_SIlen hs h
  obtain ⟨h1, h2, h3, h4⟩ := h
  rw [List.take_length] at h2 h3
  have ve : ∀ {op : Int → Int → Int} {z : Int} (H : rs_CM op z) (g : Int → Int) (k : Nat), rs_w op z g P Q O k = rs_v op z g (P ++ Q) k := by
    intro op z H g k
    unfold rs_w
    rw [rs_vA H]
    by_cases hk : k ∈ O
    · rw [if_pos hk]
    · rw [if_neg hk, rs_v0 H g (fun y => hk ((hO.2 k).mpr y))]
  refine ⟨⟨h1, fun k => ?_⟩, ⟨List.nodup_nil, fun k => ⟨fun y => (nomatch y), fun ⟨e, y, _⟩ => (nomatch y)⟩⟩, ?_, ?_, ?_, hI⟩
  · rw [h2 k, hC.2 k, hO.2 k]
    constructor
    · rintro (⟨e, he, ek⟩ | ⟨e, he, ek⟩)
      · exact ⟨e, List.mem_append_left _ he, ek⟩
      · exact ⟨e, List.mem_append_right _ he, ek⟩
    · rintro ⟨e, he, ek⟩
      rcases List.mem_append.mp he with he | he
      · exact Or.inl ⟨e, he, ek⟩
      · exact Or.inr ⟨e, he, ek⟩
  · show D.length + 0 ≤ 40
    omega
  · intro r k e
    have := h3 r k e
    rw [ve rs_plM, ve rs_plM, ve rs_mnM, ve rs_mxM] at this
    exact this
  · intro r k e
    simp at e
end
section
variable {fc fo fe : Int32} {gc go : Int64} {ak an au al ag : Nat → Int32} {ah ap ai : Nat → Int64}
variable {post : SX → Prop}
theorem rs_x121 {J : Int32 → Int32 → Int32 → Int32 → Int64 → Int64 → (Nat → Int32) → (Nat → Int32) → (Nat → Int32) → (Nat → Int32) → (Nat → Int32) → (Nat → Int64) → (Nat → Int64) → (Nat → Int64) → Prop} {R c : Nat} {l g0 g1 : Int} (hR : R < 80) (hc : c < 40) (hl : -100 ≤ l ∧ l ≤ 100) (hg0 : -100 ≤ g0 ∧ g0 ≤ 100) (hg1 : -100 ≤ g1 ∧ g1 ≤ 100) (eg0 : ag c = rs_I g0) (eg1 : ag R = rs_I g1) (K : J (nI (R + 1)) fc fo fe gc go ak an au (upd al c (rs_I l)) (upd ag c (rs_I (if g1 ≤ g0 then g0 else g1))) ah ap ai) : wX_seal_121 post J (nI R) (nI c) (rs_I l) (nI c) fc fo fe gc go ak an au al ag ah ap ai := by
  have iv : vp_in (nI R) 80 := vp_in_nI hR (by omega)
  have ic : vp_in (nI c) 80 := vp_in_nI (by omega) (by omega)
  have b0 : rs_B g0 := by unfold rs_B; omega
  have b1 : rs_B g1 := by unfold rs_B; omega
  unfold wX_seal_121
  rw [nI_clamp (n := R) (by omega), nI_clamp (n := c) (by omega), eg0, eg1, rs_nB1 (by omega), rs_nB1 (by omega), rs_nB1 (by omega)]
  refine ⟨ic, nm_e ⟨iv, ic, br_c (fun y => ?_) (fun y => ?_)⟩⟩
  · rw [rs_le b1 b0] at y
    rw [if_pos y] at K
    exact ⟨ic, ic, nm_e (nm_r (nI_1 R) K)⟩
  · rw [rs_le b1 b0] at y
    rw [if_neg y] at K
    exact ⟨iv, ic, nm_e (nm_r (nI_1 R) K)⟩
theorem rs_x55 {J : Int32 → Int32 → Int32 → Int32 → Int64 → Int64 → (Nat → Int32) → (Nat → Int32) → (Nat → Int32) → (Nat → Int32) → (Nat → Int32) → (Nat → Int64) → (Nat → Int64) → (Nat → Int64) → Prop} {R c : Nat} {c0 c1 s0 s1 l0 l1 g0 g1 : Int} (hR : 40 ≤ R ∧ R < 80) (hc : c < 40) (hcc : 0 ≤ c0 + c1 ∧ c0 + c1 ≤ 400) (hl0 : -100 ≤ l0 ∧ l0 ≤ 100) (hl1 : -100 ≤ l1 ∧ l1 ≤ 100) (hg0 : -100 ≤ g0 ∧ g0 ≤ 100) (hg1 : -100 ≤ g1 ∧ g1 ≤ 100) (en0 : an c = rs_I c0) (en1 : an R = rs_I c1) (eu0 : au c = rs_I s0) (eu1 : au R = rs_I s1) (el0 : al c = rs_I l0) (el1 : al R = rs_I l1) (eg0 : ag c = rs_I g0) (eg1 : ag R = rs_I g1) (K : J (nI (R + 1)) fc fo fe gc go ak (upd an c (rs_I (c0 + c1))) (upd au c (rs_I (s0 + s1))) (upd al c (rs_I (if l0 ≤ l1 then l0 else l1))) (upd ag c (rs_I (if g1 ≤ g0 then g0 else g1))) ah ap ai) : wX_seal_55 post J (nI R) (nI c) fc fo fe gc go ak an au al ag ah ap ai := by
  have iv : vp_in (nI R) 80 := vp_in_nI hR.2 (by omega)
  have ic : vp_in (nI c) 80 := vp_in_nI (by omega) (by omega)
  have b0 : rs_B l0 := by unfold rs_B; omega
  have b1 : rs_B l1 := by unfold rs_B; omega
  unfold wX_seal_55
  rw [nI_clamp (n := R) (by omega), nI_clamp (n := c) (by omega), en0, en1, eu0, eu1, el0, el1, rs_add, rs_add, rs_nS (by omega)]
  refine ⟨ic, iv, ic, nm_e ⟨ic, iv, ic, nm_e ⟨iv, ic, br_c (fun y => ⟨ic, ?_⟩) (fun y => ⟨iv, ?_⟩)⟩⟩⟩
  · rw [rs_le b0 b1] at y
    rw [if_pos y] at K
    exact rs_x121 hR.2 hc hl0 hg0 hg1 eg0 eg1 K
  · rw [rs_le b0 b1] at y
    rw [if_neg y] at K
    exact rs_x121 hR.2 hc hl1 hg0 hg1 eg0 eg1 K
theorem rs_mnE2 {l0 l1 v : Int} (h1 : -100 ≤ l1 ∧ l1 ≤ 100) (h : (l0 = v ∧ l0 ≠ -1000000) ∨ (v = -1000000 ∧ l0 = 100)) : (if l0 ≤ l1 then l0 else l1) = rs_mn v l1 := rs_mnE h1 h
theorem rs_xseal3 {P Q : List (Nat × Int)} {C O : List Nat} (hC : rs_Ks C P) (hO : rs_Ks O Q) (hs : C.length + (rs_nw C O).length ≤ 40) (hP : rs_Ev P) (hQ : rs_Ev Q) (hlen : P.length + Q.length ≤ 400) (K : ∀ D ak an au al ag ah ap ai, rs_FX (P ++ Q) [] D [] ak an au al ag ah ap ai → post (nI D.length, 0, fe, gc, go, ak, an, au, al, ag, ah, ap, ai)) : ∀ d j D ak an au al ag, j + d = O.length → rs_SI P Q C O j D ak an au al ag → wX_seal_3 post (d + 1) (nI (40 + j)) (nI D.length) (nI O.length) fe gc go ak an au al ag ah ap ai := by
  have hO40 := rs_olen hO.1 hs
  have e40 : (40 : Int32) + nI O.length = nI (40 + O.length) := nI_add 40 _
  have bC := rs_kb hC hP
  have bO := rs_kb hO hQ
  intro d
  induction d with
  | zero =>
    intro j D ak an au al ag hj hS
    have ej : j = O.length := by omega
    subst ej
    have hD := rs_SIlen hs hS
    refine br_t (by rw [e40]; exact nI_le (by omega) (by omega)) ?_
    refine rs_xix hD (fun r k e => ?_) (fun k hk => ?_) (fun ah ap ai hI => K D ak an au al ag ah ap ai (rs_SIe hC hO hs hS hI))
    · have := (hS.2.2.1 r k e).1
      rw [Nat.zero_add] at this
      exact this
    · rcases (hS.2.1 k).mp hk with h | h
      · exact bC k h
      · exact bO k (List.mem_of_mem_take h)
  | succ d ih =>
    intro j D ak an au al ag hj hS
    obtain ⟨key, ek⟩ := rs_getEx (l := O) (i := j) (by omega)
    have hkb := bO key (rs_getMem ek)
    have hD := rs_SIlen hs hS
    have hmQ : ∃ e, e ∈ Q ∧ e.1 = key := (hO.2 key).mp (rs_getMem ek)
    obtain ⟨r1, r2, r3, r4, r5⟩ := hS.2.2.2 j key ek
    have iv : vp_in (nI (40 + j)) 80 := vp_in_nI (by omega) (by omega)
    have hb1 := rs_vlB hQ hmQ
    have hb2 := rs_vgB hQ hmQ
    have hcQ := rs_vcB Q key
    have hcP := rs_vcB P key
    refine br_f (by rw [e40]; exact nI_ge (by omega) (by omega)) ⟨iv, ?_⟩
    rw [nI_clamp (n := 40 + j) (by omega), r1]
    refine rs_xcr hD (fun r k e => ?_) (fun k hk => ?_) hkb (fun c ec => ?_) (fun hno => ?_)
    · have := (hS.2.2.1 r k e).1
      rw [Nat.zero_add] at this
      exact this
    · rcases (hS.2.1 k).mp hk with h | h
      · exact bC k h
      · exact bO k (List.mem_of_mem_take h)
    · have hc := rs_getLt ec
      have hmP : ∃ e, e ∈ P ∧ e.1 = key := (hC.2 key).mp (((hS.2.1 key).mp (rs_getMem ec)).resolve_right (rs_takeN hO.1 ek))
      have hb3 := rs_vlB hP hmP
      have hb4 := rs_vgB hP hmP
      have q := hS.2.2.1 c key ec
      rw [Nat.zero_add, rs_wB rs_plM hO.1 ek, rs_wB rs_plM hO.1 ek, rs_wB rs_mnM hO.1 ek, rs_wB rs_mxM hO.1 ek] at q
      obtain ⟨q1, q2, q3, q4, q5⟩ := q
      refine br_t (nI_pos' (by omega)) (rs_x55 (c0 := rs_vc P key) (c1 := rs_vc Q key) (by omega) (by omega) (by omega) hb3 hb1 hb4 hb2 q2 r2 q3 r3 q4 r4 q5 r5 ?_)
      refine ih (j + 1) D ak _ _ _ _ (by omega) (rs_SIs hS hO.1 ek (by omega) (Or.inl ⟨rfl, ec⟩) (fun i hi => ⟨rfl, pk_un hi, pk_un hi, pk_un hi, pk_un hi⟩) q1 pk_us pk_us ?_ ?_)
      · rw [pk_us, rs_mnE hb1 (Or.inl ⟨rfl, by omega⟩)]
      · rw [pk_us, rs_mxE hb2 (Or.inl ⟨rfl, by omega⟩)]
    · have hc := rs_SIlen1 hs hS ek hno
      have nP : ¬ ∃ e, e ∈ P ∧ e.1 = key := fun y => hno ((hS.2.1 key).mpr (Or.inl ((hC.2 key).mpr y)))
      have z1 : rs_vc P key = 0 := rs_v0 rs_plM rs_g1 nP
      have z2 : rs_vs P key = 0 := rs_v0 rs_plM rs_gi nP
      have z3 : rs_vl P key = -1000000 := rs_v0 rs_mnM rs_gi nP
      have z4 : rs_vg P key = -1000000 := rs_v0 rs_mxM rs_gi nP
      have hne : 40 + j ≠ D.length := by omega
      refine br_f (by decide) ⟨iv, rs_xstart (by omega) hkb (nm_r (nI_1 D.length) ?_)⟩
      refine rs_x55 (c0 := 0) (s0 := 0) (l0 := 100) (g0 := -100) (by omega) hc (by omega) (by omega) hb1 (by omega) hb2 pk_us ((pk_un hne).trans r2) pk_us ((pk_un hne).trans r3) pk_us ((pk_un hne).trans r4) pk_us ((pk_un hne).trans r5) ?_
      have := ih (j + 1) (D ++ [key]) (upd ak D.length (nI key)) (upd (upd an D.length (rs_I 0)) D.length (rs_I (0 + rs_vc Q key))) (upd (upd au D.length (rs_I 0)) D.length (rs_I (0 + rs_vs Q key))) (upd (upd al D.length (rs_I 100)) D.length (rs_I (if 100 ≤ rs_vl Q key then 100 else rs_vl Q key))) (upd (upd ag D.length (rs_I (-100))) D.length (rs_I (if rs_vg Q key ≤ -100 then -100 else rs_vg Q key))) (by omega) (rs_SIs hS hO.1 ek hc (Or.inr ⟨rfl, hno, rfl⟩) (fun i hi => ⟨pk_un hi, by rw [pk_un hi, pk_un hi], by rw [pk_un hi, pk_un hi], by rw [pk_un hi, pk_un hi], by rw [pk_un hi, pk_un hi]⟩) pk_us (by rw [pk_us, z1]) (by rw [pk_us, z2]) (by rw [pk_us, rs_mnE hb1 (Or.inr ⟨z3, rfl⟩)]) (by rw [pk_us, rs_mxE hb2 (Or.inr ⟨z4, rfl⟩)]))
      rw [List.length_append, List.length_singleton] at this
      exact this
end
theorem i_vc_seal {k : Nat} {u : SX} {v : SY} (I : i_Rel k u v) (hk : k + 5 ≤ 2560) : wpX_seal (fun u' => wpY_seal (fun v' => i_Rel (k + 5) u' v') v) u := by
  refine rs_el (G := fun u v => wpX_seal (fun u' => wpY_seal (fun v' => i_Rel (k + 5) u' v') v) u) I ?_
  intro P Q C O gc go ak an au al ag ah ap ai yh yp yk ya yb yu yt hX hY
  have hlen := hY.1
  rw [List.length_append] at hlen
  refine Exists.intro (O.length + 1) (rs_xseal3 hX.1 hX.2.1 hX.2.2.1 (rs_EvL hY.2.1) (rs_EvR hY.2.1) hlen (fun D ak' an' au' al' ag' ah' ap' ai' hX' => ?_) O.length 0 C ak an au al ag (by omega) ⟨hX.1.1, fun k => ?_, ?_, hX.2.2.2.2.1⟩)
  · have hY' : rs_FY ((P ++ Q) ++ []) yh yp yk ya := by rw [List.append_nil]; exact hY
    have R := rs_in (k := k + 5) (gc := gc) (go := go) (yb := yb) (yu := yu) (yt := yt) hX' hY'
    rw [List.append_nil] at R
    exact R
  · rw [List.take_zero]
    exact ⟨Or.inl, fun y => y.elim id (fun w => (nomatch w))⟩
  · intro r k e
    have q := hX.2.2.2.1 r k e
    have w0 : ∀ {op : Int → Int → Int} {z : Int} (H : rs_CM op z) (g : Int → Int), rs_w op z g P Q (O.take 0) k = rs_v op z g P k := by
      intro op z H g
      unfold rs_w
      rw [List.take_zero, if_neg (fun w => (nomatch w)), rs_idr H]
    rw [w0 rs_plM, w0 rs_plM, w0 rs_mnM, w0 rs_mxM]
    exact q
end
section
/-! forget -/
def rs_fq (h k : Nat) : Bool := decide (k % 16 ≠ h)
theorem rs_filtS {α : Type} {q : α → Bool} {K : List α} {j : Nat} {k : α} (e : K[j]? = some k) : (K.take (j + 1)).filter q = (K.take j).filter q ++ (if q k = true then [k] else []) := by
  rw [rs_takeS e, List.filter_append]
  congr 1
  by_cases h : q k = true
  · rw [if_pos h]
    exact List.filter_cons_of_pos h
  · rw [if_neg h]
    exact List.filter_cons_of_neg h
theorem rs_filtL {α : Type} (q : α → Bool) (K : List α) (j : Nat) : ((K.take j).filter q).length ≤ j :=
  Nat.le_trans (List.length_filter_le _ _) (List.length_take_le _ _)
theorem rs_fd_filter {α : Type} {op : Int → Int → Int} {z : Int} (H : rs_CM op z) (f : α → Int) (q : α → Bool) (l : List α) : rs_fd op z f (l.filter q) = rs_fd op z (fun a => if q a = true then f a else z) l := by
  induction l with
  | nil => rfl
  | cons a l ih =>
    show _ = op (if q a = true then f a else z) (rs_fd op z (fun a => if q a = true then f a else z) l)
    by_cases h : q a = true
    · rw [List.filter_cons_of_pos h, if_pos h, ← ih]
      rfl
    · rw [List.filter_cons_of_neg h, if_neg h, H.2.2, ih]
theorem rs_vF {op : Int → Int → Int} {z : Int} (H : rs_CM op z) (g : Int → Int) (q : Nat → Bool) (P : List (Nat × Int)) {k : Nat} (hk : q k = true) : rs_v op z g (P.filter (fun e => q e.1)) k = rs_v op z g P k := by
  unfold rs_v
  rw [rs_fd_filter H]
  apply rs_fd_congr
  intro e _
  by_cases h : e.1 = k
  · rw [if_pos h, h, if_pos hk]
  · rw [if_neg h, ite_self]
theorem rs_cntF (q : Nat → Bool) (P : List (Nat × Int)) : rs_q rs_pl 0 rs_g1 (fun k => !q k) P + ((P.filter (fun e => q e.1)).length : Int) = P.length := by
  induction P with
  | nil => rfl
  | cons e P ih =>
    show (if (!q e.1) = true then (1 : Int) else 0) + rs_q rs_pl 0 rs_g1 (fun k => !q k) P + _ = _
    cases h : q e.1
    · rw [List.filter_cons_of_neg (by rw [h]; decide), if_pos (show (!false) = true from rfl), List.length_cons]
      omega
    · rw [List.filter_cons_of_pos (p := fun e : Nat × Int => q e.1) h, if_neg (by decide), List.length_cons, List.length_cons]
      omega
theorem rs_KsF {K : List Nat} {P : List (Nat × Int)} (q : Nat → Bool) (h : rs_Ks K P) : rs_Ks (K.filter q) (P.filter (fun e => q e.1)) := by
  refine ⟨h.1.sublist List.filter_sublist, fun k => ?_⟩
  rw [List.mem_filter, h.2 k]
  constructor
  · rintro ⟨⟨e, he, ek⟩, hq⟩
    exact ⟨e, List.mem_filter.mpr ⟨he, by rw [ek]; exact hq⟩, ek⟩
  · rintro ⟨e, he, ek⟩
    have := List.mem_filter.mp he
    exact ⟨⟨e, this.1, ek⟩, by rw [← ek]; exact this.2⟩
theorem rs_nwF (q : Nat → Bool) (C O : List Nat) : (C.filter q).length + (rs_nw (C.filter q) (O.filter q)).length ≤ C.length + (rs_nw C O).length := by
  have a : (C.filter q).length ≤ C.length := List.length_filter_le _ _
  have b : rs_nw (C.filter q) (O.filter q) = (rs_nw C O).filter q := by
    unfold rs_nw
    rw [List.filter_filter, List.filter_filter]
    apply List.filter_congr
    intro k _
    cases hq : q k
    · rw [Bool.and_false, Bool.false_and]
    · rw [Bool.and_true, Bool.true_and]
      apply decide_eq_decide.mpr
      rw [List.mem_filter, hq]
      simp
  have c : ((rs_nw C O).filter q).length ≤ (rs_nw C O).length := List.length_filter_le _ _
  rw [b]
  omega
section
variable {fc fo fe : Int32} {gc go : Int64} {ak an au al ag : Nat → Int32} {ah ap ai : Nat → Int64}
variable {post : Int32 → SX → Prop} {K : List Nat} {c s l g : Nat → Int} {off h : Nat}
def rs_Kp (off : Nat) (K : List Nat) (j h : Nat) (c s l g : Nat → Int) (bk bn bu bl bg ak an au al ag : Nat → Int32) : Prop :=
  rs_Row off ((K.take j).filter (rs_fq h)) c s l g ak an au al ag ∧ ∀ i, (i < off ∨ off + j ≤ i) → ak i = bk i ∧ an i = bn i ∧ au i = bu i ∧ al i = bl i ∧ ag i = bg i
theorem rs_xkeep {x : Int} (hK : off + K.length ≤ 80) (hh : h < 16) (hB : ∀ k ∈ K, k < 256 ∧ (0 ≤ c k ∧ c k ≤ 400) ∧ (-100 ≤ l k ∧ l k ≤ 100) ∧ (-100 ≤ g k ∧ g k ≤ 100)) (hR : rs_Row off K c s l g ak an au al ag) (KK : ∀ ak' an' au' al' ag', rs_Kp off K K.length h c s l g ak an au al ag ak' an' au' al' ag' → post (nI (K.filter (rs_fq h)).length) (fc, fo, rs_I (x - rs_fd rs_pl 0 (fun k => if (!rs_fq h k) = true then c k else 0) K), gc, go, ak', an', au', al', ag', ah, ap, ai)) : wpX_keepOthers post (fc, fo, rs_I x, gc, go, ak, an, au, al, ag, ah, ap, ai) (nI off) (nI K.length) (nI h) := by
  have L : ∀ d j ak' an' au' al' ag', j + d = K.length → rs_Kp off K j h c s l g ak an au al ag ak' an' au' al' ag' → wX_keepOthers_6 post (nI off) (nI K.length) (nI h) fc fo gc go (d + 1) (nI ((K.take j).filter (rs_fq h)).length) (nI (off + j)) (rs_I (x - rs_fd rs_pl 0 (fun k => if (!rs_fq h k) = true then c k else 0) (K.take j))) ak' an' au' al' ag' ah ap ai := by
    intro d
    induction d with
    | zero =>
      intro j ak' an' au' al' ag' hj hI
      have ej : j = K.length := by omega
      subst ej
      refine br_t (by rw [nI_add]; exact nI_le (by omega) (by omega)) ?_
      rw [List.take_length]
      exact KK ak' an' au' al' ag' hI
    | succ d ih =>
      intro j ak' an' au' al' ag' hj hI
      obtain ⟨k, ek⟩ := rs_getEx (l := K) (i := j) (by omega)
      obtain ⟨hkb, hkc, hkl, hkg⟩ := hB k (rs_getMem ek)
      obtain ⟨o1, o2, o3, o4, o5⟩ := hI.2 (off + j) (Or.inr (Nat.le_refl _))
      obtain ⟨r1, r2, r3, r4, r5⟩ := hR j k ek
      have iv : vp_in (nI (off + j)) 80 := vp_in_nI (by omega) (by omega)
      have hL := rs_filtL (rs_fq h) K j
      have ih := ih (j + 1)
      rw [rs_filtS ek, rs_takeS ek, rs_fd_append rs_plM] at ih
      have e1 : rs_fd rs_pl 0 (fun k => if (!rs_fq h k) = true then c k else 0) [k] = (if (!rs_fq h k) = true then c k else 0) := Int.add_zero _
      rw [e1] at ih
      refine br_f (by rw [nI_add]; exact nI_ge (by omega) (by omega)) ⟨iv, ?_⟩
      rw [nI_clamp (n := off + j) (by omega), o1, r1]
      refine rs_xh hkb (br_c (fun y => ?_) (fun y => ?_))
      · rw [nI_eq (by omega) (by omega)] at y
        have hq : rs_fq h k = false := decide_eq_false (fun w => w y)
        rw [o2, r2]
        refine ⟨iv, nm_r (rs_sub _ _) (nm_r (nI_1 (off + j)) ?_)⟩
        rw [hq, if_pos (show (!false) = true from rfl), if_neg (show ¬ false = true by decide), List.append_nil] at ih
        have ih := ih ak' an' au' al' ag' (by omega) ⟨by rw [rs_filtS ek, hq, if_neg (by decide), List.append_nil]; exact hI.1, fun i hi => hI.2 i (by omega)⟩
        rw [show x - rs_pl (rs_fd rs_pl 0 (fun k => if (!rs_fq h k) = true then c k else 0) (K.take j)) (c k) = x - rs_fd rs_pl 0 (fun k => if (!rs_fq h k) = true then c k else 0) (K.take j) - c k from by unfold rs_pl; omega] at ih
        exact ih
      · rw [nI_eq (by omega) (by omega)] at y
        have hq : rs_fq h k = true := decide_eq_true y
        have it : vp_in (nI (off + ((K.take j).filter (rs_fq h)).length)) 80 := vp_in_nI (by omega) (by omega)
        refine nm_r (nI_add _ _) ?_
        rw [nI_clamp (n := off + ((K.take j).filter (rs_fq h)).length) (by omega), o2, o3, o4, o5, r2, r3, r4, r5, rs_nS1 (by omega), rs_nB1 (by omega), rs_nB1 (by omega), show vp_nar .short (nI k) = nI k from by rw [rs_nI]; exact rs_nS1 (by omega)]
        refine ⟨iv, it, nm_e ⟨iv, it, nm_e ⟨iv, it, nm_e ⟨iv, it, nm_e ⟨iv, it, nm_e (nm_r (nI_1 _) (nm_r (nI_1 (off + j)) ?_))⟩⟩⟩⟩⟩
        rw [hq, if_pos rfl, if_neg (show ¬ (!true) = true by decide), List.length_append, List.length_singleton] at ih
        have ih := ih (upd ak' (off + ((K.take j).filter (rs_fq h)).length) (nI k)) (upd an' (off + ((K.take j).filter (rs_fq h)).length) (rs_I (c k))) (upd au' (off + ((K.take j).filter (rs_fq h)).length) (rs_I (s k))) (upd al' (off + ((K.take j).filter (rs_fq h)).length) (rs_I (l k))) (upd ag' (off + ((K.take j).filter (rs_fq h)).length) (rs_I (g k))) (by omega) ⟨?_, ?_⟩
        · rw [show rs_pl (rs_fd rs_pl 0 (fun k => if (!rs_fq h k) = true then c k else 0) (K.take j)) 0 = rs_fd rs_pl 0 (fun k => if (!rs_fq h k) = true then c k else 0) (K.take j) from by unfold rs_pl; omega] at ih
          exact ih
        · rw [rs_filtS ek, hq, if_pos rfl]
          refine rs_RowU (R := off + ((K.take j).filter (rs_fq h)).length) hI.1 (fun i hi => ⟨pk_un hi, pk_un hi, pk_un hi, pk_un hi, pk_un hi⟩) (fun r k' er w => ?_) (fun r k' er w => ?_)
          · have hr := rs_getLt er
            rw [List.length_append, List.length_singleton] at hr
            rw [List.getElem?_append_left (by omega)] at er
            exact ⟨er, rfl, rfl, rfl, rfl⟩
          · have hr : r = ((K.take j).filter (rs_fq h)).length := by omega
            rw [hr, List.getElem?_append_right (Nat.le_refl _), Nat.sub_self] at er
            rw [← Option.some.inj er]
            exact ⟨pk_us, pk_us, pk_us, pk_us, pk_us⟩
        · intro i hi
          have hne : i ≠ off + ((K.take j).filter (rs_fq h)).length := by omega
          rw [pk_un hne, pk_un hne, pk_un hne, pk_un hne, pk_un hne]
          exact hI.2 i (by omega)
  have h0 : x - rs_fd rs_pl 0 (fun k => if (!rs_fq h k) = true then c k else 0) (K.take 0) = x := by
    rw [List.take_zero]
    show x - 0 = x
    omega
  have L0 := L K.length 0 ak an au al ag (by omega) ⟨fun r k e => by simp at e, fun i _ => ⟨rfl, rfl, rfl, rfl, rfl⟩⟩
  rw [h0] at L0
  exact Exists.intro (K.length + 1) L0
theorem rs_RowC {off : Nat} {K : List Nat} {c s l g c' s' l' g' : Nat → Int} {ak an au al ag : Nat → Int32} (h : rs_Row off K c s l g ak an au al ag) (hc : ∀ k ∈ K, c' k = c k ∧ s' k = s k ∧ l' k = l k ∧ g' k = g k) : rs_Row off K c' s' l' g' ak an au al ag := by
  intro r k e
  obtain ⟨q1, q2, q3, q4⟩ := hc k (rs_getMem e)
  rw [q1, q2, q3, q4]
  exact h r k e
theorem rs_xforget {P Q : List (Nat × Int)} {C O : List Nat} {yh yp yk ya : Nat → Int32} (hh : h < 16) (hX : rs_FX P Q C O ak an au al ag ah ap ai) (hY : rs_FY (P ++ Q) yh yp yk ya) (KK : ∀ C' O' ak' an' au' al' ag' ah' ap' ai', rs_FX (P.filter (fun e => rs_fq h e.1)) (Q.filter (fun e => rs_fq h e.1)) C' O' ak' an' au' al' ag' ah' ap' ai' → post (nI (P ++ Q).length - nI (P.filter (fun e => rs_fq h e.1) ++ Q.filter (fun e => rs_fq h e.1)).length) (nI C'.length, nI O'.length, nI (P.filter (fun e => rs_fq h e.1) ++ Q.filter (fun e => rs_fq h e.1)).length, gc, go, ak', an', au', al', ag', ah', ap', ai')) : wpX_forget post (nI C.length, nI O.length, nI (P ++ Q).length, gc, go, ak, an, au, al, ag, ah, ap, ai) (nI h) := by
  obtain ⟨hC, hO, kC, kO, bC, bO, hI⟩ := rs_bas hX hY
  have hP := rs_EvL hY.2.1
  have hQ := rs_EvR hY.2.1
  have hlen := hY.1
  rw [List.length_append] at hlen
  unfold wpX_forget
  dsimp only
  refine br_f (nI_pos (by omega)) (br_t (nI_lt (b := 16) hh (by decide)) ?_)
  rw [rs_nI (P ++ Q).length]
  refine rs_xkeep (off := 0) (K := C) (c := rs_vc P) (s := rs_vs P) (l := rs_vl P) (g := rs_vg P) (by omega) hh (fun k hk => ⟨bC k hk, ?_, rs_vlB hP ((hX.1.2 k).mp hk), rs_vgB hP ((hX.1.2 k).mp hk)⟩) hX.2.2.2.1 (fun ak1 an1 au1 al1 ag1 h1 => ?_)
  · have := rs_vcB P k
    omega
  · rw [rs_rows rs_plM rs_g1 (fun k => !rs_fq h k) hX.1.1 (rs_ksIn hX.1)]
    have hR40 : rs_Row 40 O (rs_vc Q) (rs_vs Q) (rs_vl Q) (rs_vg Q) ak1 an1 au1 al1 ag1 := by
      intro r k e
      obtain ⟨o1, o2, o3, o4, o5⟩ := h1.2 (40 + r) (Or.inr (by omega))
      rw [o1, o2, o3, o4, o5]
      exact hX.2.2.2.2.1 r k e
    refine rs_xkeep (off := 40) (K := O) (c := rs_vc Q) (s := rs_vs Q) (l := rs_vl Q) (g := rs_vg Q) (by omega) hh (fun k hk => ⟨bO k hk, ?_, rs_vlB hQ ((hX.2.1.2 k).mp hk), rs_vgB hQ ((hX.2.1.2 k).mp hk)⟩) hR40 (fun ak2 an2 au2 al2 ag2 h2 => ?_)
    · have := rs_vcB Q k
      omega
    · rw [rs_rows rs_plM rs_g1 (fun k => !rs_fq h k) hX.2.1.1 (rs_ksIn hX.2.1)]
      have efe : rs_I (((P ++ Q).length : Int) - rs_q rs_pl 0 rs_g1 (fun k => !rs_fq h k) P - rs_q rs_pl 0 rs_g1 (fun k => !rs_fq h k) Q) = nI (P.filter (fun e => rs_fq h e.1) ++ Q.filter (fun e => rs_fq h e.1)).length := by
        rw [rs_nI, List.length_append, List.length_append]
        congr 1
        have a1 := rs_cntF (rs_fq h) P
        have a2 := rs_cntF (rs_fq h) Q
        omega
      rw [efe]
      have r0 := h1.1
      rw [List.take_length] at r0
      have r4 := h2.1
      rw [List.take_length] at r4
      have r0' : rs_Row 0 (C.filter (rs_fq h)) (rs_vc P) (rs_vs P) (rs_vl P) (rs_vg P) ak2 an2 au2 al2 ag2 := by
        intro r k e
        have hr := rs_getLt e
        have hl : (C.filter (rs_fq h)).length ≤ C.length := List.length_filter_le _ _
        obtain ⟨o1, o2, o3, o4, o5⟩ := h2.2 (0 + r) (Or.inl (by omega))
        rw [o1, o2, o3, o4, o5]
        exact r0 r k e
      refine rs_xix (Nat.le_trans (List.length_filter_le _ _) hC) (fun r k e => ?_) (fun k hk => bC k (List.mem_filter.mp hk).1) (fun ah' ap' ai' hI' => ?_)
      · have := (r0' r k e).1
        rw [Nat.zero_add] at this
        exact this
      · rw [← rs_nI]
        refine KK (C.filter (rs_fq h)) (O.filter (rs_fq h)) ak2 an2 au2 al2 ag2 ah' ap' ai' ⟨rs_KsF _ hX.1, rs_KsF _ hX.2.1, Nat.le_trans (rs_nwF _ C O) hX.2.2.1, ?_, ?_, hI'⟩
        · refine rs_RowC r0' (fun k hk => ?_)
          have hq := (List.mem_filter.mp hk).2
          exact ⟨rs_vF rs_plM _ _ _ hq, rs_vF rs_plM _ _ _ hq, rs_vF rs_mnM _ _ _ hq, rs_vF rs_mxM _ _ _ hq⟩
        · refine rs_RowC r4 (fun k hk => ?_)
          have hq := (List.mem_filter.mp hk).2
          exact ⟨rs_vF rs_plM _ _ _ hq, rs_vF rs_plM _ _ _ hq, rs_vF rs_mnM _ _ _ hq, rs_vF rs_mxM _ _ _ hq⟩
end
section
variable {ys : Int32} {yh yp yk ya yb yu yt : Nat → Int32}
variable {E : List (Nat × Int)} {post : Int32 → SY → Prop} {h : Nat}
def rs_Yr (E : List (Nat × Int)) (yh yp yk ya : Nat → Int32) : Prop := ∀ i e, E[i]? = some e → yh i = nI (e.1 % 16) ∧ yp i = nI (e.1 / 16 % 4) ∧ yk i = nI (e.1 / 64) ∧ ya i = rs_I e.2
theorem rs_yforget (hh : h < 16) (hY : rs_FY E yh yp yk ya) (KK : ∀ yh' yp' yk' ya', rs_FY (E.filter (fun e => rs_fq h e.1)) yh' yp' yk' ya' → post (nI E.length - nI (E.filter (fun e => rs_fq h e.1)).length) (nI (E.filter (fun e => rs_fq h e.1)).length, yh', yp', yk', ya', yb, yu, yt)) : wpY_forget post (nI E.length, yh, yp, yk, ya, yb, yu, yt) (nI h) := by
  have hlen := hY.1
  have L : ∀ d j yh' yp' yk' ya', j + d = E.length → rs_Yr ((E.take j).filter (fun e => rs_fq h e.1)) yh' yp' yk' ya' → (∀ i, j ≤ i → yh' i = yh i ∧ yp' i = yp i ∧ yk' i = yk i ∧ ya' i = ya i) → wY_forget_16 post (nI h) (nI E.length) (d + 1) (nI ((E.take j).filter (fun e => rs_fq h e.1)).length) (nI j) yh' yp' yk' ya' yb yu yt := by
    intro d
    induction d with
    | zero =>
      intro j yh' yp' yk' ya' hj hR _
      rw [List.take_of_length_le (by omega)] at hR ⊢
      refine br_t (nI_le (by omega) (by omega)) (nm_e (KK yh' yp' yk' ya' ⟨Nat.le_trans (List.length_filter_le _ _) hlen, fun e he => hY.2.1 e (List.mem_filter.mp he).1, hR⟩))
    | succ d ih =>
      intro j yh' yp' yk' ya' hj hR hU
      obtain ⟨e, he⟩ := rs_getEx (l := E) (i := j) (by omega)
      have hkb := (hY.2.1 e (rs_getMem he)).1
      obtain ⟨o1, o2, o3, o4⟩ := hU j (Nat.le_refl _)
      obtain ⟨r1, r2, r3, r4⟩ := hY.2.2 j e he
      have iv : vp_in (nI j) 400 := vp_in_nI (by omega) (by omega)
      have hL := rs_filtL (fun e : Nat × Int => rs_fq h e.1) E j
      have it : vp_in (nI ((E.take j).filter (fun e => rs_fq h e.1)).length) 400 := vp_in_nI (by omega) (by omega)
      have ih := ih (j + 1)
      rw [rs_filtS he] at ih
      refine br_f (nI_ge (by omega) (by omega)) ⟨iv, ?_⟩
      rw [nI_clamp (n := j) (by omega), nI_clamp (n := ((E.take j).filter (fun e => rs_fq h e.1)).length) (by omega), o1, o2, o3, o4, r1, r2, r3, r4]
      refine br_c (fun y => ?_) (fun y => ?_)
      · rw [nI_eq (by omega) (by omega)] at y
        have hq : rs_fq h e.1 = false := decide_eq_false (fun w => w y)
        rw [hq, if_neg (by decide), List.append_nil] at ih
        exact nm_r (nI_1 j) (ih yh' yp' yk' ya' (by omega) hR (fun i hi => hU i (by omega)))
      · rw [nI_eq (by omega) (by omega)] at y
        have hq : rs_fq h e.1 = true := decide_eq_true y
        rw [hq, if_pos rfl, List.length_append, List.length_singleton] at ih
        refine ⟨iv, it, nm_e ⟨iv, it, nm_e ⟨iv, it, nm_e ⟨iv, it, nm_e (nm_r (nI_1 _) (nm_r (nI_1 j) (ih _ _ _ _ (by omega) ?_ ?_)))⟩⟩⟩⟩
        · intro i e' hi
          by_cases hie : i = ((E.take j).filter (fun e => rs_fq h e.1)).length
          · rw [hie, List.getElem?_append_right (Nat.le_refl _), Nat.sub_self] at hi
            rw [← Option.some.inj hi, hie, pk_us, pk_us, pk_us, pk_us]
            exact ⟨rfl, rfl, rfl, rfl⟩
          · have hr := rs_getLt hi
            rw [List.length_append, List.length_singleton] at hr
            rw [List.getElem?_append_left (by omega)] at hi
            rw [pk_un hie, pk_un hie, pk_un hie, pk_un hie]
            exact hR i e' hi
        · intro i hi
          have hne : i ≠ ((E.take j).filter (fun e => rs_fq h e.1)).length := by omega
          rw [pk_un hne, pk_un hne, pk_un hne, pk_un hne]
          exact hU i (by omega)
  unfold wpY_forget
  dsimp only
  refine br_f (nI_pos (by omega)) (br_t (nI_le (b := 15) (by omega) (by omega)) ⟨E.length + 1, L E.length 0 yh yp yk ya (by omega) (fun i e hi => by simp at hi) (fun i _ => ⟨rfl, rfl, rfl, rfl⟩)⟩)
end
theorem i_vc_forget {k : Nat} {u : SX} {v : SY} (I : i_Rel k u v) (hk : k + 5 ≤ 2560) (v1 : Int32) : wpX_forget (fun r u' => wpY_forget (fun r' v' => r' = r ∧ i_Rel (k + 5) u' v') v v1) u v1 := by
  refine rs_el (G := fun u v => wpX_forget (fun r u' => wpY_forget (fun r' v' => r' = r ∧ i_Rel (k + 5) u' v') v v1) u v1) I ?_
  intro P Q C O gc go ak an au al ag ah ap ai yh yp yk ya yb yu yt hX hY
  by_cases a1 : v1 < 0
  · exact br_t a1 (br_t a1 ⟨rfl, rs_in hX hY⟩)
  obtain ⟨h, hh, rfl⟩ := nI_of a1
  by_cases a2 : h < 16
  · refine rs_xforget a2 hX hY (fun C' O' ak' an' au' al' ag' ah' ap' ai' hX' => ?_)
    refine rs_yforget a2 hY (fun yh' yp' yk' ya' hY' => ?_)
    rw [List.filter_append] at hY' ⊢
    exact ⟨rfl, rs_in hX' hY'⟩
  · have b1 : ¬ nI h < 16 := nI_nlt (b := 16) (by omega) hh
    have b2 : ¬ nI h ≤ 15 := nI_ge (a := 15) (by omega) hh
    exact br_f a1 (br_f b1 (br_f a1 (br_f b2 ⟨rfl, rs_in hX hY⟩)))
end
