section
theorem pk_us {f : Nat → Int32} {k : Nat} {x : Int32} : upd f k x k = x := if_pos rfl
theorem pk_un {f : Nat → Int32} {k j : Nat} {x : Int32} (h : j ≠ k) : upd f k x j = f j := if_neg h
theorem pk_uLs {f : Nat → Int64} {k : Nat} {x : Int64} : vp_updL f k x k = x := if_pos rfl
theorem pk_uLn {f : Nat → Int64} {k j : Nat} {x : Int64} (h : j ≠ k) : vp_updL f k x j = f j := if_neg h
theorem pk_sub {a b : Nat} (h : b ≤ a) : nI a - nI b = nI (a - b) := by
  obtain ⟨c, rfl⟩ : ∃ c, a = c + b := ⟨a - b, by omega⟩
  rw [← nI_add, Int32.add_sub_cancel, Nat.add_sub_cancel]
theorem pk_m1 (n : Nat) : nI (n + 1) + (-1) = nI n := by
  rw [← nI_1, Int32.add_assoc, show (1 : Int32) + (-1) = 0 from rfl, Int32.add_zero]
theorem pk_mul (a b : Nat) : nI a * nI b = nI (a * b) := (Int32.ofNat_mul a b).symm
theorem pk_div {a d : Nat} (ha : a < 2 ^ 31) (h0 : 0 < d) (hd : d < 2 ^ 31) : nI a / nI d = nI (a / d) := by
  apply Int32.toInt_inj.mp
  rw [lg_idiv_nonneg (by rw [nI_toInt ha]; omega) (by rw [nI_toInt hd]; omega), nI_toInt ha, nI_toInt hd, nI_toInt (Nat.lt_of_le_of_lt (Nat.div_le_self a d) ha)]
  first | rfl | exact (Int.natCast_ediv _ _).symm
theorem pk_rem {a d : Nat} (ha : a < 2 ^ 31) (h0 : 0 < d) (hd : d < 2 ^ 31) : nI a - nI a / nI d * nI d = nI (a % d) := by
  rw [pk_div ha h0 hd, pk_mul, pk_sub (Nat.div_mul_le_self a d)]
  exact congrArg nI (by have := Nat.div_add_mod' a d; omega)
theorem pk_sub_toInt {a b : Nat} (ha : a < 2 ^ 30) (hb : b < 2 ^ 30) : (nI a - nI b).toInt = (a : Int) - b := by
  rw [Int32.toInt_sub, nI_toInt (by omega), nI_toInt (by omega)]
  exact Int.bmod_eq_of_le (by omega) (by omega)
theorem pk_sneg {a b : Nat} (hb : b < 2 ^ 30) (h : a < b) : nI a - nI b < 0 := by
  rw [Int32.lt_iff_toInt_lt, pk_sub_toInt (by omega) hb, show (0 : Int32).toInt = 0 from by decide]
  omega
theorem pk_ix (x : Int32) {n : Nat} (hn : n < 2 ^ 31) : x < 0 ∨ nI n ≤ x ∨ ∃ j : Nat, j < n ∧ x = nI j := by
  by_cases h : x < 0
  · exact Or.inl h
  · obtain ⟨j, hj, rfl⟩ := nI_of h
    by_cases h2 : j < n
    · exact Or.inr (Or.inr ⟨j, h2, rfl⟩)
    · exact Or.inr (Or.inl (nI_le (by omega) hj))
theorem pk_le {x y : Int32} {A B : Prop} (a b : Nat) (f : a ≤ b → A) (g : b < a → B) (hx : x = nI a := by rfl) (hy : y = nI b := by rfl) (ha : a < 2 ^ 31 := by omega) (hb : b < 2 ^ 31 := by omega) : (x ≤ y → A) ∧ (¬ x ≤ y → B) := by
  subst hx hy
  rw [nI_leI ha hb]
  exact ⟨f, fun z => g (by omega)⟩
theorem pk_lt {x y : Int32} {A B : Prop} (a b : Nat) (f : a < b → A) (g : b ≤ a → B) (hx : x = nI a := by rfl) (hy : y = nI b := by rfl) (ha : a < 2 ^ 31 := by omega) (hb : b < 2 ^ 31 := by omega) : (x < y → A) ∧ (¬ x < y → B) := by
  subst hx hy
  rw [nI_ltI ha hb]
  exact ⟨f, fun z => g (by omega)⟩
theorem pk_eq {x y : Int32} {A B : Prop} (a b : Nat) (f : a = b → A) (g : a ≠ b → B) (hx : x = nI a := by rfl) (hy : y = nI b := by rfl) (ha : a < 2 ^ 31 := by omega) (hb : b < 2 ^ 31 := by omega) : (x = y → A) ∧ (¬ x = y → B) := by
  subst hx hy
  rw [nI_eq ha hb]
  exact ⟨f, g⟩
theorem pk_in {x : Int32} (n N : Nat) (h : n < N) (hx : x = nI n := by rfl) (hN : N < 2 ^ 31 := by omega) : vp_in x N := by
  subst hx
  exact vp_in_nI h hN
theorem pk_cl {x : Int32} (n : Nat) (hx : x = nI n := by rfl) (h : n < 2 ^ 31 := by omega) : x.toNatClampNeg = n := by
  subst hx
  exact nI_clamp h
theorem pk_tn {n : Nat} (h : n < 2 ^ 32) : (nI n).toBitVec.toNat = n := Nat.mod_eq_of_lt h
theorem pk_and (x : Int32) {m : Int32} (k : Nat) (hm : m.toBitVec.toNat = 2 ^ k - 1) : x &&& m = nI (x.toBitVec.toNat % 2 ^ k) := by
  apply Int32.toBitVec_inj.mp
  apply BitVec.eq_of_toNat_eq
  rw [Int32.toBitVec_and, BitVec.toNat_and, hm, Nat.and_two_pow_sub_one_eq_mod]
  show _ = (BitVec.ofNat 32 _).toNat
  rw [BitVec.toNat_ofNat]
  exact (Nat.mod_eq_of_lt (Nat.lt_of_le_of_lt (Nat.mod_le _ _) x.toBitVec.isLt)).symm
theorem pk_andN {n : Nat} (h : n < 2 ^ 32) {m : Int32} (k : Nat) (hm : m.toBitVec.toNat = 2 ^ k - 1) : nI n &&& m = nI (n % 2 ^ k) := by
  rw [pk_and _ k hm, pk_tn h]
theorem pk_andE (x : Int32) {m : Int32} (k : Nat) (hm : m.toBitVec.toNat = 2 ^ k - 1) : ∃ j : Nat, j < 2 ^ k ∧ x &&& m = nI j := ⟨_, Nat.mod_lt _ (Nat.two_pow_pos k), pk_and x k hm⟩
theorem pk_andIn (x : Int32) {m : Int32} (k : Nat) (hm : m.toBitVec.toNat = 2 ^ k - 1) (hk : k ≤ 30) : vp_in (x &&& m) (2 ^ k) := by
  obtain ⟨j, hj, e⟩ := pk_andE x k hm
  rw [e]
  exact vp_in_nI hj (Nat.lt_of_le_of_lt (Nat.pow_le_pow_right (by decide) hk) (by decide))
theorem pk_shl (a s : Int32) (k : Nat) (hs : (s.toBitVec.smod 32).toNat = k) : (a <<< s).toBitVec.toNat = a.toBitVec.toNat * 2 ^ k % 2 ^ 32 := by
  show (a.toBitVec <<< (s.toBitVec.smod 32).toNat).toNat = _
  rw [hs, BitVec.toNat_shiftLeft, Nat.shiftLeft_eq]
theorem pk_shlN {n : Nat} (s : Int32) (k : Nat) (hs : (s.toBitVec.smod 32).toNat = k) (h : n * 2 ^ k < 2 ^ 32) : nI n <<< s = nI (n * 2 ^ k) := by
  apply Int32.toBitVec_inj.mp
  apply BitVec.eq_of_toNat_eq
  have hn : n < 2 ^ 32 := Nat.lt_of_le_of_lt (Nat.le_mul_of_pos_right n (Nat.two_pow_pos k)) h
  rw [pk_shl _ _ k hs, pk_tn hn, pk_tn h, Nat.mod_eq_of_lt h]
theorem pk_shr (a s : Int32) (k : Nat) (hs : (s.toBitVec.smod 32).toNat = k) : (a >>> s).toInt = a.toInt >>> k := by
  show (a.toBitVec.sshiftRight (s.toBitVec.smod 32).toNat).toInt = _
  rw [hs, BitVec.toInt_sshiftRight]
  rfl
theorem pk_shrN {n : Nat} (h : n < 2 ^ 31) (s : Int32) (k : Nat) (hs : (s.toBitVec.smod 32).toNat = k) : nI n >>> s = nI (n / 2 ^ k) := by
  apply Int32.toInt_inj.mp
  have h2 : n / 2 ^ k ≤ n := Nat.div_le_self _ _
  rw [pk_shr _ _ k hs, nI_toInt h, nI_toInt (by omega), Int.shiftRight_eq_div_pow]
  rfl
theorem pk_ushr (x s : Int32) (k : Nat) (hs : ((s.toUInt32 &&& Int32.toUInt32 31).toBitVec % 32).toNat = k) : (x.toUInt32 >>> (s.toUInt32 &&& Int32.toUInt32 31)).toInt32.toBitVec.toNat = x.toBitVec.toNat / 2 ^ k := by
  have e : (x.toUInt32 >>> (s.toUInt32 &&& Int32.toUInt32 31)).toInt32.toBitVec = x.toBitVec >>> k := by
    rw [← hs]
    exact UInt32.toBitVec_shiftRight _ _
  rw [e, BitVec.toNat_ushiftRight, Nat.shiftRight_eq_div_pow]
theorem pk_ushrN {n : Nat} (hn : n < 2 ^ 32) (s : Int32) (k : Nat) (hs : ((s.toUInt32 &&& Int32.toUInt32 31).toBitVec % 32).toNat = k) : ((nI n).toUInt32 >>> (s.toUInt32 &&& Int32.toUInt32 31)).toInt32 = nI (n / 2 ^ k) := by
  apply Int32.toBitVec_inj.mp
  apply BitVec.eq_of_toNat_eq
  rw [pk_ushr _ s k hs, pk_tn hn, pk_tn (Nat.lt_of_le_of_lt (Nat.div_le_self _ _) hn)]
theorem pk_nb (z : Int32) : narrow .byte (.int z.toInt8.toInt32) = .int z.toInt8.toInt32 := congrArg Value.int (by simp)
theorem pk_ns (z : Int32) : narrow .short (.int z.toInt16.toInt32) = .int z.toInt16.toInt32 := congrArg Value.int (by simp)
theorem pk_fb (r : Int32) : fits .byte (.int r.toInt8.toInt32) = true := by
  have ⟨a, b⟩ := lg_i2b_range r
  have h1 : (-128 : Int32).toInt = -128 := by decide
  have h2 : (127 : Int32).toInt = 127 := by decide
  simp only [fits, Bool.and_eq_true, decide_eq_true_eq, Int32.le_iff_toInt_le, h1, h2]
  omega
theorem pk_fs (r : Int32) : fits .short (.int r.toInt16.toInt32) = true := by
  have ⟨a, b⟩ := lg_i2s_range r
  have h1 : (-32768 : Int32).toInt = -32768 := by decide
  have h2 : (32767 : Int32).toInt = 32767 := by decide
  simp only [fits, Bool.and_eq_true, decide_eq_true_eq, Int32.le_iff_toInt_le, h1, h2]
  omega
theorem pk_charN {q : Nat} (hq : q < 65536) : narrow .char (.int (nI q)) = .int (nI q) ∧ fits .char (.int (nI q)) = true := by
  constructor
  · have e : (nI q).toUInt32.toUInt16.toUInt32.toInt32 = nI q := by
      apply Int32.toBitVec_inj.mp
      apply BitVec.eq_of_toNat_eq
      show (nI q).toUInt32.toUInt16.toUInt32.toNat = q % 2 ^ 32
      rw [UInt16.toNat_toUInt32, UInt32.toNat_toUInt16, show (nI q).toUInt32.toNat = q % 2 ^ 32 from rfl]
      omega
    exact congrArg Value.int e
  · have a : (0 : Int32) ≤ nI q := nI_pos' (by omega)
    have b : nI q ≤ 65535 := nI_le (b := 65535) (by omega) (by decide)
    show (decide ((0 : Int32) ≤ nI q) && decide (nI q ≤ 65535)) = true
    rw [decide_eq_true a, decide_eq_true b]
    rfl
theorem pk_char (x : Int32) : (x.toUInt32 % 65536).toInt32 = nI (x.toBitVec.toNat % 65536) := by
  apply Int32.toBitVec_inj.mp
  apply BitVec.eq_of_toNat_eq
  rw [pk_tn (by omega)]
  show (x.toUInt32 % 65536).toNat = _
  rw [UInt32.toNat_mod]
  rfl
theorem pk_nc (x : Int32) : narrow .char (.int (x.toUInt32 % 65536).toInt32) = .int (x.toUInt32 % 65536).toInt32 := by
  rw [pk_char]
  exact (pk_charN (Nat.mod_lt _ (by decide))).1
theorem pk_fc (x : Int32) : fits .char (.int (x.toUInt32 % 65536).toInt32) = true := by
  rw [pk_char]
  exact (pk_charN (Nat.mod_lt _ (by decide))).2
theorem pk_vb (z : Int32) : vp_nar .byte z.toInt8.toInt32 = z.toInt8.toInt32 := by rw [vp_nar_byte]; simp
theorem pk_vs (z : Int32) : vp_nar .short z.toInt16.toInt32 = z.toInt16.toInt32 := by rw [vp_nar_short]; simp
theorem pk_vc (z : Int32) : vp_nar .char (z.toUInt32 % 65536).toInt32 = (z.toUInt32 % 65536).toInt32 := Value.int.inj (pk_nc z)
theorem pk_lT {n : Nat} (h : n < 2 ^ 63) : (lN n).toInt = (n : Int) := lg_ofNat_toInt h
theorem pk_lLT {a b : Nat} (ha : a < 2 ^ 63) (hb : b < 2 ^ 63) : lN a < lN b ↔ a < b := by
  rw [Int64.lt_iff_toInt_lt, pk_lT ha, pk_lT hb]; omega
theorem pk_lLE {a b : Nat} (ha : a < 2 ^ 63) (hb : b < 2 ^ 63) : lN a ≤ lN b ↔ a ≤ b := by
  rw [Int64.le_iff_toInt_le, pk_lT ha, pk_lT hb]; omega
theorem pk_lEQ {a b : Nat} (ha : a < 2 ^ 63) (hb : b < 2 ^ 63) : lN a = lN b ↔ a = b := by
  rw [← Int64.toInt_inj, pk_lT ha, pk_lT hb]; omega
theorem pk_lOf {x : Int64} (h : ¬ x < 0) : ∃ k : Nat, k < 2 ^ 63 ∧ x = lN k := by
  rw [Int64.lt_iff_toInt_lt] at h
  have h0 : (0 : Int64).toInt = 0 := by decide
  have hx := Int64.toInt_lt x
  refine ⟨x.toInt.toNat, by omega, Int64.toInt_inj.mp ?_⟩
  rw [pk_lT (by omega)]
  omega
theorem pk_lDiv {a b : Nat} (ha : a < 2 ^ 63) (h0 : 0 < b) (hb : b < 2 ^ 63) : lN a / lN b = lN (a / b) := by
  apply Int64.toInt_inj.mp
  rw [lg_ldiv_nonneg (by rw [pk_lT ha]; omega) (by rw [pk_lT hb]; omega), pk_lT ha, pk_lT hb, pk_lT (Nat.lt_of_le_of_lt (Nat.div_le_self a b) ha)]
  rfl
theorem pk_lRem {a b : Nat} (ha : a < 2 ^ 63) (h0 : 0 < b) (hb : b < 2 ^ 63) : lN a - lN a / lN b * lN b = lN (a % b) := by
  rw [pk_lDiv ha h0 hb, lN_mul, lN_sub (Nat.div_mul_le_self a b)]
  exact congrArg lN (by have := Nat.div_add_mod' a b; omega)
theorem pk_loop {σ : Type} (W : Nat → Nat → σ → Prop) (I : Nat → σ → Prop) (e i0 : Nat) (s : σ) (hi : i0 ≤ e) (h0 : I i0 s) (hx : ∀ n s, I e s → W (n + 1) e s)
    (hs : ∀ n i s, i < e → I i s → (∀ s', I (i + 1) s' → W n (i + 1) s') → W (n + 1) i s) : ∃ n, W n i0 s :=
  ⟨e + 1, loop_i W I e hx hs (e + 1) i0 s hi (by omega) h0⟩
theorem pk_loopD {σ : Type} (W : Nat → Nat → σ → Prop) (I : Nat → σ → Prop) (hx : ∀ n s, I 0 s → W (n + 1) 0 s)
    (hs : ∀ n i s, I (i + 1) s → (∀ s', I i s' → W n i s') → W (n + 1) (i + 1) s) : ∀ (e : Nat) (s : σ), I e s → W (e + 1) e s := by
  intro e
  induction e with
  | zero => exact fun s h => hx 0 s h
  | succ e ih => exact fun s h => hs (e + 1) e s h (fun s' h' => ih s' h')
theorem lp1 {A1 : Type} (W : Nat → A1 → Prop) (I : A1 → Prop) (μ : A1 → Nat) (hs : ∀ (n : Nat) (a1 : A1), I a1 → (∀ (b1 : A1), I b1 → μ b1 < μ a1 → W n b1) → W (n + 1) a1) (a1 : A1) (h : I a1) : ∃ n, W n a1 :=
  loop_m (σ := A1) (fun n s => W n s) (fun s => I s) (fun s => μ s) (fun n s hI hk => hs n s hI (fun b1 h9 hm => hk b1 h9 hm)) a1 h
theorem lp2 {A1 A2 : Type} (W : Nat → A1 → A2 → Prop) (I : A1 → A2 → Prop) (μ : A1 → A2 → Nat) (hs : ∀ (n : Nat) (a1 : A1) (a2 : A2), I a1 a2 → (∀ (b1 : A1) (b2 : A2), I b1 b2 → μ b1 b2 < μ a1 a2 → W n b1 b2) → W (n + 1) a1 a2) (a1 : A1) (a2 : A2) (h : I a1 a2) : ∃ n, W n a1 a2 :=
  loop_m (σ := A1 × A2) (fun n s => W n s.1 s.2) (fun s => I s.1 s.2) (fun s => μ s.1 s.2) (fun n s hI hk => hs n s.1 s.2 hI (fun b1 b2 h9 hm => hk (b1, b2) h9 hm)) (a1, a2) h
theorem lp3 {A1 A2 A3 : Type} (W : Nat → A1 → A2 → A3 → Prop) (I : A1 → A2 → A3 → Prop) (μ : A1 → A2 → A3 → Nat) (hs : ∀ (n : Nat) (a1 : A1) (a2 : A2) (a3 : A3), I a1 a2 a3 → (∀ (b1 : A1) (b2 : A2) (b3 : A3), I b1 b2 b3 → μ b1 b2 b3 < μ a1 a2 a3 → W n b1 b2 b3) → W (n + 1) a1 a2 a3) (a1 : A1) (a2 : A2) (a3 : A3) (h : I a1 a2 a3) : ∃ n, W n a1 a2 a3 :=
  loop_m (σ := A1 × A2 × A3) (fun n s => W n s.1 s.2.1 s.2.2) (fun s => I s.1 s.2.1 s.2.2) (fun s => μ s.1 s.2.1 s.2.2) (fun n s hI hk => hs n s.1 s.2.1 s.2.2 hI (fun b1 b2 b3 h9 hm => hk (b1, b2, b3) h9 hm)) (a1, a2, a3) h
theorem lp4 {A1 A2 A3 A4 : Type} (W : Nat → A1 → A2 → A3 → A4 → Prop) (I : A1 → A2 → A3 → A4 → Prop) (μ : A1 → A2 → A3 → A4 → Nat) (hs : ∀ (n : Nat) (a1 : A1) (a2 : A2) (a3 : A3) (a4 : A4), I a1 a2 a3 a4 → (∀ (b1 : A1) (b2 : A2) (b3 : A3) (b4 : A4), I b1 b2 b3 b4 → μ b1 b2 b3 b4 < μ a1 a2 a3 a4 → W n b1 b2 b3 b4) → W (n + 1) a1 a2 a3 a4) (a1 : A1) (a2 : A2) (a3 : A3) (a4 : A4) (h : I a1 a2 a3 a4) : ∃ n, W n a1 a2 a3 a4 :=
  loop_m (σ := A1 × A2 × A3 × A4) (fun n s => W n s.1 s.2.1 s.2.2.1 s.2.2.2) (fun s => I s.1 s.2.1 s.2.2.1 s.2.2.2) (fun s => μ s.1 s.2.1 s.2.2.1 s.2.2.2) (fun n s hI hk => hs n s.1 s.2.1 s.2.2.1 s.2.2.2 hI (fun b1 b2 b3 b4 h9 hm => hk (b1, b2, b3, b4) h9 hm)) (a1, a2, a3, a4) h
theorem lp5 {A1 A2 A3 A4 A5 : Type} (W : Nat → A1 → A2 → A3 → A4 → A5 → Prop) (I : A1 → A2 → A3 → A4 → A5 → Prop) (μ : A1 → A2 → A3 → A4 → A5 → Nat) (hs : ∀ (n : Nat) (a1 : A1) (a2 : A2) (a3 : A3) (a4 : A4) (a5 : A5), I a1 a2 a3 a4 a5 → (∀ (b1 : A1) (b2 : A2) (b3 : A3) (b4 : A4) (b5 : A5), I b1 b2 b3 b4 b5 → μ b1 b2 b3 b4 b5 < μ a1 a2 a3 a4 a5 → W n b1 b2 b3 b4 b5) → W (n + 1) a1 a2 a3 a4 a5) (a1 : A1) (a2 : A2) (a3 : A3) (a4 : A4) (a5 : A5) (h : I a1 a2 a3 a4 a5) : ∃ n, W n a1 a2 a3 a4 a5 :=
  loop_m (σ := A1 × A2 × A3 × A4 × A5) (fun n s => W n s.1 s.2.1 s.2.2.1 s.2.2.2.1 s.2.2.2.2) (fun s => I s.1 s.2.1 s.2.2.1 s.2.2.2.1 s.2.2.2.2) (fun s => μ s.1 s.2.1 s.2.2.1 s.2.2.2.1 s.2.2.2.2) (fun n s hI hk => hs n s.1 s.2.1 s.2.2.1 s.2.2.2.1 s.2.2.2.2 hI (fun b1 b2 b3 b4 b5 h9 hm => hk (b1, b2, b3, b4, b5) h9 hm)) (a1, a2, a3, a4, a5) h
theorem lp6 {A1 A2 A3 A4 A5 A6 : Type} (W : Nat → A1 → A2 → A3 → A4 → A5 → A6 → Prop) (I : A1 → A2 → A3 → A4 → A5 → A6 → Prop) (μ : A1 → A2 → A3 → A4 → A5 → A6 → Nat) (hs : ∀ (n : Nat) (a1 : A1) (a2 : A2) (a3 : A3) (a4 : A4) (a5 : A5) (a6 : A6), I a1 a2 a3 a4 a5 a6 → (∀ (b1 : A1) (b2 : A2) (b3 : A3) (b4 : A4) (b5 : A5) (b6 : A6), I b1 b2 b3 b4 b5 b6 → μ b1 b2 b3 b4 b5 b6 < μ a1 a2 a3 a4 a5 a6 → W n b1 b2 b3 b4 b5 b6) → W (n + 1) a1 a2 a3 a4 a5 a6) (a1 : A1) (a2 : A2) (a3 : A3) (a4 : A4) (a5 : A5) (a6 : A6) (h : I a1 a2 a3 a4 a5 a6) : ∃ n, W n a1 a2 a3 a4 a5 a6 :=
  loop_m (σ := A1 × A2 × A3 × A4 × A5 × A6) (fun n s => W n s.1 s.2.1 s.2.2.1 s.2.2.2.1 s.2.2.2.2.1 s.2.2.2.2.2) (fun s => I s.1 s.2.1 s.2.2.1 s.2.2.2.1 s.2.2.2.2.1 s.2.2.2.2.2) (fun s => μ s.1 s.2.1 s.2.2.1 s.2.2.2.1 s.2.2.2.2.1 s.2.2.2.2.2) (fun n s hI hk => hs n s.1 s.2.1 s.2.2.1 s.2.2.2.1 s.2.2.2.2.1 s.2.2.2.2.2 hI (fun b1 b2 b3 b4 b5 b6 h9 hm => hk (b1, b2, b3, b4, b5, b6) h9 hm)) (a1, a2, a3, a4, a5, a6) h
theorem lp7 {A1 A2 A3 A4 A5 A6 A7 : Type} (W : Nat → A1 → A2 → A3 → A4 → A5 → A6 → A7 → Prop) (I : A1 → A2 → A3 → A4 → A5 → A6 → A7 → Prop) (μ : A1 → A2 → A3 → A4 → A5 → A6 → A7 → Nat) (hs : ∀ (n : Nat) (a1 : A1) (a2 : A2) (a3 : A3) (a4 : A4) (a5 : A5) (a6 : A6) (a7 : A7), I a1 a2 a3 a4 a5 a6 a7 → (∀ (b1 : A1) (b2 : A2) (b3 : A3) (b4 : A4) (b5 : A5) (b6 : A6) (b7 : A7), I b1 b2 b3 b4 b5 b6 b7 → μ b1 b2 b3 b4 b5 b6 b7 < μ a1 a2 a3 a4 a5 a6 a7 → W n b1 b2 b3 b4 b5 b6 b7) → W (n + 1) a1 a2 a3 a4 a5 a6 a7) (a1 : A1) (a2 : A2) (a3 : A3) (a4 : A4) (a5 : A5) (a6 : A6) (a7 : A7) (h : I a1 a2 a3 a4 a5 a6 a7) : ∃ n, W n a1 a2 a3 a4 a5 a6 a7 :=
  loop_m (σ := A1 × A2 × A3 × A4 × A5 × A6 × A7) (fun n s => W n s.1 s.2.1 s.2.2.1 s.2.2.2.1 s.2.2.2.2.1 s.2.2.2.2.2.1 s.2.2.2.2.2.2) (fun s => I s.1 s.2.1 s.2.2.1 s.2.2.2.1 s.2.2.2.2.1 s.2.2.2.2.2.1 s.2.2.2.2.2.2) (fun s => μ s.1 s.2.1 s.2.2.1 s.2.2.2.1 s.2.2.2.2.1 s.2.2.2.2.2.1 s.2.2.2.2.2.2) (fun n s hI hk => hs n s.1 s.2.1 s.2.2.1 s.2.2.2.1 s.2.2.2.2.1 s.2.2.2.2.2.1 s.2.2.2.2.2.2 hI (fun b1 b2 b3 b4 b5 b6 b7 h9 hm => hk (b1, b2, b3, b4, b5, b6, b7) h9 hm)) (a1, a2, a3, a4, a5, a6, a7) h
theorem lp8 {A1 A2 A3 A4 A5 A6 A7 A8 : Type} (W : Nat → A1 → A2 → A3 → A4 → A5 → A6 → A7 → A8 → Prop) (I : A1 → A2 → A3 → A4 → A5 → A6 → A7 → A8 → Prop) (μ : A1 → A2 → A3 → A4 → A5 → A6 → A7 → A8 → Nat) (hs : ∀ (n : Nat) (a1 : A1) (a2 : A2) (a3 : A3) (a4 : A4) (a5 : A5) (a6 : A6) (a7 : A7) (a8 : A8), I a1 a2 a3 a4 a5 a6 a7 a8 → (∀ (b1 : A1) (b2 : A2) (b3 : A3) (b4 : A4) (b5 : A5) (b6 : A6) (b7 : A7) (b8 : A8), I b1 b2 b3 b4 b5 b6 b7 b8 → μ b1 b2 b3 b4 b5 b6 b7 b8 < μ a1 a2 a3 a4 a5 a6 a7 a8 → W n b1 b2 b3 b4 b5 b6 b7 b8) → W (n + 1) a1 a2 a3 a4 a5 a6 a7 a8) (a1 : A1) (a2 : A2) (a3 : A3) (a4 : A4) (a5 : A5) (a6 : A6) (a7 : A7) (a8 : A8) (h : I a1 a2 a3 a4 a5 a6 a7 a8) : ∃ n, W n a1 a2 a3 a4 a5 a6 a7 a8 :=
  loop_m (σ := A1 × A2 × A3 × A4 × A5 × A6 × A7 × A8) (fun n s => W n s.1 s.2.1 s.2.2.1 s.2.2.2.1 s.2.2.2.2.1 s.2.2.2.2.2.1 s.2.2.2.2.2.2.1 s.2.2.2.2.2.2.2) (fun s => I s.1 s.2.1 s.2.2.1 s.2.2.2.1 s.2.2.2.2.1 s.2.2.2.2.2.1 s.2.2.2.2.2.2.1 s.2.2.2.2.2.2.2) (fun s => μ s.1 s.2.1 s.2.2.1 s.2.2.2.1 s.2.2.2.2.1 s.2.2.2.2.2.1 s.2.2.2.2.2.2.1 s.2.2.2.2.2.2.2) (fun n s hI hk => hs n s.1 s.2.1 s.2.2.1 s.2.2.2.1 s.2.2.2.2.1 s.2.2.2.2.2.1 s.2.2.2.2.2.2.1 s.2.2.2.2.2.2.2 hI (fun b1 b2 b3 b4 b5 b6 b7 b8 h9 hm => hk (b1, b2, b3, b4, b5, b6, b7, b8) h9 hm)) (a1, a2, a3, a4, a5, a6, a7, a8) h
theorem lp9 {A1 A2 A3 A4 A5 A6 A7 A8 A9 : Type} (W : Nat → A1 → A2 → A3 → A4 → A5 → A6 → A7 → A8 → A9 → Prop) (I : A1 → A2 → A3 → A4 → A5 → A6 → A7 → A8 → A9 → Prop) (μ : A1 → A2 → A3 → A4 → A5 → A6 → A7 → A8 → A9 → Nat) (hs : ∀ (n : Nat) (a1 : A1) (a2 : A2) (a3 : A3) (a4 : A4) (a5 : A5) (a6 : A6) (a7 : A7) (a8 : A8) (a9 : A9), I a1 a2 a3 a4 a5 a6 a7 a8 a9 → (∀ (b1 : A1) (b2 : A2) (b3 : A3) (b4 : A4) (b5 : A5) (b6 : A6) (b7 : A7) (b8 : A8) (b9 : A9), I b1 b2 b3 b4 b5 b6 b7 b8 b9 → μ b1 b2 b3 b4 b5 b6 b7 b8 b9 < μ a1 a2 a3 a4 a5 a6 a7 a8 a9 → W n b1 b2 b3 b4 b5 b6 b7 b8 b9) → W (n + 1) a1 a2 a3 a4 a5 a6 a7 a8 a9) (a1 : A1) (a2 : A2) (a3 : A3) (a4 : A4) (a5 : A5) (a6 : A6) (a7 : A7) (a8 : A8) (a9 : A9) (h : I a1 a2 a3 a4 a5 a6 a7 a8 a9) : ∃ n, W n a1 a2 a3 a4 a5 a6 a7 a8 a9 :=
  loop_m (σ := A1 × A2 × A3 × A4 × A5 × A6 × A7 × A8 × A9) (fun n s => W n s.1 s.2.1 s.2.2.1 s.2.2.2.1 s.2.2.2.2.1 s.2.2.2.2.2.1 s.2.2.2.2.2.2.1 s.2.2.2.2.2.2.2.1 s.2.2.2.2.2.2.2.2) (fun s => I s.1 s.2.1 s.2.2.1 s.2.2.2.1 s.2.2.2.2.1 s.2.2.2.2.2.1 s.2.2.2.2.2.2.1 s.2.2.2.2.2.2.2.1 s.2.2.2.2.2.2.2.2) (fun s => μ s.1 s.2.1 s.2.2.1 s.2.2.2.1 s.2.2.2.2.1 s.2.2.2.2.2.1 s.2.2.2.2.2.2.1 s.2.2.2.2.2.2.2.1 s.2.2.2.2.2.2.2.2) (fun n s hI hk => hs n s.1 s.2.1 s.2.2.1 s.2.2.2.1 s.2.2.2.2.1 s.2.2.2.2.2.1 s.2.2.2.2.2.2.1 s.2.2.2.2.2.2.2.1 s.2.2.2.2.2.2.2.2 hI (fun b1 b2 b3 b4 b5 b6 b7 b8 b9 h9 hm => hk (b1, b2, b3, b4, b5, b6, b7, b8, b9) h9 hm)) (a1, a2, a3, a4, a5, a6, a7, a8, a9) h
theorem lp10 {A1 A2 A3 A4 A5 A6 A7 A8 A9 A10 : Type} (W : Nat → A1 → A2 → A3 → A4 → A5 → A6 → A7 → A8 → A9 → A10 → Prop) (I : A1 → A2 → A3 → A4 → A5 → A6 → A7 → A8 → A9 → A10 → Prop) (μ : A1 → A2 → A3 → A4 → A5 → A6 → A7 → A8 → A9 → A10 → Nat) (hs : ∀ (n : Nat) (a1 : A1) (a2 : A2) (a3 : A3) (a4 : A4) (a5 : A5) (a6 : A6) (a7 : A7) (a8 : A8) (a9 : A9) (a10 : A10), I a1 a2 a3 a4 a5 a6 a7 a8 a9 a10 → (∀ (b1 : A1) (b2 : A2) (b3 : A3) (b4 : A4) (b5 : A5) (b6 : A6) (b7 : A7) (b8 : A8) (b9 : A9) (b10 : A10), I b1 b2 b3 b4 b5 b6 b7 b8 b9 b10 → μ b1 b2 b3 b4 b5 b6 b7 b8 b9 b10 < μ a1 a2 a3 a4 a5 a6 a7 a8 a9 a10 → W n b1 b2 b3 b4 b5 b6 b7 b8 b9 b10) → W (n + 1) a1 a2 a3 a4 a5 a6 a7 a8 a9 a10) (a1 : A1) (a2 : A2) (a3 : A3) (a4 : A4) (a5 : A5) (a6 : A6) (a7 : A7) (a8 : A8) (a9 : A9) (a10 : A10) (h : I a1 a2 a3 a4 a5 a6 a7 a8 a9 a10) : ∃ n, W n a1 a2 a3 a4 a5 a6 a7 a8 a9 a10 :=
  loop_m (σ := A1 × A2 × A3 × A4 × A5 × A6 × A7 × A8 × A9 × A10) (fun n s => W n s.1 s.2.1 s.2.2.1 s.2.2.2.1 s.2.2.2.2.1 s.2.2.2.2.2.1 s.2.2.2.2.2.2.1 s.2.2.2.2.2.2.2.1 s.2.2.2.2.2.2.2.2.1 s.2.2.2.2.2.2.2.2.2) (fun s => I s.1 s.2.1 s.2.2.1 s.2.2.2.1 s.2.2.2.2.1 s.2.2.2.2.2.1 s.2.2.2.2.2.2.1 s.2.2.2.2.2.2.2.1 s.2.2.2.2.2.2.2.2.1 s.2.2.2.2.2.2.2.2.2) (fun s => μ s.1 s.2.1 s.2.2.1 s.2.2.2.1 s.2.2.2.2.1 s.2.2.2.2.2.1 s.2.2.2.2.2.2.1 s.2.2.2.2.2.2.2.1 s.2.2.2.2.2.2.2.2.1 s.2.2.2.2.2.2.2.2.2) (fun n s hI hk => hs n s.1 s.2.1 s.2.2.1 s.2.2.2.1 s.2.2.2.2.1 s.2.2.2.2.2.1 s.2.2.2.2.2.2.1 s.2.2.2.2.2.2.2.1 s.2.2.2.2.2.2.2.2.1 s.2.2.2.2.2.2.2.2.2 hI (fun b1 b2 b3 b4 b5 b6 b7 b8 b9 b10 h9 hm => hk (b1, b2, b3, b4, b5, b6, b7, b8, b9, b10) h9 hm)) (a1, a2, a3, a4, a5, a6, a7, a8, a9, a10) h
theorem lp11 {A1 A2 A3 A4 A5 A6 A7 A8 A9 A10 A11 : Type} (W : Nat → A1 → A2 → A3 → A4 → A5 → A6 → A7 → A8 → A9 → A10 → A11 → Prop) (I : A1 → A2 → A3 → A4 → A5 → A6 → A7 → A8 → A9 → A10 → A11 → Prop) (μ : A1 → A2 → A3 → A4 → A5 → A6 → A7 → A8 → A9 → A10 → A11 → Nat) (hs : ∀ (n : Nat) (a1 : A1) (a2 : A2) (a3 : A3) (a4 : A4) (a5 : A5) (a6 : A6) (a7 : A7) (a8 : A8) (a9 : A9) (a10 : A10) (a11 : A11), I a1 a2 a3 a4 a5 a6 a7 a8 a9 a10 a11 → (∀ (b1 : A1) (b2 : A2) (b3 : A3) (b4 : A4) (b5 : A5) (b6 : A6) (b7 : A7) (b8 : A8) (b9 : A9) (b10 : A10) (b11 : A11), I b1 b2 b3 b4 b5 b6 b7 b8 b9 b10 b11 → μ b1 b2 b3 b4 b5 b6 b7 b8 b9 b10 b11 < μ a1 a2 a3 a4 a5 a6 a7 a8 a9 a10 a11 → W n b1 b2 b3 b4 b5 b6 b7 b8 b9 b10 b11) → W (n + 1) a1 a2 a3 a4 a5 a6 a7 a8 a9 a10 a11) (a1 : A1) (a2 : A2) (a3 : A3) (a4 : A4) (a5 : A5) (a6 : A6) (a7 : A7) (a8 : A8) (a9 : A9) (a10 : A10) (a11 : A11) (h : I a1 a2 a3 a4 a5 a6 a7 a8 a9 a10 a11) : ∃ n, W n a1 a2 a3 a4 a5 a6 a7 a8 a9 a10 a11 :=
  loop_m (σ := A1 × A2 × A3 × A4 × A5 × A6 × A7 × A8 × A9 × A10 × A11) (fun n s => W n s.1 s.2.1 s.2.2.1 s.2.2.2.1 s.2.2.2.2.1 s.2.2.2.2.2.1 s.2.2.2.2.2.2.1 s.2.2.2.2.2.2.2.1 s.2.2.2.2.2.2.2.2.1 s.2.2.2.2.2.2.2.2.2.1 s.2.2.2.2.2.2.2.2.2.2) (fun s => I s.1 s.2.1 s.2.2.1 s.2.2.2.1 s.2.2.2.2.1 s.2.2.2.2.2.1 s.2.2.2.2.2.2.1 s.2.2.2.2.2.2.2.1 s.2.2.2.2.2.2.2.2.1 s.2.2.2.2.2.2.2.2.2.1 s.2.2.2.2.2.2.2.2.2.2) (fun s => μ s.1 s.2.1 s.2.2.1 s.2.2.2.1 s.2.2.2.2.1 s.2.2.2.2.2.1 s.2.2.2.2.2.2.1 s.2.2.2.2.2.2.2.1 s.2.2.2.2.2.2.2.2.1 s.2.2.2.2.2.2.2.2.2.1 s.2.2.2.2.2.2.2.2.2.2) (fun n s hI hk => hs n s.1 s.2.1 s.2.2.1 s.2.2.2.1 s.2.2.2.2.1 s.2.2.2.2.2.1 s.2.2.2.2.2.2.1 s.2.2.2.2.2.2.2.1 s.2.2.2.2.2.2.2.2.1 s.2.2.2.2.2.2.2.2.2.1 s.2.2.2.2.2.2.2.2.2.2 hI (fun b1 b2 b3 b4 b5 b6 b7 b8 b9 b10 b11 h9 hm => hk (b1, b2, b3, b4, b5, b6, b7, b8, b9, b10, b11) h9 hm)) (a1, a2, a3, a4, a5, a6, a7, a8, a9, a10, a11) h
theorem lp12 {A1 A2 A3 A4 A5 A6 A7 A8 A9 A10 A11 A12 : Type} (W : Nat → A1 → A2 → A3 → A4 → A5 → A6 → A7 → A8 → A9 → A10 → A11 → A12 → Prop) (I : A1 → A2 → A3 → A4 → A5 → A6 → A7 → A8 → A9 → A10 → A11 → A12 → Prop) (μ : A1 → A2 → A3 → A4 → A5 → A6 → A7 → A8 → A9 → A10 → A11 → A12 → Nat) (hs : ∀ (n : Nat) (a1 : A1) (a2 : A2) (a3 : A3) (a4 : A4) (a5 : A5) (a6 : A6) (a7 : A7) (a8 : A8) (a9 : A9) (a10 : A10) (a11 : A11) (a12 : A12), I a1 a2 a3 a4 a5 a6 a7 a8 a9 a10 a11 a12 → (∀ (b1 : A1) (b2 : A2) (b3 : A3) (b4 : A4) (b5 : A5) (b6 : A6) (b7 : A7) (b8 : A8) (b9 : A9) (b10 : A10) (b11 : A11) (b12 : A12), I b1 b2 b3 b4 b5 b6 b7 b8 b9 b10 b11 b12 → μ b1 b2 b3 b4 b5 b6 b7 b8 b9 b10 b11 b12 < μ a1 a2 a3 a4 a5 a6 a7 a8 a9 a10 a11 a12 → W n b1 b2 b3 b4 b5 b6 b7 b8 b9 b10 b11 b12) → W (n + 1) a1 a2 a3 a4 a5 a6 a7 a8 a9 a10 a11 a12) (a1 : A1) (a2 : A2) (a3 : A3) (a4 : A4) (a5 : A5) (a6 : A6) (a7 : A7) (a8 : A8) (a9 : A9) (a10 : A10) (a11 : A11) (a12 : A12) (h : I a1 a2 a3 a4 a5 a6 a7 a8 a9 a10 a11 a12) : ∃ n, W n a1 a2 a3 a4 a5 a6 a7 a8 a9 a10 a11 a12 :=
  loop_m (σ := A1 × A2 × A3 × A4 × A5 × A6 × A7 × A8 × A9 × A10 × A11 × A12) (fun n s => W n s.1 s.2.1 s.2.2.1 s.2.2.2.1 s.2.2.2.2.1 s.2.2.2.2.2.1 s.2.2.2.2.2.2.1 s.2.2.2.2.2.2.2.1 s.2.2.2.2.2.2.2.2.1 s.2.2.2.2.2.2.2.2.2.1 s.2.2.2.2.2.2.2.2.2.2.1 s.2.2.2.2.2.2.2.2.2.2.2) (fun s => I s.1 s.2.1 s.2.2.1 s.2.2.2.1 s.2.2.2.2.1 s.2.2.2.2.2.1 s.2.2.2.2.2.2.1 s.2.2.2.2.2.2.2.1 s.2.2.2.2.2.2.2.2.1 s.2.2.2.2.2.2.2.2.2.1 s.2.2.2.2.2.2.2.2.2.2.1 s.2.2.2.2.2.2.2.2.2.2.2) (fun s => μ s.1 s.2.1 s.2.2.1 s.2.2.2.1 s.2.2.2.2.1 s.2.2.2.2.2.1 s.2.2.2.2.2.2.1 s.2.2.2.2.2.2.2.1 s.2.2.2.2.2.2.2.2.1 s.2.2.2.2.2.2.2.2.2.1 s.2.2.2.2.2.2.2.2.2.2.1 s.2.2.2.2.2.2.2.2.2.2.2) (fun n s hI hk => hs n s.1 s.2.1 s.2.2.1 s.2.2.2.1 s.2.2.2.2.1 s.2.2.2.2.2.1 s.2.2.2.2.2.2.1 s.2.2.2.2.2.2.2.1 s.2.2.2.2.2.2.2.2.1 s.2.2.2.2.2.2.2.2.2.1 s.2.2.2.2.2.2.2.2.2.2.1 s.2.2.2.2.2.2.2.2.2.2.2 hI (fun b1 b2 b3 b4 b5 b6 b7 b8 b9 b10 b11 b12 h9 hm => hk (b1, b2, b3, b4, b5, b6, b7, b8, b9, b10, b11, b12) h9 hm)) (a1, a2, a3, a4, a5, a6, a7, a8, a9, a10, a11, a12) h
theorem lp13 {A1 A2 A3 A4 A5 A6 A7 A8 A9 A10 A11 A12 A13 : Type} (W : Nat → A1 → A2 → A3 → A4 → A5 → A6 → A7 → A8 → A9 → A10 → A11 → A12 → A13 → Prop) (I : A1 → A2 → A3 → A4 → A5 → A6 → A7 → A8 → A9 → A10 → A11 → A12 → A13 → Prop) (μ : A1 → A2 → A3 → A4 → A5 → A6 → A7 → A8 → A9 → A10 → A11 → A12 → A13 → Nat) (hs : ∀ (n : Nat) (a1 : A1) (a2 : A2) (a3 : A3) (a4 : A4) (a5 : A5) (a6 : A6) (a7 : A7) (a8 : A8) (a9 : A9) (a10 : A10) (a11 : A11) (a12 : A12) (a13 : A13), I a1 a2 a3 a4 a5 a6 a7 a8 a9 a10 a11 a12 a13 → (∀ (b1 : A1) (b2 : A2) (b3 : A3) (b4 : A4) (b5 : A5) (b6 : A6) (b7 : A7) (b8 : A8) (b9 : A9) (b10 : A10) (b11 : A11) (b12 : A12) (b13 : A13), I b1 b2 b3 b4 b5 b6 b7 b8 b9 b10 b11 b12 b13 → μ b1 b2 b3 b4 b5 b6 b7 b8 b9 b10 b11 b12 b13 < μ a1 a2 a3 a4 a5 a6 a7 a8 a9 a10 a11 a12 a13 → W n b1 b2 b3 b4 b5 b6 b7 b8 b9 b10 b11 b12 b13) → W (n + 1) a1 a2 a3 a4 a5 a6 a7 a8 a9 a10 a11 a12 a13) (a1 : A1) (a2 : A2) (a3 : A3) (a4 : A4) (a5 : A5) (a6 : A6) (a7 : A7) (a8 : A8) (a9 : A9) (a10 : A10) (a11 : A11) (a12 : A12) (a13 : A13) (h : I a1 a2 a3 a4 a5 a6 a7 a8 a9 a10 a11 a12 a13) : ∃ n, W n a1 a2 a3 a4 a5 a6 a7 a8 a9 a10 a11 a12 a13 :=
  loop_m (σ := A1 × A2 × A3 × A4 × A5 × A6 × A7 × A8 × A9 × A10 × A11 × A12 × A13) (fun n s => W n s.1 s.2.1 s.2.2.1 s.2.2.2.1 s.2.2.2.2.1 s.2.2.2.2.2.1 s.2.2.2.2.2.2.1 s.2.2.2.2.2.2.2.1 s.2.2.2.2.2.2.2.2.1 s.2.2.2.2.2.2.2.2.2.1 s.2.2.2.2.2.2.2.2.2.2.1 s.2.2.2.2.2.2.2.2.2.2.2.1 s.2.2.2.2.2.2.2.2.2.2.2.2) (fun s => I s.1 s.2.1 s.2.2.1 s.2.2.2.1 s.2.2.2.2.1 s.2.2.2.2.2.1 s.2.2.2.2.2.2.1 s.2.2.2.2.2.2.2.1 s.2.2.2.2.2.2.2.2.1 s.2.2.2.2.2.2.2.2.2.1 s.2.2.2.2.2.2.2.2.2.2.1 s.2.2.2.2.2.2.2.2.2.2.2.1 s.2.2.2.2.2.2.2.2.2.2.2.2) (fun s => μ s.1 s.2.1 s.2.2.1 s.2.2.2.1 s.2.2.2.2.1 s.2.2.2.2.2.1 s.2.2.2.2.2.2.1 s.2.2.2.2.2.2.2.1 s.2.2.2.2.2.2.2.2.1 s.2.2.2.2.2.2.2.2.2.1 s.2.2.2.2.2.2.2.2.2.2.1 s.2.2.2.2.2.2.2.2.2.2.2.1 s.2.2.2.2.2.2.2.2.2.2.2.2) (fun n s hI hk => hs n s.1 s.2.1 s.2.2.1 s.2.2.2.1 s.2.2.2.2.1 s.2.2.2.2.2.1 s.2.2.2.2.2.2.1 s.2.2.2.2.2.2.2.1 s.2.2.2.2.2.2.2.2.1 s.2.2.2.2.2.2.2.2.2.1 s.2.2.2.2.2.2.2.2.2.2.1 s.2.2.2.2.2.2.2.2.2.2.2.1 s.2.2.2.2.2.2.2.2.2.2.2.2 hI (fun b1 b2 b3 b4 b5 b6 b7 b8 b9 b10 b11 b12 b13 h9 hm => hk (b1, b2, b3, b4, b5, b6, b7, b8, b9, b10, b11, b12, b13) h9 hm)) (a1, a2, a3, a4, a5, a6, a7, a8, a9, a10, a11, a12, a13) h
theorem lp14 {A1 A2 A3 A4 A5 A6 A7 A8 A9 A10 A11 A12 A13 A14 : Type} (W : Nat → A1 → A2 → A3 → A4 → A5 → A6 → A7 → A8 → A9 → A10 → A11 → A12 → A13 → A14 → Prop) (I : A1 → A2 → A3 → A4 → A5 → A6 → A7 → A8 → A9 → A10 → A11 → A12 → A13 → A14 → Prop) (μ : A1 → A2 → A3 → A4 → A5 → A6 → A7 → A8 → A9 → A10 → A11 → A12 → A13 → A14 → Nat) (hs : ∀ (n : Nat) (a1 : A1) (a2 : A2) (a3 : A3) (a4 : A4) (a5 : A5) (a6 : A6) (a7 : A7) (a8 : A8) (a9 : A9) (a10 : A10) (a11 : A11) (a12 : A12) (a13 : A13) (a14 : A14), I a1 a2 a3 a4 a5 a6 a7 a8 a9 a10 a11 a12 a13 a14 → (∀ (b1 : A1) (b2 : A2) (b3 : A3) (b4 : A4) (b5 : A5) (b6 : A6) (b7 : A7) (b8 : A8) (b9 : A9) (b10 : A10) (b11 : A11) (b12 : A12) (b13 : A13) (b14 : A14), I b1 b2 b3 b4 b5 b6 b7 b8 b9 b10 b11 b12 b13 b14 → μ b1 b2 b3 b4 b5 b6 b7 b8 b9 b10 b11 b12 b13 b14 < μ a1 a2 a3 a4 a5 a6 a7 a8 a9 a10 a11 a12 a13 a14 → W n b1 b2 b3 b4 b5 b6 b7 b8 b9 b10 b11 b12 b13 b14) → W (n + 1) a1 a2 a3 a4 a5 a6 a7 a8 a9 a10 a11 a12 a13 a14) (a1 : A1) (a2 : A2) (a3 : A3) (a4 : A4) (a5 : A5) (a6 : A6) (a7 : A7) (a8 : A8) (a9 : A9) (a10 : A10) (a11 : A11) (a12 : A12) (a13 : A13) (a14 : A14) (h : I a1 a2 a3 a4 a5 a6 a7 a8 a9 a10 a11 a12 a13 a14) : ∃ n, W n a1 a2 a3 a4 a5 a6 a7 a8 a9 a10 a11 a12 a13 a14 :=
  loop_m (σ := A1 × A2 × A3 × A4 × A5 × A6 × A7 × A8 × A9 × A10 × A11 × A12 × A13 × A14) (fun n s => W n s.1 s.2.1 s.2.2.1 s.2.2.2.1 s.2.2.2.2.1 s.2.2.2.2.2.1 s.2.2.2.2.2.2.1 s.2.2.2.2.2.2.2.1 s.2.2.2.2.2.2.2.2.1 s.2.2.2.2.2.2.2.2.2.1 s.2.2.2.2.2.2.2.2.2.2.1 s.2.2.2.2.2.2.2.2.2.2.2.1 s.2.2.2.2.2.2.2.2.2.2.2.2.1 s.2.2.2.2.2.2.2.2.2.2.2.2.2) (fun s => I s.1 s.2.1 s.2.2.1 s.2.2.2.1 s.2.2.2.2.1 s.2.2.2.2.2.1 s.2.2.2.2.2.2.1 s.2.2.2.2.2.2.2.1 s.2.2.2.2.2.2.2.2.1 s.2.2.2.2.2.2.2.2.2.1 s.2.2.2.2.2.2.2.2.2.2.1 s.2.2.2.2.2.2.2.2.2.2.2.1 s.2.2.2.2.2.2.2.2.2.2.2.2.1 s.2.2.2.2.2.2.2.2.2.2.2.2.2) (fun s => μ s.1 s.2.1 s.2.2.1 s.2.2.2.1 s.2.2.2.2.1 s.2.2.2.2.2.1 s.2.2.2.2.2.2.1 s.2.2.2.2.2.2.2.1 s.2.2.2.2.2.2.2.2.1 s.2.2.2.2.2.2.2.2.2.1 s.2.2.2.2.2.2.2.2.2.2.1 s.2.2.2.2.2.2.2.2.2.2.2.1 s.2.2.2.2.2.2.2.2.2.2.2.2.1 s.2.2.2.2.2.2.2.2.2.2.2.2.2) (fun n s hI hk => hs n s.1 s.2.1 s.2.2.1 s.2.2.2.1 s.2.2.2.2.1 s.2.2.2.2.2.1 s.2.2.2.2.2.2.1 s.2.2.2.2.2.2.2.1 s.2.2.2.2.2.2.2.2.1 s.2.2.2.2.2.2.2.2.2.1 s.2.2.2.2.2.2.2.2.2.2.1 s.2.2.2.2.2.2.2.2.2.2.2.1 s.2.2.2.2.2.2.2.2.2.2.2.2.1 s.2.2.2.2.2.2.2.2.2.2.2.2.2 hI (fun b1 b2 b3 b4 b5 b6 b7 b8 b9 b10 b11 b12 b13 b14 h9 hm => hk (b1, b2, b3, b4, b5, b6, b7, b8, b9, b10, b11, b12, b13, b14) h9 hm)) (a1, a2, a3, a4, a5, a6, a7, a8, a9, a10, a11, a12, a13, a14) h
theorem lp15 {A1 A2 A3 A4 A5 A6 A7 A8 A9 A10 A11 A12 A13 A14 A15 : Type} (W : Nat → A1 → A2 → A3 → A4 → A5 → A6 → A7 → A8 → A9 → A10 → A11 → A12 → A13 → A14 → A15 → Prop) (I : A1 → A2 → A3 → A4 → A5 → A6 → A7 → A8 → A9 → A10 → A11 → A12 → A13 → A14 → A15 → Prop) (μ : A1 → A2 → A3 → A4 → A5 → A6 → A7 → A8 → A9 → A10 → A11 → A12 → A13 → A14 → A15 → Nat) (hs : ∀ (n : Nat) (a1 : A1) (a2 : A2) (a3 : A3) (a4 : A4) (a5 : A5) (a6 : A6) (a7 : A7) (a8 : A8) (a9 : A9) (a10 : A10) (a11 : A11) (a12 : A12) (a13 : A13) (a14 : A14) (a15 : A15), I a1 a2 a3 a4 a5 a6 a7 a8 a9 a10 a11 a12 a13 a14 a15 → (∀ (b1 : A1) (b2 : A2) (b3 : A3) (b4 : A4) (b5 : A5) (b6 : A6) (b7 : A7) (b8 : A8) (b9 : A9) (b10 : A10) (b11 : A11) (b12 : A12) (b13 : A13) (b14 : A14) (b15 : A15), I b1 b2 b3 b4 b5 b6 b7 b8 b9 b10 b11 b12 b13 b14 b15 → μ b1 b2 b3 b4 b5 b6 b7 b8 b9 b10 b11 b12 b13 b14 b15 < μ a1 a2 a3 a4 a5 a6 a7 a8 a9 a10 a11 a12 a13 a14 a15 → W n b1 b2 b3 b4 b5 b6 b7 b8 b9 b10 b11 b12 b13 b14 b15) → W (n + 1) a1 a2 a3 a4 a5 a6 a7 a8 a9 a10 a11 a12 a13 a14 a15) (a1 : A1) (a2 : A2) (a3 : A3) (a4 : A4) (a5 : A5) (a6 : A6) (a7 : A7) (a8 : A8) (a9 : A9) (a10 : A10) (a11 : A11) (a12 : A12) (a13 : A13) (a14 : A14) (a15 : A15) (h : I a1 a2 a3 a4 a5 a6 a7 a8 a9 a10 a11 a12 a13 a14 a15) : ∃ n, W n a1 a2 a3 a4 a5 a6 a7 a8 a9 a10 a11 a12 a13 a14 a15 :=
  loop_m (σ := A1 × A2 × A3 × A4 × A5 × A6 × A7 × A8 × A9 × A10 × A11 × A12 × A13 × A14 × A15) (fun n s => W n s.1 s.2.1 s.2.2.1 s.2.2.2.1 s.2.2.2.2.1 s.2.2.2.2.2.1 s.2.2.2.2.2.2.1 s.2.2.2.2.2.2.2.1 s.2.2.2.2.2.2.2.2.1 s.2.2.2.2.2.2.2.2.2.1 s.2.2.2.2.2.2.2.2.2.2.1 s.2.2.2.2.2.2.2.2.2.2.2.1 s.2.2.2.2.2.2.2.2.2.2.2.2.1 s.2.2.2.2.2.2.2.2.2.2.2.2.2.1 s.2.2.2.2.2.2.2.2.2.2.2.2.2.2) (fun s => I s.1 s.2.1 s.2.2.1 s.2.2.2.1 s.2.2.2.2.1 s.2.2.2.2.2.1 s.2.2.2.2.2.2.1 s.2.2.2.2.2.2.2.1 s.2.2.2.2.2.2.2.2.1 s.2.2.2.2.2.2.2.2.2.1 s.2.2.2.2.2.2.2.2.2.2.1 s.2.2.2.2.2.2.2.2.2.2.2.1 s.2.2.2.2.2.2.2.2.2.2.2.2.1 s.2.2.2.2.2.2.2.2.2.2.2.2.2.1 s.2.2.2.2.2.2.2.2.2.2.2.2.2.2) (fun s => μ s.1 s.2.1 s.2.2.1 s.2.2.2.1 s.2.2.2.2.1 s.2.2.2.2.2.1 s.2.2.2.2.2.2.1 s.2.2.2.2.2.2.2.1 s.2.2.2.2.2.2.2.2.1 s.2.2.2.2.2.2.2.2.2.1 s.2.2.2.2.2.2.2.2.2.2.1 s.2.2.2.2.2.2.2.2.2.2.2.1 s.2.2.2.2.2.2.2.2.2.2.2.2.1 s.2.2.2.2.2.2.2.2.2.2.2.2.2.1 s.2.2.2.2.2.2.2.2.2.2.2.2.2.2) (fun n s hI hk => hs n s.1 s.2.1 s.2.2.1 s.2.2.2.1 s.2.2.2.2.1 s.2.2.2.2.2.1 s.2.2.2.2.2.2.1 s.2.2.2.2.2.2.2.1 s.2.2.2.2.2.2.2.2.1 s.2.2.2.2.2.2.2.2.2.1 s.2.2.2.2.2.2.2.2.2.2.1 s.2.2.2.2.2.2.2.2.2.2.2.1 s.2.2.2.2.2.2.2.2.2.2.2.2.1 s.2.2.2.2.2.2.2.2.2.2.2.2.2.1 s.2.2.2.2.2.2.2.2.2.2.2.2.2.2 hI (fun b1 b2 b3 b4 b5 b6 b7 b8 b9 b10 b11 b12 b13 b14 b15 h9 hm => hk (b1, b2, b3, b4, b5, b6, b7, b8, b9, b10, b11, b12, b13, b14, b15) h9 hm)) (a1, a2, a3, a4, a5, a6, a7, a8, a9, a10, a11, a12, a13, a14, a15) h
theorem lp16 {A1 A2 A3 A4 A5 A6 A7 A8 A9 A10 A11 A12 A13 A14 A15 A16 : Type} (W : Nat → A1 → A2 → A3 → A4 → A5 → A6 → A7 → A8 → A9 → A10 → A11 → A12 → A13 → A14 → A15 → A16 → Prop) (I : A1 → A2 → A3 → A4 → A5 → A6 → A7 → A8 → A9 → A10 → A11 → A12 → A13 → A14 → A15 → A16 → Prop) (μ : A1 → A2 → A3 → A4 → A5 → A6 → A7 → A8 → A9 → A10 → A11 → A12 → A13 → A14 → A15 → A16 → Nat) (hs : ∀ (n : Nat) (a1 : A1) (a2 : A2) (a3 : A3) (a4 : A4) (a5 : A5) (a6 : A6) (a7 : A7) (a8 : A8) (a9 : A9) (a10 : A10) (a11 : A11) (a12 : A12) (a13 : A13) (a14 : A14) (a15 : A15) (a16 : A16), I a1 a2 a3 a4 a5 a6 a7 a8 a9 a10 a11 a12 a13 a14 a15 a16 → (∀ (b1 : A1) (b2 : A2) (b3 : A3) (b4 : A4) (b5 : A5) (b6 : A6) (b7 : A7) (b8 : A8) (b9 : A9) (b10 : A10) (b11 : A11) (b12 : A12) (b13 : A13) (b14 : A14) (b15 : A15) (b16 : A16), I b1 b2 b3 b4 b5 b6 b7 b8 b9 b10 b11 b12 b13 b14 b15 b16 → μ b1 b2 b3 b4 b5 b6 b7 b8 b9 b10 b11 b12 b13 b14 b15 b16 < μ a1 a2 a3 a4 a5 a6 a7 a8 a9 a10 a11 a12 a13 a14 a15 a16 → W n b1 b2 b3 b4 b5 b6 b7 b8 b9 b10 b11 b12 b13 b14 b15 b16) → W (n + 1) a1 a2 a3 a4 a5 a6 a7 a8 a9 a10 a11 a12 a13 a14 a15 a16) (a1 : A1) (a2 : A2) (a3 : A3) (a4 : A4) (a5 : A5) (a6 : A6) (a7 : A7) (a8 : A8) (a9 : A9) (a10 : A10) (a11 : A11) (a12 : A12) (a13 : A13) (a14 : A14) (a15 : A15) (a16 : A16) (h : I a1 a2 a3 a4 a5 a6 a7 a8 a9 a10 a11 a12 a13 a14 a15 a16) : ∃ n, W n a1 a2 a3 a4 a5 a6 a7 a8 a9 a10 a11 a12 a13 a14 a15 a16 :=
  loop_m (σ := A1 × A2 × A3 × A4 × A5 × A6 × A7 × A8 × A9 × A10 × A11 × A12 × A13 × A14 × A15 × A16) (fun n s => W n s.1 s.2.1 s.2.2.1 s.2.2.2.1 s.2.2.2.2.1 s.2.2.2.2.2.1 s.2.2.2.2.2.2.1 s.2.2.2.2.2.2.2.1 s.2.2.2.2.2.2.2.2.1 s.2.2.2.2.2.2.2.2.2.1 s.2.2.2.2.2.2.2.2.2.2.1 s.2.2.2.2.2.2.2.2.2.2.2.1 s.2.2.2.2.2.2.2.2.2.2.2.2.1 s.2.2.2.2.2.2.2.2.2.2.2.2.2.1 s.2.2.2.2.2.2.2.2.2.2.2.2.2.2.1 s.2.2.2.2.2.2.2.2.2.2.2.2.2.2.2) (fun s => I s.1 s.2.1 s.2.2.1 s.2.2.2.1 s.2.2.2.2.1 s.2.2.2.2.2.1 s.2.2.2.2.2.2.1 s.2.2.2.2.2.2.2.1 s.2.2.2.2.2.2.2.2.1 s.2.2.2.2.2.2.2.2.2.1 s.2.2.2.2.2.2.2.2.2.2.1 s.2.2.2.2.2.2.2.2.2.2.2.1 s.2.2.2.2.2.2.2.2.2.2.2.2.1 s.2.2.2.2.2.2.2.2.2.2.2.2.2.1 s.2.2.2.2.2.2.2.2.2.2.2.2.2.2.1 s.2.2.2.2.2.2.2.2.2.2.2.2.2.2.2) (fun s => μ s.1 s.2.1 s.2.2.1 s.2.2.2.1 s.2.2.2.2.1 s.2.2.2.2.2.1 s.2.2.2.2.2.2.1 s.2.2.2.2.2.2.2.1 s.2.2.2.2.2.2.2.2.1 s.2.2.2.2.2.2.2.2.2.1 s.2.2.2.2.2.2.2.2.2.2.1 s.2.2.2.2.2.2.2.2.2.2.2.1 s.2.2.2.2.2.2.2.2.2.2.2.2.1 s.2.2.2.2.2.2.2.2.2.2.2.2.2.1 s.2.2.2.2.2.2.2.2.2.2.2.2.2.2.1 s.2.2.2.2.2.2.2.2.2.2.2.2.2.2.2) (fun n s hI hk => hs n s.1 s.2.1 s.2.2.1 s.2.2.2.1 s.2.2.2.2.1 s.2.2.2.2.2.1 s.2.2.2.2.2.2.1 s.2.2.2.2.2.2.2.1 s.2.2.2.2.2.2.2.2.1 s.2.2.2.2.2.2.2.2.2.1 s.2.2.2.2.2.2.2.2.2.2.1 s.2.2.2.2.2.2.2.2.2.2.2.1 s.2.2.2.2.2.2.2.2.2.2.2.2.1 s.2.2.2.2.2.2.2.2.2.2.2.2.2.1 s.2.2.2.2.2.2.2.2.2.2.2.2.2.2.1 s.2.2.2.2.2.2.2.2.2.2.2.2.2.2.2 hI (fun b1 b2 b3 b4 b5 b6 b7 b8 b9 b10 b11 b12 b13 b14 b15 b16 h9 hm => hk (b1, b2, b3, b4, b5, b6, b7, b8, b9, b10, b11, b12, b13, b14, b15, b16) h9 hm)) (a1, a2, a3, a4, a5, a6, a7, a8, a9, a10, a11, a12, a13, a14, a15, a16) h
theorem pk_least (P : Nat → Prop) (h : ∃ k, P k) : ∃ k, P k ∧ ∀ j, j < k → ¬ P j := by
  obtain ⟨k, hk⟩ := h
  induction k using Nat.strongRecOn with
  | ind k ih =>
    by_cases e : ∃ j, j < k ∧ P j
    · obtain ⟨j, hj, pj⟩ := e
      exact ih j hj pj
    · exact ⟨k, hk, fun j hj pj => e ⟨j, hj, pj⟩⟩
theorem rp1 {ρ A1 : Type} (W : Nat → (ρ → Prop) → A1 → Prop) (ok : A1 → Prop) (μ : A1 → Nat) (val : A1 → ρ)
    (hs : ∀ (d : Nat) (post : ρ → Prop) (a1 : A1), ok a1 → post (val a1) → (∀ (post' : ρ → Prop) (b1 : A1), ok b1 → μ b1 < μ a1 → post' (val b1) → W d post' b1) → W (d + 1) post a1) :
    ∀ (d : Nat) (post : ρ → Prop) (a1 : A1), ok a1 → μ a1 < d → post (val a1) → W d post a1 := by
  intro d
  induction d with
  | zero => intro post a1 _ h; omega
  | succ d ih =>
    intro post a1 ho hm hp
    exact hs d post a1 ho hp (fun post' b1 ho' hm' hp' => ih post' b1 ho' (by omega) hp')
theorem rp2 {ρ A1 A2 : Type} (W : Nat → (ρ → Prop) → A1 → A2 → Prop) (ok : A1 → A2 → Prop) (μ : A1 → A2 → Nat) (val : A1 → A2 → ρ)
    (hs : ∀ (d : Nat) (post : ρ → Prop) (a1 : A1) (a2 : A2), ok a1 a2 → post (val a1 a2) → (∀ (post' : ρ → Prop) (b1 : A1) (b2 : A2), ok b1 b2 → μ b1 b2 < μ a1 a2 → post' (val b1 b2) → W d post' b1 b2) → W (d + 1) post a1 a2) :
    ∀ (d : Nat) (post : ρ → Prop) (a1 : A1) (a2 : A2), ok a1 a2 → μ a1 a2 < d → post (val a1 a2) → W d post a1 a2 := by
  intro d
  induction d with
  | zero => intro post a1 a2 _ h; omega
  | succ d ih =>
    intro post a1 a2 ho hm hp
    exact hs d post a1 a2 ho hp (fun post' b1 b2 ho' hm' hp' => ih post' b1 b2 ho' (by omega) hp')
theorem rp3 {ρ A1 A2 A3 : Type} (W : Nat → (ρ → Prop) → A1 → A2 → A3 → Prop) (ok : A1 → A2 → A3 → Prop) (μ : A1 → A2 → A3 → Nat) (val : A1 → A2 → A3 → ρ)
    (hs : ∀ (d : Nat) (post : ρ → Prop) (a1 : A1) (a2 : A2) (a3 : A3), ok a1 a2 a3 → post (val a1 a2 a3) → (∀ (post' : ρ → Prop) (b1 : A1) (b2 : A2) (b3 : A3), ok b1 b2 b3 → μ b1 b2 b3 < μ a1 a2 a3 → post' (val b1 b2 b3) → W d post' b1 b2 b3) → W (d + 1) post a1 a2 a3) :
    ∀ (d : Nat) (post : ρ → Prop) (a1 : A1) (a2 : A2) (a3 : A3), ok a1 a2 a3 → μ a1 a2 a3 < d → post (val a1 a2 a3) → W d post a1 a2 a3 := by
  intro d
  induction d with
  | zero => intro post a1 a2 a3 _ h; omega
  | succ d ih =>
    intro post a1 a2 a3 ho hm hp
    exact hs d post a1 a2 a3 ho hp (fun post' b1 b2 b3 ho' hm' hp' => ih post' b1 b2 b3 ho' (by omega) hp')
theorem rp4 {ρ A1 A2 A3 A4 : Type} (W : Nat → (ρ → Prop) → A1 → A2 → A3 → A4 → Prop) (ok : A1 → A2 → A3 → A4 → Prop) (μ : A1 → A2 → A3 → A4 → Nat) (val : A1 → A2 → A3 → A4 → ρ)
    (hs : ∀ (d : Nat) (post : ρ → Prop) (a1 : A1) (a2 : A2) (a3 : A3) (a4 : A4), ok a1 a2 a3 a4 → post (val a1 a2 a3 a4) → (∀ (post' : ρ → Prop) (b1 : A1) (b2 : A2) (b3 : A3) (b4 : A4), ok b1 b2 b3 b4 → μ b1 b2 b3 b4 < μ a1 a2 a3 a4 → post' (val b1 b2 b3 b4) → W d post' b1 b2 b3 b4) → W (d + 1) post a1 a2 a3 a4) :
    ∀ (d : Nat) (post : ρ → Prop) (a1 : A1) (a2 : A2) (a3 : A3) (a4 : A4), ok a1 a2 a3 a4 → μ a1 a2 a3 a4 < d → post (val a1 a2 a3 a4) → W d post a1 a2 a3 a4 := by
  intro d
  induction d with
  | zero => intro post a1 a2 a3 a4 _ h; omega
  | succ d ih =>
    intro post a1 a2 a3 a4 ho hm hp
    exact hs d post a1 a2 a3 a4 ho hp (fun post' b1 b2 b3 b4 ho' hm' hp' => ih post' b1 b2 b3 b4 ho' (by omega) hp')
theorem rp5 {ρ A1 A2 A3 A4 A5 : Type} (W : Nat → (ρ → Prop) → A1 → A2 → A3 → A4 → A5 → Prop) (ok : A1 → A2 → A3 → A4 → A5 → Prop) (μ : A1 → A2 → A3 → A4 → A5 → Nat) (val : A1 → A2 → A3 → A4 → A5 → ρ)
    (hs : ∀ (d : Nat) (post : ρ → Prop) (a1 : A1) (a2 : A2) (a3 : A3) (a4 : A4) (a5 : A5), ok a1 a2 a3 a4 a5 → post (val a1 a2 a3 a4 a5) → (∀ (post' : ρ → Prop) (b1 : A1) (b2 : A2) (b3 : A3) (b4 : A4) (b5 : A5), ok b1 b2 b3 b4 b5 → μ b1 b2 b3 b4 b5 < μ a1 a2 a3 a4 a5 → post' (val b1 b2 b3 b4 b5) → W d post' b1 b2 b3 b4 b5) → W (d + 1) post a1 a2 a3 a4 a5) :
    ∀ (d : Nat) (post : ρ → Prop) (a1 : A1) (a2 : A2) (a3 : A3) (a4 : A4) (a5 : A5), ok a1 a2 a3 a4 a5 → μ a1 a2 a3 a4 a5 < d → post (val a1 a2 a3 a4 a5) → W d post a1 a2 a3 a4 a5 := by
  intro d
  induction d with
  | zero => intro post a1 a2 a3 a4 a5 _ h; omega
  | succ d ih =>
    intro post a1 a2 a3 a4 a5 ho hm hp
    exact hs d post a1 a2 a3 a4 a5 ho hp (fun post' b1 b2 b3 b4 b5 ho' hm' hp' => ih post' b1 b2 b3 b4 b5 ho' (by omega) hp')
theorem rp6 {ρ A1 A2 A3 A4 A5 A6 : Type} (W : Nat → (ρ → Prop) → A1 → A2 → A3 → A4 → A5 → A6 → Prop) (ok : A1 → A2 → A3 → A4 → A5 → A6 → Prop) (μ : A1 → A2 → A3 → A4 → A5 → A6 → Nat) (val : A1 → A2 → A3 → A4 → A5 → A6 → ρ)
    (hs : ∀ (d : Nat) (post : ρ → Prop) (a1 : A1) (a2 : A2) (a3 : A3) (a4 : A4) (a5 : A5) (a6 : A6), ok a1 a2 a3 a4 a5 a6 → post (val a1 a2 a3 a4 a5 a6) → (∀ (post' : ρ → Prop) (b1 : A1) (b2 : A2) (b3 : A3) (b4 : A4) (b5 : A5) (b6 : A6), ok b1 b2 b3 b4 b5 b6 → μ b1 b2 b3 b4 b5 b6 < μ a1 a2 a3 a4 a5 a6 → post' (val b1 b2 b3 b4 b5 b6) → W d post' b1 b2 b3 b4 b5 b6) → W (d + 1) post a1 a2 a3 a4 a5 a6) :
    ∀ (d : Nat) (post : ρ → Prop) (a1 : A1) (a2 : A2) (a3 : A3) (a4 : A4) (a5 : A5) (a6 : A6), ok a1 a2 a3 a4 a5 a6 → μ a1 a2 a3 a4 a5 a6 < d → post (val a1 a2 a3 a4 a5 a6) → W d post a1 a2 a3 a4 a5 a6 := by
  intro d
  induction d with
  | zero => intro post a1 a2 a3 a4 a5 a6 _ h; omega
  | succ d ih =>
    intro post a1 a2 a3 a4 a5 a6 ho hm hp
    exact hs d post a1 a2 a3 a4 a5 a6 ho hp (fun post' b1 b2 b3 b4 b5 b6 ho' hm' hp' => ih post' b1 b2 b3 b4 b5 b6 ho' (by omega) hp')
theorem rec_p {σ ρ : Type} (W : Nat → (ρ → Prop) → σ → Prop) (ok : σ → Prop) (μ : σ → Nat) (val : σ → ρ)
    (hs : ∀ d s post, ok s → post (val s) → (∀ s' post', ok s' → μ s' < μ s → post' (val s') → W d post' s') → W (d + 1) post s) :
    ∀ d s post, ok s → μ s < d → post (val s) → W d post s := by
  intro d
  induction d with
  | zero => intro s post _ h; omega
  | succ d ih =>
    intro s post ho hm hp
    exact hs d s post ho hp (fun s' post' ho' hm' hp' => ih s' post' ho' (by omega) hp')
theorem rec_q {σ ρ : Type} (W : Nat → (ρ → Prop) → σ → Prop) (ok : σ → Prop) (μ : σ → Nat) (Q : σ → ρ → Prop)
    (hs : ∀ d s post, ok s → (∀ r, Q s r → post r) → (∀ s' post', ok s' → μ s' < μ s → (∀ r, Q s' r → post' r) → W d post' s') → W (d + 1) post s) :
    ∀ d s post, ok s → μ s < d → (∀ r, Q s r → post r) → W d post s := by
  intro d
  induction d with
  | zero => intro s post _ h; omega
  | succ d ih =>
    intro s post ho hm hp
    exact hs d s post ho hp (fun s' post' ho' hm' hp' => ih s' post' ho' (by omega) hp')
def bx_sum (f : Nat → Int32) : Nat → Int32
  | 0 => 0
  | n + 1 => bx_sum f n + f n
theorem ek_u {A : Prop} {B : Nat → Prop} {k N : Nat} (hk : k < N) (h : B k) : (some k = none → A) ∧ (∀ y : Nat, some k = some y → (y < N ∧ B y)) :=
  ⟨fun z => absurd z (Option.some_ne_none k), fun _ e => (by cases e; exact ⟨hk, h⟩)⟩
theorem ek_nu {A : Prop} {B : Nat → Prop} (h : A) : ((none : Option Nat) = none → A) ∧ (∀ y : Nat, (none : Option Nat) = some y → B y) :=
  ⟨fun _ => h, fun _ e => (by cases e)⟩
theorem ek_if {c d A B : Prop} (e : c ↔ d) (f : d → A) (g : ¬ d → B) : (c → A) ∧ (¬ c → B) :=
  ⟨fun z => f (e.mp z), fun z => g (fun y => z (e.mpr y))⟩
theorem ek_v {α : Sort _} {P : α → Prop} {a b : α} (e : a = b) (h : P b) : P a := e ▸ h
theorem co_some {x : Option Nat} {A : Prop} {B : Nat → Prop} (i : Nat) (h : B i) (hx : x = some i := by rfl) : (x = none → A) ∧ (∀ y : Nat, x = some y → B y) := by
  subst hx
  exact ⟨fun e => (nomatch e), fun y e => Option.some.inj e ▸ h⟩
theorem co_none {x : Option Nat} {A : Prop} {B : Nat → Prop} (h : A) (hx : x = none := by rfl) : (x = none → A) ∧ (∀ y : Nat, x = some y → B y) := by
  subst hx
  exact ⟨fun _ => h, fun y e => (nomatch e)⟩
theorem co_any {x : Option Nat} {A : Prop} {B : Nat → Prop} (hn : x = none → A) (hs : ∀ i : Nat, x = some i → B i) : (x = none → A) ∧ (∀ y : Nat, x = some y → B y) := ⟨hn, hs⟩
theorem co_2 {P : Nat → Prop} (h0 : P 0) (h1 : P 1) {i : Nat} (hi : i < 2) : P i :=
  match i, hi with
  | 0, _ => h0
  | 1, _ => h1
theorem co_3 {P : Nat → Prop} (h0 : P 0) (h1 : P 1) (h2 : P 2) {i : Nat} (hi : i < 3) : P i :=
  match i, hi with
  | 0, _ => h0
  | 1, _ => h1
  | 2, _ => h2
theorem co_4 {P : Nat → Prop} (h0 : P 0) (h1 : P 1) (h2 : P 2) (h3 : P 3) {i : Nat} (hi : i < 4) : P i :=
  match i, hi with
  | 0, _ => h0
  | 1, _ => h1
  | 2, _ => h2
  | 3, _ => h3
theorem co_dec {N : Nat} {P : Nat → Prop} [DecidablePred P] (h : (List.range N).all (fun i => decide (P i)) = true) {i : Nat} (hi : i < N) : P i := by
  have := List.all_eq_true.mp h i (List.mem_range.mpr hi)
  exact of_decide_eq_true this
theorem co_tab {α : Type} {l : List α} {d : α} {P : α → Prop} (h : ∀ a, a ∈ l → P a) {i : Nat} (hi : i < l.length) : P (l.getD i d) := by
  rw [List.getD_eq_getElem?_getD, List.getElem?_eq_getElem hi]
  exact h _ (List.getElem_mem hi)
theorem pk_mu {x : Int32} {L : Nat} (h0 : ¬ x < 0) (h : ¬ nI L ≤ x) (hL : L < 2 ^ 31) : ∃ j : Nat, j < L ∧ x = nI j ∧ x + 1 = nI (j + 1) ∧ x.toNatClampNeg = j ∧ L - (x + 1).toNatClampNeg < L - x.toNatClampNeg := by
  obtain ⟨j, hj, rfl⟩ := nI_of h0
  have hl : j < L := Nat.not_le.mp fun q => h (nI_le q hj)
  refine ⟨j, hl, rfl, nI_1 j, nI_clamp hj, ?_⟩
  rw [nI_1, nI_clamp (by omega), nI_clamp hj]
  omega
theorem op_s {α : Type} {r : Option α} {A : Prop} {B : α → Prop} {y : α} (h : r = some y) (b : B y) : (r = none → A) ∧ ∀ z, r = some z → B z :=
  ⟨fun e => (by rw [h] at e; cases e), fun z e => (by rw [h] at e; cases e; exact b)⟩
def l_holds {α : Type} (a : Nat → Option Nat) (LP : List Nat) (p : Nat → α) (c : Nat) (b : Nat → α) : Prop :=
  ∀ j, j < c → ∃ y, a j = some y ∧ y ∈ LP ∧ p y = b j
theorem l_holds_0 {α : Type} {a : Nat → Option Nat} {LP : List Nat} {p b : Nat → α} : l_holds a LP p 0 b := fun j h => absurd h (Nat.not_lt_zero j)
theorem l_in_new (LP : List Nat) (q : Nat) : q ∈ LP ++ [q] := List.mem_append.mpr (Or.inr (List.mem_singleton.mpr rfl))
def l_sum (b : Nat → Int32) : Nat → Int32
  | 0 => 0
  | k + 1 => l_sum b k + b k
theorem sb_shr0 (x : Int32) : x >>> ((0 : Int32) &&& 31) = x := by
  rw [show ((0 : Int32) &&& 31) = 0 by decide]
  simp
theorem sb_shl0 (x : Int32) : x <<< ((0 : Int32) &&& 31) = x := by
  rw [show ((0 : Int32) &&& 31) = 0 by decide]
  simp
theorem sb_cl0 : (0 : Int32).toNatClampNeg = 0 := by decide
theorem sb_m1 {p : Nat} (h : 0 < p) : nI p + (-1) = nI (p - 1) := by
  obtain ⟨q, rfl⟩ : ∃ q, p = q + 1 := ⟨p - 1, by omega⟩
  exact pk_m1 q
def sb_b (c : Nat) : Int32 := (nI c).toInt8.toInt32
theorem sb_byte : ∀ c, c < 256 → sb_b c &&& 255 = nI c ∧ ((nI c).toUInt32 % 65536).toInt32 = nI c ∧ nI c ≤ 255 := by decide +kernel
def sb_Fit (a : Nat → Int32) : Prop := ∀ j, fits .byte (.int (a j)) = true
def sb_Lat (t : Nat → Nat) (n : Nat) (a : Nat → Int32) : Prop := ∀ j, j < n → t j < 256 ∧ a j = sb_b (t j)
theorem sb_fitB (c : Nat) : fits .byte (.int (sb_b c)) = true := pk_fb _
theorem sb_fit0 : sb_Fit (fun _ => 0) := fun _ => by
  show fits .byte (.int 0) = true
  decide
theorem sb_fitU {a : Nat → Int32} {k : Nat} {x : Int32} (h : sb_Fit a) (hx : fits .byte (.int x) = true) : sb_Fit (upd a k x) := by
  intro j
  by_cases e : j = k
  · subst e
    rw [pk_us]
    exact hx
  · rw [pk_un e]
    exact h j
def sb_cat (t : Nat → Nat) (n : Nat) (s : Nat → Nat) : Nat → Nat := fun j => if j < n then t j else s (j - n)
theorem sb_cat_lo {t s : Nat → Nat} {n j : Nat} (h : j < n) : sb_cat t n s j = t j := if_pos h
theorem sb_cat_hi {t s : Nat → Nat} {n j : Nat} : sb_cat t n s (n + j) = s j := by
  show (if n + j < n then t (n + j) else s (n + j - n)) = s j
  rw [if_neg (by omega), Nat.add_sub_cancel_left]
theorem sb_latPut {t s : Nat → Nat} {n w : Nat} {a a' : Nat → Int32} (h : sb_Lat t n a) (hk : ∀ j, j < n → a' j = a j) (hs : ∀ i, i < w → s i < 256 ∧ a' (n + i) = sb_b (s i)) : sb_Lat (sb_cat t n s) (n + w) a' := by
  intro j hj
  by_cases e : j < n
  · rw [sb_cat_lo e, hk j e]
    exact h j e
  · obtain ⟨i, rfl⟩ : ∃ i, j = n + i := ⟨j - n, by omega⟩
    rw [sb_cat_hi]
    exact hs i (by omega)
theorem sb_latKeep {t : Nat → Nat} {n : Nat} {a a' : Nat → Int32} (h : sb_Lat t n a) (hk : ∀ j, j < n → a' j = a j) : sb_Lat t n a' := fun j hj => by
  rw [hk j hj]
  exact h j hj
def sb_cap (q m : Nat) : Nat := if q ≤ m then m else if 2 * m + 2 < q then q else 2 * m + 2
def sb_Room (q m mc ms : Nat) : Prop := q ≤ m ∨ (1 ≤ mc ∧ sb_cap q m ≤ ms ∧ sb_cap q m ≤ 65536)
theorem sb_cap_ge (q m : Nat) : q ≤ sb_cap q m := by
  unfold sb_cap
  split
  · omega
  · split <;> omega
theorem sb_cap_gem (q m : Nat) : m ≤ sb_cap q m := by
  unfold sb_cap
  split
  · omega
  · split <;> omega
theorem sb_cap_le {q m mc ms : Nat} (hm : m ≤ 65536) (hr : sb_Room q m mc ms) : sb_cap q m ≤ 65536 := by
  rcases hr with h | h
  · rw [sb_cap, if_pos h]
    exact hm
  · exact h.2.2
theorem sb_at {P : Int32 → Prop} {x y : Int32} (e : x = y) (h : P y) : P x := e ▸ h
def sb_dg (w : Nat) : Nat := if w < 10 then 1 else if w < 100 then 2 else if w < 1000 then 3 else if w < 10000 then 4 else if w < 100000 then 5 else if w < 1000000 then 6 else if w < 10000000 then 7 else if w < 100000000 then 8 else if w < 1000000000 then 9 else 10
def sb_dec (v : Nat) : Nat → Nat := fun i => 48 + v / 10 ^ (sb_dg v - 1 - i) % 10
theorem sb_dg_in (w : Nat) : 1 ≤ sb_dg w ∧ sb_dg w ≤ 10 := by
  unfold sb_dg
  constructor <;> (repeat' split) <;> omega
theorem sb_dg100 {w : Nat} (h : 100 ≤ w) (hw : w < 2 ^ 31) : sb_dg w = sb_dg (w / 100) + 2 := by
  rw [sb_dg, sb_dg, if_neg (show ¬ w < 10 by omega), if_neg (show ¬ w < 100 by omega)]
  by_cases h3 : w < 1000
  · rw [if_pos h3, if_pos (show w / 100 < 10 by omega)]
  rw [if_neg h3, if_neg (show ¬ w / 100 < 10 by omega)]
  by_cases h4 : w < 10000
  · rw [if_pos h4, if_pos (show w / 100 < 100 by omega)]
  rw [if_neg h4, if_neg (show ¬ w / 100 < 100 by omega)]
  by_cases h5 : w < 100000
  · rw [if_pos h5, if_pos (show w / 100 < 1000 by omega)]
  rw [if_neg h5, if_neg (show ¬ w / 100 < 1000 by omega)]
  by_cases h6 : w < 1000000
  · rw [if_pos h6, if_pos (show w / 100 < 10000 by omega)]
  rw [if_neg h6, if_neg (show ¬ w / 100 < 10000 by omega)]
  by_cases h7 : w < 10000000
  · rw [if_pos h7, if_pos (show w / 100 < 100000 by omega)]
  rw [if_neg h7, if_neg (show ¬ w / 100 < 100000 by omega)]
  by_cases h8 : w < 100000000
  · rw [if_pos h8, if_pos (show w / 100 < 1000000 by omega)]
  rw [if_neg h8, if_neg (show ¬ w / 100 < 1000000 by omega)]
  by_cases h9 : w < 1000000000
  · rw [if_pos h9, if_pos (show w / 100 < 10000000 by omega)]
  rw [if_neg h9, if_neg (show ¬ w / 100 < 10000000 by omega)]
  rw [if_pos (show w / 100 < 100000000 by omega)]
theorem sb_negT {w : Nat} (h : w < 2 ^ 31) : (-nI w).toInt = -(w : Int) := by
  rw [Int32.toInt_neg, nI_toInt h]
  exact Int.bmod_eq_of_le (by omega) (by omega)
theorem sb_nle {a b : Nat} (ha : a < 2 ^ 31) (hb : b < 2 ^ 31) : -nI a ≤ -nI b ↔ b ≤ a := by
  rw [Int32.le_iff_toInt_le, sb_negT ha, sb_negT hb]
  omega
theorem sb_nlt {a b : Nat} (ha : a < 2 ^ 31) (hb : b < 2 ^ 31) : -nI a < -nI b ↔ b < a := by
  rw [Int32.lt_iff_toInt_lt, sb_negT ha, sb_negT hb]
  omega
theorem sb_cmp {A B : Prop} {x : Int32} (v c : Nat) (f : c ≤ v → A) (g : v < c → B) (hv : v < 2 ^ 31) (hx : x = -nI c := by rfl) (hc : c < 2 ^ 31 := by omega) : (-nI v ≤ x → A) ∧ (¬ -nI v ≤ x → B) := by
  subst hx
  rw [sb_nle hv hc]
  exact ⟨f, fun z => g (by omega)⟩
theorem sb_ndiv {w : Nat} (hw : w < 2 ^ 31) : (-nI w) / 100 = -nI (w / 100) := by
  apply Int32.toInt_inj.mp
  have h100 : (100 : Int32).toInt = 100 := by decide
  rw [Int32.toInt_div, sb_negT hw, h100, sb_negT (by omega), Int.neg_tdiv, Int.tdiv_eq_ediv_of_nonneg (by omega), Int.bmod_eq_of_le (by omega) (by omega)]
  omega
theorem sb_nrem {w : Nat} (hw : w < 2 ^ 31) : (-nI (w / 100)) * 100 - (-nI w) = nI (w % 100) := by
  have h := pk_rem (a := w) (d := 100) hw (by decide) (by decide)
  rw [pk_div hw (by decide) (by decide)] at h
  rw [← h]
  show (-nI (w / 100)) * nI 100 - (-nI w) = nI w - nI (w / 100) * nI 100
  rw [Int32.neg_mul, Int32.sub_neg, Int32.add_comm, ← Int32.sub_eq_add_neg]
end
section
abbrev QT : Type := Nat × Nat × Nat × Nat × Nat × Nat × Nat × Nat × (Nat → Nat) × (Nat → Nat) × (Nat → Nat) × (Nat → Nat) × (Nat → Nat) × (Nat → Nat) × (Nat → Nat) × (Nat → Nat) × (Nat → Nat) × (Nat → Nat) × (Nat → Nat) × (Nat → Nat) × (Nat → Nat) × (Nat → Nat) × (Nat → Int32) × (Nat → Int32) × (Nat → Int32)
def mL_ (x : QT) : Nat := x.1
def mT_ (x : QT) : Nat := x.2.1
def mD_ (x : QT) : Nat := x.2.2.1
def cm_ (x : QT) : Nat := x.2.2.2.1
def nn_ (x : QT) : Nat := x.2.2.2.2.1
def sp_ (x : QT) : Nat := x.2.2.2.2.2.1
def sn_ (x : QT) : Nat := x.2.2.2.2.2.2.1
def oc_ (x : QT) : Nat := x.2.2.2.2.2.2.2.1
def kd_ (x : QT) : Nat → Nat := x.2.2.2.2.2.2.2.2.1
def ls_ (x : QT) : Nat → Nat := x.2.2.2.2.2.2.2.2.2.1
def oe_ (x : QT) : Nat → Nat := x.2.2.2.2.2.2.2.2.2.2.1
def od_ (x : QT) : Nat → Nat := x.2.2.2.2.2.2.2.2.2.2.2.1
def ar_ (x : QT) : Nat → Nat := x.2.2.2.2.2.2.2.2.2.2.2.2.1
def se_ (x : QT) : Nat → Nat := x.2.2.2.2.2.2.2.2.2.2.2.2.2.1
def ol_ (x : QT) : Nat → Nat := x.2.2.2.2.2.2.2.2.2.2.2.2.2.2.1
def pl_ (x : QT) : Nat → Nat := x.2.2.2.2.2.2.2.2.2.2.2.2.2.2.2.1
def pa_ (x : QT) : Nat → Nat := x.2.2.2.2.2.2.2.2.2.2.2.2.2.2.2.2.1
def ow_ (x : QT) : Nat → Nat := x.2.2.2.2.2.2.2.2.2.2.2.2.2.2.2.2.2.1
def sl_ (x : QT) : Nat → Nat := x.2.2.2.2.2.2.2.2.2.2.2.2.2.2.2.2.2.2.1
def lo_ (x : QT) : Nat → Nat := x.2.2.2.2.2.2.2.2.2.2.2.2.2.2.2.2.2.2.2.1
def lh_ (x : QT) : Nat → Nat := x.2.2.2.2.2.2.2.2.2.2.2.2.2.2.2.2.2.2.2.2.1
def lt_ (x : QT) : Nat → Nat := x.2.2.2.2.2.2.2.2.2.2.2.2.2.2.2.2.2.2.2.2.2.1
def lx_ (x : QT) : Nat → Int32 := x.2.2.2.2.2.2.2.2.2.2.2.2.2.2.2.2.2.2.2.2.2.2.1
def an_ (x : QT) : Nat → Int32 := x.2.2.2.2.2.2.2.2.2.2.2.2.2.2.2.2.2.2.2.2.2.2.2.1
def vn_ (x : QT) : Nat → Int32 := x.2.2.2.2.2.2.2.2.2.2.2.2.2.2.2.2.2.2.2.2.2.2.2.2
abbrev CT : Type := (Nat → Int32) × (Nat → Nat) × (Nat → Nat) × (Nat → Nat) × (Nat → Nat) × (Nat → Nat) × (Nat → Nat) × (Nat → Int32) × (Nat → Nat)
def cp_ (x : CT) : Nat → Int32 := x.1
def st_ (x : CT) : Nat → Nat := x.2.1
def nc_ (x : CT) : Nat → Nat := x.2.2.1
def cc_ (x : CT) : Nat → Nat := x.2.2.2.1
def hd_ (x : CT) : Nat → Nat := x.2.2.2.2.1
def hm_ (x : CT) : Nat → Nat := x.2.2.2.2.2.1
def rm_ (x : CT) : Nat → Nat := x.2.2.2.2.2.2.1
def ri_ (x : CT) : Nat → Int32 := x.2.2.2.2.2.2.2.1
def rh_ (x : CT) : Nat → Nat := x.2.2.2.2.2.2.2.2
abbrev DT : Type := Int32 × Int32 × Nat × Nat × Nat × Nat × Nat × Nat × Nat × Nat × Int32 × (Nat → Nat) × (Nat → Nat) × (Nat → Int32) × (Nat → Nat) × (Nat → Nat) × (Nat → Int32) × (Nat → Int32)
def in_ (x : DT) : Int32 := x.1
def ss_ (x : DT) : Int32 := x.2.1
def cu_ (x : DT) : Nat := x.2.2.1
def pc_ (x : DT) : Nat := x.2.2.2.1
def tk_ (x : DT) : Nat := x.2.2.2.2.1
def ou_ (x : DT) : Nat := x.2.2.2.2.2.1
def ev_ (x : DT) : Nat := x.2.2.2.2.2.2.1
def ht_ (x : DT) : Nat := x.2.2.2.2.2.2.2.1
def cl_ (x : DT) : Nat := x.2.2.2.2.2.2.2.2.1
def fc_ (x : DT) : Nat := x.2.2.2.2.2.2.2.2.2.1
def fa_ (x : DT) : Int32 := x.2.2.2.2.2.2.2.2.2.2.1
def sv_ (x : DT) : Nat → Nat := x.2.2.2.2.2.2.2.2.2.2.2.1
def sw_ (x : DT) : Nat → Nat := x.2.2.2.2.2.2.2.2.2.2.2.2.1
def me_ (x : DT) : Nat → Int32 := x.2.2.2.2.2.2.2.2.2.2.2.2.2.1
def fs_ (x : DT) : Nat → Nat := x.2.2.2.2.2.2.2.2.2.2.2.2.2.2.1
def fe_ (x : DT) : Nat → Nat := x.2.2.2.2.2.2.2.2.2.2.2.2.2.2.2.1
def ot_ (x : DT) : Nat → Int32 := x.2.2.2.2.2.2.2.2.2.2.2.2.2.2.2.2.1
def li_ (x : DT) : Nat → Int32 := x.2.2.2.2.2.2.2.2.2.2.2.2.2.2.2.2.2
abbrev ET : Type := Nat × Int32 × Nat × Nat × Nat × Nat × Nat × Nat × Int32 × Int32 × Int32 × (Nat → Nat) × (Nat → Nat) × (Nat → Int32) × (Nat → Int32) × (Nat → Int32) × (Nat → Nat) × (Nat → Nat) × (Nat → Nat) × (Nat → Nat) × (Nat → Int32)
def yp_ (x : ET) : Nat := x.1
def yc_ (x : ET) : Int32 := x.2.1
def yu_ (x : ET) : Nat := x.2.2.1
def yo_ (x : ET) : Nat := x.2.2.2.1
def yb_ (x : ET) : Nat := x.2.2.2.2.1
def yi_ (x : ET) : Nat := x.2.2.2.2.2.1
def yf_ (x : ET) : Nat := x.2.2.2.2.2.2.1
def yl_ (x : ET) : Nat := x.2.2.2.2.2.2.2.1
def yn_ (x : ET) : Int32 := x.2.2.2.2.2.2.2.2.1
def yr_ (x : ET) : Int32 := x.2.2.2.2.2.2.2.2.2.1
def yt_ (x : ET) : Int32 := x.2.2.2.2.2.2.2.2.2.2.1
def bi_ (x : ET) : Nat → Nat := x.2.2.2.2.2.2.2.2.2.2.2.1
def bm_ (x : ET) : Nat → Nat := x.2.2.2.2.2.2.2.2.2.2.2.2.1
def bv_ (x : ET) : Nat → Int32 := x.2.2.2.2.2.2.2.2.2.2.2.2.2.1
def bl_ (x : ET) : Nat → Int32 := x.2.2.2.2.2.2.2.2.2.2.2.2.2.2.1
def io_ (x : ET) : Nat → Int32 := x.2.2.2.2.2.2.2.2.2.2.2.2.2.2.2.1
def fl_ (x : ET) : Nat → Nat := x.2.2.2.2.2.2.2.2.2.2.2.2.2.2.2.2.1
def fi_ (x : ET) : Nat → Nat := x.2.2.2.2.2.2.2.2.2.2.2.2.2.2.2.2.2.1
def cx_ (x : ET) : Nat → Nat := x.2.2.2.2.2.2.2.2.2.2.2.2.2.2.2.2.2.2.1
def ci_ (x : ET) : Nat → Nat := x.2.2.2.2.2.2.2.2.2.2.2.2.2.2.2.2.2.2.2.1
def yx_ (x : ET) : Nat → Int32 := x.2.2.2.2.2.2.2.2.2.2.2.2.2.2.2.2.2.2.2.2
def XT (q : QT) (c : CT) (d : DT) : SX := (0, 1, 2, 3, 0, 1, 2, 3, 4, 5, (-1), 48, 512, nI (mL_ q), nI (mT_ q), nI (mD_ q), nI (cm_ q), nI (nn_ q), nI (sp_ q), nI (sn_ q), nI (oc_ q), in_ d, ss_ d, nI (cu_ d), nI (pc_ d), nI (tk_ d), nI (ou_ d), nI (ev_ d), nI (ht_ d), nI (cl_ d), nI (fc_ d), fa_ d, fun i => nI (kd_ q i), fun i => nI (ls_ q i), fun i => nI (oe_ q i), fun i => nI (od_ q i), fun i => nI (ar_ q i), fun i => nI (se_ q i), fun i => nI (ol_ q i), fun i => nI (pl_ q i), fun i => nI (sv_ d i), fun i => nI (sw_ d i), fun i => nI (pa_ q i), fun i => nI (ow_ q i), fun i => nI (sl_ q i), fun i => nI (lo_ q i), lx_ q, an_ q, vn_ q, fun i => nI (lh_ q i), cp_ c, fun i => nI (st_ c i), fun i => nI (nc_ c i), fun i => nI (cc_ c i), fun i => nI (hd_ c i), fun i => nI (lt_ q i), fun i => nI (hm_ c i), fun i => nI (rm_ c i), ri_ c, fun i => nI (rh_ c i), me_ d, fun i => nI (fs_ d i), fun i => nI (fe_ d i), ot_ d, li_ d)
def YT (q : QT) (e : ET) : SY := (nI (mL_ q), nI (mT_ q), nI (mD_ q), nI (nn_ q), nI (yp_ e), yc_ e, nI (yu_ e), nI (yo_ e), nI (yb_ e), nI (yi_ e), nI (yf_ e), nI (yl_ e), yn_ e, yr_ e, yt_ e, nI (cm_ q), fun i => nI (kd_ q i), fun i => nI (ar_ q (4 * i + 1)), fun i => nI (ar_ q (4 * i + 2)), fun i => nI (ar_ q (4 * i + 3)), fun i => nI (bi_ e i), fun i => nI (bm_ e i), bv_ e, bl_ e, io_ e, fun i => nI (fl_ e i), fun i => nI (fi_ e i), fun i => nI (cx_ e i), fun i => nI (ci_ e i), yx_ e)
def XZ (mL : Nat) (mT : Nat) (mD : Nat) (cm : Nat) (n : Nat) (sp : Nat) (sn : Nat) (oc : Nat) (kd : Nat → Nat) (ls : Nat → Nat) (oe : Nat → Nat) (od : Nat → Nat) (ar : Nat → Nat) (se : Nat → Nat) (ol : Nat → Nat) (pl : Nat → Nat) (pa : Nat → Nat) (ow : Nat → Nat) (sl : Nat → Nat) (lo : Nat → Nat) (lh : Nat → Nat) (lt : Nat → Nat) (lx : Nat → Int32) (an : Nat → Int32) (vn : Nat → Int32) (c : CT) (d : DT) : SX := (0, 1, 2, 3, 0, 1, 2, 3, 4, 5, (-1), 48, 512, nI (mL), nI (mT), nI (mD), nI (cm), nI (n), nI (sp), nI (sn), nI (oc), in_ d, ss_ d, nI (cu_ d), nI (pc_ d), nI (tk_ d), nI (ou_ d), nI (ev_ d), nI (ht_ d), nI (cl_ d), nI (fc_ d), fa_ d, fun i => nI (kd i), fun i => nI (ls i), fun i => nI (oe i), fun i => nI (od i), fun i => nI (ar i), fun i => nI (se i), fun i => nI (ol i), fun i => nI (pl i), fun i => nI (sv_ d i), fun i => nI (sw_ d i), fun i => nI (pa i), fun i => nI (ow i), fun i => nI (sl i), fun i => nI (lo i), lx, an, vn, fun i => nI (lh i), cp_ c, fun i => nI (st_ c i), fun i => nI (nc_ c i), fun i => nI (cc_ c i), fun i => nI (hd_ c i), fun i => nI (lt i), fun i => nI (hm_ c i), fun i => nI (rm_ c i), ri_ c, fun i => nI (rh_ c i), me_ d, fun i => nI (fs_ d i), fun i => nI (fe_ d i), ot_ d, li_ d)
def XC (q : QT) (cp : Nat → Int32) (st : Nat → Nat) (nc : Nat → Nat) (cc : Nat → Nat) (hd : Nat → Nat) (hm : Nat → Nat) (rm : Nat → Nat) (ri : Nat → Int32) (rh : Nat → Nat) (d : DT) : SX := (0, 1, 2, 3, 0, 1, 2, 3, 4, 5, (-1), 48, 512, nI (mL_ q), nI (mT_ q), nI (mD_ q), nI (cm_ q), nI (nn_ q), nI (sp_ q), nI (sn_ q), nI (oc_ q), in_ d, ss_ d, nI (cu_ d), nI (pc_ d), nI (tk_ d), nI (ou_ d), nI (ev_ d), nI (ht_ d), nI (cl_ d), nI (fc_ d), fa_ d, fun i => nI (kd_ q i), fun i => nI (ls_ q i), fun i => nI (oe_ q i), fun i => nI (od_ q i), fun i => nI (ar_ q i), fun i => nI (se_ q i), fun i => nI (ol_ q i), fun i => nI (pl_ q i), fun i => nI (sv_ d i), fun i => nI (sw_ d i), fun i => nI (pa_ q i), fun i => nI (ow_ q i), fun i => nI (sl_ q i), fun i => nI (lo_ q i), lx_ q, an_ q, vn_ q, fun i => nI (lh_ q i), cp, fun i => nI (st i), fun i => nI (nc i), fun i => nI (cc i), fun i => nI (hd i), fun i => nI (lt_ q i), fun i => nI (hm i), fun i => nI (rm i), ri, fun i => nI (rh i), me_ d, fun i => nI (fs_ d i), fun i => nI (fe_ d i), ot_ d, li_ d)
def XD (q : QT) (c : CT) (ip : Int32) (ss : Int32) (cu : Nat) (pc : Nat) (tk : Nat) (ou : Nat) (ev : Nat) (ht : Nat) (cl : Nat) (fc : Nat) (fa : Int32) (sv : Nat → Nat) (sw : Nat → Nat) (me : Nat → Int32) (fs : Nat → Nat) (fe : Nat → Nat) (ot : Nat → Int32) (li : Nat → Int32) : SX := (0, 1, 2, 3, 0, 1, 2, 3, 4, 5, (-1), 48, 512, nI (mL_ q), nI (mT_ q), nI (mD_ q), nI (cm_ q), nI (nn_ q), nI (sp_ q), nI (sn_ q), nI (oc_ q), ip, ss, nI (cu), nI (pc), nI (tk), nI (ou), nI (ev), nI (ht), nI (cl), nI (fc), fa, fun i => nI (kd_ q i), fun i => nI (ls_ q i), fun i => nI (oe_ q i), fun i => nI (od_ q i), fun i => nI (ar_ q i), fun i => nI (se_ q i), fun i => nI (ol_ q i), fun i => nI (pl_ q i), fun i => nI (sv i), fun i => nI (sw i), fun i => nI (pa_ q i), fun i => nI (ow_ q i), fun i => nI (sl_ q i), fun i => nI (lo_ q i), lx_ q, an_ q, vn_ q, fun i => nI (lh_ q i), cp_ c, fun i => nI (st_ c i), fun i => nI (nc_ c i), fun i => nI (cc_ c i), fun i => nI (hd_ c i), fun i => nI (lt_ q i), fun i => nI (hm_ c i), fun i => nI (rm_ c i), ri_ c, fun i => nI (rh_ c i), me, fun i => nI (fs i), fun i => nI (fe i), ot, li)
def YZ (mL : Nat) (mT : Nat) (mD : Nat) (cm : Nat) (n : Nat) (kd : Nat → Nat) (ar : Nat → Nat) (e : ET) : SY := (nI (mL), nI (mT), nI (mD), nI (n), nI (yp_ e), yc_ e, nI (yu_ e), nI (yo_ e), nI (yb_ e), nI (yi_ e), nI (yf_ e), nI (yl_ e), yn_ e, yr_ e, yt_ e, nI (cm), fun i => nI (kd i), fun i => nI (ar (4 * i + 1)), fun i => nI (ar (4 * i + 2)), fun i => nI (ar (4 * i + 3)), fun i => nI (bi_ e i), fun i => nI (bm_ e i), bv_ e, bl_ e, io_ e, fun i => nI (fl_ e i), fun i => nI (fi_ e i), fun i => nI (cx_ e i), fun i => nI (ci_ e i), yx_ e)
def YD (q : QT) (yp : Nat) (yc : Int32) (yu : Nat) (yo : Nat) (yb : Nat) (yi : Nat) (yf : Nat) (yl : Nat) (yn : Int32) (yr : Int32) (yt : Int32) (bi : Nat → Nat) (bm : Nat → Nat) (bv : Nat → Int32) (bl : Nat → Int32) (io : Nat → Int32) (fl : Nat → Nat) (fi : Nat → Nat) (cx : Nat → Nat) (ci : Nat → Nat) (yx : Nat → Int32) : SY := (nI (mL_ q), nI (mT_ q), nI (mD_ q), nI (nn_ q), nI (yp), yc, nI (yu), nI (yo), nI (yb), nI (yi), nI (yf), nI (yl), yn, yr, yt, nI (cm_ q), fun i => nI (kd_ q i), fun i => nI (ar_ q (4 * i + 1)), fun i => nI (ar_ q (4 * i + 2)), fun i => nI (ar_ q (4 * i + 3)), fun i => nI (bi i), fun i => nI (bm i), bv, bl, io, fun i => nI (fl i), fun i => nI (fi i), fun i => nI (cx i), fun i => nI (ci i), yx)
end
section
def up_ (f : Nat → Nat) (k v : Nat) : Nat → Nat := fun j => if j = k then v else f j
theorem up_s {f : Nat → Nat} {k v : Nat} : up_ f k v k = v := if_pos rfl
theorem up_n {f : Nat → Nat} {k v j : Nat} (h : j ≠ k) : up_ f k v j = f j := if_neg h
theorem ug_ {f : Nat → Nat} {n : Nat} (v : Nat) (h : n < 2 ^ 31) : upd (fun i => nI (f i)) (nI n).toNatClampNeg (nI v) = fun i => nI (up_ f n v i) := by
  rw [nI_clamp h]
  funext j
  unfold upd up_
  by_cases e : j = n
  · rw [if_pos e, if_pos e]
  · rw [if_neg e, if_neg e]
theorem uh_ {f : Nat → Nat} {x : Int32} {n v : Nat} (hx : x = nI n) (h : n < 2 ^ 31) : upd (fun i => nI (f i)) x.toNatClampNeg (nI v) = fun i => nI (up_ f n v i) := by
  subst hx
  exact ug_ v h
theorem ub_ {f : Nat → Int32} {n : Nat} {v : Int32} (h : n < 2 ^ 31) : upd f (nI n).toNatClampNeg v = upd f n v := by rw [nI_clamp h]
def mo_ (c : Nat) : Int32 := nI c - 1
theorem mo_a (j : Nat) : nI j + (-1) = mo_ j := (Int32.sub_eq_add_neg ..).symm
theorem mo_0 : mo_ 0 = -1 := by decide
theorem mo_s (c : Nat) : mo_ (c + 1) = nI c := nI_pred c
theorem mo_neg {c : Nat} (h : c < 2 ^ 31) : mo_ c < 0 ↔ c = 0 := by
  cases c with
  | zero => exact ⟨fun _ => rfl, fun _ => by decide⟩
  | succ c =>
    rw [mo_s]
    exact ⟨fun z => absurd z (nI_pos (by omega)), fun z => by omega⟩
theorem mo_eq {a b : Nat} (ha : a < 2 ^ 31) (hb : b < 2 ^ 31) : mo_ a = mo_ b ↔ a = b := by
  cases a with
  | zero =>
    cases b with
    | zero => exact ⟨fun _ => rfl, fun _ => rfl⟩
    | succ b =>
      rw [mo_s, mo_0]
      refine ⟨fun z => ?_, fun z => by omega⟩
      have := nI_pos (n := b) (by omega)
      rw [← z] at this
      exact absurd (by decide) this
  | succ a =>
    cases b with
    | zero =>
      rw [mo_s, mo_0]
      refine ⟨fun z => ?_, fun z => by omega⟩
      have := nI_pos (n := a) (by omega)
      rw [z] at this
      exact absurd (by decide) this
    | succ b =>
      rw [mo_s, mo_s, nI_eq (by omega) (by omega)]
      omega
theorem mo_nI {c k : Nat} (hc : c < 2 ^ 31) (hk : k < 2 ^ 31 - 1) : mo_ c = nI k ↔ c = k + 1 := by
  rw [← mo_s, mo_eq hc (by omega)]
def bt (x : Int32) (i : Nat) : Bool := x.toBitVec.getLsbD i
theorem b_or (x y : Int32) (i : Nat) : bt (x ||| y) i = (bt x i || bt y i) := by unfold bt; rw [Int32.toBitVec_or, BitVec.getLsbD_or]
theorem b_and (x y : Int32) (i : Nat) : bt (x &&& y) i = (bt x i && bt y i) := by unfold bt; rw [Int32.toBitVec_and, BitVec.getLsbD_and]
theorem b_0 (i : Nat) : bt 0 i = false := BitVec.getLsbD_zero
theorem s_l : ∀ n, n < 32 → ((nI n &&& 31).toBitVec.smod 32).toNat = n := by decide +kernel
theorem b_one : ∀ i, bt 1 i = decide (i = 0) := by
  intro i
  unfold bt
  show (1#32).getLsbD i = _
  rw [BitVec.getLsbD_one]
  simp
theorem b_shl (n : Nat) (hn : n < 32) (x : Int32) {i : Nat} (hi : i < 32) : bt (x <<< (nI n &&& 31)) i = (decide (n ≤ i) && bt x (i - n)) := by
  unfold bt
  rw [Int32.toBitVec_shiftLeft]
  show (x.toBitVec <<< ((nI n &&& 31).toBitVec.smod 32).toNat).getLsbD i = _
  rw [s_l n hn, BitVec.getLsbD_shiftLeft]
  rcases Nat.lt_or_ge i n with h | h
  · simp [h, Nat.not_le.mpr h]
  · simp [hi, h, Nat.not_lt.mpr h]
theorem b_sshr (n : Nat) (hn : n < 32) (x : Int32) {i : Nat} (hi : i < 32) : bt (x >>> (nI n &&& 31)) i = if n + i < 32 then bt x (n + i) else bt x 31 := by
  unfold bt
  rw [Int32.toBitVec_shiftRight]
  show (x.toBitVec.sshiftRight ((nI n &&& 31).toBitVec.smod 32).toNat).getLsbD i = _
  rw [s_l n hn, BitVec.getLsbD_sshiftRight, BitVec.msb_eq_getLsbD_last]
  simp [hi]
theorem b_ext {x y : Int32} (h : ∀ i, i < 32 → bt x i = bt y i) : x = y := Int32.toBitVec_inj.mp (BitVec.eq_of_getLsbD_eq (fun i hi => h i hi))
theorem bs_t {m : Int32} {x : Nat} (hx : x < 32) : ((m >>> (nI x &&& 31)) &&& 1) = 0 ↔ bt m x = false := by
  constructor
  · intro h
    have := congrArg (fun z => bt z 0) h
    simp only [b_and, b_one, b_0, decide_true, Bool.and_true] at this
    rw [b_sshr x hx m (by omega), if_pos (by omega)] at this
    exact this
  · intro h
    apply b_ext
    intro i hi
    rw [b_and, b_one, b_0]
    by_cases e : i = 0
    · subst e
      rw [b_sshr x hx m (by omega), if_pos (by omega), Nat.add_zero, h]
      rfl
    · simp [e]
theorem bs_s {m : Int32} {x y : Nat} (hx : x < 32) (hy : y < 32) : bt (m ||| ((1 : Int32) <<< (nI x &&& 31))) y = (bt m y || decide (y = x)) := by
  rw [b_or, b_shl x hx 1 hy, b_one]
  congr 1
  by_cases e : y = x
  · subst e
    simp
  · rcases Nat.lt_or_ge y x with h | h
    · simp [e, Nat.not_le.mpr h]
    · have : ¬ (y - x = 0) := by omega
      simp [e, this]
theorem bs_8 {x : Nat} (h : x < 2 ^ 32) : nI x &&& (-8) = 0 ↔ x < 8 := by
  have e : (nI x &&& (-8)) = 0 ↔ (nI x &&& (-8)).toBitVec.toNat = 0 := by
    constructor
    · intro z; rw [z]; rfl
    · intro z; exact Int32.toBitVec_inj.mp (BitVec.eq_of_toNat_eq z)
  rw [e, Int32.toBitVec_and, BitVec.toNat_and, pk_tn (by omega)]
  show x &&& 4294967288 = 0 ↔ _
  constructor
  · intro z
    apply Classical.byContradiction
    intro c
    have hd : x / 8 ≠ 0 := by omega
    have z2 : (x &&& 4294967288) / 8 = 0 := by rw [z]
    have z3 : (x &&& 4294967288) / 2 ^ 3 = (x / 2 ^ 3) &&& (4294967288 / 2 ^ 3) := Nat.and_div_two_pow ..
    rw [show (2:Nat) ^ 3 = 8 from rfl] at z3
    rw [z3, show (4294967288 / 8 : Nat) = 2 ^ 29 - 1 from rfl, Nat.and_two_pow_sub_one_eq_mod, Nat.mod_eq_of_lt (by omega)] at z2
    exact hd z2
  · intro z
    have : x = 0 ∨ x = 1 ∨ x = 2 ∨ x = 3 ∨ x = 4 ∨ x = 5 ∨ x = 6 ∨ x = 7 := by omega
    rcases this with h | h | h | h | h | h | h | h <;> subst h <;> decide
theorem bs_of (v : Int32) : ∃ x, x < 2 ^ 32 ∧ v = nI x := by
  refine ⟨v.toBitVec.toNat, v.toBitVec.isLt, ?_⟩
  apply Int32.toBitVec_inj.1
  show v.toBitVec = BitVec.ofNat 32 v.toBitVec.toNat
  simp
theorem bs_8i (v : Int32) : v &&& (-8) = 0 ↔ ∃ x, x < 8 ∧ v = nI x := by
  obtain ⟨x, hx, rfl⟩ := bs_of v
  rw [bs_8 hx]
  constructor
  · intro h; exact ⟨x, h, rfl⟩
  · rintro ⟨y, hy, e⟩
    have := congrArg (fun z => z.toBitVec.toNat) e
    simp only [pk_tn hx, pk_tn (show y < 2 ^ 32 by omega)] at this
    omega
end
section
def en_ (K : Nat → Nat) : Nat → Nat → Nat
  | 0, _ => 0
  | j + 1, c => if K j = 14 then en_ K j (c + 1) else if 5 ≤ K j ∧ K j ≤ 8 then (if c = 0 then j + 1 else en_ K j (c - 1)) else en_ K j c
def eo_ (K : Nat → Nat) (i : Nat) : Nat := en_ K i 0
theorem en_le (K : Nat → Nat) : ∀ j c, en_ K j c ≤ j
  | 0, _ => Nat.le_refl _
  | j + 1, c => by
    unfold en_
    have h1 := en_le K j (c + 1)
    have h2 := en_le K j (c - 1)
    have h3 := en_le K j c
    split
    · omega
    · split
      · split <;> omega
      · omega
theorem en_op (K : Nat → Nat) : ∀ j c, en_ K j c ≠ 0 → 5 ≤ K (en_ K j c - 1) ∧ K (en_ K j c - 1) ≤ 8
  | 0, _ => fun h => absurd rfl h
  | j + 1, c => by
    have h1 := en_op K j (c + 1)
    have h2 := en_op K j (c - 1)
    have h3 := en_op K j c
    unfold en_
    split
    · exact h1
    · split
      · rename_i h
        split
        · intro _
          rw [Nat.add_sub_cancel]
          exact h
        · exact h2
      · exact h3
theorem en_loc {K K' : Nat → Nat} : ∀ j c, (∀ i, i < j → K i = K' i) → en_ K j c = en_ K' j c
  | 0, _ => fun _ => rfl
  | j + 1, c => fun h => by
    have hh : ∀ i, i < j → K i = K' i := fun i hi => h i (by omega)
    unfold en_
    rw [h j (by omega), en_loc j (c + 1) hh, en_loc j (c - 1) hh, en_loc j c hh]
def ef_ (K : Nat → Nat) (e c : Nat) : Nat := if e = 0 then 0 else en_ K (e - 1) c
theorem en_it (K : Nat → Nat) : ∀ N j c, j < N → en_ K j (c + 1) = ef_ K (eo_ K j) c := by
  intro N
  induction N with
  | zero => intro j c h; omega
  | succ N ih =>
    intro j c hj
    cases j with
    | zero => rfl
    | succ j =>
      have i1 := ih j c (by omega)
      have i2 := ih j (c + 1) (by omega)
      have i3 := ih j 0 (by omega)
      unfold eo_ en_
      by_cases h14 : K j = 14
      · rw [if_pos h14, if_pos h14, i2, i3]
        unfold ef_
        by_cases z : eo_ K j = 0
        · rw [if_pos z, if_pos z, if_pos rfl]
        · rw [if_neg z, if_neg z]
          have le := en_le K j 0
          have i4 := ih (eo_ K j - 1) c (by unfold eo_ at z ⊢; omega)
          rw [i4]
          rfl
      · rw [if_neg h14, if_neg h14]
        by_cases h5 : 5 ≤ K j ∧ K j ≤ 8
        · rw [if_pos h5, if_pos h5, if_neg (by omega), if_pos rfl, Nat.add_sub_cancel]
          unfold ef_
          rw [if_neg (by omega), Nat.add_sub_cancel]
        · rw [if_neg h5, if_neg h5, i1]
          rfl
theorem eo_0 (K : Nat → Nat) : eo_ K 0 = 0 := rfl
theorem eo_le (K : Nat → Nat) (i : Nat) : eo_ K i ≤ i := en_le K i 0
theorem eo_op {K : Nat → Nat} {i : Nat} (h : eo_ K i ≠ 0) : 5 ≤ K (eo_ K i - 1) ∧ K (eo_ K i - 1) ≤ 8 := en_op K i 0 h
theorem eo_loc {K K' : Nat → Nat} {i : Nat} (h : ∀ j, j < i → K j = K' j) : eo_ K i = eo_ K' i := en_loc i 0 h
theorem eo_end {K : Nat → Nat} {j : Nat} (h : K j = 14) : eo_ K (j + 1) = if eo_ K j = 0 then 0 else eo_ K (eo_ K j - 1) := by
  have := en_it K (j + 1) j 0 (by omega)
  unfold eo_
  rw [en_, if_pos h, this]
  rfl
theorem eo_opn {K : Nat → Nat} {j : Nat} (h : 5 ≤ K j) (h8 : K j ≤ 8) : eo_ K (j + 1) = j + 1 := by
  unfold eo_
  rw [en_, if_neg (by omega), if_pos ⟨h, h8⟩, if_pos rfl]
theorem eo_els {K : Nat → Nat} {j : Nat} (h : K j ≠ 14) (h8 : ¬ (5 ≤ K j ∧ K j ≤ 8)) : eo_ K (j + 1) = eo_ K j := by
  unfold eo_
  rw [en_, if_neg h, if_neg h8]
theorem eo_up {K : Nat → Nat} {n k i : Nat} (h : i ≤ n) : eo_ (up_ K n k) i = eo_ K i := eo_loc fun j hj => up_n (by omega)
theorem ga_ {f : Nat → Nat} {x : Int32} {j : Nat} (hx : x = nI j) (h : j < 2 ^ 31) : (fun i => nI (f i)) x.toNatClampNeg = nI (f j) := by
  subst hx
  show nI (f (nI j).toNatClampNeg) = _
  rw [nI_clamp h]
theorem gb_ {f : Nat → Int32} {x : Int32} {j : Nat} (hx : x = nI j) (h : j < 2 ^ 31) : f x.toNatClampNeg = f j := by
  subst hx
  rw [nI_clamp h]
theorem yw_opens {q : QT} {e : ET} {post : Int32 → Prop} {j : Nat} (hj : j < 48) (hk : kd_ q j ≤ 14) (h1 : 5 ≤ kd_ q j ∧ kd_ q j ≤ 8 → post 1) (h0 : ¬ (5 ≤ kd_ q j ∧ kd_ q j ≤ 8) → post 0) : wpY_opens post (YT q e) (nI j) := by
  have hv : vp_in (nI j) 48 := vp_in_nI hj (by omega)
  refine And.intro hv ?_
  refine pk_lt (kd_ q j) 5 (fun h => h0 (by omega)) (fun h => ⟨hv, ?_⟩) (ga_ rfl (by omega)) rfl (by omega) (by omega)
  exact pk_lt 8 (kd_ q j) (fun h => h0 (by omega)) (fun h2 => h1 (by omega)) rfl (ga_ rfl (by omega)) (by omega) (by omega)
theorem yw_en6 {q : QT} {e : ET} {post : Int32 → Prop} : ∀ j, j ≤ 48 → (∀ i, i < j → kd_ q i ≤ 14) → ∀ c N, c + j ≤ 96 → j < N → post (mo_ (en_ (kd_ q) j c)) → wY_openerOf_6 post (nI (mL_ q)) (nI (mT_ q)) (nI (mD_ q)) (nI (nn_ q)) (nI (yp_ e)) (yc_ e) (nI (yu_ e)) (nI (yo_ e)) (nI (yb_ e)) (nI (yi_ e)) (nI (yf_ e)) (nI (yl_ e)) (yn_ e) (yr_ e) (yt_ e) (nI (cm_ q)) (fun i => nI (kd_ q i)) (fun i => nI (ar_ q (4 * i + 1))) (fun i => nI (ar_ q (4 * i + 2))) (fun i => nI (ar_ q (4 * i + 3))) (fun i => nI (bi_ e i)) (fun i => nI (bm_ e i)) (bv_ e) (bl_ e) (io_ e) (fun i => nI (fl_ e i)) (fun i => nI (fi_ e i)) (fun i => nI (cx_ e i)) (fun i => nI (ci_ e i)) (yx_ e) N (nI c) (mo_ j) := by
  intro j
  induction j with
  | zero =>
    intro _ _ c N _ hN hp
    cases N with
    | zero => omega
    | succ N =>
      rw [wY_openerOf_6]
      refine br_t (by decide) ?_
      rw [← mo_0]
      exact hp
  | succ j ih =>
    intro hj hk c N hc hN hp
    cases N with
    | zero => omega
    | succ N =>
      have ih := ih (by omega) (fun i hi => hk i (by omega))
      have hkj := hk j (by omega)
      rw [mo_s, wY_openerOf_6]
      refine br_f (nI_pos (by omega)) ⟨vp_in_nI (by omega) (by omega), ?_⟩
      refine pk_eq (kd_ q j) 14 (fun h => ?_) (fun h => ?_) (ga_ rfl (by omega)) rfl (by omega) (by omega)
      · refine nm_r (nI_1 c) (nm_r (mo_a j) ?_)
        refine ih (c + 1) N (by omega) (by omega) ?_
        rw [en_, if_pos h] at hp
        exact hp
      · rw [en_, if_neg h] at hp
        refine yw_opens (q := q) (e := e) (by omega) hkj (fun h5 => ?_) (fun h5 => ?_)
        · refine br_f (by decide) ?_
          rw [if_pos h5] at hp
          refine pk_eq c 0 (fun z => ?_) (fun z => ?_) rfl rfl (by omega) (by omega)
          · rw [if_pos z, mo_s] at hp
            exact hp
          · rw [if_neg z] at hp
            show wY_openerOf_41 post _ (nI c) (nI j) (nI (mL_ q)) (nI (mT_ q)) (nI (mD_ q)) (nI (nn_ q)) (nI (yp_ e)) (yc_ e) (nI (yu_ e)) (nI (yo_ e)) (nI (yb_ e)) (nI (yi_ e)) (nI (yf_ e)) (nI (yl_ e)) (yn_ e) (yr_ e) (yt_ e) (nI (cm_ q)) (fun i => nI (kd_ q i)) (fun i => nI (ar_ q (4 * i + 1))) (fun i => nI (ar_ q (4 * i + 2))) (fun i => nI (ar_ q (4 * i + 3))) (fun i => nI (bi_ e i)) (fun i => nI (bm_ e i)) (bv_ e) (bl_ e) (io_ e) (fun i => nI (fl_ e i)) (fun i => nI (fi_ e i)) (fun i => nI (cx_ e i)) (fun i => nI (ci_ e i)) (yx_ e)
            refine yw_opens (q := q) (e := e) (by omega) hkj (fun h5 => ?_) (fun h5' => absurd h5 h5')
            refine br_f (by decide) ?_
            refine nm_r (e' := nI (c - 1)) ?_ (nm_r (mo_a j) (ih (c - 1) N (by omega) (by omega) hp))
            obtain ⟨c', rfl⟩ : ∃ c', c = c' + 1 := ⟨c - 1, by omega⟩
            exact pk_m1 c'
        · refine br_t rfl ?_
          rw [if_neg h5] at hp
          refine yw_opens (q := q) (e := e) (by omega) hkj (fun h5' => absurd h5' h5) (fun h5' => ?_)
          exact br_t rfl (nm_r (mo_a j) (ih c N (by omega) (by omega) hp))
theorem yw_en {q : QT} {e : ET} {post : Int32 → Prop} {i : Nat} (hi : i ≤ 48) (hk : ∀ j, j < i → kd_ q j ≤ 14) (hp : post (mo_ (eo_ (kd_ q) i))) : wpY_openerOf post (YT q e) (nI i) :=
  nm_e ⟨i + 1, yw_en6 i hi hk 0 (i + 1) (by omega) (by omega) hp⟩
end
section
def pq_ (kd se : Nat → Nat) (l : Nat) : Nat := if kd l ≠ 8 then 0 else if se (4 * l + 1) = 0 then 1 else if se (4 * l + 2) = 0 then 2 else if se (4 * l + 3) = 0 then 3 else 0
def sk_ (ol : Nat → Nat) (k : Nat) : Nat := if k = 0 then 0 else ol k + 1
def sc_ (sl : Nat → Nat) (s : Nat) : Nat := if s = 0 then 0 else sl s + 1
def sy_ (kd se : Nat → Nat) (i : Nat) : Nat := if eo_ kd i = 0 then 0 else if kd (eo_ kd i - 1) = 8 ∧ se (4 * (eo_ kd i - 1) + 3) ≠ 0 ∧ se (4 * (eo_ kd i - 1) + 3) < i then se (4 * (eo_ kd i - 1) + 3) + 1 else eo_ kd i
def dq_ (kd : Nat → Nat) : Nat → Int32
  | 0 => 0
  | j + 1 => if 5 ≤ kd j ∧ kd j ≤ 8 then dq_ kd j + 1 else if kd j = 14 then dq_ kd j + (-1) else dq_ kd j + 0
def lf_ (kd L od se pa sl : Nat → Nat) (i : Nat) : Prop :=
  (kd i ≤ 4 ∨ (11 ≤ kd i ∧ kd i ≤ 13) → L (i + 1) = L i) ∧
  (5 ≤ kd i → kd i ≤ 8 → L (i + 1) = od i ∧ 0 < od i ∧ pa (od i) = L i ∧ sl (od i) = i) ∧
  (kd i = 9 → ∃ l, eo_ kd i = l + 1 ∧ kd l = 8 ∧ L i = od l ∧ ((i = se (4 * l + 1) ∧ L (i + 1) = od l) ∨ (i = se (4 * l + 3) ∧ L (i + 1) = od i ∧ 0 < od i ∧ pa (od i) = od l ∧ sl (od i) = i))) ∧
  (kd i = 10 → ∃ l, eo_ kd i = l + 1 ∧ kd l = 8 ∧ i = se (4 * l + 2) ∧ L i = od l ∧ L (i + 1) = od l) ∧
  (kd i = 14 → ∃ l, eo_ kd i = l + 1 ∧ i = se (4 * l) ∧ L (i + 1) = L l ∧ (kd l = 8 → L i = od (se (4 * l + 3))) ∧ (kd l ≠ 8 → L i = od l))
def sf_ (n : Nat) (kd se : Nat → Nat) (l : Nat) : Prop :=
  (se (4 * l) ≠ 0 → l < se (4 * l) ∧ se (4 * l) < n ∧ kd (se (4 * l)) = 14 ∧ eo_ kd (se (4 * l)) = l + 1 ∧ (kd l = 8 → se (4 * l + 3) ≠ 0 ∧ se (4 * l + 3) < se (4 * l))) ∧
  (se (4 * l + 1) ≠ 0 → kd l = 8 ∧ l < se (4 * l + 1) ∧ se (4 * l + 1) < n ∧ kd (se (4 * l + 1)) = 9 ∧ eo_ kd (se (4 * l + 1)) = l + 1) ∧
  (se (4 * l + 2) ≠ 0 → se (4 * l + 1) ≠ 0 ∧ se (4 * l + 1) < se (4 * l + 2) ∧ se (4 * l + 2) < n ∧ kd (se (4 * l + 2)) = 10 ∧ eo_ kd (se (4 * l + 2)) = l + 1) ∧
  (se (4 * l + 3) ≠ 0 → se (4 * l + 2) ≠ 0 ∧ se (4 * l + 2) < se (4 * l + 3) ∧ se (4 * l + 3) < n ∧ kd (se (4 * l + 3)) = 9 ∧ eo_ kd (se (4 * l + 3)) = l + 1)
def cf_ (n : Nat) (kd L od se pa ow sl lo : Nat → Nat) (s : Nat) : Prop :=
  pa s < s ∧ sl s < n ∧ od (sl s) = s ∧ pa s = L (sl s) ∧
  ((5 ≤ kd (sl s) ∧ kd (sl s) ≤ 8) ∨ (kd (sl s) = 9 ∧ ∃ l, eo_ kd (sl s) = l + 1 ∧ sl s = se (4 * l + 3) ∧ kd l = 8 ∧ pa s = od l)) ∧
  ow s = (if kd (sl s) = 5 ∨ kd (sl s) = 6 then s else ow (pa s)) ∧
  lo s = (if kd (sl s) = 9 then eo_ kd (sl s) else if kd (sl s) = 5 ∨ kd (sl s) = 6 then 0 else lo (pa s))
def bf_ (kd L se ow sl lo oe : Nat → Nat) (i : Nat) : Prop :=
  (kd i = 5 ∨ kd i = 7 ∨ kd i = 8 ∨ (11 ≤ kd i ∧ kd i ≤ 14) → L i ≠ 0 → kd (sl (L i)) ≠ 8) ∧
  (kd i ≤ 1 → L i ≠ 0 → kd (sl (L i)) = 8 → se (4 * sl (L i) + 1) = 0 ∨ i < se (4 * sl (L i) + 1)) ∧
  (kd i = 13 → ow (L i) ≠ 0) ∧
  (kd i = 11 ∨ kd i = 12 → oe i + 1 = lo (L i)) ∧
  (¬ (kd i = 11 ∨ kd i = 12) → oe i = eo_ kd i - 1)
def jb_ (n sn oc : Nat) (L : Nat → Nat) : Prop := n ≤ 48 ∧ 1 ≤ sn ∧ sn ≤ n + 1 ∧ oc ≤ 8 ∧ ∀ i, i ≤ n → L i < sn
def jk_ (n : Nat) (kd : Nat → Nat) : Prop := ∀ i, i < n → kd i ≤ 14
def jz_ (n : Nat) (se : Nat → Nat) : Prop := ∀ j, 4 * n ≤ j → se j = 0
def jt_ (n oc : Nat) (kd se ol : Nat → Nat) : Prop := eo_ kd n = sk_ ol oc ∧ ol 0 = 0 ∧ ∀ k, 1 ≤ k → k ≤ oc → ol k < n ∧ 5 ≤ kd (ol k) ∧ kd (ol k) ≤ 8 ∧ se (4 * ol k) = 0 ∧ eo_ kd (ol k) = sk_ ol (k - 1)
def jp_ (oc : Nat) (kd se ol pl : Nat → Nat) : Prop := pl 0 = 0 ∧ ∀ k, 1 ≤ k → k ≤ oc → pl k = pq_ kd se (ol k)
def jh_ (n oc : Nat) (kd se ol : Nat → Nat) : Prop := ∀ l, l < n → 5 ≤ kd l → kd l ≤ 8 → se (4 * l) = 0 → ∃ k, 1 ≤ k ∧ k ≤ oc ∧ ol k = l
def jl_ (n : Nat) (kd L od se pa sl : Nat → Nat) : Prop := ∀ i, i < n → lf_ kd L od se pa sl i
def je_ (n : Nat) (kd se : Nat → Nat) : Prop := ∀ l, l < n → sf_ n kd se l
def jr_ (pa ow sl lo : Nat → Nat) : Prop := pa 0 = 0 ∧ ow 0 = 0 ∧ sl 0 = 0 ∧ lo 0 = 0
def jc_ (n sn : Nat) (kd L od se pa ow sl lo : Nat → Nat) : Prop := ∀ s, 0 < s → s < sn → cf_ n kd L od se pa ow sl lo s
def jm_ (sn : Nat) (sl : Nat → Nat) : Prop := ∀ s t, 0 < s → s < t → t < sn → sl s < sl t
def jg_ (n : Nat) (kd L od se : Nat → Nat) : Prop := ∀ l, l < n → 5 ≤ kd l → kd l ≤ 8 → ∀ j, l < j → j ≤ (if se (4 * l) = 0 then n else se (4 * l)) → od l ≤ L j
def jy_ (n : Nat) (kd L se sl : Nat → Nat) : Prop := ∀ i, i ≤ n → sc_ sl (L i) = sy_ kd se i
def jo_ (n : Nat) (kd L se ow sl lo oe : Nat → Nat) : Prop := ∀ i, i < n → bf_ kd L se ow sl lo oe i
def FS (n sn oc : Nat) (kd L od se ol pl pa ow sl lo oe : Nat → Nat) : Prop :=
  jb_ n sn oc L ∧ jk_ n kd ∧ jz_ n se ∧ jt_ n oc kd se ol ∧ jp_ oc kd se ol pl ∧ jh_ n oc kd se ol ∧ dq_ kd n = nI oc ∧
  jl_ n kd L od se pa sl ∧ je_ n kd se ∧ jr_ pa ow sl lo ∧ jc_ n sn kd L od se pa ow sl lo ∧ jm_ sn sl ∧ jg_ n kd L od se ∧ jy_ n kd L se sl ∧ jo_ n kd L se ow sl lo oe
section
variable {n sn oc : Nat} {kd L od se ol pl pa ow sl lo oe : Nat → Nat}
theorem fs_b (h : FS n sn oc kd L od se ol pl pa ow sl lo oe) : jb_ n sn oc L := h.1
theorem fs_k (h : FS n sn oc kd L od se ol pl pa ow sl lo oe) : jk_ n kd := h.2.1
theorem fs_z (h : FS n sn oc kd L od se ol pl pa ow sl lo oe) : jz_ n se := h.2.2.1
theorem fs_t (h : FS n sn oc kd L od se ol pl pa ow sl lo oe) : jt_ n oc kd se ol := h.2.2.2.1
theorem fs_p (h : FS n sn oc kd L od se ol pl pa ow sl lo oe) : jp_ oc kd se ol pl := h.2.2.2.2.1
theorem fs_h (h : FS n sn oc kd L od se ol pl pa ow sl lo oe) : jh_ n oc kd se ol := h.2.2.2.2.2.1
theorem fs_d (h : FS n sn oc kd L od se ol pl pa ow sl lo oe) : dq_ kd n = nI oc := h.2.2.2.2.2.2.1
theorem fs_l (h : FS n sn oc kd L od se ol pl pa ow sl lo oe) : jl_ n kd L od se pa sl := h.2.2.2.2.2.2.2.1
theorem fs_e (h : FS n sn oc kd L od se ol pl pa ow sl lo oe) : je_ n kd se := h.2.2.2.2.2.2.2.2.1
theorem fs_r (h : FS n sn oc kd L od se ol pl pa ow sl lo oe) : jr_ pa ow sl lo := h.2.2.2.2.2.2.2.2.2.1
theorem fs_c (h : FS n sn oc kd L od se ol pl pa ow sl lo oe) : jc_ n sn kd L od se pa ow sl lo := h.2.2.2.2.2.2.2.2.2.2.1
theorem fs_m (h : FS n sn oc kd L od se ol pl pa ow sl lo oe) : jm_ sn sl := h.2.2.2.2.2.2.2.2.2.2.2.1
theorem fs_g (h : FS n sn oc kd L od se ol pl pa ow sl lo oe) : jg_ n kd L od se := h.2.2.2.2.2.2.2.2.2.2.2.2.1
theorem fs_y (h : FS n sn oc kd L od se ol pl pa ow sl lo oe) : jy_ n kd L se sl := h.2.2.2.2.2.2.2.2.2.2.2.2.2.1
theorem fs_o (h : FS n sn oc kd L od se ol pl pa ow sl lo oe) : jo_ n kd L se ow sl lo oe := h.2.2.2.2.2.2.2.2.2.2.2.2.2.2
theorem sf_lt {l r : Nat} (h : je_ n kd se) (hl : l < n) (hr : r < 4) (h0 : se (4 * l + r) ≠ 0) : l < se (4 * l + r) ∧ se (4 * l + r) < n ∧ eo_ kd (se (4 * l + r)) = l + 1 ∧ 9 ≤ kd (se (4 * l + r)) := by
  obtain ⟨a, b, c, d⟩ := h l hl
  have h3 : r = 0 ∨ r = 1 ∨ r = 2 ∨ r = 3 := by omega
  rcases h3 with rfl | rfl | rfl | rfl
  · obtain ⟨x1, x2, x3, x4, -⟩ := a h0
    rw [Nat.add_zero]
    exact ⟨x1, x2, x4, by omega⟩
  · obtain ⟨x0, x1, x2, x3, x4⟩ := b h0
    exact ⟨x1, x2, x4, by omega⟩
  · obtain ⟨y0, y1, y2, y3, y4⟩ := c h0
    obtain ⟨x0, x1, x2, x3, x4⟩ := b y0
    exact ⟨by omega, y2, y4, by omega⟩
  · obtain ⟨z0, z1, z2, z3, z4⟩ := d h0
    obtain ⟨y0, y1, y2, y3, y4⟩ := c z0
    obtain ⟨x0, x1, x2, x3, x4⟩ := b y0
    exact ⟨by omega, z2, z4, by omega⟩
theorem fs_top (h : FS n sn oc kd L od se ol pl pa ow sl lo oe) (ho : oc ≠ 0) : ol oc < n ∧ eo_ kd n = ol oc + 1 ∧ 5 ≤ kd (ol oc) ∧ kd (ol oc) ≤ 8 ∧ se (4 * ol oc) = 0 ∧ pl oc = pq_ kd se (ol oc) := by
  obtain ⟨t1, t2, t3⟩ := fs_t h
  obtain ⟨a, b, c, d, e⟩ := t3 oc (by omega) (Nat.le_refl _)
  refine ⟨a, ?_, b, c, d, (fs_p h).2 oc (by omega) (Nat.le_refl _)⟩
  rw [t1]
  exact if_neg ho
theorem sc_inj (h : FS n sn oc kd L od se ol pl pa ow sl lo oe) {s : Nat} (hs : s < sn) {i : Nat} (e : sc_ sl s = i + 1) : 0 < s ∧ sl s = i ∧ od i = s := by
  unfold sc_ at e
  by_cases z : s = 0
  · rw [if_pos z] at e; omega
  · rw [if_neg z] at e
    have := fs_c h s (by omega) hs
    have e2 : sl s = i := by omega
    refine ⟨by omega, e2, ?_⟩
    rw [← e2]
    exact this.2.2.1
theorem fs_scope (h : FS n sn oc kd L od se ol pl pa ow sl lo oe) (ho : oc ≠ 0) :
    (kd (ol oc) = 8 ∧ se (4 * ol oc + 3) ≠ 0 → L n = od (se (4 * ol oc + 3)) ∧ 0 < L n ∧ sl (L n) = se (4 * ol oc + 3)) ∧
    (¬ (kd (ol oc) = 8 ∧ se (4 * ol oc + 3) ≠ 0) → L n = od (ol oc) ∧ 0 < L n ∧ sl (L n) = ol oc) := by
  obtain ⟨a, b, -⟩ := fs_top h ho
  have y := fs_y h n (Nat.le_refl _)
  have hb := (fs_b h).2.2.2.2 n (Nat.le_refl _)
  unfold sy_ at y
  rw [b, if_neg (by omega), Nat.add_sub_cancel] at y
  constructor
  · intro z
    have lt := (sf_lt (fs_e h) a (r := 3) (by omega) z.2).2.1
    rw [if_pos ⟨z.1, z.2, lt⟩] at y
    obtain ⟨y1, y2, y3⟩ := sc_inj h hb y
    exact ⟨y3.symm, y1, y2⟩
  · intro z
    rw [if_neg (fun w => z ⟨w.1, w.2.1⟩)] at y
    obtain ⟨y1, y2, y3⟩ := sc_inj h hb y
    exact ⟨y3.symm, y1, y2⟩
theorem fs_scope0 (h : FS n sn oc kd L od se ol pl pa ow sl lo oe) (ho : oc = 0) : L n = 0 ∧ eo_ kd n = 0 := by
  have y := fs_y h n (Nat.le_refl _)
  have e0 : eo_ kd n = 0 := by
    rw [(fs_t h).1, ho]
    rfl
  unfold sy_ at y
  rw [e0, if_pos rfl] at y
  unfold sc_ at y
  by_cases z : L n = 0
  · exact ⟨z, e0⟩
  · rw [if_neg z] at y; omega
theorem fs_pl0 (h : FS n sn oc kd L od se ol pl pa ow sl lo oe) (ho : pl oc = 0) : L n ≠ 0 → kd (sl (L n)) ≠ 8 := by
  intro h0
  by_cases z : oc = 0
  · exact absurd (fs_scope0 h z).1 h0
  · obtain ⟨a, b, c, d, e, f⟩ := fs_top h z
    obtain ⟨s1, s2⟩ := fs_scope h z
    by_cases w : kd (ol oc) = 8 ∧ se (4 * ol oc + 3) ≠ 0
    · obtain ⟨-, -, x⟩ := s1 w
      rw [x]
      have := ((fs_e h _ a).2.2.2 w.2).2.2.2.1
      omega
    · obtain ⟨-, -, x⟩ := s2 w
      rw [x]
      intro w8
      rw [ho] at f
      unfold pq_ at f
      rw [if_neg (fun q => q w8)] at f
      by_cases w3 : se (4 * ol oc + 3) = 0
      · rw [if_pos w3] at f
        split at f
        · omega
        · split at f <;> omega
      · exact w ⟨w8, w3⟩
end
theorem dq_loc {K K' : Nat → Nat} : ∀ j, (∀ i, i < j → K i = K' i) → dq_ K j = dq_ K' j
  | 0 => fun _ => rfl
  | j + 1 => fun h => by
    unfold dq_
    rw [h j (by omega), dq_loc j (fun i hi => h i (by omega))]
end
section
def Lq_ (q : QT) : Nat → Nat := up_ (ls_ q) (nn_ q) (sp_ q)
def FQ (q : QT) : Prop := FS (nn_ q) (sn_ q) (oc_ q) (kd_ q) (Lq_ q) (od_ q) (se_ q) (ol_ q) (pl_ q) (pa_ q) (ow_ q) (sl_ q) (lo_ q) (oe_ q)
theorem fq_n {q : QT} (H : FQ q) : nn_ q ≤ 48 := (fs_b H).1
theorem fq_s {q : QT} (H : FQ q) : sn_ q ≤ 49 := by
  have := fs_b H
  unfold jb_ at this
  omega
def fo_ (P : Nat → Bool) : Nat → Nat → Nat → Nat
  | 0, _, _ => 0
  | m + 1, j, d => if P j = true then (if d = 1 then j + 1 else fo_ P m (j + 1) (d - 1)) else fo_ P m (j + 1) d
theorem fo_none {P : Nat → Bool} : ∀ m j d, (∀ i, j ≤ i → i < j + m → P i = false) → fo_ P m j d = 0
  | 0, _, _ => fun _ => rfl
  | m + 1, j, d => fun h => by
    unfold fo_
    rw [h j (by omega) (by omega), if_neg (by decide)]
    exact fo_none m (j + 1) d (fun i h1 h2 => h i (by omega) (by omega))
theorem fo_skip {P : Nat → Bool} : ∀ m j d j0, j ≤ j0 → j0 < j + m → (∀ i, j ≤ i → i < j0 → P i = false) → P j0 = true → fo_ P m j d = if d = 1 then j0 + 1 else fo_ P (j + m - (j0 + 1)) (j0 + 1) (d - 1)
  | 0, j, _, j0 => fun h1 h2 _ _ => by omega
  | m + 1, j, d, j0 => fun h1 h2 hn hp => by
    rw [fo_]
    by_cases e : j = j0
    · subst e
      rw [if_pos hp, show j + (m + 1) - (j + 1) = m by omega]
    · rw [hn j (by omega) (by omega), if_neg (by decide), fo_skip m (j + 1) d j0 (by omega) (by omega) (fun i a b => hn i (by omega) b) hp, show j + 1 + m - (j0 + 1) = j + (m + 1) - (j0 + 1) by omega]
def ol_P (kd : Nat → Nat) (l k : Nat) : Nat → Bool := fun j => decide (kd j = k ∧ eo_ kd j = l + 1)
theorem yw_own8 {q : QT} {e : ET} {post : Int32 → Prop} {l k t : Nat} (hn : nn_ q ≤ 48) (hl : l < 48) (hk : ∀ i, i < nn_ q → kd_ q i ≤ 14) (hk14 : k ≤ 14) (ht : t ≤ 2) :
    ∀ m j c N, j + m = nn_ q → m < N → c < t → post (mo_ (fo_ (ol_P (kd_ q) l k) m j (t - c))) → wY_own_8 post (nI l) (nI k) (nI t) (nI (mL_ q)) (nI (mT_ q)) (nI (mD_ q)) (nI (nn_ q)) (nI (yp_ e)) (yc_ e) (nI (yu_ e)) (nI (yo_ e)) (nI (yb_ e)) (nI (yi_ e)) (nI (yf_ e)) (nI (yl_ e)) (yn_ e) (yr_ e) (yt_ e) (nI (cm_ q)) (fun i => nI (kd_ q i)) (fun i => nI (ar_ q (4 * i + 1))) (fun i => nI (ar_ q (4 * i + 2))) (fun i => nI (ar_ q (4 * i + 3))) (fun i => nI (bi_ e i)) (fun i => nI (bm_ e i)) (bv_ e) (bl_ e) (io_ e) (fun i => nI (fl_ e i)) (fun i => nI (fi_ e i)) (fun i => nI (cx_ e i)) (fun i => nI (ci_ e i)) (yx_ e) N (nI c) (nI j) := by
  intro m
  induction m with
  | zero =>
    intro j c N hj hN hc hp
    cases N with
    | zero => omega
    | succ N =>
      rw [wY_own_8]
      refine br_t (nI_le (by omega) (by omega)) ?_
      rw [← mo_0]
      exact hp
  | succ m ih =>
    intro j c N hj hN hc hp
    cases N with
    | zero => omega
    | succ N =>
      rw [wY_own_8]
      rw [fo_] at hp
      have hkj := hk j (by omega)
      refine br_f (nI_ge (by omega) (by omega)) ⟨vp_in_nI (by omega) (by omega), ?_⟩
      have no : ∀ (hP : ol_P (kd_ q) l k j = false), wY_own_41 post (wY_own_8 post (nI l) (nI k) (nI t) (nI (mL_ q)) (nI (mT_ q)) (nI (mD_ q)) (nI (nn_ q)) (nI (yp_ e)) (yc_ e) (nI (yu_ e)) (nI (yo_ e)) (nI (yb_ e)) (nI (yi_ e)) (nI (yf_ e)) (nI (yl_ e)) (yn_ e) (yr_ e) (yt_ e) (nI (cm_ q)) (fun i => nI (kd_ q i)) (fun i => nI (ar_ q (4 * i + 1))) (fun i => nI (ar_ q (4 * i + 2))) (fun i => nI (ar_ q (4 * i + 3))) (fun i => nI (bi_ e i)) (fun i => nI (bm_ e i)) (bv_ e) (bl_ e) (io_ e) (fun i => nI (fl_ e i)) (fun i => nI (fi_ e i)) (fun i => nI (cx_ e i)) (fun i => nI (ci_ e i)) (yx_ e) N) (nI l) (nI k) (nI t) (nI c) (nI j) (nI (mL_ q)) (nI (mT_ q)) (nI (mD_ q)) (nI (nn_ q)) (nI (yp_ e)) (yc_ e) (nI (yu_ e)) (nI (yo_ e)) (nI (yb_ e)) (nI (yi_ e)) (nI (yf_ e)) (nI (yl_ e)) (yn_ e) (yr_ e) (yt_ e) (nI (cm_ q)) (fun i => nI (kd_ q i)) (fun i => nI (ar_ q (4 * i + 1))) (fun i => nI (ar_ q (4 * i + 2))) (fun i => nI (ar_ q (4 * i + 3))) (fun i => nI (bi_ e i)) (fun i => nI (bm_ e i)) (bv_ e) (bl_ e) (io_ e) (fun i => nI (fl_ e i)) (fun i => nI (fi_ e i)) (fun i => nI (cx_ e i)) (fun i => nI (ci_ e i)) (yx_ e) := by
        intro hP
        rw [hP, if_neg (by decide)] at hp
        refine br_f (fun z => ?_) (nm_r (nI_1 j) (ih (j + 1) c N (by omega) (by omega) hc hp))
        rw [nI_eq (by omega) (by omega)] at z
        omega
      refine pk_eq (kd_ q j) k (fun h => ?_) (fun h => no ?_) (ga_ rfl (by omega)) rfl (by omega) (by omega)
      · refine yw_en (q := q) (e := e) (by omega) (fun i hi => hk i (by omega)) ?_
        have le := eo_le (kd_ q) j
        by_cases ho : eo_ (kd_ q) j = l + 1
        · refine br_t ((mo_nI (by omega) (by omega)).mpr ho) (nm_r (nI_1 c) ?_)
          have hP : ol_P (kd_ q) l k j = true := decide_eq_true ⟨h, ho⟩
          rw [if_pos hP] at hp
          refine pk_eq (c + 1) t (fun z => ?_) (fun z => ?_) rfl rfl (by omega) (by omega)
          · rw [if_pos (by omega), mo_s] at hp
            exact hp
          · rw [if_neg (by omega)] at hp
            exact nm_r (nI_1 j) (ih (j + 1) (c + 1) N (by omega) (by omega) (by omega) hp)
        · refine br_f (fun z => ho ((mo_nI (by omega) (by omega)).mp z)) (no ?_)
          exact decide_eq_false (fun z => ho z.2)
      · exact decide_eq_false (fun z => h z.1)
theorem yw_own {q : QT} {e : ET} {post : Int32 → Prop} {l k t : Nat} (hn : nn_ q ≤ 48) (hl : l < nn_ q) (hk : ∀ i, i < nn_ q → kd_ q i ≤ 14) (hk14 : k ≤ 14) (ht : t ≤ 2) (h1 : 1 ≤ t)
    (hp : post (mo_ (fo_ (ol_P (kd_ q) l k) (nn_ q - (l + 1)) (l + 1) t))) : wpY_own post (YT q e) (nI l) (nI k) (nI t) :=
  nm_r (nI_1 l) ⟨nn_ q + 1, yw_own8 hn (by omega) hk hk14 ht (nn_ q - (l + 1)) (l + 1) 0 (nn_ q + 1) (by omega) (by omega) h1 hp⟩
def oz_ (s : Nat) : Nat := if s = 0 then 0 else s + 1
section
variable {n sn oc : Nat} {kd L od se ol pl pa ow sl lo oe : Nat → Nat}
theorem ow_14 (h : FS n sn oc kd L od se ol pl pa ow sl lo oe) {l : Nat} (hl : l < n) : fo_ (ol_P kd l 14) (n - (l + 1)) (l + 1) 1 = oz_ (se (4 * l)) := by
  have A : ∀ j, j < n → ol_P kd l 14 j = true → j = se (4 * l) := by
    intro j hj hp
    obtain ⟨h1, h2⟩ := of_decide_eq_true hp
    obtain ⟨l', e1, e2, -⟩ := (fs_l h j hj).2.2.2.2 h1
    have : l' = l := by omega
    subst this
    exact e2
  unfold oz_
  by_cases z : se (4 * l) = 0
  · rw [if_pos z]
    refine fo_none _ _ _ (fun i h1 h2 => ?_)
    cases hp : ol_P kd l 14 i with
    | false => rfl
    | true =>
      have := A i (by omega) hp
      omega
  · rw [if_neg z]
    obtain ⟨x1, x2, x3, x4, -⟩ := (fs_e h l hl).1 z
    rw [fo_skip _ _ _ (se (4 * l)) (by omega) (by omega) (fun i h1 h2 => ?_) (decide_eq_true ⟨x3, x4⟩), if_pos rfl]
    cases hp : ol_P kd l 14 i with
    | false => rfl
    | true =>
      have := A i (by omega) hp
      omega
theorem ow_10 (h : FS n sn oc kd L od se ol pl pa ow sl lo oe) {l : Nat} (hl : l < n) : fo_ (ol_P kd l 10) (n - (l + 1)) (l + 1) 1 = oz_ (se (4 * l + 2)) := by
  have A : ∀ j, j < n → ol_P kd l 10 j = true → j = se (4 * l + 2) := by
    intro j hj hp
    obtain ⟨h1, h2⟩ := of_decide_eq_true hp
    obtain ⟨l', e1, -, e2, -⟩ := (fs_l h j hj).2.2.2.1 h1
    have : l' = l := by omega
    subst this
    exact e2
  unfold oz_
  by_cases z : se (4 * l + 2) = 0
  · rw [if_pos z]
    refine fo_none _ _ _ (fun i h1 h2 => ?_)
    cases hp : ol_P kd l 10 i with
    | false => rfl
    | true =>
      have := A i (by omega) hp
      omega
  · rw [if_neg z]
    obtain ⟨x0, x1, x2, x3, x4⟩ := (fs_e h l hl).2.2.1 z
    have x5 := (sf_lt (fs_e h) hl (r := 2) (by omega) z).1
    rw [fo_skip _ _ _ (se (4 * l + 2)) (by omega) (by omega) (fun i h1 h2 => ?_) (decide_eq_true ⟨x3, x4⟩), if_pos rfl]
    cases hp : ol_P kd l 10 i with
    | false => rfl
    | true =>
      have := A i (by omega) hp
      omega
theorem ow_9A (h : FS n sn oc kd L od se ol pl pa ow sl lo oe) {l : Nat} : ∀ j, j < n → ol_P kd l 9 j = true → j = se (4 * l + 1) ∨ j = se (4 * l + 3) := by
  intro j hj hp
  obtain ⟨h1, h2⟩ := of_decide_eq_true hp
  obtain ⟨l', e1, -, -, e2⟩ := (fs_l h j hj).2.2.1 h1
  have : l' = l := by omega
  subst this
  rcases e2 with ⟨e, -⟩ | ⟨e, -⟩
  · exact Or.inl e
  · exact Or.inr e
theorem ow_91 (h : FS n sn oc kd L od se ol pl pa ow sl lo oe) {l : Nat} (hl : l < n) : fo_ (ol_P kd l 9) (n - (l + 1)) (l + 1) 1 = oz_ (se (4 * l + 1)) := by
  unfold oz_
  by_cases z : se (4 * l + 1) = 0
  · rw [if_pos z]
    refine fo_none _ _ _ (fun i h1 h2 => ?_)
    cases hp : ol_P kd l 9 i with
    | false => rfl
    | true =>
      rcases ow_9A h i (by omega) hp with w | w
      · omega
      · have z3 : se (4 * l + 3) ≠ 0 := by omega
        have z2 := ((fs_e h l hl).2.2.2 z3).1
        exact absurd z ((fs_e h l hl).2.2.1 z2).1
  · rw [if_neg z]
    obtain ⟨x0, x1, x2, x3, x4⟩ := (fs_e h l hl).2.1 z
    rw [fo_skip _ _ _ (se (4 * l + 1)) (by omega) (by omega) (fun i h1 h2 => ?_) (decide_eq_true ⟨x3, x4⟩), if_pos rfl]
    cases hp : ol_P kd l 9 i with
    | false => rfl
    | true =>
      rcases ow_9A h i (by omega) hp with w | w
      · omega
      · have z3 : se (4 * l + 3) ≠ 0 := by omega
        have z2 := (fs_e h l hl).2.2.2 z3
        have z1 := (fs_e h l hl).2.2.1 z2.1
        omega
theorem ow_92 (h : FS n sn oc kd L od se ol pl pa ow sl lo oe) {l : Nat} (hl : l < n) : fo_ (ol_P kd l 9) (n - (l + 1)) (l + 1) 2 = oz_ (se (4 * l + 3)) := by
  by_cases z : se (4 * l + 1) = 0
  · have z3 : se (4 * l + 3) = 0 := by
      apply Classical.byContradiction
      intro z3
      have z2 := ((fs_e h l hl).2.2.2 z3).1
      exact absurd z ((fs_e h l hl).2.2.1 z2).1
    unfold oz_
    rw [if_pos z3]
    refine fo_none _ _ _ (fun i h1 h2 => ?_)
    cases hp : ol_P kd l 9 i with
    | false => rfl
    | true => rcases ow_9A h i (by omega) hp with w | w <;> omega
  · obtain ⟨x0, x1, x2, x3, x4⟩ := (fs_e h l hl).2.1 z
    have hno : ∀ i, l + 1 ≤ i → i < se (4 * l + 1) → ol_P kd l 9 i = false := by
      intro i h1 h2
      cases hp : ol_P kd l 9 i with
      | false => rfl
      | true =>
        rcases ow_9A h i (by omega) hp with w | w
        · omega
        · have z3 : se (4 * l + 3) ≠ 0 := by omega
          have z2 := (fs_e h l hl).2.2.2 z3
          have z1 := (fs_e h l hl).2.2.1 z2.1
          omega
    rw [fo_skip _ _ _ (se (4 * l + 1)) (by omega) (by omega) hno (decide_eq_true ⟨x3, x4⟩), if_neg (by decide), show 2 - 1 = 1 from rfl]
    unfold oz_
    by_cases z3 : se (4 * l + 3) = 0
    · rw [if_pos z3]
      refine fo_none _ _ _ (fun i h1 h2 => ?_)
      cases hp : ol_P kd l 9 i with
      | false => rfl
      | true => rcases ow_9A h i (by omega) hp with w | w <;> omega
    · rw [if_neg z3]
      obtain ⟨y0, y1, y2, y3, y4⟩ := (fs_e h l hl).2.2.2 z3
      have w1 := (fs_e h l hl).2.2.1 y0
      rw [fo_skip _ _ _ (se (4 * l + 3)) (by omega) (by omega) (fun i h1 h2 => ?_) (decide_eq_true ⟨y3, y4⟩), if_pos rfl]
      cases hp : ol_P kd l 9 i with
      | false => rfl
      | true => rcases ow_9A h i (by omega) hp with w | w <;> omega
end
theorem oz_neg {s : Nat} (h : s < 100) : mo_ (oz_ s) < 0 ↔ s = 0 := by
  unfold oz_
  by_cases z : s = 0
  · rw [if_pos z]; exact ⟨fun _ => z, fun _ => by decide⟩
  · rw [if_neg z, mo_s]; exact ⟨fun w => absurd w (nI_pos (by omega)), fun w => absurd w z⟩
theorem oz_le {s : Nat} (h : s < 100) : (0 ≤ mo_ (oz_ s)) ↔ s ≠ 0 := by
  unfold oz_
  by_cases z : s = 0
  · rw [if_pos z]; exact ⟨fun w => absurd w (by decide), fun w => absurd z w⟩
  · rw [if_neg z, mo_s]; exact ⟨fun _ => z, fun _ => nI_pos' (by omega)⟩
theorem oz_nI {s : Nat} (h : s ≠ 0) : mo_ (oz_ s) = nI s := by
  unfold oz_
  rw [if_neg h, mo_s]
section
variable {q : QT} {e : ET} {post : Int32 → Prop}
theorem se_lt {l r : Nat} (H : FQ q) (hl : l < nn_ q) (hr : r < 4) : se_ q (4 * l + r) < 48 := by
  by_cases z : se_ q (4 * l + r) = 0
  · omega
  · have := (sf_lt (fs_e H) hl hr z).2.1
    have := fq_n H
    omega
theorem yw_o14 (H : FQ q) {l : Nat} (hl : l < nn_ q) (hp : post (mo_ (oz_ (se_ q (4 * l))))) : wpY_own post (YT q e) (nI l) 14 1 :=
  yw_own (k := 14) (t := 1) (fq_n H) hl (fs_k H) (by omega) (by omega) (by omega) (by rw [ow_14 H hl]; exact hp)
theorem yw_o10 (H : FQ q) {l : Nat} (hl : l < nn_ q) (hp : post (mo_ (oz_ (se_ q (4 * l + 2))))) : wpY_own post (YT q e) (nI l) 10 1 :=
  yw_own (k := 10) (t := 1) (fq_n H) hl (fs_k H) (by omega) (by omega) (by omega) (by rw [ow_10 H hl]; exact hp)
theorem yw_o91 (H : FQ q) {l : Nat} (hl : l < nn_ q) (hp : post (mo_ (oz_ (se_ q (4 * l + 1))))) : wpY_own post (YT q e) (nI l) 9 1 :=
  yw_own (k := 9) (t := 1) (fq_n H) hl (fs_k H) (by omega) (by omega) (by omega) (by rw [ow_91 H hl]; exact hp)
theorem yw_o92 (H : FQ q) {l : Nat} (hl : l < nn_ q) (hp : post (mo_ (oz_ (se_ q (4 * l + 3))))) : wpY_own post (YT q e) (nI l) 9 2 :=
  yw_own (k := 9) (t := 2) (fq_n H) hl (fs_k H) (by omega) (by omega) (by omega) (by rw [ow_92 H hl]; exact hp)
theorem yw_place (H : FQ q) (hp : post (nI (pl_ q (oc_ q)))) : wpY_place post (YT q e) := by
  have hn := fq_n H
  refine yw_en (q := q) (e := e) hn (fs_k H) ?_
  by_cases z : oc_ q = 0
  · rw [(fs_scope0 H z).2]
    refine br_t (by decide) ?_
    rw [z, (fs_p H).1] at hp
    exact hp
  · obtain ⟨a, b, c, d, f, g⟩ := fs_top H z
    rw [b, mo_s]
    rw [g] at hp
    unfold pq_ at hp
    refine br_f (nI_pos (by omega)) ⟨vp_in_nI (by omega) (by omega), ?_⟩
    refine pk_eq (kd_ q (ol_ q (oc_ q))) 8 (fun h8 => ?_) (fun h8 => ?_) (ga_ rfl (by omega)) rfl (by omega) (by omega)
    · rw [if_neg (fun w => w h8)] at hp
      refine yw_o91 H a ?_
      by_cases z1 : se_ q (4 * ol_ q (oc_ q) + 1) = 0
      · rw [if_pos z1] at hp
        exact br_f (fun w => (oz_le (by have := se_lt H a (r := 1) (by omega); omega)).mp w z1) hp
      · rw [if_neg z1] at hp
        refine br_t ((oz_le (by have := se_lt H a (r := 1) (by omega); omega)).mpr z1) (yw_o10 H a ?_)
        by_cases z2 : se_ q (4 * ol_ q (oc_ q) + 2) = 0
        · rw [if_pos z2] at hp
          exact br_f (fun w => (oz_le (by have := se_lt H a (r := 2) (by omega); omega)).mp w z2) hp
        · rw [if_neg z2] at hp
          refine br_t ((oz_le (by have := se_lt H a (r := 2) (by omega); omega)).mpr z2) (yw_o92 H a ?_)
          by_cases z3 : se_ q (4 * ol_ q (oc_ q) + 3) = 0
          · rw [if_pos z3] at hp
            exact br_f (fun w => (oz_le (by have := se_lt H a (r := 3) (by omega); omega)).mp w z3) hp
          · rw [if_neg z3] at hp
            exact br_t ((oz_le (by have := se_lt H a (r := 3) (by omega); omega)).mpr z3) hp
    · rw [if_pos h8] at hp
      exact hp
theorem yw_sc (H : FQ q) {i : Nat} (hi : i ≤ nn_ q) (hp : post (mo_ (sc_ (sl_ q) (Lq_ q i)))) : wpY_scopeOf post (YT q e) (nI i) := by
  have hn := fq_n H
  rw [fs_y H i hi] at hp
  unfold sy_ at hp
  refine yw_en (q := q) (e := e) (by omega) (fun j hj => fs_k H j (by omega)) ?_
  have le := eo_le (kd_ q) i
  by_cases z : eo_ (kd_ q) i = 0
  · rw [if_pos z] at hp
    rw [z]
    exact br_t (by decide) hp
  · rw [if_neg z] at hp
    obtain ⟨l, hl⟩ : ∃ l, eo_ (kd_ q) i = l + 1 := ⟨eo_ (kd_ q) i - 1, by omega⟩
    have op := eo_op z
    rw [hl, Nat.add_sub_cancel] at hp op
    rw [hl, mo_s]
    refine br_f (nI_pos (by omega)) ⟨vp_in_nI (by omega) (by omega), ?_⟩
    refine pk_eq (kd_ q l) 8 (fun h8 => ?_) (fun h8 => ?_) (ga_ rfl (by omega)) rfl (by omega) (by omega)
    · refine yw_o92 H (by omega) ?_
      have lt := se_lt H (l := l) (by omega) (r := 3) (by omega)
      by_cases z3 : se_ q (4 * l + 3) = 0
      · rw [if_neg (fun w => w.2.1 z3), mo_s] at hp
        exact br_t ((oz_neg (by omega)).mpr z3) hp
      · refine br_f (fun w => z3 ((oz_neg (by omega)).mp w)) ?_
        rw [oz_nI z3]
        refine pk_le i (se_ q (4 * l + 3)) (fun h => ?_) (fun h => ?_) rfl rfl (by omega) (by omega)
        · rw [if_neg (fun w => by omega), mo_s] at hp
          exact hp
        · rw [if_pos ⟨h8, z3, h⟩, mo_s] at hp
          exact hp
    · rw [if_neg (fun w => h8 w.1), mo_s] at hp
      exact hp
end
end
section
def Ex_ (n sn : Nat) (L od se pa ow sl lo oe L' od' se' pa' ow' sl' lo' oe' : Nat → Nat) : Prop :=
  (∀ i, i ≤ n → L' i = L i) ∧ (∀ i, i < n → od' i = od i) ∧ (∀ x, se' x = se x ∨ (se x = 0 ∧ se' x = n)) ∧ (∀ s, s < sn → pa' s = pa s ∧ ow' s = ow s ∧ sl' s = sl s ∧ lo' s = lo s) ∧ (∀ i, i < n → oe' i = oe i)
section
variable {n sn oc k : Nat} {kd L od se ol pl pa ow sl lo oe L' od' se' pa' ow' sl' lo' oe' : Nat → Nat}
theorem ex_nz (x : Ex_ n sn L od se pa ow sl lo oe L' od' se' pa' ow' sl' lo' oe') {y : Nat} (h : se y ≠ 0) : se' y = se y := by
  rcases x.2.2.1 y with a | a
  · exact a
  · exact absurd a.1 h
theorem lf_ext (h : FS n sn oc kd L od se ol pl pa ow sl lo oe) (x : Ex_ n sn L od se pa ow sl lo oe L' od' se' pa' ow' sl' lo' oe') {i : Nat} (hi : i < n) : lf_ (up_ kd n k) L' od' se' pa' sl' i := by
  have hL := x.1
  have hod := x.2.1
  have hs := x.2.2.2.1
  have hsn := (fs_b h).2.2.2.2
  obtain ⟨a1, a2, a3, a4, a5⟩ := fs_l h i hi
  have ek : up_ kd n k i = kd i := up_n (by omega)
  have ee : eo_ (up_ kd n k) i = eo_ kd i := eo_up (by omega)
  have le := eo_le kd i
  have hLi := hL i (by omega)
  have hLi1 := hL (i + 1) (by omega)
  have b1 := hsn (i + 1) (by omega)
  have b0 := hsn i (by omega)
  unfold lf_
  rw [ek, ee, hLi, hLi1]
  refine ⟨a1, fun h5 h8 => ?_, fun h9 => ?_, fun h10 => ?_, fun h14 => ?_⟩
  · obtain ⟨c1, c2, c3, c4⟩ := a2 h5 h8
    rw [hod i hi, (hs (od i) (by omega)).1, (hs (od i) (by omega)).2.2.1]
    exact ⟨c1, c2, c3, c4⟩
  · obtain ⟨l, c1, c2, c3, c4⟩ := a3 h9
    refine ⟨l, c1, by rw [up_n (by omega)]; exact c2, by rw [hod l (by omega)]; exact c3, ?_⟩
    rw [hod l (by omega)]
    rcases c4 with ⟨d1, d2⟩ | ⟨d1, d2, d3, d4, d5⟩
    · refine Or.inl ⟨?_, d2⟩
      rw [ex_nz x (by omega)]
      exact d1
    · refine Or.inr ⟨?_, ?_⟩
      · rw [ex_nz x (by omega)]
        exact d1
      · rw [hod i hi, (hs (od i) (by omega)).1, (hs (od i) (by omega)).2.2.1]
        exact ⟨d2, d3, d4, d5⟩
  · obtain ⟨l, c1, c2, c3, c4, c5⟩ := a4 h10
    refine ⟨l, c1, by rw [up_n (by omega)]; exact c2, ?_, ?_, ?_⟩
    · rw [ex_nz x (by omega)]
      exact c3
    · rw [hod l (by omega)]; exact c4
    · rw [hod l (by omega)]; exact c5
  · obtain ⟨l, c1, c2, c3, c4, c5⟩ := a5 h14
    have nz : se (4 * l) ≠ 0 := by omega
    refine ⟨l, c1, ?_, ?_, ?_, ?_⟩
    · rw [ex_nz x nz]
      exact c2
    · rw [hL l (by omega)]; exact c3
    · intro z
      rw [up_n (by omega)] at z
      obtain ⟨s1, s2⟩ := ((fs_e h l (by omega)).1 nz).2.2.2.2 z
      rw [ex_nz x s1, hod _ (by omega)]
      exact c4 z
    · intro z
      rw [up_n (by omega)] at z
      rw [hod l (by omega)]
      exact c5 z
theorem cf_ext (h : FS n sn oc kd L od se ol pl pa ow sl lo oe) (x : Ex_ n sn L od se pa ow sl lo oe L' od' se' pa' ow' sl' lo' oe') {s : Nat} (h0 : 0 < s) (hs : s < sn) : cf_ (n + 1) (up_ kd n k) L' od' se' pa' ow' sl' lo' s := by
  obtain ⟨a1, a2, a3, a4, a5, a6, a7⟩ := fs_c h s h0 hs
  obtain ⟨e1, e2, e3, e4⟩ := x.2.2.2.1 s hs
  obtain ⟨p1, p2, p3, p4⟩ := x.2.2.2.1 (pa s) (by omega)
  have le := eo_le kd (sl s)
  have ek : up_ kd n k (sl s) = kd (sl s) := up_n (by omega)
  have ee : eo_ (up_ kd n k) (sl s) = eo_ kd (sl s) := eo_up (by omega)
  unfold cf_
  rw [e1, e2, e3, e4, ek, ee, p2, p4]
  refine ⟨a1, by omega, by rw [x.2.1 _ a2]; exact a3, by rw [x.1 _ (by omega)]; exact a4, ?_, a6, a7⟩
  rcases a5 with a5 | ⟨b1, l, b2, b3, b4, b5⟩
  · exact Or.inl a5
  · refine Or.inr ⟨b1, l, b2, ?_, ?_, ?_⟩
    · rw [ex_nz x (by omega)]; exact b3
    · rw [up_n (by omega)]; exact b4
    · rw [x.2.1 _ (by omega)]; exact b5
theorem bf_ext (h : FS n sn oc kd L od se ol pl pa ow sl lo oe) (x : Ex_ n sn L od se pa ow sl lo oe L' od' se' pa' ow' sl' lo' oe') {i : Nat} (hi : i < n) : bf_ (up_ kd n k) L' se' ow' sl' lo' oe' i := by
  obtain ⟨a1, a2, a3, a4, a5⟩ := fs_o h i hi
  have hs := (fs_b h).2.2.2.2 i (by omega)
  obtain ⟨e1, e2, e3, e4⟩ := x.2.2.2.1 (L i) hs
  have ek : up_ kd n k i = kd i := up_n (by omega)
  have ee : eo_ (up_ kd n k) i = eo_ kd i := eo_up (by omega)
  unfold bf_
  rw [x.1 i (by omega), e2, e3, e4, ek, ee, x.2.2.2.2 i hi]
  refine ⟨fun z z0 => ?_, fun z z0 z8 => ?_, a3, a4, a5⟩
  · have := (fs_c h (L i) (by omega) hs).2.1
    rw [up_n (by omega)]
    exact a1 z z0
  · have := (fs_c h (L i) (by omega) hs).2.1
    rw [up_n (by omega)] at z8
    rcases a2 z z0 z8 with w | w
    · rcases x.2.2.1 (4 * sl (L i) + 1) with v | v
      · rw [v]; exact Or.inl w
      · rw [v.2]; exact Or.inr hi
    · rw [ex_nz x (by omega)]
      exact Or.inr w
theorem sf_same (h : FS n sn oc kd L od se ol pl pa ow sl lo oe) {l : Nat} (hl : l < n) (e : ∀ r, r < 4 → se' (4 * l + r) = se (4 * l + r)) : sf_ (n + 1) (up_ kd n k) se' l := by
  obtain ⟨a0, a1, a2, a3⟩ := fs_e h l hl
  have e0 : se' (4 * l) = se (4 * l) := e 0 (by omega)
  have ek : up_ kd n k l = kd l := up_n (by omega)
  have kk : ∀ y, y < n → up_ kd n k y = kd y := fun y hy => up_n (by omega)
  have ke : ∀ y, y < n → eo_ (up_ kd n k) y = eo_ kd y := fun y hy => eo_up (by omega)
  unfold sf_
  rw [e0, e 1 (by omega), e 2 (by omega), e 3 (by omega), ek]
  refine ⟨fun z => ?_, fun z => ?_, fun z => ?_, fun z => ?_⟩
  · obtain ⟨b1, b2, b3, b4, b5⟩ := a0 z
    exact ⟨b1, by omega, by rw [kk _ b2]; exact b3, by rw [ke _ b2]; exact b4, b5⟩
  · obtain ⟨b1, b2, b3, b4, b5⟩ := a1 z
    exact ⟨b1, b2, by omega, by rw [kk _ b3]; exact b4, by rw [ke _ b3]; exact b5⟩
  · obtain ⟨b1, b2, b3, b4, b5⟩ := a2 z
    exact ⟨b1, b2, by omega, by rw [kk _ b3]; exact b4, by rw [ke _ b3]; exact b5⟩
  · obtain ⟨b1, b2, b3, b4, b5⟩ := a3 z
    exact ⟨b1, b2, by omega, by rw [kk _ b3]; exact b4, by rw [ke _ b3]; exact b5⟩
theorem sf_new (h : FS n sn oc kd L od se ol pl pa ow sl lo oe) (e : ∀ r, r < 4 → se' (4 * n + r) = 0) : sf_ (n + 1) (up_ kd n k) se' n := by
  have e0 : se' (4 * n) = 0 := e 0 (by omega)
  unfold sf_
  rw [e0, e 1 (by omega), e 2 (by omega), e 3 (by omega)]
  exact ⟨fun z => absurd rfl z, fun z => absurd rfl z, fun z => absurd rfl z, fun z => absurd rfl z⟩
theorem jy_ext (h : FS n sn oc kd L od se ol pl pa ow sl lo oe) (x : Ex_ n sn L od se pa ow sl lo oe L' od' se' pa' ow' sl' lo' oe') (hnew : sc_ sl' (L' (n + 1)) = sy_ (up_ kd n k) se' (n + 1)) : jy_ (n + 1) (up_ kd n k) L' se' sl' := by
  intro i hi
  by_cases e : i = n + 1
  · subst e; exact hnew
  · have hs := (fs_b h).2.2.2.2 i (by omega)
    have y := fs_y h i (by omega)
    have ee : eo_ (up_ kd n k) i = eo_ kd i := eo_up (by omega)
    have le := eo_le kd i
    unfold sc_ sy_ at y ⊢
    rw [x.1 i (by omega), (x.2.2.2.1 (L i) hs).2.2.1, ee, y]
    by_cases z : eo_ kd i = 0
    · rw [if_pos z, if_pos z]
    · rw [if_neg z, if_neg z, up_n (by omega)]
      rcases x.2.2.1 (4 * (eo_ kd i - 1) + 3) with v | v
      · rw [v]
      · rw [if_neg (fun w => w.2.1 v.1), if_neg (fun w => by have := w.2.2; rw [v.2] at this; omega)]
theorem jg_ext (h : FS n sn oc kd L od se ol pl pa ow sl lo oe) (x : Ex_ n sn L od se pa ow sl lo oe L' od' se' pa' ow' sl' lo' oe')
    (hnew : ∀ l, l < n → 5 ≤ kd l → kd l ≤ 8 → se (4 * l) = 0 → se' (4 * l) = 0 → od l ≤ L' (n + 1)) (hk : 5 ≤ k → k ≤ 8 → se' (4 * n) = 0 ∧ od' n ≤ L' (n + 1)) : jg_ (n + 1) (up_ kd n k) L' od' se' := by
  intro l hl h5 h8 j hj hj2
  by_cases e : l = n
  · subst e
    rw [up_s] at h5 h8
    obtain ⟨k1, k2⟩ := hk h5 h8
    rw [if_pos k1] at hj2
    have : j = l + 1 := by omega
    subst this
    exact k2
  · rw [up_n e] at h5 h8
    rw [x.2.1 l (by omega)]
    have g := fs_g h l (by omega) h5 h8 j hj
    by_cases z : se (4 * l) = 0
    · rw [if_pos z] at g
      by_cases z' : se' (4 * l) = 0
      · rw [if_pos z'] at hj2
        by_cases ej : j = n + 1
        · subst ej
          exact hnew l (by omega) h5 h8 z z'
        · rw [x.1 j (by omega)]
          exact g (by omega)
      · rw [if_neg z'] at hj2
        rcases x.2.2.1 (4 * l) with v | v
        · rw [v] at z'; exact absurd z z'
        · rw [v.2] at hj2
          rw [x.1 j (by omega)]
          exact g (by omega)
    · rw [if_neg z] at g
      have hlt := ((fs_e h l (by omega)).1 z).2.1
      have ez := ex_nz x z
      rw [ez, if_neg z] at hj2
      rw [x.1 j (by omega)]
      exact g (by omega)
theorem ol_mono (h : jt_ n oc kd se ol) {a b : Nat} (ha : 1 ≤ a) (hab : a < b) (hb : b ≤ oc) : ol a < ol b := by
  obtain ⟨d, rfl⟩ : ∃ d, b = a + 1 + d := ⟨b - a - 1, by omega⟩
  have stp : ∀ c, 1 ≤ c → c + 1 ≤ oc → ol c < ol (c + 1) := by
    intro c h1 h2
    have := (h.2.2 (c + 1) (by omega) h2).2.2.2.2
    rw [Nat.add_sub_cancel] at this
    unfold sk_ at this
    rw [if_neg (by omega)] at this
    have le := eo_le kd (ol (c + 1))
    omega
  induction d with
  | zero => exact stp a ha hb
  | succ d ih =>
    have := ih (by omega) (by omega)
    have := stp (a + 1 + d) (by omega) (by omega)
    rw [show a + 1 + d + 1 = a + 1 + (d + 1) by omega] at this
    omega
theorem pq_loc {l : Nat} (hk : up_ kd n k l = kd l) (e : ∀ r, r < 4 → se' (4 * l + r) = se (4 * l + r)) : pq_ (up_ kd n k) se' l = pq_ kd se l := by
  unfold pq_
  rw [hk, e 1 (by omega), e 2 (by omega), e 3 (by omega)]
theorem eo_oe (h : FS n sn oc kd L od se ol pl pa ow sl lo oe) : ol oc = eo_ kd n - 1 := by
  rw [(fs_t h).1]
  unfold sk_
  by_cases z : oc = 0
  · rw [if_pos z, z, (fs_t h).2.1]
  · rw [if_neg z, Nat.add_sub_cancel]
theorem dq_new (h : FS n sn oc kd L od se ol pl pa ow sl lo oe) : dq_ (up_ kd n k) (n + 1) = if 5 ≤ k ∧ k ≤ 8 then nI (oc + 1) else if k = 14 then nI oc + (-1) else nI oc := by
  have e : dq_ (up_ kd n k) n = nI oc := by
    rw [← fs_d h]
    exact dq_loc n (fun i hi => up_n (by omega))
  unfold dq_
  rw [e, up_s, nI_1, Int32.add_zero]
theorem ex_L {s' : Nat} : ∀ i, i ≤ n → up_ L (n + 1) s' i = L i := fun i hi => up_n (by omega)
theorem fs_plain (h : FS n sn oc kd L od se ol pl pa ow sl lo oe) {o : Nat} (hn : n < 48) (hk : k ≤ 4 ∨ (11 ≤ k ∧ k ≤ 13))
    (g1 : 11 ≤ k → L n ≠ 0 → kd (sl (L n)) ≠ 8) (g2 : k ≤ 1 → L n ≠ 0 → kd (sl (L n)) = 8 → se (4 * sl (L n) + 1) = 0) (g3 : k = 13 → ow (L n) ≠ 0) (g4 : k = 11 ∨ k = 12 → o + 1 = lo (L n)) (g5 : ¬ (k = 11 ∨ k = 12) → o = eo_ kd n - 1) :
    FS (n + 1) sn oc (up_ kd n k) (up_ L (n + 1) (L n)) od se ol pl pa ow sl lo (up_ oe n o) := by
  have x : Ex_ n sn L od se pa ow sl lo oe (up_ L (n + 1) (L n)) od se pa ow sl lo (up_ oe n o) := ⟨ex_L, fun _ _ => rfl, fun _ => Or.inl rfl, fun _ _ => ⟨rfl, rfl, rfl, rfl⟩, fun i hi => up_n (by omega)⟩
  have hb := fs_b h
  unfold jb_ at hb
  have ht := fs_t h
  have hen : eo_ (up_ kd n k) (n + 1) = eo_ kd n := by
    rw [eo_els (by rw [up_s]; omega) (by rw [up_s]; omega), eo_up (Nat.le_refl _)]
  refine ⟨⟨by omega, by omega, by omega, by omega, fun i hi => ?_⟩, fun i hi => ?_, fun j hj => fs_z h j (by omega), ⟨?_, ht.2.1, fun c h1 h2 => ?_⟩, ⟨(fs_p h).1, fun c h1 h2 => ?_⟩, fun l hl h5 h8 hz => ?_, ?_, fun i hi => ?_, fun l hl => ?_, fs_r h, fun s h0 hs => cf_ext h x h0 hs, fs_m h, ?_, ?_, fun i hi => ?_⟩
  · by_cases e : i = n + 1
    · subst e; rw [up_s]; exact hb.2.2.2.2 n (by omega)
    · rw [up_n e]; exact hb.2.2.2.2 i (by omega)
  · by_cases e : i = n
    · subst e; rw [up_s]; omega
    · rw [up_n e]; exact fs_k h i (by omega)
  · rw [hen]; exact ht.1
  · obtain ⟨c1, c2, c3, c4, c5⟩ := ht.2.2 c h1 h2
    exact ⟨by omega, by rw [up_n (by omega)]; exact c2, by rw [up_n (by omega)]; exact c3, c4, by rw [eo_up (by omega)]; exact c5⟩
  · obtain ⟨c1, c2, c3, c4, c5⟩ := ht.2.2 c h1 h2
    rw [pq_loc (up_n (by omega)) (fun _ _ => rfl)]
    exact (fs_p h).2 c h1 h2
  · by_cases e : l = n
    · subst e; rw [up_s] at h5 h8; omega
    · rw [up_n e] at h5 h8
      exact fs_h h l (by omega) h5 h8 hz
  · rw [dq_new h, if_neg (by omega), if_neg (by omega)]
  · by_cases e : i = n
    · subst e
      unfold lf_
      rw [up_s, up_s, up_n (by omega)]
      exact ⟨fun _ => rfl, fun a b => by omega, fun a => by omega, fun a => by omega, fun a => by omega⟩
    · exact lf_ext h x (by omega)
  · by_cases e : l = n
    · subst e
      exact sf_new h (fun r hr => fs_z h _ (by omega))
    · exact sf_same h (by omega) (fun _ _ => rfl)
  · refine jg_ext h x (fun l hl h5 h8 hz _ => ?_) (fun a b => by omega)
    rw [up_s]
    have g := fs_g h l hl h5 h8 n hl
    rw [if_pos hz] at g
    exact g (Nat.le_refl _)
  · refine jy_ext h x ?_
    have y := fs_y h n (Nat.le_refl _)
    rw [up_s, y]
    unfold sy_
    rw [hen]
    have le := eo_le kd n
    by_cases z : eo_ kd n = 0
    · rw [if_pos z, if_pos z]
    · rw [if_neg z, if_neg z, up_n (by omega)]
      by_cases w : kd (eo_ kd n - 1) = 8 ∧ se (4 * (eo_ kd n - 1) + 3) ≠ 0
      · have lt := (sf_lt (fs_e h) (l := eo_ kd n - 1) (by omega) (r := 3) (by omega) w.2).2.1
        rw [if_pos ⟨w.1, w.2, lt⟩, if_pos ⟨w.1, w.2, by omega⟩]
      · rw [if_neg (fun v => w ⟨v.1, v.2.1⟩), if_neg (fun v => w ⟨v.1, v.2.1⟩)]
  · by_cases e : i = n
    · subst e
      have hs : L i ≠ 0 → sl (L i) < i := fun z => (fs_c h (L i) (by omega) (hb.2.2.2.2 i (by omega))).2.1
      unfold bf_
      rw [up_s, up_n (show i ≠ i + 1 by omega), up_s, eo_up (Nat.le_refl _)]
      refine ⟨fun z z0 => ?_, fun z z0 z8 => ?_, g3, g4, g5⟩
      · rw [up_n (by have := hs z0; omega)]
        exact g1 (by omega) z0
      · rw [up_n (by have := hs z0; omega)] at z8
        exact Or.inl (g2 z z0 z8)
    · exact bf_ext h x (by omega)
theorem fs_open (h : FS n sn oc kd L od se ol pl pa ow sl lo oe) (hn : n < 48) (h5 : 5 ≤ k) (h8 : k ≤ 8) (hoc : oc < 8) (g1 : k ≠ 6 → pl oc = 0) :
    FS (n + 1) (sn + 1) (oc + 1) (up_ kd n k) (up_ L (n + 1) sn) (up_ od n sn) se (up_ ol (oc + 1) n) (up_ pl (oc + 1) (if k = 8 then 1 else 0)) (up_ pa sn (L n)) (up_ ow sn (if k = 5 ∨ k = 6 then sn else ow (L n))) (up_ sl sn n) (up_ lo sn (if k = 5 ∨ k = 6 then 0 else lo (L n))) (up_ oe n (ol oc)) := by
  have x : Ex_ n sn L od se pa ow sl lo oe (up_ L (n + 1) sn) (up_ od n sn) se (up_ pa sn (L n)) (up_ ow sn (if k = 5 ∨ k = 6 then sn else ow (L n))) (up_ sl sn n) (up_ lo sn (if k = 5 ∨ k = 6 then 0 else lo (L n))) (up_ oe n (ol oc)) :=
    ⟨ex_L, fun i hi => up_n (by omega), fun _ => Or.inl rfl, fun s hs => ⟨up_n (by omega), up_n (by omega), up_n (by omega), up_n (by omega)⟩, fun i hi => up_n (by omega)⟩
  have hb := fs_b h
  unfold jb_ at hb
  have ht := fs_t h
  have hLn := hb.2.2.2.2 n (Nat.le_refl _)
  have hen : eo_ (up_ kd n k) (n + 1) = n + 1 := eo_opn (by rw [up_s]; exact h5) (by rw [up_s]; exact h8)
  refine ⟨⟨by omega, by omega, by omega, by omega, fun i hi => ?_⟩, fun i hi => ?_, fun j hj => fs_z h j (by omega), ⟨?_, ?_, fun c h1 h2 => ?_⟩, ⟨?_, fun c h1 h2 => ?_⟩, fun l hl h5' h8' hz => ?_, ?_, fun i hi => ?_, fun l hl => ?_, ?_, fun s h0 hs => ?_, fun s t h0 hst ht' => ?_, ?_, ?_, fun i hi => ?_⟩
  · by_cases e : i = n + 1
    · subst e; rw [up_s]; omega
    · rw [up_n e]
      have := hb.2.2.2.2 i (by omega)
      omega
  · by_cases e : i = n
    · subst e; rw [up_s]; omega
    · rw [up_n e]; exact fs_k h i (by omega)
  · rw [hen]
    unfold sk_
    rw [if_neg (by omega), up_s]
  · rw [up_n (by omega)]; exact ht.2.1
  · by_cases e : c = oc + 1
    · subst e
      rw [up_s, up_s, eo_up (Nat.le_refl _), ht.1, Nat.add_sub_cancel]
      refine ⟨by omega, h5, h8, fs_z h _ (Nat.le_refl _), ?_⟩
      unfold sk_
      rw [up_n (by omega)]
    · obtain ⟨c1, c2, c3, c4, c5⟩ := ht.2.2 c h1 (by omega)
      rw [up_n e]
      refine ⟨by omega, by rw [up_n (by omega)]; exact c2, by rw [up_n (by omega)]; exact c3, c4, ?_⟩
      rw [eo_up (by omega), c5]
      unfold sk_
      rw [up_n (by omega)]
  · rw [up_n (by omega)]; exact (fs_p h).1
  · by_cases e : c = oc + 1
    · subst e
      rw [up_s, up_s]
      unfold pq_
      rw [up_s, fs_z h (4 * n + 1) (by omega)]
      by_cases e8 : k = 8
      · rw [if_pos e8, if_neg (fun z => z e8), if_pos rfl]
      · rw [if_neg e8, if_pos e8]
    · obtain ⟨c1, c2, c3, c4, c5⟩ := ht.2.2 c h1 (by omega)
      rw [up_n e, up_n e, pq_loc (up_n (by omega)) (fun _ _ => rfl)]
      exact (fs_p h).2 c h1 (by omega)
  · by_cases e : l = n
    · subst e
      exact ⟨oc + 1, by omega, by omega, up_s⟩
    · rw [up_n e] at h5' h8'
      obtain ⟨c, c1, c2, c3⟩ := fs_h h l (by omega) h5' h8' hz
      exact ⟨c, c1, by omega, by rw [up_n (by omega)]; exact c3⟩
  · rw [dq_new h, if_pos ⟨h5, h8⟩]
  · by_cases e : i = n
    · subst e
      unfold lf_
      rw [up_s, up_s, up_s, up_s, up_s, up_n (show i ≠ i + 1 by omega)]
      exact ⟨fun _ => by omega, fun _ _ => ⟨rfl, by omega, rfl, rfl⟩, fun a => by omega, fun a => by omega, fun a => by omega⟩
    · exact lf_ext h x (by omega)
  · by_cases e : l = n
    · subst e
      exact sf_new h (fun r hr => fs_z h _ (by omega))
    · exact sf_same h (by omega) (fun _ _ => rfl)
  · obtain ⟨r1, r2, r3, r4⟩ := fs_r h
    exact ⟨by rw [up_n (by omega)]; exact r1, by rw [up_n (by omega)]; exact r2, by rw [up_n (by omega)]; exact r3, by rw [up_n (by omega)]; exact r4⟩
  · by_cases e : s = sn
    · subst e
      unfold cf_
      rw [up_s, up_s, up_s, up_s, up_s, up_s, up_n (show n ≠ n + 1 by omega), up_n (show L n ≠ s by omega), up_n (show L n ≠ s by omega)]
      refine ⟨hLn, by omega, rfl, rfl, Or.inl ⟨h5, h8⟩, rfl, ?_⟩
      rw [if_neg (show ¬ k = 9 by omega)]
    · exact cf_ext h x h0 (by omega)
  · by_cases e : t = sn
    · subst e
      rw [up_s, up_n (by omega)]
      exact (fs_c h s h0 hst).2.1
    · rw [up_n (by omega), up_n (by omega)]
      exact fs_m h s t h0 hst (by omega)
  · refine jg_ext h x (fun l hl h5' h8' hz _ => ?_) (fun _ _ => ⟨fs_z h _ (Nat.le_refl _), ?_⟩)
    · rw [up_s]
      have g := fs_g h l hl h5' h8' n hl
      rw [if_pos hz] at g
      have := g (Nat.le_refl _)
      omega
    · rw [up_s, up_s]; exact Nat.le_refl _
  · refine jy_ext h x ?_
    unfold sy_ sc_
    rw [hen, up_s, up_s, Nat.add_sub_cancel, fs_z h (4 * n + 3) (by omega), if_neg (by omega), if_neg (by omega), if_neg (fun z => z.2.1 rfl)]
  · by_cases e : i = n
    · subst e
      unfold bf_
      rw [up_s, up_n (show i ≠ i + 1 by omega), up_s, eo_up (Nat.le_refl _), up_n (show L i ≠ sn by omega), up_n (show L i ≠ sn by omega), up_n (show L i ≠ sn by omega)]
      refine ⟨fun z z0 => ?_, fun z => by omega, fun z => by omega, fun z => by omega, fun _ => eo_oe h⟩
      have lt : sl (L i) < i := (fs_c h (L i) (by omega) hLn).2.1
      rw [up_n (by omega)]
      exact fs_pl0 h (g1 (by omega)) z0
    · exact bf_ext h x (by omega)
end
end
section
section
variable {n sn oc k p : Nat} {kd L od se ol pl pa ow sl lo oe : Nat → Nat}
theorem pq_1 {l : Nat} (h : pq_ kd se l = 1) : kd l = 8 ∧ se (4 * l + 1) = 0 := by
  unfold pq_ at h
  by_cases a : kd l = 8
  · rw [if_neg (fun z => z a)] at h
    by_cases b : se (4 * l + 1) = 0
    · exact ⟨a, b⟩
    · rw [if_neg b] at h
      split at h
      · omega
      · split at h <;> omega
  · rw [if_pos a] at h; omega
theorem pq_2 {l : Nat} (h : pq_ kd se l = 2) : kd l = 8 ∧ se (4 * l + 1) ≠ 0 ∧ se (4 * l + 2) = 0 := by
  unfold pq_ at h
  by_cases a : kd l = 8
  · rw [if_neg (fun z => z a)] at h
    by_cases b : se (4 * l + 1) = 0
    · rw [if_pos b] at h; omega
    · rw [if_neg b] at h
      by_cases c : se (4 * l + 2) = 0
      · exact ⟨a, b, c⟩
      · rw [if_neg c] at h
        split at h <;> omega
  · rw [if_pos a] at h; omega
theorem pq_3 {l : Nat} (h : pq_ kd se l = 3) : kd l = 8 ∧ se (4 * l + 1) ≠ 0 ∧ se (4 * l + 2) ≠ 0 ∧ se (4 * l + 3) = 0 := by
  unfold pq_ at h
  by_cases a : kd l = 8
  · rw [if_neg (fun z => z a)] at h
    by_cases b : se (4 * l + 1) = 0
    · rw [if_pos b] at h; omega
    · rw [if_neg b] at h
      by_cases c : se (4 * l + 2) = 0
      · rw [if_pos c] at h; omega
      · rw [if_neg c] at h
        by_cases d : se (4 * l + 3) = 0
        · exact ⟨a, b, c, d⟩
        · rw [if_neg d] at h; omega
  · rw [if_pos a] at h; omega
theorem pq_0 {l : Nat} (h : pq_ kd se l = 0) : kd l = 8 → se (4 * l + 3) ≠ 0 := by
  intro a c
  unfold pq_ at h
  rw [if_neg (fun z => z a), if_pos c] at h
  split at h
  · omega
  · split at h <;> omega
theorem pq_le (l : Nat) : pq_ kd se l ≤ 3 := by
  unfold pq_
  split
  · omega
  · split
    · omega
    · split
      · omega
      · split <;> omega
theorem fs_sec (h : FS n sn oc kd L od se ol pl pa ow sl lo oe) (hn : n < 48) (hoc : oc ≠ 0) (hk : (k = 9 ∧ p = 1) ∨ (k = 10 ∧ p = 2)) (hp : pl oc = p) :
    FS (n + 1) sn oc (up_ kd n k) (up_ L (n + 1) (L n)) od (up_ se (4 * ol oc + p) n) ol (up_ pl oc (p + 1)) pa ow sl lo (up_ oe n (ol oc)) := by
  obtain ⟨t1, t2, t3, t4, t5, t6⟩ := fs_top h hoc
  obtain ⟨l, hl⟩ : ∃ l, ol oc = l := ⟨_, rfl⟩
  rw [hl] at t1 t2 t3 t4 t5 t6 ⊢
  rw [hp] at t6
  have h8 : kd l = 8 := by
    rcases hk with ⟨-, rfl⟩ | ⟨-, rfl⟩
    · exact (pq_1 t6.symm).1
    · exact (pq_2 t6.symm).1
  have z3 : se (4 * l + 3) = 0 := by
    apply Classical.byContradiction
    intro z3
    have w2 := ((fs_e h l t1).2.2.2 z3).1
    have w1 := ((fs_e h l t1).2.2.1 w2).1
    rcases hk with ⟨-, rfl⟩ | ⟨-, rfl⟩
    · exact w1 (pq_1 t6.symm).2
    · exact w2 (pq_2 t6.symm).2.2
  have zp : se (4 * l + p) = 0 := by
    rcases hk with ⟨-, rfl⟩ | ⟨-, rfl⟩
    · exact (pq_1 t6.symm).2
    · exact (pq_2 t6.symm).2.2
  have hsc := (fs_scope h hoc).2
  rw [hl] at hsc
  obtain ⟨s1, s2, s3⟩ := hsc (fun w => w.2 z3)
  have x : Ex_ n sn L od se pa ow sl lo oe (up_ L (n + 1) (L n)) od (up_ se (4 * l + p) n) pa ow sl lo (up_ oe n l) := by
    refine ⟨ex_L, fun _ _ => rfl, fun y => ?_, fun _ _ => ⟨rfl, rfl, rfl, rfl⟩, fun i hi => up_n (by omega)⟩
    by_cases e : y = 4 * l + p
    · subst e; exact Or.inr ⟨zp, up_s⟩
    · exact Or.inl (up_n e)
  have p2 : 1 ≤ p ∧ p ≤ 2 := by omega
  have oth : ∀ l', l' ≠ l → ∀ r, r < 4 → up_ se (4 * l + p) n (4 * l' + r) = se (4 * l' + r) := fun l' hl' r hr => up_n (by omega)
  have hb := fs_b h
  unfold jb_ at hb
  have ht := fs_t h
  have hen : eo_ (up_ kd n k) (n + 1) = eo_ kd n := by
    rw [eo_els (by rw [up_s]; omega) (by rw [up_s]; omega), eo_up (Nat.le_refl _)]
  have hne : ∀ c, 1 ≤ c → c ≤ oc → c ≠ oc → ol c ≠ l := by
    intro c h1 h2 h3
    have := ol_mono ht (a := c) (b := oc) h1 (by omega) (Nat.le_refl _)
    omega
  refine ⟨⟨by omega, by omega, by omega, by omega, fun i hi => ?_⟩, fun i hi => ?_, fun j hj => ?_, ⟨?_, ht.2.1, fun c h1 h2 => ?_⟩, ⟨?_, fun c h1 h2 => ?_⟩, fun l' hl' h5 h8' hz => ?_, ?_, fun i hi => ?_, fun l' hl' => ?_, fs_r h, fun s h0 hs => cf_ext h x h0 hs, fs_m h, ?_, ?_, fun i hi => ?_⟩
  · by_cases e : i = n + 1
    · subst e; rw [up_s]; exact hb.2.2.2.2 n (by omega)
    · rw [up_n e]; exact hb.2.2.2.2 i (by omega)
  · by_cases e : i = n
    · subst e; rw [up_s]; omega
    · rw [up_n e]; exact fs_k h i (by omega)
  · rw [up_n (by omega)]; exact fs_z h j (by omega)
  · rw [hen]; exact ht.1
  · obtain ⟨c1, c2, c3, c4, c5⟩ := ht.2.2 c h1 h2
    exact ⟨by omega, by rw [up_n (by omega)]; exact c2, by rw [up_n (by omega)]; exact c3, by rw [up_n (by omega)]; exact c4, by rw [eo_up (by omega)]; exact c5⟩
  · rw [up_n (by omega)]; exact (fs_p h).1
  · obtain ⟨c1, c2, c3, c4, c5⟩ := ht.2.2 c h1 h2
    by_cases e : c = oc
    · subst e
      rw [up_s, hl]
      unfold pq_
      rw [up_n (show l ≠ n by omega), if_neg (fun z => z h8)]
      rcases hk with ⟨-, rfl⟩ | ⟨-, rfl⟩
      · have w2 : se (4 * l + 2) = 0 := by
          apply Classical.byContradiction
          intro w2
          exact ((fs_e h l t1).2.2.1 w2).1 zp
        rw [up_s, if_neg (by omega), up_n (by omega), w2, if_pos rfl]
      · have w1 := (pq_2 t6.symm).2.1
        rw [up_n (by omega), if_neg w1, up_s, if_neg (by omega), up_n (by omega), z3, if_pos rfl]
    · rw [up_n e, pq_loc (up_n (by omega)) (oth _ (hne c h1 h2 e))]
      exact (fs_p h).2 c h1 h2
  · by_cases e : l' = n
    · subst e; rw [up_s] at h5 h8'; omega
    · rw [up_n e] at h5 h8'
      rw [up_n (by omega)] at hz
      exact fs_h h l' (by omega) h5 h8' hz
  · rw [dq_new h, if_neg (by omega), if_neg (by omega)]
  · by_cases e : i = n
    · subst e
      unfold lf_
      rw [up_s, up_s, up_n (show i ≠ i + 1 by omega), eo_up (Nat.le_refl _), t2]
      refine ⟨fun _ => rfl, fun a b => by omega, fun a => ?_, fun a => ?_, fun a => by omega⟩
      · have hp1 : p = 1 := by omega
        subst hp1
        refine ⟨l, rfl, by rw [up_n (by omega)]; exact h8, s1, Or.inl ⟨up_s.symm, s1⟩⟩
      · have hp1 : p = 2 := by omega
        subst hp1
        exact ⟨l, rfl, by rw [up_n (by omega)]; exact h8, up_s.symm, s1, s1⟩
    · exact lf_ext h x (by omega)
  · by_cases e : l' = n
    · subst e
      exact sf_new h (fun r hr => by rw [up_n (by omega)]; exact fs_z h _ (by omega))
    · by_cases e2 : l' = l
      · subst e2
        have w0 : up_ se (4 * l' + p) n (4 * l') = 0 := by rw [up_n (by omega)]; exact t5
        have w3 : up_ se (4 * l' + p) n (4 * l' + 3) = 0 := by rw [up_n (by omega)]; exact z3
        unfold sf_
        rw [w0, w3]
        refine ⟨fun z => absurd rfl z, fun z => ?_, fun z => ?_, fun z => absurd rfl z⟩
        · rcases hk with ⟨rfl, rfl⟩ | ⟨rfl, rfl⟩
          · rw [up_s, up_s, eo_up (Nat.le_refl _), up_n (show l' ≠ n by omega)]
            exact ⟨h8, t1, by omega, rfl, t2⟩
          · have e1 : up_ se (4 * l' + 2) n (4 * l' + 1) = se (4 * l' + 1) := up_n (by omega)
            rw [e1] at z ⊢
            obtain ⟨b1, b2, b3, b4, b5⟩ := (fs_e h l' t1).2.1 z
            rw [up_n (show l' ≠ n by omega), up_n (show se (4 * l' + 1) ≠ n by omega), eo_up (show se (4 * l' + 1) ≤ n by omega)]
            exact ⟨b1, b2, by omega, b4, b5⟩
        · rcases hk with ⟨rfl, rfl⟩ | ⟨rfl, rfl⟩
          · rw [up_n (by omega)] at z
            exact absurd zp ((fs_e h l' t1).2.2.1 z).1
          · rw [up_s, up_s, eo_up (Nat.le_refl _), up_n (by omega)]
            have w1 := (pq_2 t6.symm).2.1
            exact ⟨w1, ((fs_e h l' t1).2.1 w1).2.2.1, by omega, rfl, t2⟩
      · exact sf_same h (by omega) (oth l' e2)
  · refine jg_ext h x (fun l' hl' h5 h8' hz _ => ?_) (fun a b => by omega)
    rw [up_s]
    have g := fs_g h l' hl' h5 h8' n hl'
    rw [if_pos hz] at g
    exact g (Nat.le_refl _)
  · refine jy_ext h x ?_
    unfold sy_ sc_
    rw [hen, t2, up_s, if_neg (by omega), if_neg (by omega), Nat.add_sub_cancel, up_n (show 4 * l + 3 ≠ 4 * l + p by omega), if_neg (fun w => w.2.1 z3), s3]
  · by_cases e : i = n
    · subst e
      unfold bf_
      rw [up_s, up_n (show i ≠ i + 1 by omega), up_s, eo_up (Nat.le_refl _), t2]
      exact ⟨fun z => by omega, fun z => by omega, fun z => by omega, fun z => by omega, fun _ => (Nat.add_sub_cancel ..).symm⟩
    · exact bf_ext h x (by omega)
theorem fs_body (h : FS n sn oc kd L od se ol pl pa ow sl lo oe) (hn : n < 48) (hoc : oc ≠ 0) (hp : pl oc = 3) :
    FS (n + 1) (sn + 1) oc (up_ kd n 9) (up_ L (n + 1) sn) (up_ od n sn) (up_ se (4 * ol oc + 3) n) ol (up_ pl oc 0) (up_ pa sn (L n)) (up_ ow sn (ow (L n))) (up_ sl sn n) (up_ lo sn (ol oc + 1)) (up_ oe n (ol oc)) := by
  obtain ⟨t1, t2, t3, t4, t5, t6⟩ := fs_top h hoc
  obtain ⟨l, hl⟩ : ∃ l, ol oc = l := ⟨_, rfl⟩
  rw [hl] at t1 t2 t3 t4 t5 t6 ⊢
  rw [hp] at t6
  obtain ⟨h8, z1, z2, z3⟩ := pq_3 t6.symm
  have hsc := (fs_scope h hoc).2
  rw [hl] at hsc
  obtain ⟨s1, s2, s3⟩ := hsc (fun w => w.2 z3)
  have x : Ex_ n sn L od se pa ow sl lo oe (up_ L (n + 1) sn) (up_ od n sn) (up_ se (4 * l + 3) n) (up_ pa sn (L n)) (up_ ow sn (ow (L n))) (up_ sl sn n) (up_ lo sn (l + 1)) (up_ oe n l) := by
    refine ⟨ex_L, fun i hi => up_n (by omega), fun y => ?_, fun s hs => ⟨up_n (by omega), up_n (by omega), up_n (by omega), up_n (by omega)⟩, fun i hi => up_n (by omega)⟩
    by_cases e : y = 4 * l + 3
    · subst e; exact Or.inr ⟨z3, up_s⟩
    · exact Or.inl (up_n e)
  have oth : ∀ l', l' ≠ l → ∀ r, r < 4 → up_ se (4 * l + 3) n (4 * l' + r) = se (4 * l' + r) := fun l' hl' r hr => up_n (by omega)
  have hb := fs_b h
  unfold jb_ at hb
  have ht := fs_t h
  have hLn := hb.2.2.2.2 n (Nat.le_refl _)
  have hen : eo_ (up_ kd n 9) (n + 1) = eo_ kd n := by
    rw [eo_els (by rw [up_s]; omega) (by rw [up_s]; omega), eo_up (Nat.le_refl _)]
  have hne : ∀ c, 1 ≤ c → c ≤ oc → c ≠ oc → ol c ≠ l := by
    intro c h1 h2 h3
    have := ol_mono ht (a := c) (b := oc) h1 (by omega) (Nat.le_refl _)
    omega
  refine ⟨⟨by omega, by omega, by omega, by omega, fun i hi => ?_⟩, fun i hi => ?_, fun j hj => ?_, ⟨?_, ht.2.1, fun c h1 h2 => ?_⟩, ⟨?_, fun c h1 h2 => ?_⟩, fun l' hl' h5 h8' hz => ?_, ?_, fun i hi => ?_, fun l' hl' => ?_, ?_, fun s h0 hs => ?_, fun s t h0 hst ht' => ?_, ?_, ?_, fun i hi => ?_⟩
  · by_cases e : i = n + 1
    · subst e; rw [up_s]; omega
    · rw [up_n e]
      have := hb.2.2.2.2 i (by omega)
      omega
  · by_cases e : i = n
    · subst e; rw [up_s]; omega
    · rw [up_n e]; exact fs_k h i (by omega)
  · rw [up_n (by omega)]; exact fs_z h j (by omega)
  · rw [hen]; exact ht.1
  · obtain ⟨c1, c2, c3, c4, c5⟩ := ht.2.2 c h1 h2
    exact ⟨by omega, by rw [up_n (by omega)]; exact c2, by rw [up_n (by omega)]; exact c3, by rw [up_n (by omega)]; exact c4, by rw [eo_up (by omega)]; exact c5⟩
  · rw [up_n (by omega)]; exact (fs_p h).1
  · obtain ⟨c1, c2, c3, c4, c5⟩ := ht.2.2 c h1 h2
    by_cases e : c = oc
    · subst e
      rw [up_s, hl]
      unfold pq_
      rw [up_n (show l ≠ n by omega), if_neg (fun z => z h8), up_n (by omega), if_neg z1, up_n (by omega), if_neg z2, up_s, if_neg (by omega)]
    · rw [up_n e, pq_loc (up_n (by omega)) (oth _ (hne c h1 h2 e))]
      exact (fs_p h).2 c h1 h2
  · by_cases e : l' = n
    · subst e; rw [up_s] at h5 h8'; omega
    · rw [up_n e] at h5 h8'
      rw [up_n (by omega)] at hz
      exact fs_h h l' (by omega) h5 h8' hz
  · rw [dq_new h, if_neg (by omega), if_neg (by omega)]
  · by_cases e : i = n
    · subst e
      unfold lf_
      rw [up_s, up_s, up_n (show i ≠ i + 1 by omega), eo_up (Nat.le_refl _), t2]
      refine ⟨fun _ => by omega, fun a b => by omega, fun a => ?_, fun a => by omega, fun a => by omega⟩
      refine ⟨l, rfl, by rw [up_n (by omega)]; exact h8, by rw [up_n (by omega)]; exact s1, Or.inr ⟨up_s.symm, ?_⟩⟩
      rw [up_s, up_s, up_s, up_n (by omega)]
      exact ⟨rfl, by omega, s1, rfl⟩
    · exact lf_ext h x (by omega)
  · by_cases e : l' = n
    · subst e
      exact sf_new h (fun r hr => by rw [up_n (by omega)]; exact fs_z h _ (by omega))
    · by_cases e2 : l' = l
      · subst e2
        have w0 : up_ se (4 * l' + 3) n (4 * l') = 0 := by rw [up_n (by omega)]; exact t5
        have w1 : up_ se (4 * l' + 3) n (4 * l' + 1) = se (4 * l' + 1) := up_n (by omega)
        have w2 : up_ se (4 * l' + 3) n (4 * l' + 2) = se (4 * l' + 2) := up_n (by omega)
        obtain ⟨b1, b2, b3, b4, b5⟩ := (fs_e h l' t1).2.1 z1
        obtain ⟨c1, c2, c3, c4, c5⟩ := (fs_e h l' t1).2.2.1 z2
        unfold sf_
        rw [w0, w1, w2, up_s, up_s, eo_up (Nat.le_refl _), up_n (show l' ≠ n by omega), up_n (show se (4 * l' + 1) ≠ n by omega), up_n (show se (4 * l' + 2) ≠ n by omega), eo_up (show se (4 * l' + 1) ≤ n by omega), eo_up (show se (4 * l' + 2) ≤ n by omega)]
        exact ⟨fun z => absurd rfl z, fun z => ⟨b1, b2, by omega, b4, b5⟩, fun z => ⟨c1, c2, by omega, c4, c5⟩, fun z => ⟨z2, c3, by omega, rfl, t2⟩⟩
      · exact sf_same h (by omega) (oth l' e2)
  · obtain ⟨r1, r2, r3, r4⟩ := fs_r h
    exact ⟨by rw [up_n (by omega)]; exact r1, by rw [up_n (by omega)]; exact r2, by rw [up_n (by omega)]; exact r3, by rw [up_n (by omega)]; exact r4⟩
  · by_cases e : s = sn
    · subst e
      unfold cf_
      rw [up_s, up_s, up_s, up_s, up_s, up_s, up_n (show n ≠ n + 1 by omega), up_n (show L n ≠ s by omega), up_n (show L n ≠ s by omega), eo_up (Nat.le_refl _), t2]
      refine ⟨hLn, by omega, rfl, rfl, Or.inr ⟨rfl, l, rfl, up_s.symm, by rw [up_n (by omega)]; exact h8, by rw [up_n (by omega)]; exact s1⟩, ?_, ?_⟩
      · rw [if_neg (by omega)]
      · rw [if_pos rfl]
    · exact cf_ext h x h0 (by omega)
  · by_cases e : t = sn
    · subst e
      rw [up_s, up_n (by omega)]
      exact (fs_c h s h0 hst).2.1
    · rw [up_n (by omega), up_n (by omega)]
      exact fs_m h s t h0 hst (by omega)
  · refine jg_ext h x (fun l' hl' h5' h8' hz _ => ?_) (fun a b => by omega)
    rw [up_s]
    have g := fs_g h l' hl' h5' h8' n hl'
    rw [if_pos hz] at g
    have := g (Nat.le_refl _)
    omega
  · refine jy_ext h x ?_
    unfold sy_ sc_
    rw [hen, t2, up_s, up_s, Nat.add_sub_cancel, up_s, if_neg (by omega), if_neg (by omega), if_pos ⟨by rw [up_n (by omega)]; exact h8, by omega, by omega⟩]
  · by_cases e : i = n
    · subst e
      unfold bf_
      rw [up_s, up_n (show i ≠ i + 1 by omega), up_s, eo_up (Nat.le_refl _), t2]
      exact ⟨fun z => by omega, fun z => by omega, fun z => by omega, fun z => by omega, fun _ => (Nat.add_sub_cancel ..).symm⟩
    · exact bf_ext h x (by omega)
theorem fs_end (h : FS n sn oc kd L od se ol pl pa ow sl lo oe) (hn : n < 48) (hoc : oc ≠ 0) (hp : pl oc = 0) :
    FS (n + 1) sn (oc - 1) (up_ kd n 14) (up_ L (n + 1) (L (ol oc))) od (up_ se (4 * ol oc) n) ol (up_ pl oc 1) pa ow sl lo (up_ oe n (ol oc)) := by
  obtain ⟨t1, t2, t3, t4, t5, t6⟩ := fs_top h hoc
  have g1 := fs_pl0 h hp
  have hsc := fs_scope h hoc
  obtain ⟨l, hl⟩ : ∃ l, ol oc = l := ⟨_, rfl⟩
  rw [hl] at t1 t2 t3 t4 t5 t6 hsc ⊢
  rw [hp] at t6
  have q0 := pq_0 t6.symm
  have x : Ex_ n sn L od se pa ow sl lo oe (up_ L (n + 1) (L l)) od (up_ se (4 * l) n) pa ow sl lo (up_ oe n l) := by
    refine ⟨ex_L, fun i hi => rfl, fun y => ?_, fun s hs => ⟨rfl, rfl, rfl, rfl⟩, fun i hi => up_n (by omega)⟩
    by_cases e : y = 4 * l
    · subst e; exact Or.inr ⟨t5, up_s⟩
    · exact Or.inl (up_n e)
  have oth : ∀ l', l' ≠ l → ∀ r, r < 4 → up_ se (4 * l) n (4 * l' + r) = se (4 * l' + r) := fun l' hl' r hr => up_n (by omega)
  have hb := fs_b h
  unfold jb_ at hb
  have ht := fs_t h
  have hen : eo_ (up_ kd n 14) (n + 1) = eo_ kd l := by
    rw [eo_end up_s, eo_up (Nat.le_refl _), t2, if_neg (by omega), Nat.add_sub_cancel, eo_up (by omega)]
  have hel : eo_ kd l = sk_ ol (oc - 1) := by
    have := (ht.2.2 oc (by omega) (Nat.le_refl _)).2.2.2.2
    rw [hl] at this
    exact this
  have hne : ∀ c, 1 ≤ c → c ≤ oc → c ≠ oc → ol c ≠ l := by
    intro c h1 h2 h3
    have := ol_mono ht (a := c) (b := oc) h1 (by omega) (Nat.le_refl _)
    omega
  refine ⟨⟨by omega, by omega, by omega, by omega, fun i hi => ?_⟩, fun i hi => ?_, fun j hj => ?_, ⟨?_, ht.2.1, fun c h1 h2 => ?_⟩, ⟨?_, fun c h1 h2 => ?_⟩, fun l' hl' h5 h8' hz => ?_, ?_, fun i hi => ?_, fun l' hl' => ?_, fs_r h, fun s h0 hs => cf_ext h x h0 hs, fs_m h, ?_, ?_, fun i hi => ?_⟩
  · by_cases e : i = n + 1
    · subst e; rw [up_s]; exact hb.2.2.2.2 l (by omega)
    · rw [up_n e]; exact hb.2.2.2.2 i (by omega)
  · by_cases e : i = n
    · subst e; rw [up_s]; omega
    · rw [up_n e]; exact fs_k h i (by omega)
  · rw [up_n (by omega)]; exact fs_z h j (by omega)
  · rw [hen]; exact hel
  · obtain ⟨c1, c2, c3, c4, c5⟩ := ht.2.2 c h1 (by omega)
    have ne := hne c h1 (by omega) (by omega)
    exact ⟨by omega, by rw [up_n (by omega)]; exact c2, by rw [up_n (by omega)]; exact c3, by rw [up_n (by omega)]; exact c4, by rw [eo_up (by omega)]; exact c5⟩
  · rw [up_n (by omega)]; exact (fs_p h).1
  · obtain ⟨c1, c2, c3, c4, c5⟩ := ht.2.2 c h1 (by omega)
    rw [up_n (by omega), pq_loc (up_n (by omega)) (oth _ (hne c h1 (by omega) (by omega)))]
    exact (fs_p h).2 c h1 (by omega)
  · by_cases e : l' = n
    · subst e; rw [up_s] at h5 h8'; omega
    · rw [up_n e] at h5 h8'
      by_cases e2 : l' = l
      · subst e2
        rw [up_s] at hz
        omega
      · rw [up_n (by omega)] at hz
        obtain ⟨c, c1, c2, c3⟩ := fs_h h l' (by omega) h5 h8' hz
        refine ⟨c, c1, ?_, c3⟩
        have : c ≠ oc := fun w => e2 (by rw [← c3, w, hl])
        omega
  · rw [dq_new h, if_neg (by omega), if_pos rfl]
    obtain ⟨c, rfl⟩ : ∃ c, oc = c + 1 := ⟨oc - 1, by omega⟩
    exact pk_m1 c
  · by_cases e : i = n
    · subst e
      unfold lf_
      rw [up_s, up_s, up_n (show i ≠ i + 1 by omega), eo_up (Nat.le_refl _), t2]
      refine ⟨fun _ => by omega, fun a b => by omega, fun a => by omega, fun a => by omega, fun a => ?_⟩
      refine ⟨l, rfl, up_s.symm, by rw [up_n (by omega)], fun z => ?_, fun z => ?_⟩
      · rw [up_n (by omega)] at z
        rw [up_n (by omega)]
        exact (hsc.1 ⟨z, q0 z⟩).1
      · rw [up_n (by omega)] at z
        exact (hsc.2 (fun w => z w.1)).1
    · exact lf_ext h x (by omega)
  · by_cases e : l' = n
    · subst e
      exact sf_new h (fun r hr => by rw [up_n (by omega)]; exact fs_z h _ (by omega))
    · by_cases e2 : l' = l
      · subst e2
        obtain ⟨a0, a1, a2, a3⟩ := sf_same (k := 14) (se' := se) h t1 (fun _ _ => rfl)
        unfold sf_
        rw [up_s, up_n (show 4 * l' + 1 ≠ 4 * l' by omega), up_n (show 4 * l' + 2 ≠ 4 * l' by omega), up_n (show 4 * l' + 3 ≠ 4 * l' by omega)]
        refine ⟨fun z => ⟨t1, by omega, up_s, by rw [eo_up (Nat.le_refl _)]; exact t2, fun z8 => ?_⟩, a1, a2, a3⟩
        rw [up_n (by omega)] at z8
        exact ⟨q0 z8, ((fs_e h l' t1).2.2.2 (q0 z8)).2.2.1⟩
      · exact sf_same h (by omega) (oth l' e2)
  · refine jg_ext h x (fun l' hl' h5 h8' hz hz' => ?_) (fun a b => by omega)
    rw [up_s]
    have e2 : l' ≠ l := by
      intro w
      rw [w, up_s] at hz'
      omega
    obtain ⟨c, c1, c2, c3⟩ := fs_h h l' hl' h5 h8' hz
    have ne : c ≠ oc := fun w => e2 (by rw [← c3, w, hl])
    have lt := ol_mono ht (a := c) (b := oc) c1 (by omega) (Nat.le_refl _)
    have g := fs_g h l' hl' h5 h8' l (by omega)
    rw [if_pos hz] at g
    exact g (by omega)
  · refine jy_ext h x ?_
    have y := fs_y h l (by omega)
    rw [up_s, y]
    unfold sy_
    rw [hen]
    have le := eo_le kd l
    by_cases z : eo_ kd l = 0
    · rw [if_pos z, if_pos z]
    · rw [if_neg z, if_neg z, up_n (by omega), up_n (by omega)]
      by_cases w : kd (eo_ kd l - 1) = 8 ∧ se (4 * (eo_ kd l - 1) + 3) ≠ 0
      · have lt := (sf_lt (fs_e h) (l := eo_ kd l - 1) (by omega) (r := 3) (by omega) w.2).2.1
        have lt2 : se (4 * (eo_ kd l - 1) + 3) < l := by
          have e1 : oc - 1 ≠ 0 := by
            intro w'
            rw [hel, w'] at z
            exact z rfl
          have e2 : eo_ kd l - 1 = ol (oc - 1) := by
            rw [hel]
            unfold sk_
            rw [if_neg e1, Nat.add_sub_cancel]
          obtain ⟨c1, c2, c3, c4, c5⟩ := ht.2.2 (oc - 1) (by omega) (by omega)
          rw [← e2] at c1 c2 c3 c4
          obtain ⟨-, -, -, p4, p5⟩ := (fs_e h _ c1).2.2.2 w.2
          obtain ⟨l2, a1, a2, a3, -⟩ := (fs_l h _ lt).2.2.1 p4
          have el : l2 = eo_ kd l - 1 := by omega
          rw [el] at a3
          have lne : se (4 * (eo_ kd l - 1) + 3) ≠ l := by
            intro w'
            rw [w'] at p4
            omega
          apply Classical.byContradiction
          intro ge
          have g := fs_g h l t1 t3 t4 (se (4 * (eo_ kd l - 1) + 3)) (by omega)
          rw [if_pos t5] at g
          have g := g (by omega)
          have g2 := fs_g h (eo_ kd l - 1) c1 c2 c3 l (by omega)
          rw [if_pos c4] at g2
          have g2 := g2 (by omega)
          obtain ⟨o1, o2, o3, o4⟩ := (fs_l h l t1).2.1 t3 t4
          have o5 := (fs_c h (od l) o2 (by rw [← o1]; exact hb.2.2.2.2 (l + 1) (by omega))).1
          omega
        rw [if_pos ⟨w.1, w.2, lt2⟩, if_pos ⟨w.1, w.2, by omega⟩]
      · rw [if_neg (fun v => w ⟨v.1, v.2.1⟩), if_neg (fun v => w ⟨v.1, v.2.1⟩)]
  · by_cases e : i = n
    · subst e
      have hs : L i ≠ 0 → sl (L i) < i := fun z => (fs_c h (L i) (by omega) (hb.2.2.2.2 i (by omega))).2.1
      unfold bf_
      rw [up_s, up_n (show i ≠ i + 1 by omega), up_s, eo_up (Nat.le_refl _), t2]
      refine ⟨fun z z0 => ?_, fun z => by omega, fun z => by omega, fun z => by omega, fun _ => (Nat.add_sub_cancel ..).symm⟩
      rw [up_n (by have := hs z0; omega)]
      exact g1 z0
    · exact bf_ext h x (by omega)
end
end
section
def ip_ (pa : Nat → Nat) : Nat → Nat → Nat
  | 0, s => s
  | k + 1, s => ip_ pa k (pa s)
def rc_ (pa ow : Nat → Nat) (s t : Nat) : Prop := ∃ k, ip_ pa k s = t ∧ ∀ j, j < k → ow (ip_ pa j s) ≠ ip_ pa j s
theorem rc_self (pa ow : Nat → Nat) (s : Nat) : rc_ pa ow s s := ⟨0, rfl, fun j hj => absurd hj (Nat.not_lt_zero j)⟩
theorem rc_it {pa ow : Nat → Nat} {s t : Nat} : rc_ pa ow s t ↔ s = t ∨ (ow s ≠ s ∧ rc_ pa ow (pa s) t) := by
  constructor
  · rintro ⟨k, h1, h2⟩
    cases k with
    | zero => exact Or.inl h1
    | succ k => exact Or.inr ⟨h2 0 (by omega), k, h1, fun j hj => h2 (j + 1) (by omega)⟩
  · rintro (h | ⟨h0, k, h1, h2⟩)
    · subst h; exact rc_self pa ow s
    · refine ⟨k + 1, h1, fun j hj => ?_⟩
      cases j with
      | zero => exact h0
      | succ j => exact h2 j (by omega)
theorem rc_up1 {pa ow : Nat → Nat} {s t : Nat} (h0 : ow s ≠ s) (h : rc_ pa ow (pa s) t) : rc_ pa ow s t := rc_it.mpr (Or.inr ⟨h0, h⟩)
def ws_ (sn : Nat) (pa ow : Nat → Nat) : Prop := pa 0 = 0 ∧ ow 0 = 0 ∧ ∀ s, 0 < s → s < sn → pa s < s ∧ (ow s = s ∨ ow s = ow (pa s))
section
variable {sn : Nat} {pa ow : Nat → Nat}
theorem ws_of {n oc : Nat} {kd L od se ol pl sl lo oe : Nat → Nat} (h : FS n sn oc kd L od se ol pl pa ow sl lo oe) : ws_ sn pa ow := by
  obtain ⟨r1, r2, r3, r4⟩ := fs_r h
  refine ⟨r1, r2, fun s h0 hs => ?_⟩
  obtain ⟨a1, a2, a3, a4, a5, a6, a7⟩ := fs_c h s h0 hs
  refine ⟨a1, ?_⟩
  rw [a6]
  split
  · exact Or.inl rfl
  · exact Or.inr rfl
theorem rc_ind (w : ws_ sn pa ow) {P : Nat → Prop} (hs : ∀ s, s < sn → (ow s ≠ s → pa s < s ∧ ow s = ow (pa s) ∧ P (pa s)) → P s) : ∀ s, s < sn → P s := by
  intro s
  induction s using Nat.strongRecOn with
  | _ s ih =>
    intro h
    refine hs s h (fun h0 => ?_)
    have p0 : 0 < s := by
      apply Nat.pos_of_ne_zero
      intro z
      rw [z] at h0
      exact h0 w.2.1
    obtain ⟨a, b⟩ := w.2.2 s p0 h
    rcases b with b | b
    · exact absurd b h0
    · exact ⟨a, b, ih (pa s) a (by omega)⟩
theorem rc_own (w : ws_ sn pa ow) : ∀ s, s < sn → rc_ pa ow s (ow s) ∧ ow (ow s) = ow s ∧ ow s ≤ s := by
  refine rc_ind w (fun s hs h => ?_)
  by_cases z : ow s = s
  · rw [z]
    exact ⟨rc_self _ _ _, z, Nat.le_refl _⟩
  · obtain ⟨a, b, c, d, e⟩ := h z
    rw [b]
    exact ⟨rc_up1 z c, d, by omega⟩
theorem rc_le (w : ws_ sn pa ow) {t : Nat} : ∀ s, s < sn → rc_ pa ow s t → t ≤ s ∧ ow t = ow s := by
  refine rc_ind w (fun s hs h hr => ?_)
  rcases rc_it.mp hr with e | ⟨h0, hr⟩
  · subst e; exact ⟨Nat.le_refl _, rfl⟩
  · obtain ⟨a, b, c⟩ := h h0
    obtain ⟨d, e⟩ := c hr
    exact ⟨by omega, by rw [e, b]⟩
theorem rc_lt (w : ws_ sn pa ow) {s t : Nat} (hs : s < sn) (h : rc_ pa ow s t) : t < sn := by
  have := (rc_le w s hs h).1
  omega
theorem rc_tr (w : ws_ sn pa ow) {t u : Nat} : ∀ s, s < sn → rc_ pa ow s t → rc_ pa ow t u → rc_ pa ow s u := by
  refine rc_ind w (fun s hs h hr hu => ?_)
  rcases rc_it.mp hr with e | ⟨h0, hr⟩
  · subst e; exact hu
  · exact rc_up1 h0 ((h h0).2.2 hr hu)
theorem rc_lin (w : ws_ sn pa ow) {t u : Nat} : ∀ s, s < sn → rc_ pa ow s t → rc_ pa ow s u → rc_ pa ow t u ∨ rc_ pa ow u t := by
  refine rc_ind w (fun s hs h hr hu => ?_)
  rcases rc_it.mp hr with e | ⟨h0, hr'⟩
  · subst e; exact Or.inl hu
  · rcases rc_it.mp hu with e | ⟨-, hu'⟩
    · subst e; exact Or.inr hr
    · exact (h h0).2.2 hr' hu'
theorem rc_new (w : ws_ sn pa ow) {a b t : Nat} : ∀ s, s < sn → (rc_ (up_ pa sn a) (up_ ow sn b) s t ↔ rc_ pa ow s t) := by
  refine rc_ind w (fun s hs h => ?_)
  have e1 : up_ ow sn b s = ow s := up_n (by omega)
  have e2 : up_ pa sn a s = pa s := up_n (by omega)
  rw [rc_it, rc_it (pa := pa), e1, e2]
  by_cases z : ow s = s
  · constructor
    · rintro (x | x)
      · exact Or.inl x
      · exact absurd z x.1
    · rintro (x | x)
      · exact Or.inl x
      · exact absurd z x.1
  · rw [(h z).2.2]
def ac_ (pa : Nat → Nat) (s t : Nat) : Prop := ∃ k, ip_ pa k s = t
theorem ac_self (pa : Nat → Nat) (s : Nat) : ac_ pa s s := ⟨0, rfl⟩
theorem ac_it {s t : Nat} : ac_ pa s t ↔ s = t ∨ ac_ pa (pa s) t := by
  constructor
  · rintro ⟨k, h⟩
    cases k with
    | zero => exact Or.inl h
    | succ k => exact Or.inr ⟨k, h⟩
  · rintro (h | ⟨k, h⟩)
    · exact ⟨0, h⟩
    · exact ⟨k + 1, h⟩
theorem ac_le (w : ws_ sn pa ow) {t : Nat} : ∀ s, s < sn → ac_ pa s t → t ≤ s := by
  intro s
  induction s using Nat.strongRecOn with
  | _ s ih =>
    intro hs h
    rcases Nat.eq_zero_or_pos s with z | z
    · obtain ⟨k, hk⟩ := h
      subst z
      have : ∀ k, ip_ pa k 0 = 0 := by
        intro k
        induction k with
        | zero => rfl
        | succ k ih => show ip_ pa k (pa 0) = 0; rw [w.1]; exact ih
      rw [this] at hk
      omega
    · rcases ac_it.mp h with e | e
      · omega
      · have := (w.2.2 s z hs).1
        have := ih (pa s) this (by omega) e
        omega
theorem ip_add (pa : Nat → Nat) : ∀ a b s, ip_ pa (a + b) s = ip_ pa b (ip_ pa a s)
  | 0, b, s => by rw [Nat.zero_add]; rfl
  | a + 1, b, s => by
    rw [show a + 1 + b = (a + b) + 1 by omega]
    exact ip_add pa a b (pa s)
theorem ac_tr {s t u : Nat} (h1 : ac_ pa s t) (h2 : ac_ pa t u) : ac_ pa s u := by
  obtain ⟨a, ha⟩ := h1
  obtain ⟨b, hb⟩ := h2
  exact ⟨a + b, by rw [ip_add, ha, hb]⟩
theorem rc_ac {s t : Nat} (h : rc_ pa ow s t) : ac_ pa s t := ⟨h.choose, h.choose_spec.1⟩
theorem ac_new (w : ws_ sn pa ow) {a : Nat} {t : Nat} : ∀ s, s < sn → (ac_ (up_ pa sn a) s t ↔ ac_ pa s t) := by
  intro s
  induction s using Nat.strongRecOn with
  | _ s ih =>
    intro hs
    have e2 : up_ pa sn a s = pa s := up_n (by omega)
    rcases Nat.eq_zero_or_pos s with z | z
    · subst z
      have e0 : ∀ (f : Nat → Nat), f 0 = 0 → ∀ k, ip_ f k 0 = 0 := by
        intro f hf k
        induction k with
        | zero => rfl
        | succ k ih => show ip_ f k (f 0) = 0; rw [hf]; exact ih
      constructor
      · rintro ⟨k, hk⟩
        rw [e0 _ (by rw [e2]; exact w.1)] at hk
        exact ⟨0, hk⟩
      · rintro ⟨k, hk⟩
        rw [e0 _ w.1] at hk
        exact ⟨0, hk⟩
    · rw [ac_it, ac_it (pa := pa), e2]
      have := (w.2.2 s z hs).1
      rw [ih (pa s) this (by omega)]
end
section
variable {q : QT} {e : ET} {post : Int32 → Prop}
theorem lq_s (H : FQ q) {i : Nat} (hi : i ≤ nn_ q) : Lq_ q i < sn_ q := (fs_b H).2.2.2.2 i hi
theorem sc_eq (H : FQ q) {s t : Nat} (hs : s < sn_ q) (ht : t < sn_ q) : mo_ (sc_ (sl_ q) s) = mo_ (sc_ (sl_ q) t) ↔ s = t := by
  have hn := fq_n H
  have b : ∀ u, u < sn_ q → sc_ (sl_ q) u ≤ 48 := by
    intro u hu
    unfold sc_
    split
    · omega
    · have := (fs_c H u (by omega) hu).2.1
      omega
  rw [mo_eq (by have := b s hs; omega) (by have := b t ht; omega)]
  constructor
  · intro h
    unfold sc_ at h
    by_cases z : s = 0
    · rw [if_pos z] at h
      by_cases z' : t = 0
      · omega
      · rw [if_neg z'] at h; omega
    · rw [if_neg z] at h
      by_cases z' : t = 0
      · rw [if_pos z'] at h; omega
      · rw [if_neg z'] at h
        have h1 := (fs_c H s (by omega) hs).2.2.1
        have h2 := (fs_c H t (by omega) ht).2.2.1
        have : sl_ q s = sl_ q t := by omega
        rw [← h1, ← h2, this]
  · intro h; rw [h]
theorem sc_lt (H : FQ q) {s : Nat} (hs : s < sn_ q) : sc_ (sl_ q) s ≤ 48 := by
  have hn := fq_n H
  unfold sc_
  split
  · omega
  · have := (fs_c H s (by omega) hs).2.1
    omega
theorem sc_pos (H : FQ q) {s : Nat} (h0 : 0 < s) : mo_ (sc_ (sl_ q) s) = nI (sl_ q s) := by
  unfold sc_
  rw [if_neg (by omega), mo_s]
theorem ow_fun (H : FQ q) {s : Nat} (h0 : 0 < s) (hs : s < sn_ q) : (ow_ q s = s ↔ kd_ q (sl_ q s) = 5 ∨ kd_ q (sl_ q s) = 6) := by
  obtain ⟨a1, a2, a3, a4, a5, a6, a7⟩ := fs_c H s h0 hs
  constructor
  · intro h
    apply Classical.byContradiction
    intro c
    rw [if_neg c] at a6
    have := (rc_own (ws_of H) (pa_ q s) (by omega)).2.2
    omega
  · intro h
    rw [if_pos h] at a6
    exact a6
theorem yw_fs8 (H : FQ q) : ∀ s, s < sn_ q → ∀ c N, s + c ≤ 48 → s < N → post (mo_ (sc_ (sl_ q) (ow_ q s))) → wY_functionScope_8 post (nI (mL_ q)) (nI (mT_ q)) (nI (mD_ q)) (nI (nn_ q)) (nI (yp_ e)) (yc_ e) (nI (yu_ e)) (nI (yo_ e)) (nI (yb_ e)) (nI (yi_ e)) (nI (yf_ e)) (nI (yl_ e)) (yn_ e) (yr_ e) (yt_ e) (nI (cm_ q)) (fun i => nI (kd_ q i)) (fun i => nI (ar_ q (4 * i + 1))) (fun i => nI (ar_ q (4 * i + 2))) (fun i => nI (ar_ q (4 * i + 3))) (fun i => nI (bi_ e i)) (fun i => nI (bm_ e i)) (bv_ e) (bl_ e) (io_ e) (fun i => nI (fl_ e i)) (fun i => nI (fi_ e i)) (fun i => nI (cx_ e i)) (fun i => nI (ci_ e i)) (yx_ e) N (mo_ (sc_ (sl_ q) s)) (nI c) := by
  have hn := fq_n H
  refine rc_ind (ws_of H) (fun s hs ih => ?_)
  intro c N hc hN hp
  cases N with
  | zero => omega
  | succ N =>
    rw [wY_functionScope_8]
    rcases Nat.eq_zero_or_pos s with z | z
    · subst z
      rw [(fs_r H).2.1] at hp
      refine br_c (fun _ => hp) (fun _ => br_t (show mo_ 0 < 0 by decide) hp)
    · have hsl := (fs_c H s z hs).2.1
      have hpa := (fs_c H s z hs).2.2.2.1
      have hkk := fs_k H _ hsl
      refine br_f (nI_ge (b := 48) (by omega) (by decide)) ?_
      by_cases o : ow_ q s = s
      · have kf := (ow_fun H z hs).mp o
        rw [o] at hp
        rw [sc_pos H z] at hp ⊢
        refine br_f (nI_pos (by omega)) ⟨vp_in_nI (by omega) (by omega), ?_⟩
        refine pk_eq (kd_ q (sl_ q s)) 5 (fun _ => hp) (fun h5 => ⟨vp_in_nI (by omega) (by omega), ?_⟩) (ga_ rfl (by omega)) rfl (by omega) (by omega)
        refine pk_eq (kd_ q (sl_ q s)) 6 (fun _ => hp) (fun h6 => ?_) (ga_ rfl (by omega)) rfl (by omega) (by omega)
        omega
      · have kf := fun w => o ((ow_fun H z hs).mpr w)
        obtain ⟨p1, p2, p3⟩ := ih o
        rw [sc_pos H z]
        refine br_f (nI_pos (by omega)) ⟨vp_in_nI (by omega) (by omega), ?_⟩
        refine pk_eq (kd_ q (sl_ q s)) 5 (fun h5 => absurd (Or.inl h5) kf) (fun h5 => ⟨vp_in_nI (by omega) (by omega), ?_⟩) (ga_ rfl (by omega)) rfl (by omega) (by omega)
        refine pk_eq (kd_ q (sl_ q s)) 6 (fun h6 => absurd (Or.inr h6) kf) (fun h6 => ?_) (ga_ rfl (by omega)) rfl (by omega) (by omega)
        refine yw_sc (e := e) H (Nat.le_of_lt hsl) ?_
        rw [← hpa]
        rw [p2] at hp
        exact nm_r (nI_1 c) (p3 (c + 1) N (by omega) (by omega) hp)
theorem yw_fs (H : FQ q) {i : Nat} (hi : i ≤ nn_ q) (hp : post (mo_ (sc_ (sl_ q) (ow_ q (Lq_ q i))))) : wpY_functionScope post (YT q e) (nI i) := by
  have hs := lq_s H hi
  have := fq_s H
  exact yw_sc (e := e) H hi ⟨50, yw_fs8 H _ hs 0 50 (by omega) (by omega) hp⟩
theorem yw_re5 (H : FQ q) {t : Nat} (ht : t < sn_ q) : ∀ s, s < sn_ q → ∀ c N, s + c ≤ 48 → s < N → (rc_ (pa_ q) (ow_ q) s t → post 1) → (¬ rc_ (pa_ q) (ow_ q) s t → post 0) → wY_reaches_5 post (mo_ (sc_ (sl_ q) t)) (nI (mL_ q)) (nI (mT_ q)) (nI (mD_ q)) (nI (nn_ q)) (nI (yp_ e)) (yc_ e) (nI (yu_ e)) (nI (yo_ e)) (nI (yb_ e)) (nI (yi_ e)) (nI (yf_ e)) (nI (yl_ e)) (yn_ e) (yr_ e) (yt_ e) (nI (cm_ q)) (fun i => nI (kd_ q i)) (fun i => nI (ar_ q (4 * i + 1))) (fun i => nI (ar_ q (4 * i + 2))) (fun i => nI (ar_ q (4 * i + 3))) (fun i => nI (bi_ e i)) (fun i => nI (bm_ e i)) (bv_ e) (bl_ e) (io_ e) (fun i => nI (fl_ e i)) (fun i => nI (fi_ e i)) (fun i => nI (cx_ e i)) (fun i => nI (ci_ e i)) (yx_ e) N (mo_ (sc_ (sl_ q) s)) (nI c) := by
  have hn := fq_n H
  refine rc_ind (ws_of H) (fun s hs ih => ?_)
  intro c N hc hN hp1 hp0
  cases N with
  | zero => omega
  | succ N =>
    rw [wY_reaches_5]
    have fin : (s = t ∨ ow_ q s = s) → wY_reaches_54 post (mo_ (sc_ (sl_ q) t)) (mo_ (sc_ (sl_ q) s)) (nI (mL_ q)) (nI (mT_ q)) (nI (mD_ q)) (nI (nn_ q)) (nI (yp_ e)) (yc_ e) (nI (yu_ e)) (nI (yo_ e)) (nI (yb_ e)) (nI (yi_ e)) (nI (yf_ e)) (nI (yl_ e)) (yn_ e) (yr_ e) (yt_ e) (nI (cm_ q)) (fun i => nI (kd_ q i)) (fun i => nI (ar_ q (4 * i + 1))) (fun i => nI (ar_ q (4 * i + 2))) (fun i => nI (ar_ q (4 * i + 3))) (fun i => nI (bi_ e i)) (fun i => nI (bm_ e i)) (bv_ e) (bl_ e) (io_ e) (fun i => nI (fl_ e i)) (fun i => nI (fi_ e i)) (fun i => nI (cx_ e i)) (fun i => nI (ci_ e i)) (yx_ e) := by
      intro hh
      by_cases est : s = t
      · subst est
        exact br_t rfl (hp1 (rc_self _ _ _))
      · refine br_f (fun w => est ((sc_eq H hs ht).mp w)) (hp0 (fun w => ?_))
        rcases rc_it.mp w with w | w
        · exact est w
        · rcases hh with hh | hh
          · exact est hh
          · exact w.1 hh
    by_cases est : s = t
    · subst est
      exact br_c (fun _ => fin (Or.inl rfl)) (fun _ => br_t rfl (fin (Or.inl rfl)))
    · have nst : ¬ mo_ (sc_ (sl_ q) s) = mo_ (sc_ (sl_ q) t) := fun w => est ((sc_eq H hs ht).mp w)
      rcases Nat.eq_zero_or_pos s with z | z
      · subst z
        have f0 := fin (Or.inr (fs_r H).2.1)
        exact br_c (fun _ => f0) (fun _ => br_f nst (br_t (show mo_ 0 < 0 by decide) f0))
      · have hsl := (fs_c H s z hs).2.1
        have hpa := (fs_c H s z hs).2.2.2.1
        have hkk := fs_k H _ hsl
        refine br_f (nI_ge (b := 48) (by omega) (by decide)) (br_f nst ?_)
        by_cases o : ow_ q s = s
        · have kf := (ow_fun H z hs).mp o
          have f0 := fin (Or.inr o)
          rw [sc_pos H z] at f0 ⊢
          refine br_f (nI_pos (by omega)) ⟨vp_in_nI (by omega) (by omega), ?_⟩
          refine pk_eq (kd_ q (sl_ q s)) 5 (fun _ => f0) (fun h5 => ⟨vp_in_nI (by omega) (by omega), ?_⟩) (ga_ rfl (by omega)) rfl (by omega) (by omega)
          refine pk_eq (kd_ q (sl_ q s)) 6 (fun _ => f0) (fun h6 => ?_) (ga_ rfl (by omega)) rfl (by omega) (by omega)
          omega
        · have kf := fun w => o ((ow_fun H z hs).mpr w)
          obtain ⟨p1, p2, p3⟩ := ih o
          rw [sc_pos H z]
          refine br_f (nI_pos (by omega)) ⟨vp_in_nI (by omega) (by omega), ?_⟩
          refine pk_eq (kd_ q (sl_ q s)) 5 (fun h5 => absurd (Or.inl h5) kf) (fun h5 => ⟨vp_in_nI (by omega) (by omega), ?_⟩) (ga_ rfl (by omega)) rfl (by omega) (by omega)
          refine pk_eq (kd_ q (sl_ q s)) 6 (fun h6 => absurd (Or.inr h6) kf) (fun h6 => ?_) (ga_ rfl (by omega)) rfl (by omega) (by omega)
          refine yw_sc (e := e) H (Nat.le_of_lt hsl) ?_
          rw [← hpa]
          refine nm_r (nI_1 c) (p3 (c + 1) N (by omega) (by omega) (fun w => hp1 (rc_up1 o w)) (fun w => hp0 (fun v => ?_)))
          rcases rc_it.mp v with v | v
          · exact est v
          · exact w v.2
theorem yw_re (H : FQ q) {s t : Nat} (hs : s < sn_ q) (ht : t < sn_ q) (hp1 : rc_ (pa_ q) (ow_ q) s t → post 1) (hp0 : ¬ rc_ (pa_ q) (ow_ q) s t → post 0) : wpY_reaches post (YT q e) (mo_ (sc_ (sl_ q) s)) (mo_ (sc_ (sl_ q) t)) := by
  have := fq_s H
  exact ⟨50, yw_re5 H ht s hs 0 50 (by omega) (by omega) hp1 hp0⟩
def la_ (kd sl lo : Nat → Nat) (s : Nat) : Nat := if s ≠ 0 ∧ kd (sl s) = 8 then sl s + 1 else lo s
theorem yw_la8 (H : FQ q) : ∀ i, i ≤ nn_ q → ∀ c N, i + c ≤ 48 → i < N → post (mo_ (la_ (kd_ q) (sl_ q) (lo_ q) (Lq_ q i))) → wY_loopAround_8 post (nI (mL_ q)) (nI (mT_ q)) (nI (mD_ q)) (nI (nn_ q)) (nI (yp_ e)) (yc_ e) (nI (yu_ e)) (nI (yo_ e)) (nI (yb_ e)) (nI (yi_ e)) (nI (yf_ e)) (nI (yl_ e)) (yn_ e) (yr_ e) (yt_ e) (nI (cm_ q)) (fun i => nI (kd_ q i)) (fun i => nI (ar_ q (4 * i + 1))) (fun i => nI (ar_ q (4 * i + 2))) (fun i => nI (ar_ q (4 * i + 3))) (fun i => nI (bi_ e i)) (fun i => nI (bm_ e i)) (bv_ e) (bl_ e) (io_ e) (fun i => nI (fl_ e i)) (fun i => nI (fi_ e i)) (fun i => nI (cx_ e i)) (fun i => nI (ci_ e i)) (yx_ e) N (mo_ (eo_ (kd_ q) i)) (nI c) := by
  have hn := fq_n H
  intro i
  induction i using Nat.strongRecOn with
  | _ i ih =>
    intro hi c N hc hN hp
    cases N with
    | zero => omega
    | succ N =>
      rw [wY_loopAround_8]
      have y := fs_y H i hi
      have hs := lq_s H hi
      have le := eo_le (kd_ q) i
      by_cases z : eo_ (kd_ q) i = 0
      · have l0 : Lq_ q i = 0 := by
          unfold sy_ sc_ at y
          rw [if_pos z] at y
          split at y
          · assumption
          · omega
        unfold la_ at hp
        rw [l0, if_neg (fun w => w.1 rfl), (fs_r H).2.2.2, mo_0] at hp
        rw [z]
        have f0 : wY_loopAround_41 post (mo_ 0) (nI (mL_ q)) (nI (mT_ q)) (nI (mD_ q)) (nI (nn_ q)) (nI (yp_ e)) (yc_ e) (nI (yu_ e)) (nI (yo_ e)) (nI (yb_ e)) (nI (yi_ e)) (nI (yf_ e)) (nI (yl_ e)) (yn_ e) (yr_ e) (yt_ e) (nI (cm_ q)) (fun i => nI (kd_ q i)) (fun i => nI (ar_ q (4 * i + 1))) (fun i => nI (ar_ q (4 * i + 2))) (fun i => nI (ar_ q (4 * i + 3))) (fun i => nI (bi_ e i)) (fun i => nI (bm_ e i)) (bv_ e) (bl_ e) (io_ e) (fun i => nI (fl_ e i)) (fun i => nI (fi_ e i)) (fun i => nI (cx_ e i)) (fun i => nI (ci_ e i)) (yx_ e) := br_t (by decide) hp
        exact br_c (fun _ => f0) (fun _ => br_t (by decide) f0)
      · obtain ⟨l, hl⟩ : ∃ l, eo_ (kd_ q) i = l + 1 := ⟨eo_ (kd_ q) i - 1, by omega⟩
        have op := eo_op z
        rw [hl, Nat.add_sub_cancel] at op
        rw [hl, mo_s]
        refine br_f (nI_ge (b := 48) (by omega) (by decide)) (br_f (nI_pos (by omega)) ⟨vp_in_nI (by omega) (by omega), ?_⟩)
        unfold sy_ at y
        rw [hl, Nat.add_sub_cancel, if_neg (by omega)] at y
        refine pk_eq (kd_ q l) 7 (fun h7 => ?_) (fun h7 => ?_) (ga_ rfl (by omega)) rfl (by omega) (by omega)
        · rw [if_neg (fun w => by omega)] at y
          obtain ⟨y1, y2, y3⟩ := sc_inj H hs y
          refine yw_en (q := q) (e := e) (by omega) (fun j hj => fs_k H j (by omega)) (nm_r (nI_1 c) ?_)
          refine ih l (by omega) (by omega) (c + 1) N (by omega) (by omega) ?_
          have c7 := (fs_c H (Lq_ q i) y1 hs).2.2.2.2.2.2
          have c4 := (fs_c H (Lq_ q i) y1 hs).2.2.2.1
          rw [y2] at c7 c4
          rw [if_neg (by omega), if_neg (by omega), c4] at c7
          have bo := (fs_o H l (by omega)).1 (Or.inr (Or.inl h7))
          unfold la_ at hp ⊢
          rw [if_neg (fun w => by have := w.2; rw [y2] at this; omega), c7] at hp
          rw [if_neg (fun w => bo w.1 w.2)]
          exact hp
        · refine br_f (nI_pos (by omega)) ⟨vp_in_nI (by omega) (by omega), ?_⟩
          refine pk_eq (kd_ q l) 8 (fun h8 => ?_) (fun h8 => ?_) (ga_ rfl (by omega)) rfl (by omega) (by omega)
          · by_cases w : se_ q (4 * l + 3) ≠ 0 ∧ se_ q (4 * l + 3) < i
            · rw [if_pos ⟨h8, w.1, w.2⟩] at y
              obtain ⟨y1, y2, y3⟩ := sc_inj H hs y
              have c7 := (fs_c H (Lq_ q i) y1 hs).2.2.2.2.2.2
              have k9 := (fs_e H l (by omega)).2.2.2 w.1
              rw [y2, if_pos k9.2.2.2.1, k9.2.2.2.2] at c7
              unfold la_ at hp
              rw [if_neg (fun w => by have := w.2; rw [y2] at this; omega), c7, mo_s] at hp
              exact hp
            · rw [if_neg (fun v => w v.2)] at y
              obtain ⟨y1, y2, y3⟩ := sc_inj H hs y
              unfold la_ at hp
              rw [y2, if_pos ⟨by omega, h8⟩, mo_s] at hp
              exact hp
          · rw [if_neg (fun v => h8 v.1)] at y
            obtain ⟨y1, y2, y3⟩ := sc_inj H hs y
            have c7 := (fs_c H (Lq_ q i) y1 hs).2.2.2.2.2.2
            rw [y2, if_neg (by omega), if_pos (by omega)] at c7
            unfold la_ at hp
            rw [y2, if_neg (fun v => h8 v.2), c7, mo_0] at hp
            exact hp
theorem yw_la (H : FQ q) {i : Nat} (hi : i ≤ nn_ q) (hp : post (mo_ (la_ (kd_ q) (sl_ q) (lo_ q) (Lq_ q i)))) : wpY_loopAround post (YT q e) (nI i) := by
  have hn := fq_n H
  exact yw_en (q := q) (e := e) (by omega) (fun j hj => fs_k H j (by omega)) ⟨50, yw_la8 H i hi 0 50 (by omega) (by omega) hp⟩
end
end
section
def db_ (lx vn : Nat → Int32) (ow : Nat → Nat) (s x : Nat) : Bool := if ow s = s then (bt (lx s) x || bt (vn s) x) else bt (lx s) x
def ct_ (P : Nat → Bool) : Nat → Nat
  | 0 => 0
  | k + 1 => ct_ P k + (if P k = true then 1 else 0)
def sm_ (f : Nat → Nat) : Nat → Nat
  | 0 => 0
  | k + 1 => sm_ f k + f k
def ml_ (n : Nat) (kd L ar : Nat → Nat) (lx : Nat → Int32) : Prop := ∀ s x, x < 8 → (bt (lx s) x = true ↔ ∃ j, j < n ∧ (kd j = 0 ∨ kd j = 5) ∧ ar (4 * j + 1) = x ∧ L j = s)
def mv_ (n : Nat) (kd L ar pa ow : Nat → Nat) (vn : Nat → Int32) : Prop := ∀ s x, x < 8 → (bt (vn s) x = true ↔ ∃ j, j < n ∧ kd j = 1 ∧ ar (4 * j + 1) = x ∧ rc_ pa ow (L j) s)
def ma_ (n : Nat) (L pa ow : Nat → Nat) (lx an : Nat → Int32) : Prop := ∀ s x, x < 8 → ac_ pa (L n) s → (bt (an s) x = true ↔ ∃ t, rc_ pa ow s t ∧ bt (lx t) x = true)
def mt_ (n : Nat) (kd L ar lt : Nat → Nat) : Prop := ∀ s x j, x < 8 → (lt (8 * s + x) = j + 1 ↔ j < n ∧ kd j = 0 ∧ ar (4 * j + 1) = x ∧ L j = s)
def mu_ (n : Nat) (kd L ar : Nat → Nat) : Prop := ∀ i j, i < n → j < n → (kd i = 0 ∨ kd i = 5) → (kd j = 0 ∨ kd j = 5) → ar (4 * i + 1) = ar (4 * j + 1) → L i = L j → i = j
def mc_ (lx vn : Nat → Int32) : Prop := ∀ s x, x < 8 → bt (lx s) x = true → bt (vn s) x = false
def mh_ (n : Nat) (kd L lh : Nat → Nat) : Prop := (∀ j, j < n → kd j = 5 → j ≤ lh (L j)) ∧ ∀ s, lh s = 0 ∨ lh s < n
def ms_ (n sn : Nat) (ow : Nat → Nat) (lx vn : Nat → Int32) : Prop := sm_ (fun s => ct_ (db_ lx vn ow s) 8) sn ≤ n
def mr_ (n : Nat) (kd ar : Nat → Nat) : Prop := (∀ j, ar j ≤ 72) ∧ (∀ i, i < n → (kd i ≤ 2 ∨ kd i = 5 ∨ kd i = 6) → ar (4 * i + 1) < 8) ∧ ∀ i, n ≤ i → kd i = 0
def FM (n sn : Nat) (kd L ar pa ow lt lh : Nat → Nat) (lx an vn : Nat → Int32) : Prop :=
  ml_ n kd L ar lx ∧ mv_ n kd L ar pa ow vn ∧ ma_ n L pa ow lx an ∧ mt_ n kd L ar lt ∧ mu_ n kd L ar ∧ mc_ lx vn ∧ mh_ n kd L lh ∧ ms_ n sn ow lx vn ∧ mr_ n kd ar
def MQ_ (q : QT) : Prop := FM (nn_ q) (sn_ q) (kd_ q) (Lq_ q) (ar_ q) (pa_ q) (ow_ q) (lt_ q) (lh_ q) (lx_ q) (an_ q) (vn_ q)
def hc_ (n : Nat) (kd L ar pa ow : Nat → Nat) (k x j : Nat) : Prop := ar (4 * j + 1) = x ∧ ((kd j = 1 ∧ k ≠ 1 ∧ rc_ pa ow (L j) (L n)) ∨ ((kd j = 0 ∨ kd j = 5) ∧ k = 1 ∧ rc_ pa ow (L n) (L j)) ∨ ((kd j = 0 ∨ kd j = 5) ∧ k ≠ 1 ∧ L j = L n))
def hr_ (kd L ar ow : Nat → Nat) (s x j : Nat) : Prop := ar (4 * j + 1) = x ∧ (((kd j = 0 ∨ kd j = 5) ∧ L j = s) ∨ (kd j = 1 ∧ ow (L j) = s))
section
variable {q : QT} {e : ET} {post : Int32 → Prop}
theorem gf_1 {j : Nat} (h : j < 2 ^ 31) : (fun i => nI (ar_ q (4 * i + 1))) (nI j).toNatClampNeg = nI (ar_ q (4 * j + 1)) := ga_ (f := fun i => ar_ q (4 * i + 1)) rfl h
theorem gf_2 {j : Nat} (h : j < 2 ^ 31) : (fun i => nI (ar_ q (4 * i + 2))) (nI j).toNatClampNeg = nI (ar_ q (4 * j + 2)) := ga_ (f := fun i => ar_ q (4 * i + 2)) rfl h
theorem gf_3 {j : Nat} (h : j < 2 ^ 31) : (fun i => nI (ar_ q (4 * i + 3))) (nI j).toNatClampNeg = nI (ar_ q (4 * j + 3)) := ga_ (f := fun i => ar_ q (4 * i + 3)) rfl h
theorem yw_cl12 (H : FQ q) (hA : ∀ j, ar_ q j ≤ 72) {k x : Nat} (hk : k ≤ 14) (hx : x < 8) : ∀ m j N, j + m = nn_ q → m < N → ((∃ i, j ≤ i ∧ i < nn_ q ∧ hc_ (nn_ q) (kd_ q) (Lq_ q) (ar_ q) (pa_ q) (ow_ q) k x i) → post 1) → ((∀ i, j ≤ i → i < nn_ q → ¬ hc_ (nn_ q) (kd_ q) (Lq_ q) (ar_ q) (pa_ q) (ow_ q) k x i) → post 0) →
    wY_clash_12 post (nI k) (nI x) (mo_ (sc_ (sl_ q) (Lq_ q (nn_ q)))) (nI (mL_ q)) (nI (mT_ q)) (nI (mD_ q)) (nI (nn_ q)) (nI (yp_ e)) (yc_ e) (nI (yu_ e)) (nI (yo_ e)) (nI (yb_ e)) (nI (yi_ e)) (nI (yf_ e)) (nI (yl_ e)) (yn_ e) (yr_ e) (yt_ e) (nI (cm_ q)) (fun i => nI (kd_ q i)) (fun i => nI (ar_ q (4 * i + 1))) (fun i => nI (ar_ q (4 * i + 2))) (fun i => nI (ar_ q (4 * i + 3))) (fun i => nI (bi_ e i)) (fun i => nI (bm_ e i)) (bv_ e) (bl_ e) (io_ e) (fun i => nI (fl_ e i)) (fun i => nI (fi_ e i)) (fun i => nI (cx_ e i)) (fun i => nI (ci_ e i)) (yx_ e) N (nI j) := by
  have hn := fq_n H
  intro m
  induction m with
  | zero =>
    intro j N hj hN hp1 hp0
    cases N with
    | zero => omega
    | succ N =>
      rw [wY_clash_12]
      exact br_t (nI_le (by omega) (by omega)) (hp0 (fun i h1 h2 => by omega))
  | succ m ih =>
    intro j N hj hN hp1 hp0
    cases N with
    | zero => omega
    | succ N =>
      rw [wY_clash_12]
      have hkj := fs_k H j (by omega)
      have vj : vp_in (nI j) 48 := vp_in_nI (by omega) (by omega)
      have sj := lq_s H (i := j) (by omega)
      have sN := lq_s H (i := nn_ q) (Nat.le_refl _)
      have yes : hc_ (nn_ q) (kd_ q) (Lq_ q) (ar_ q) (pa_ q) (ow_ q) k x j → post 1 := fun h => hp1 ⟨j, Nat.le_refl _, by omega, h⟩
      have go : ¬ hc_ (nn_ q) (kd_ q) (Lq_ q) (ar_ q) (pa_ q) (ow_ q) k x j → wY_clash_12 post (nI k) (nI x) (mo_ (sc_ (sl_ q) (Lq_ q (nn_ q)))) (nI (mL_ q)) (nI (mT_ q)) (nI (mD_ q)) (nI (nn_ q)) (nI (yp_ e)) (yc_ e) (nI (yu_ e)) (nI (yo_ e)) (nI (yb_ e)) (nI (yi_ e)) (nI (yf_ e)) (nI (yl_ e)) (yn_ e) (yr_ e) (yt_ e) (nI (cm_ q)) (fun i => nI (kd_ q i)) (fun i => nI (ar_ q (4 * i + 1))) (fun i => nI (ar_ q (4 * i + 2))) (fun i => nI (ar_ q (4 * i + 3))) (fun i => nI (bi_ e i)) (fun i => nI (bm_ e i)) (bv_ e) (bl_ e) (io_ e) (fun i => nI (fl_ e i)) (fun i => nI (fi_ e i)) (fun i => nI (cx_ e i)) (fun i => nI (ci_ e i)) (yx_ e) N (nI (j + 1)) := by
        intro hno
        refine ih (j + 1) N (by omega) (by omega) (fun w => ?_) (fun w => ?_)
        · obtain ⟨i, i1, i2, i3⟩ := w
          exact hp1 ⟨i, by omega, i2, i3⟩
        · refine hp0 (fun i i1 i2 => ?_)
          by_cases ei : i = j
          · subst ei; exact hno
          · exact w i (by omega) i2
      refine br_f (nI_ge (by omega) (by omega)) ⟨vj, ?_⟩
      refine pk_eq (ar_ q (4 * j + 1)) x (fun hf => ⟨vj, ?_⟩) (fun hf => nm_r (nI_1 j) (go (fun w => hf w.1))) (gf_1 (by omega)) rfl (by have := hA (4 * j + 1); omega) (by omega)
      have c64 : (kd_ q j = 0 ∨ kd_ q j = 5 ∨ kd_ q j = 1) → wY_clash_64 post (wY_clash_12 post (nI k) (nI x) (mo_ (sc_ (sl_ q) (Lq_ q (nn_ q)))) (nI (mL_ q)) (nI (mT_ q)) (nI (mD_ q)) (nI (nn_ q)) (nI (yp_ e)) (yc_ e) (nI (yu_ e)) (nI (yo_ e)) (nI (yb_ e)) (nI (yi_ e)) (nI (yf_ e)) (nI (yl_ e)) (yn_ e) (yr_ e) (yt_ e) (nI (cm_ q)) (fun i => nI (kd_ q i)) (fun i => nI (ar_ q (4 * i + 1))) (fun i => nI (ar_ q (4 * i + 2))) (fun i => nI (ar_ q (4 * i + 3))) (fun i => nI (bi_ e i)) (fun i => nI (bm_ e i)) (bv_ e) (bl_ e) (io_ e) (fun i => nI (fl_ e i)) (fun i => nI (fi_ e i)) (fun i => nI (cx_ e i)) (fun i => nI (ci_ e i)) (yx_ e) N) (nI k) (nI x) (mo_ (sc_ (sl_ q) (Lq_ q (nn_ q)))) (nI j) (nI (mL_ q)) (nI (mT_ q)) (nI (mD_ q)) (nI (nn_ q)) (nI (yp_ e)) (yc_ e) (nI (yu_ e)) (nI (yo_ e)) (nI (yb_ e)) (nI (yi_ e)) (nI (yf_ e)) (nI (yl_ e)) (yn_ e) (yr_ e) (yt_ e) (nI (cm_ q)) (fun i => nI (kd_ q i)) (fun i => nI (ar_ q (4 * i + 1))) (fun i => nI (ar_ q (4 * i + 2))) (fun i => nI (ar_ q (4 * i + 3))) (fun i => nI (bi_ e i)) (fun i => nI (bm_ e i)) (bv_ e) (bl_ e) (io_ e) (fun i => nI (fl_ e i)) (fun i => nI (fi_ e i)) (fun i => nI (cx_ e i)) (fun i => nI (ci_ e i)) (yx_ e) := by
        intro hkk
        have c128 : (kd_ q j = 1 → ¬ hc_ (nn_ q) (kd_ q) (Lq_ q) (ar_ q) (pa_ q) (ow_ q) k x j) → (k = 1 → ¬ hc_ (nn_ q) (kd_ q) (Lq_ q) (ar_ q) (pa_ q) (ow_ q) k x j) → wY_clash_128 post (wY_clash_12 post (nI k) (nI x) (mo_ (sc_ (sl_ q) (Lq_ q (nn_ q)))) (nI (mL_ q)) (nI (mT_ q)) (nI (mD_ q)) (nI (nn_ q)) (nI (yp_ e)) (yc_ e) (nI (yu_ e)) (nI (yo_ e)) (nI (yb_ e)) (nI (yi_ e)) (nI (yf_ e)) (nI (yl_ e)) (yn_ e) (yr_ e) (yt_ e) (nI (cm_ q)) (fun i => nI (kd_ q i)) (fun i => nI (ar_ q (4 * i + 1))) (fun i => nI (ar_ q (4 * i + 2))) (fun i => nI (ar_ q (4 * i + 3))) (fun i => nI (bi_ e i)) (fun i => nI (bm_ e i)) (bv_ e) (bl_ e) (io_ e) (fun i => nI (fl_ e i)) (fun i => nI (fi_ e i)) (fun i => nI (cx_ e i)) (fun i => nI (ci_ e i)) (yx_ e) N) (nI k) (nI x) (mo_ (sc_ (sl_ q) (Lq_ q (nn_ q)))) (nI j) (mo_ (sc_ (sl_ q) (Lq_ q j))) (nI (mL_ q)) (nI (mT_ q)) (nI (mD_ q)) (nI (nn_ q)) (nI (yp_ e)) (yc_ e) (nI (yu_ e)) (nI (yo_ e)) (nI (yb_ e)) (nI (yi_ e)) (nI (yf_ e)) (nI (yl_ e)) (yn_ e) (yr_ e) (yt_ e) (nI (cm_ q)) (fun i => nI (kd_ q i)) (fun i => nI (ar_ q (4 * i + 1))) (fun i => nI (ar_ q (4 * i + 2))) (fun i => nI (ar_ q (4 * i + 3))) (fun i => nI (bi_ e i)) (fun i => nI (bm_ e i)) (bv_ e) (bl_ e) (io_ e) (fun i => nI (fl_ e i)) (fun i => nI (fi_ e i)) (fun i => nI (cx_ e i)) (fun i => nI (ci_ e i)) (yx_ e) := by
          intro n1 n2
          refine And.intro vj ?_
          refine pk_eq (kd_ q j) 1 (fun h1 => nm_r (nI_1 j) (go (n1 h1))) (fun h1 => ?_) (ga_ rfl (by omega)) rfl (by omega) (by omega)
          refine pk_eq k 1 (fun k1 => nm_r (nI_1 j) (go (n2 k1))) (fun k1 => ?_) rfl rfl (by omega) (by omega)
          refine br_c (fun w => yes ?_) (fun w => nm_r (nI_1 j) (go ?_))
          · exact ⟨hf, Or.inr (Or.inr ⟨by omega, k1, (sc_eq H sj sN).mp w⟩)⟩
          · rintro ⟨-, ⟨a, -⟩ | ⟨-, a, -⟩ | ⟨-, -, a⟩⟩
            · omega
            · omega
            · exact w ((sc_eq H sj sN).mpr a)
        have c100 : (kd_ q j = 1 → ¬ hc_ (nn_ q) (kd_ q) (Lq_ q) (ar_ q) (pa_ q) (ow_ q) k x j) → wY_clash_100 post (wY_clash_12 post (nI k) (nI x) (mo_ (sc_ (sl_ q) (Lq_ q (nn_ q)))) (nI (mL_ q)) (nI (mT_ q)) (nI (mD_ q)) (nI (nn_ q)) (nI (yp_ e)) (yc_ e) (nI (yu_ e)) (nI (yo_ e)) (nI (yb_ e)) (nI (yi_ e)) (nI (yf_ e)) (nI (yl_ e)) (yn_ e) (yr_ e) (yt_ e) (nI (cm_ q)) (fun i => nI (kd_ q i)) (fun i => nI (ar_ q (4 * i + 1))) (fun i => nI (ar_ q (4 * i + 2))) (fun i => nI (ar_ q (4 * i + 3))) (fun i => nI (bi_ e i)) (fun i => nI (bm_ e i)) (bv_ e) (bl_ e) (io_ e) (fun i => nI (fl_ e i)) (fun i => nI (fi_ e i)) (fun i => nI (cx_ e i)) (fun i => nI (ci_ e i)) (yx_ e) N) (nI k) (nI x) (mo_ (sc_ (sl_ q) (Lq_ q (nn_ q)))) (nI j) (mo_ (sc_ (sl_ q) (Lq_ q j))) (nI (mL_ q)) (nI (mT_ q)) (nI (mD_ q)) (nI (nn_ q)) (nI (yp_ e)) (yc_ e) (nI (yu_ e)) (nI (yo_ e)) (nI (yb_ e)) (nI (yi_ e)) (nI (yf_ e)) (nI (yl_ e)) (yn_ e) (yr_ e) (yt_ e) (nI (cm_ q)) (fun i => nI (kd_ q i)) (fun i => nI (ar_ q (4 * i + 1))) (fun i => nI (ar_ q (4 * i + 2))) (fun i => nI (ar_ q (4 * i + 3))) (fun i => nI (bi_ e i)) (fun i => nI (bm_ e i)) (bv_ e) (bl_ e) (io_ e) (fun i => nI (fl_ e i)) (fun i => nI (fi_ e i)) (fun i => nI (cx_ e i)) (fun i => nI (ci_ e i)) (yx_ e) := by
          intro n1
          refine And.intro vj ?_
          refine pk_eq (kd_ q j) 1 (fun h1 => c128 n1 (fun _ => n1 h1)) (fun h1 => ?_) (ga_ rfl (by omega)) rfl (by omega) (by omega)
          refine pk_eq k 1 (fun k1 => ?_) (fun k1 => c128 n1 (fun w => absurd w k1)) rfl rfl (by omega) (by omega)
          refine yw_re (e := e) H sN sj (fun w => br_f (by decide) (yes ?_)) (fun w => br_t rfl (c128 n1 (fun _ => ?_)))
          · exact ⟨hf, Or.inr (Or.inl ⟨by omega, k1, w⟩)⟩
          · rintro ⟨-, ⟨a, -⟩ | ⟨-, -, a⟩ | ⟨-, a, -⟩⟩
            · omega
            · exact w a
            · omega
        refine yw_sc (e := e) H (by omega) (And.intro vj ?_)
        refine pk_eq (kd_ q j) 1 (fun h1 => ?_) (fun h1 => c100 (fun w => absurd w h1)) (ga_ rfl (by omega)) rfl (by omega) (by omega)
        refine pk_eq k 1 (fun k1 => c100 (fun _ => ?_)) (fun k1 => ?_) rfl rfl (by omega) (by omega)
        · rintro ⟨-, ⟨-, a, -⟩ | ⟨a, -, -⟩ | ⟨a, -, -⟩⟩ <;> omega
        · refine yw_re (e := e) H sj sN (fun w => br_f (by decide) (yes ?_)) (fun w => br_t rfl (c100 (fun _ => ?_)))
          · exact ⟨hf, Or.inl ⟨h1, k1, w⟩⟩
          · rintro ⟨-, ⟨-, -, a⟩ | ⟨a, -, -⟩ | ⟨a, -, -⟩⟩
            · exact w a
            · omega
            · omega
      refine pk_eq (kd_ q j) 0 (fun h0 => c64 (by omega)) (fun h0 => ⟨vj, ?_⟩) (ga_ rfl (by omega)) rfl (by omega) (by omega)
      refine pk_eq (kd_ q j) 5 (fun h5 => c64 (by omega)) (fun h5 => ⟨vj, ?_⟩) (ga_ rfl (by omega)) rfl (by omega) (by omega)
      refine pk_eq (kd_ q j) 1 (fun h1 => c64 (by omega)) (fun h1 => nm_r (nI_1 j) (go ?_)) (ga_ rfl (by omega)) rfl (by omega) (by omega)
      rintro ⟨-, ⟨a, -⟩ | ⟨a, -, -⟩ | ⟨a, -, -⟩⟩ <;> omega
theorem yw_cl (H : FQ q) (hA : ∀ j, ar_ q j ≤ 72) {k x : Nat} (hk : k ≤ 14) (hx : x < 8) (hp1 : (∃ i, i < nn_ q ∧ hc_ (nn_ q) (kd_ q) (Lq_ q) (ar_ q) (pa_ q) (ow_ q) k x i) → post 1) (hp0 : (∀ i, i < nn_ q → ¬ hc_ (nn_ q) (kd_ q) (Lq_ q) (ar_ q) (pa_ q) (ow_ q) k x i) → post 0) : wpY_clash post (YT q e) (nI k) (nI x) := by
  refine yw_sc (e := e) H (Nat.le_refl _) ⟨nn_ q + 1, yw_cl12 H hA hk hx (nn_ q) 0 (nn_ q + 1) (by omega) (by omega) (fun w => ?_) (fun w => ?_)⟩
  · obtain ⟨i, i1, i2, i3⟩ := w
    exact hp1 ⟨i, i2, i3⟩
  · exact hp0 (fun i hi => w i (by omega) hi)
theorem yw_de2 (H : FQ q) (hA : ∀ j, ar_ q j ≤ 72) {s x : Nat} (hs : s < sn_ q) (hx : x < 8) : ∀ m j N, j + m = nn_ q → m < N → (∀ i, j ≤ i → i < nn_ q → hr_ (kd_ q) (Lq_ q) (ar_ q) (ow_ q) s x i → (∀ l, j ≤ l → l < i → ¬ hr_ (kd_ q) (Lq_ q) (ar_ q) (ow_ q) s x l) → post (nI i)) → ((∀ i, j ≤ i → i < nn_ q → ¬ hr_ (kd_ q) (Lq_ q) (ar_ q) (ow_ q) s x i) → post (-1)) →
    wY_declarer_2 post (mo_ (sc_ (sl_ q) s)) (nI x) (nI (mL_ q)) (nI (mT_ q)) (nI (mD_ q)) (nI (nn_ q)) (nI (yp_ e)) (yc_ e) (nI (yu_ e)) (nI (yo_ e)) (nI (yb_ e)) (nI (yi_ e)) (nI (yf_ e)) (nI (yl_ e)) (yn_ e) (yr_ e) (yt_ e) (nI (cm_ q)) (fun i => nI (kd_ q i)) (fun i => nI (ar_ q (4 * i + 1))) (fun i => nI (ar_ q (4 * i + 2))) (fun i => nI (ar_ q (4 * i + 3))) (fun i => nI (bi_ e i)) (fun i => nI (bm_ e i)) (bv_ e) (bl_ e) (io_ e) (fun i => nI (fl_ e i)) (fun i => nI (fi_ e i)) (fun i => nI (cx_ e i)) (fun i => nI (ci_ e i)) (yx_ e) N (nI j) := by
  have hn := fq_n H
  intro m
  induction m with
  | zero =>
    intro j N hj hN hp1 hp0
    cases N with
    | zero => omega
    | succ N =>
      rw [wY_declarer_2]
      exact br_t (nI_le (by omega) (by omega)) (hp0 (fun i h1 h2 => by omega))
  | succ m ih =>
    intro j N hj hN hp1 hp0
    cases N with
    | zero => omega
    | succ N =>
      rw [wY_declarer_2]
      have hkj := fs_k H j (by omega)
      have vj : vp_in (nI j) 48 := vp_in_nI (by omega) (by omega)
      have sj := lq_s H (i := j) (by omega)
      have so : ow_ q (Lq_ q j) < sn_ q := by
        have := (rc_own (ws_of H) _ sj).2.2
        omega
      have yes : hr_ (kd_ q) (Lq_ q) (ar_ q) (ow_ q) s x j → post (nI j) := fun h => hp1 j (Nat.le_refl _) (by omega) h (fun l h1 h2 => by omega)
      have go : ¬ hr_ (kd_ q) (Lq_ q) (ar_ q) (ow_ q) s x j → wY_declarer_2 post (mo_ (sc_ (sl_ q) s)) (nI x) (nI (mL_ q)) (nI (mT_ q)) (nI (mD_ q)) (nI (nn_ q)) (nI (yp_ e)) (yc_ e) (nI (yu_ e)) (nI (yo_ e)) (nI (yb_ e)) (nI (yi_ e)) (nI (yf_ e)) (nI (yl_ e)) (yn_ e) (yr_ e) (yt_ e) (nI (cm_ q)) (fun i => nI (kd_ q i)) (fun i => nI (ar_ q (4 * i + 1))) (fun i => nI (ar_ q (4 * i + 2))) (fun i => nI (ar_ q (4 * i + 3))) (fun i => nI (bi_ e i)) (fun i => nI (bm_ e i)) (bv_ e) (bl_ e) (io_ e) (fun i => nI (fl_ e i)) (fun i => nI (fi_ e i)) (fun i => nI (cx_ e i)) (fun i => nI (ci_ e i)) (yx_ e) N (nI (j + 1)) := by
        intro hno
        refine ih (j + 1) N (by omega) (by omega) (fun i i1 i2 i3 i4 => ?_) (fun w => ?_)
        · refine hp1 i (by omega) i2 i3 (fun l l1 l2 => ?_)
          by_cases el : l = j
          · subst el; exact hno
          · exact i4 l (by omega) l2
        · refine hp0 (fun i i1 i2 => ?_)
          by_cases ei : i = j
          · subst ei; exact hno
          · exact w i (by omega) i2
      have c50 : (ar_ q (4 * j + 1) = x → (kd_ q j = 0 ∨ kd_ q j = 5) → Lq_ q j ≠ s) → wY_declarer_50 post (wY_declarer_2 post (mo_ (sc_ (sl_ q) s)) (nI x) (nI (mL_ q)) (nI (mT_ q)) (nI (mD_ q)) (nI (nn_ q)) (nI (yp_ e)) (yc_ e) (nI (yu_ e)) (nI (yo_ e)) (nI (yb_ e)) (nI (yi_ e)) (nI (yf_ e)) (nI (yl_ e)) (yn_ e) (yr_ e) (yt_ e) (nI (cm_ q)) (fun i => nI (kd_ q i)) (fun i => nI (ar_ q (4 * i + 1))) (fun i => nI (ar_ q (4 * i + 2))) (fun i => nI (ar_ q (4 * i + 3))) (fun i => nI (bi_ e i)) (fun i => nI (bm_ e i)) (bv_ e) (bl_ e) (io_ e) (fun i => nI (fl_ e i)) (fun i => nI (fi_ e i)) (fun i => nI (cx_ e i)) (fun i => nI (ci_ e i)) (yx_ e) N) (mo_ (sc_ (sl_ q) s)) (nI x) (nI j) (nI (mL_ q)) (nI (mT_ q)) (nI (mD_ q)) (nI (nn_ q)) (nI (yp_ e)) (yc_ e) (nI (yu_ e)) (nI (yo_ e)) (nI (yb_ e)) (nI (yi_ e)) (nI (yf_ e)) (nI (yl_ e)) (yn_ e) (yr_ e) (yt_ e) (nI (cm_ q)) (fun i => nI (kd_ q i)) (fun i => nI (ar_ q (4 * i + 1))) (fun i => nI (ar_ q (4 * i + 2))) (fun i => nI (ar_ q (4 * i + 3))) (fun i => nI (bi_ e i)) (fun i => nI (bm_ e i)) (bv_ e) (bl_ e) (io_ e) (fun i => nI (fl_ e i)) (fun i => nI (fi_ e i)) (fun i => nI (cx_ e i)) (fun i => nI (ci_ e i)) (yx_ e) := by
        intro hno
        refine And.intro vj ?_
        refine pk_eq (ar_ q (4 * j + 1)) x (fun hf => ⟨vj, ?_⟩) (fun hf => nm_r (nI_1 j) (go (fun w => hf w.1))) (gf_1 (by omega)) rfl (by have := hA (4 * j + 1); omega) (by omega)
        refine pk_eq (kd_ q j) 1 (fun h1 => ?_) (fun h1 => nm_r (nI_1 j) (go ?_)) (ga_ rfl (by omega)) rfl (by omega) (by omega)
        · refine yw_fs (e := e) H (by omega) (br_c (fun w => yes ?_) (fun w => nm_r (nI_1 j) (go ?_)))
          · exact ⟨hf, Or.inr ⟨h1, (sc_eq H so hs).mp w⟩⟩
          · rintro ⟨-, ⟨a, -⟩ | ⟨-, a⟩⟩
            · omega
            · exact w ((sc_eq H so hs).mpr a)
        · rintro ⟨-, ⟨a, b⟩ | ⟨a, -⟩⟩
          · exact hno hf a b
          · exact h1 a
      have c39 : ar_ q (4 * j + 1) = x → (kd_ q j = 0 ∨ kd_ q j = 5) → wY_declarer_39 post (wY_declarer_2 post (mo_ (sc_ (sl_ q) s)) (nI x) (nI (mL_ q)) (nI (mT_ q)) (nI (mD_ q)) (nI (nn_ q)) (nI (yp_ e)) (yc_ e) (nI (yu_ e)) (nI (yo_ e)) (nI (yb_ e)) (nI (yi_ e)) (nI (yf_ e)) (nI (yl_ e)) (yn_ e) (yr_ e) (yt_ e) (nI (cm_ q)) (fun i => nI (kd_ q i)) (fun i => nI (ar_ q (4 * i + 1))) (fun i => nI (ar_ q (4 * i + 2))) (fun i => nI (ar_ q (4 * i + 3))) (fun i => nI (bi_ e i)) (fun i => nI (bm_ e i)) (bv_ e) (bl_ e) (io_ e) (fun i => nI (fl_ e i)) (fun i => nI (fi_ e i)) (fun i => nI (cx_ e i)) (fun i => nI (ci_ e i)) (yx_ e) N) (mo_ (sc_ (sl_ q) s)) (nI x) (nI j) (nI (mL_ q)) (nI (mT_ q)) (nI (mD_ q)) (nI (nn_ q)) (nI (yp_ e)) (yc_ e) (nI (yu_ e)) (nI (yo_ e)) (nI (yb_ e)) (nI (yi_ e)) (nI (yf_ e)) (nI (yl_ e)) (yn_ e) (yr_ e) (yt_ e) (nI (cm_ q)) (fun i => nI (kd_ q i)) (fun i => nI (ar_ q (4 * i + 1))) (fun i => nI (ar_ q (4 * i + 2))) (fun i => nI (ar_ q (4 * i + 3))) (fun i => nI (bi_ e i)) (fun i => nI (bm_ e i)) (bv_ e) (bl_ e) (io_ e) (fun i => nI (fl_ e i)) (fun i => nI (fi_ e i)) (fun i => nI (cx_ e i)) (fun i => nI (ci_ e i)) (yx_ e) := by
        intro hf hkk
        refine yw_sc (e := e) H (by omega) (br_c (fun w => yes ?_) (fun w => c50 (fun _ _ a => w ((sc_eq H sj hs).mpr a))))
        exact ⟨hf, Or.inl ⟨hkk, (sc_eq H sj hs).mp w⟩⟩
      refine br_f (nI_ge (by omega) (by omega)) ⟨vj, ?_⟩
      refine pk_eq (ar_ q (4 * j + 1)) x (fun hf => ⟨vj, ?_⟩) (fun hf => c50 (fun w => absurd w hf)) (gf_1 (by omega)) rfl (by have := hA (4 * j + 1); omega) (by omega)
      refine pk_eq (kd_ q j) 0 (fun h0 => c39 hf (Or.inl h0)) (fun h0 => ⟨vj, ?_⟩) (ga_ rfl (by omega)) rfl (by omega) (by omega)
      exact pk_eq (kd_ q j) 5 (fun h5 => c39 hf (Or.inr h5)) (fun h5 => c50 (fun _ w => by omega)) (ga_ rfl (by omega)) rfl (by omega) (by omega)
theorem yw_de (H : FQ q) (hA : ∀ j, ar_ q j ≤ 72) {s x : Nat} (hs : s < sn_ q) (hx : x < 8) (hp1 : ∀ i, i < nn_ q → hr_ (kd_ q) (Lq_ q) (ar_ q) (ow_ q) s x i → (∀ l, l < i → ¬ hr_ (kd_ q) (Lq_ q) (ar_ q) (ow_ q) s x l) → post (nI i)) (hp0 : (∀ i, i < nn_ q → ¬ hr_ (kd_ q) (Lq_ q) (ar_ q) (ow_ q) s x i) → post (-1)) :
    wpY_declarer post (YT q e) (mo_ (sc_ (sl_ q) s)) (nI x) :=
  ⟨nn_ q + 1, yw_de2 H hA hs hx (nn_ q) 0 (nn_ q + 1) (by omega) (by omega) (fun i _ i2 i3 i4 => hp1 i i2 i3 (fun l hl => i4 l (by omega) hl)) (fun w => hp0 (fun i hi => w i (by omega) hi))⟩
end
end
section
theorem ct_ext {P Q : Nat → Bool} : ∀ N, (∀ x, x < N → P x = Q x) → ct_ P N = ct_ Q N
  | 0 => fun _ => rfl
  | N + 1 => fun h => by
    unfold ct_
    rw [ct_ext N (fun x hx => h x (by omega)), h N (by omega)]
theorem ct_add {P Q : Nat → Bool} {a : Nat} : ∀ N, (∀ x, x < N → x ≠ a → Q x = P x) → ct_ Q N ≤ ct_ P N + 1
  | 0 => fun _ => Nat.zero_le _
  | N + 1 => fun h => by
    unfold ct_
    by_cases e : N = a
    · rw [ct_ext N (fun x hx => h x (by omega) (by omega))]
      split <;> split <;> omega
    · have := ct_add (P := P) (Q := Q) (a := a) N (fun x hx => h x (by omega))
      rw [h N (by omega) e]
      omega
theorem ct_0 {P : Nat → Bool} : ∀ N, (∀ x, x < N → P x = false) → ct_ P N = 0
  | 0 => fun _ => rfl
  | N + 1 => fun h => by
    unfold ct_
    rw [ct_0 N (fun x hx => h x (by omega)), h N (by omega)]
    rfl
theorem ct_le (P : Nat → Bool) : ∀ N, ct_ P N ≤ N
  | 0 => Nat.le_refl _
  | N + 1 => by
    unfold ct_
    have := ct_le P N
    split <;> omega
theorem sm_ext {f g : Nat → Nat} : ∀ N, (∀ x, x < N → f x = g x) → sm_ f N = sm_ g N
  | 0 => fun _ => rfl
  | N + 1 => fun h => by
    unfold sm_
    rw [sm_ext N (fun x hx => h x (by omega)), h N (by omega)]
theorem sm_add {f g : Nat → Nat} {a : Nat} : ∀ N, (∀ x, x < N → x ≠ a → g x = f x) → g a ≤ f a + 1 → sm_ g N ≤ sm_ f N + 1
  | 0 => fun _ _ => Nat.zero_le _
  | N + 1 => fun h ha => by
    unfold sm_
    by_cases e : N = a
    · subst e
      rw [sm_ext N (fun x hx => h x (by omega) (by omega))]
      omega
    · have := sm_add (f := f) (g := g) (a := a) N (fun x hx => h x (by omega)) ha
      rw [h N (by omega) e]
      omega
theorem up_up {f : Nat → Nat} {k v w : Nat} : up_ (up_ f k v) k w = up_ f k w := by
  funext j
  unfold up_
  by_cases e : j = k
  · rw [if_pos e, if_pos e]
  · rw [if_neg e, if_neg e, if_neg e]
section
variable {n sn k x : Nat} {kd L ar pa ow lt lh ar' : Nat → Nat} {lx an vn : Nat → Int32}
theorem exS {P Q : Nat → Prop} (h : ∀ j, j < n → (P j ↔ Q j)) : (∃ j, j < n + 1 ∧ P j) ↔ (∃ j, j < n ∧ Q j) ∨ P n := by
  constructor
  · rintro ⟨j, h1, h2⟩
    by_cases e : j = n
    · subst e; exact Or.inr h2
    · exact Or.inl ⟨j, by omega, (h j (by omega)).mp h2⟩
  · rintro (⟨j, h1, h2⟩ | h2)
    · exact ⟨j, by omega, (h j h1).mpr h2⟩
    · exact ⟨n, by omega, h2⟩
theorem up_old {f : Nat → Nat} {v : Nat} {P : Nat → Prop} {j : Nat} (hj : j < n) : P (up_ f n v j) ↔ P (f j) := by rw [up_n (by omega)]
theorem fm_line0 (h : FM n sn kd L ar pa ow lt lh lx an vn) (k0 : k ≠ 0) (k1 : k ≠ 1) (k5 : k ≠ 5) (ha : ∀ j, j < n → ar' (4 * j + 1) = ar (4 * j + 1)) (hr : ∀ j, ar' j ≤ 72) (hx : k ≤ 2 ∨ k = 5 ∨ k = 6 → ar' (4 * n + 1) < 8) :
    FM (n + 1) sn (up_ kd n k) (up_ L (n + 1) (L n)) ar' pa ow lt lh lx an vn := by
  obtain ⟨h1, h2, h3, h4, h5, h6, h7, h8, h9⟩ := h
  have eL : ∀ j, j ≤ n → up_ L (n + 1) (L n) j = L j := fun j hj => up_n (by omega)
  have ek : ∀ j, j < n → up_ kd n k j = kd j := fun j hj => up_n (by omega)
  refine ⟨fun s y hy => ?_, fun s y hy => ?_, fun s y hy hs => ?_, fun s y j hy => ?_, fun i j hi hj ki kj e1 e2 => ?_, h6, ⟨fun j hj kj => ?_, fun s => (h7.2 s).imp id (fun z => Nat.lt_succ_of_lt z)⟩, Nat.le_succ_of_le h8, hr, fun i hi ki => ?_, fun i hi => by rw [up_n (by omega)]; exact h9.2.2 i (by omega)⟩
  · rw [h1 s y hy, exS (Q := fun j => (kd j = 0 ∨ kd j = 5) ∧ ar (4 * j + 1) = y ∧ L j = s) (fun j hj => by rw [ek j hj, ha j hj, eL j (by omega)]), up_s]
    exact ⟨Or.inl, fun w => w.elim id (fun v => v.1.elim (fun a => absurd a k0) (fun a => absurd a k5))⟩
  · rw [h2 s y hy, exS (Q := fun j => kd j = 1 ∧ ar (4 * j + 1) = y ∧ rc_ pa ow (L j) s) (fun j hj => by rw [ek j hj, ha j hj, eL j (by omega)]), up_s]
    exact ⟨Or.inl, fun w => w.elim id (fun w => absurd w.1 k1)⟩
  · rw [up_s] at hs
    exact h3 s y hy hs
  · rw [h4 s y j hy]
    by_cases e : j = n
    · subst e
      rw [up_s]
      exact ⟨fun w => absurd w.1 (Nat.lt_irrefl _), fun w => absurd w.2.1 k0⟩
    · constructor
      · rintro ⟨w1, w2⟩
        rw [ek j w1, ha j w1, eL j (by omega)]
        exact ⟨by omega, w2⟩
      · rintro ⟨w1, w2⟩
        rw [ek j (by omega), ha j (by omega), eL j (by omega)] at w2
        exact ⟨by omega, w2⟩
  · have ni : i ≠ n := by
      intro w; subst w; rw [up_s] at ki; omega
    have nj : j ≠ n := by
      intro w; subst w; rw [up_s] at kj; omega
    rw [ek i (by omega)] at ki
    rw [ek j (by omega)] at kj
    rw [ha i (by omega), ha j (by omega)] at e1
    rw [eL i (by omega), eL j (by omega)] at e2
    exact h5 i j (by omega) (by omega) ki kj e1 e2
  · have nj : j ≠ n := by
      intro w; subst w; rw [up_s] at kj; omega
    rw [ek j (by omega)] at kj
    rw [eL j (by omega)]
    exact h7.1 j (by omega) kj
  · by_cases e : i = n
    · subst e; rw [up_s] at ki; exact hx ki
    · rw [ek i (by omega)] at ki
      rw [ha i (by omega)]
      exact h9.2.1 i (by omega) ki
theorem fm_lex (h : FM n sn kd L ar pa ow lt lh lx an vn) (w : ws_ sn pa ow) (hL : L n < sn) (hn : n < 48) (hk : k = 0 ∨ k = 5) (hx8 : x < 8) (ha : ∀ j, j < n → ar' (4 * j + 1) = ar (4 * j + 1)) (hx : ar' (4 * n + 1) = x) (hr : ∀ j, ar' j ≤ 72)
    (g1 : bt (lx (L n)) x = false) (g2 : bt (vn (L n)) x = false) :
    FM (n + 1) sn (up_ kd n k) (up_ L (n + 1) (L n)) ar' pa ow (if k = 0 then up_ lt (8 * L n + x) (n + 1) else lt) (if k = 5 then up_ lh (L n) n else lh) (upd lx (L n) (lx (L n) ||| ((1 : Int32) <<< (nI x &&& 31)))) (upd an (L n) (an (L n) ||| ((1 : Int32) <<< (nI x &&& 31)))) vn := by
  obtain ⟨h1, h2, h3, h4, h5, h6, h7, h8, h9⟩ := h
  have eL : ∀ j, j ≤ n → up_ L (n + 1) (L n) j = L j := fun j hj => up_n (by omega)
  have ek : ∀ j, j < n → up_ kd n k j = kd j := fun j hj => up_n (by omega)
  have no : ∀ j, j < n → (kd j = 0 ∨ kd j = 5) → ar (4 * j + 1) = x → L j = L n → False := by
    intro j hj kj aj lj
    have := (h1 (L n) x hx8).mpr ⟨j, hj, kj, aj, lj⟩
    rw [this] at g1
    exact absurd g1 (by decide)
  have bl : ∀ s y, y < 8 → (bt (upd lx (L n) (lx (L n) ||| ((1 : Int32) <<< (nI x &&& 31))) s) y = true ↔ bt (lx s) y = true ∨ (s = L n ∧ y = x)) := by
    intro s y hy
    by_cases e : s = L n
    · subst e
      rw [pk_us, bs_s (by omega) (by omega)]
      simp
    · rw [pk_un e]
      simp [e]
  refine ⟨fun s y hy => ?_, fun s y hy => ?_, fun s y hy hs => ?_, fun s y j hy => ?_, fun i j hi hj ki kj e1 e2 => ?_, fun s y hy hb => ?_, ⟨fun j hj kj => ?_, fun s => ?_⟩, ?_, hr, fun i hi ki => ?_, fun i hi => by rw [up_n (by omega)]; exact h9.2.2 i (by omega)⟩
  · rw [bl s y hy, h1 s y hy, exS (Q := fun j => (kd j = 0 ∨ kd j = 5) ∧ ar (4 * j + 1) = y ∧ L j = s) (fun j hj => by rw [ek j hj, ha j hj, eL j (by omega)]), up_s, hx, eL n (Nat.le_refl _)]
    constructor
    · rintro (a | ⟨a, b⟩)
      · exact Or.inl a
      · exact Or.inr ⟨hk, b.symm, a.symm⟩
    · rintro (a | ⟨-, b, c⟩)
      · exact Or.inl a
      · exact Or.inr ⟨c.symm, b.symm⟩
  · rw [h2 s y hy, exS (Q := fun j => kd j = 1 ∧ ar (4 * j + 1) = y ∧ rc_ pa ow (L j) s) (fun j hj => by rw [ek j hj, ha j hj, eL j (by omega)]), up_s]
    exact ⟨Or.inl, fun z => z.elim id (fun z => by omega)⟩
  · rw [up_s] at hs
    have old := h3 s y hy hs
    by_cases e : s = L n
    · subst e
      rw [pk_us, bs_s (by omega) (by omega)]
      rw [Bool.or_eq_true, decide_eq_true_iff, old]
      constructor
      · rintro (⟨t, t1, t2⟩ | t)
        · exact ⟨t, t1, (bl t y hy).mpr (Or.inl t2)⟩
        · exact ⟨L n, rc_self _ _ _, (bl _ y hy).mpr (Or.inr ⟨rfl, t⟩)⟩
      · rintro ⟨t, t1, t2⟩
        rcases (bl t y hy).mp t2 with z | z
        · exact Or.inl ⟨t, t1, z⟩
        · exact Or.inr z.2
    · rw [pk_un e, old]
      have les := ac_le w _ hL hs
      constructor
      · rintro ⟨t, t1, t2⟩
        exact ⟨t, t1, (bl t y hy).mpr (Or.inl t2)⟩
      · rintro ⟨t, t1, t2⟩
        rcases (bl t y hy).mp t2 with z | z
        · exact ⟨t, t1, z⟩
        · have := (rc_le w s (by omega) t1).1
          omega
  · by_cases e0 : k = 0
    · rw [if_pos e0]
      by_cases e : s = L n ∧ y = x
      · obtain ⟨rfl, rfl⟩ := e
        rw [up_s]
        constructor
        · intro z
          have : j = n := by omega
          subst this
          rw [up_s, eL _ (Nat.le_refl _)]
          exact ⟨by omega, e0, hx, rfl⟩
        · rintro ⟨z1, z2, z3, z4⟩
          by_cases ej : j = n
          · omega
          · rw [ek j (by omega)] at z2
            rw [ha j (by omega)] at z3
            rw [eL j (by omega)] at z4
            exact absurd z4 (fun z4 => no j (by omega) (Or.inl z2) z3 z4)
      · rw [up_n (by omega), h4 s y j hy]
        constructor
        · rintro ⟨z1, z2⟩
          rw [ek j z1, ha j z1, eL j (by omega)]
          exact ⟨by omega, z2⟩
        · rintro ⟨z1, z2, z3, z4⟩
          by_cases ej : j = n
          · subst ej
            rw [hx] at z3
            rw [eL j (Nat.le_refl _)] at z4
            exact absurd ⟨z4.symm, z3.symm⟩ e
          · rw [ek j (by omega)] at z2
            rw [ha j (by omega)] at z3
            rw [eL j (by omega)] at z4
            exact ⟨by omega, z2, z3, z4⟩
    · rw [if_neg e0, h4 s y j hy]
      constructor
      · rintro ⟨z1, z2⟩
        rw [ek j z1, ha j z1, eL j (by omega)]
        exact ⟨by omega, z2⟩
      · rintro ⟨z1, z2, z3, z4⟩
        have ej : j ≠ n := by
          intro z; subst z; rw [up_s] at z2; exact e0 z2
        rw [ek j (by omega)] at z2
        rw [ha j (by omega)] at z3
        rw [eL j (by omega)] at z4
        exact ⟨by omega, z2, z3, z4⟩
  · rw [eL i (by omega), eL j (by omega)] at e2
    by_cases ei : i = n
    · by_cases ej : j = n
      · omega
      · subst ei
        rw [ek j (by omega)] at kj
        rw [hx, ha j (by omega)] at e1
        exact (no j (by omega) kj e1.symm e2.symm).elim
    · by_cases ej : j = n
      · subst ej
        rw [ek i (by omega)] at ki
        rw [hx, ha i (by omega)] at e1
        exact (no i (by omega) ki e1 e2).elim
      · rw [ek i (by omega)] at ki
        rw [ek j (by omega)] at kj
        rw [ha i (by omega), ha j (by omega)] at e1
        exact h5 i j (by omega) (by omega) ki kj e1 e2
  · rcases (bl s y hy).mp hb with z | ⟨rfl, rfl⟩
    · exact h6 s y hy z
    · exact g2
  · by_cases e5 : k = 5
    · rw [if_pos e5, eL j (by omega)]
      by_cases e : L j = L n
      · rw [e, up_s]; omega
      · rw [up_n e]
        have ej : j ≠ n := fun z => e (by rw [z])
        rw [ek j (by omega)] at kj
        exact h7.1 j (by omega) kj
    · rw [if_neg e5, eL j (by omega)]
      have ej : j ≠ n := by
        intro z; subst z; rw [up_s] at kj; exact e5 kj
      rw [ek j (by omega)] at kj
      exact h7.1 j (by omega) kj
  · split
    · by_cases e : s = L n
      · rw [e, up_s]; exact Or.inr (Nat.lt_succ_self _)
      · rw [up_n e]; exact (h7.2 s).imp id (fun z => Nat.lt_succ_of_lt z)
    · exact (h7.2 s).imp id (fun z => Nat.lt_succ_of_lt z)
  · refine Nat.le_trans (sm_add (f := fun s => ct_ (db_ lx vn ow s) 8) (a := L n) sn (fun s hs e => ?_) ?_) (Nat.succ_le_succ h8)
    · refine ct_ext 8 (fun y hy => ?_)
      unfold db_
      rw [pk_un e]
    · refine ct_add (a := x) 8 (fun y hy e => ?_)
      unfold db_
      rw [pk_us, bs_s (by omega) (by omega)]
      simp [e]
  · by_cases e : i = n
    · subst e; rw [hx]; exact hx8
    · rw [ek i (by omega)] at ki
      rw [ha i (by omega)]
      exact h9.2.1 i (by omega) ki
theorem fm_var {vn' : Nat → Int32} (h : FM n sn kd L ar pa ow lt lh lx an vn) (w : ws_ sn pa ow) (hL : L n < sn) (hx8 : x < 8) (ha : ∀ j, j < n → ar' (4 * j + 1) = ar (4 * j + 1)) (hx : ar' (4 * n + 1) = x) (hr : ∀ j, ar' j ≤ 72)
    (g1 : bt (an (L n)) x = false) (v1 : ∀ s, rc_ pa ow (L n) s → vn' s = vn s ||| ((1 : Int32) <<< (nI x &&& 31))) (v2 : ∀ s, ¬ rc_ pa ow (L n) s → vn' s = vn s) :
    FM (n + 1) sn (up_ kd n 1) (up_ L (n + 1) (L n)) ar' pa ow lt lh lx an vn' := by
  obtain ⟨h1, h2, h3, h4, h5, h6, h7, h8, h9⟩ := h
  have eL : ∀ j, j ≤ n → up_ L (n + 1) (L n) j = L j := fun j hj => up_n (by omega)
  have ek : ∀ j, j < n → up_ kd n 1 j = kd j := fun j hj => up_n (by omega)
  have bl : ∀ s y, y < 8 → (bt (vn' s) y = true ↔ bt (vn s) y = true ∨ (rc_ pa ow (L n) s ∧ y = x)) := by
    intro s y hy
    by_cases e : rc_ pa ow (L n) s
    · rw [v1 s e, bs_s (by omega) (by omega)]
      simp [e]
    · rw [v2 s e]
      simp [e]
  refine ⟨fun s y hy => ?_, fun s y hy => ?_, fun s y hy hs => ?_, fun s y j hy => ?_, fun i j hi hj ki kj e1 e2 => ?_, fun s y hy hb => ?_, ⟨fun j hj kj => ?_, fun s => (h7.2 s).imp id (fun z => Nat.lt_succ_of_lt z)⟩, ?_, hr, fun i hi ki => ?_, fun i hi => by rw [up_n (by omega)]; exact h9.2.2 i (by omega)⟩
  · rw [h1 s y hy, exS (Q := fun j => (kd j = 0 ∨ kd j = 5) ∧ ar (4 * j + 1) = y ∧ L j = s) (fun j hj => by rw [ek j hj, ha j hj, eL j (by omega)]), up_s]
    exact ⟨Or.inl, fun z => z.elim id (fun z => by omega)⟩
  · rw [bl s y hy, h2 s y hy, exS (Q := fun j => kd j = 1 ∧ ar (4 * j + 1) = y ∧ rc_ pa ow (L j) s) (fun j hj => by rw [ek j hj, ha j hj, eL j (by omega)]), up_s, hx, eL n (Nat.le_refl _)]
    constructor
    · rintro (a | ⟨a, b⟩)
      · exact Or.inl a
      · exact Or.inr ⟨rfl, b.symm, a⟩
    · rintro (a | ⟨-, b, c⟩)
      · exact Or.inl a
      · exact Or.inr ⟨c, b.symm⟩
  · rw [up_s] at hs
    exact h3 s y hy hs
  · rw [h4 s y j hy]
    constructor
    · rintro ⟨z1, z2⟩
      rw [ek j z1, ha j z1, eL j (by omega)]
      exact ⟨by omega, z2⟩
    · rintro ⟨z1, z2, z3, z4⟩
      have ej : j ≠ n := by
        intro z; subst z; rw [up_s] at z2; omega
      rw [ek j (by omega)] at z2
      rw [ha j (by omega)] at z3
      rw [eL j (by omega)] at z4
      exact ⟨by omega, z2, z3, z4⟩
  · have ni : i ≠ n := by
      intro z; subst z; rw [up_s] at ki; omega
    have nj : j ≠ n := by
      intro z; subst z; rw [up_s] at kj; omega
    rw [ek i (by omega)] at ki
    rw [ek j (by omega)] at kj
    rw [ha i (by omega), ha j (by omega)] at e1
    rw [eL i (by omega), eL j (by omega)] at e2
    exact h5 i j (by omega) (by omega) ki kj e1 e2
  · cases hv : bt (vn' s) y with
    | false => rfl
    | true =>
      rcases (bl s y hy).mp hv with z | ⟨z1, rfl⟩
      · rw [h6 s y hy hb] at z
        exact absurd z (by decide)
      · have := (h3 (L n) y hy (ac_self _ _)).mpr ⟨s, z1, hb⟩
        rw [this] at g1
        exact absurd g1 (by decide)
  · have nj : j ≠ n := by
      intro z; subst z; rw [up_s] at kj; omega
    rw [ek j (by omega)] at kj
    rw [eL j (by omega)]
    exact h7.1 j (by omega) kj
  · refine Nat.le_trans (sm_add (f := fun s => ct_ (db_ lx vn ow s) 8) (a := ow (L n)) sn (fun s hs e => ?_) ?_) (Nat.succ_le_succ h8)
    · refine ct_ext 8 (fun y hy => ?_)
      unfold db_
      by_cases eo : ow s = s
      · have : ¬ rc_ pa ow (L n) s := by
          intro z
          have := (rc_le w _ hL z).2
          omega
        rw [v2 s this]
      · rw [if_neg eo, if_neg eo]
    · refine ct_add (a := x) 8 (fun y hy e => ?_)
      have o := rc_own w _ hL
      unfold db_
      rw [if_pos o.2.1, if_pos o.2.1, v1 _ o.1, bs_s (by omega) (by omega)]
      simp [e]
  · by_cases e : i = n
    · subst e; rw [hx]; exact hx8
    · rw [ek i (by omega)] at ki
      rw [ha i (by omega)]
      exact h9.2.1 i (by omega) ki
theorem fm_pop {s' : Nat} (h : FM n sn kd L ar pa ow lt lh lx an vn) (hs : ac_ pa (L n) s') : FM n sn kd (up_ L n s') ar pa ow lt lh lx an vn := by
  obtain ⟨h1, h2, h3, h4, h5, h6, h7, h8, h9⟩ := h
  have eL : ∀ j, j < n → up_ L n s' j = L j := fun j hj => up_n (by omega)
  refine ⟨fun s y hy => ?_, fun s y hy => ?_, fun s y hy hss => ?_, fun s y j hy => ?_, fun i j hi hj ki kj e1 e2 => ?_, h6, ⟨fun j hj kj => ?_, h7.2⟩, h8, h9⟩
  · rw [h1 s y hy]
    constructor
    · rintro ⟨j, j1, j2⟩
      exact ⟨j, j1, by rw [eL j j1]; exact j2⟩
    · rintro ⟨j, j1, j2⟩
      rw [eL j j1] at j2
      exact ⟨j, j1, j2⟩
  · rw [h2 s y hy]
    constructor
    · rintro ⟨j, j1, j2⟩
      exact ⟨j, j1, by rw [eL j j1]; exact j2⟩
    · rintro ⟨j, j1, j2⟩
      rw [eL j j1] at j2
      exact ⟨j, j1, j2⟩
  · rw [up_s] at hss
    exact h3 s y hy (ac_tr hs hss)
  · rw [h4 s y j hy]
    constructor
    · rintro ⟨z1, z2⟩
      rw [eL j z1]
      exact ⟨z1, z2⟩
    · rintro ⟨z1, z2⟩
      rw [eL j z1] at z2
      exact ⟨z1, z2⟩
  · rw [eL i hi, eL j hj] at e2
    exact h5 i j hi hj ki kj e1 e2
  · rw [eL j hj]
    exact h7.1 j hj kj
theorem fm_ns {o : Nat} {a : Int32} (h : FM n sn kd L ar pa ow lt lh lx an vn) (w : ws_ sn pa ow) (hL : ∀ i, i ≤ n → L i < sn) (ho : (o = sn ∧ a = 0) ∨ (o = ow (L n) ∧ a = an (L n))) :
    FM n (sn + 1) kd (up_ L n sn) ar (up_ pa sn (L n)) (up_ ow sn o) lt lh lx (upd an sn a) vn := by
  obtain ⟨h1, h2, h3, h4, h5, h6, h7, h8, h9⟩ := h
  have eL : ∀ j, j < n → up_ L n sn j = L j := fun j hj => up_n (by omega)
  have hLn := hL n (Nat.le_refl _)
  have l0 : ∀ y, y < 8 → bt (lx sn) y = false := by
    intro y hy
    cases hb : bt (lx sn) y with
    | false => rfl
    | true =>
      obtain ⟨j, j1, -, -, j2⟩ := (h1 sn y hy).mp hb
      have := hL j (by omega)
      omega
  have v0 : ∀ y, y < 8 → bt (vn sn) y = false := by
    intro y hy
    cases hb : bt (vn sn) y with
    | false => rfl
    | true =>
      obtain ⟨j, j1, -, -, j2⟩ := (h2 sn y hy).mp hb
      have := hL j (by omega)
      have := (rc_le w (L j) this j2).1
      omega
  refine ⟨fun s y hy => ?_, fun s y hy => ?_, fun s y hy hss => ?_, fun s y j hy => ?_, fun i j hi hj ki kj e1 e2 => ?_, h6, ⟨fun j hj kj => ?_, h7.2⟩, ?_, h9⟩
  · rw [h1 s y hy]
    constructor
    · rintro ⟨j, j1, j2⟩
      exact ⟨j, j1, by rw [eL j j1]; exact j2⟩
    · rintro ⟨j, j1, j2⟩
      rw [eL j j1] at j2
      exact ⟨j, j1, j2⟩
  · rw [h2 s y hy]
    constructor
    · rintro ⟨j, j1, j2, j3, j4⟩
      exact ⟨j, j1, j2, j3, by rw [eL j j1, rc_new w _ (hL j (by omega))]; exact j4⟩
    · rintro ⟨j, j1, j2, j3, j4⟩
      rw [eL j j1, rc_new w _ (hL j (by omega))] at j4
      exact ⟨j, j1, j2, j3, j4⟩
  · rw [up_s, ac_it, up_s, ac_new w _ hLn] at hss
    by_cases e : s = sn
    · subst e
      rw [pk_us]
      rcases ho with ⟨o1, o2⟩ | ⟨o1, o2⟩
      · rw [o2, b_0]
        constructor
        · intro z; exact absurd z (by decide)
        · rintro ⟨t, t1, t2⟩
          rcases rc_it.mp t1 with z | z
          · rw [← z, l0 y hy] at t2
            exact t2
          · rw [up_s] at z
            exact absurd o1 z.1
      · rw [o2, h3 (L n) y hy (ac_self _ _)]
        have ol := (rc_own w _ hLn).2.2
        constructor
        · rintro ⟨t, t1, t2⟩
          refine ⟨t, rc_it.mpr (Or.inr ⟨?_, ?_⟩), t2⟩
          · rw [up_s, o1]; omega
          · rw [up_s, rc_new w _ hLn]; exact t1
        · rintro ⟨t, t1, t2⟩
          rcases rc_it.mp t1 with z | z
          · rw [← z, l0 y hy] at t2
            exact absurd t2 (by decide)
          · rw [up_s (f := pa), rc_new w _ hLn] at z
            exact ⟨t, z.2, t2⟩
    · have hs2 : ac_ pa (L n) s := hss.elim (fun z => absurd z.symm e) id
      have les := ac_le w _ hLn hs2
      rw [pk_un e, h3 s y hy hs2]
      constructor
      · rintro ⟨t, t1, t2⟩
        exact ⟨t, (rc_new w s (by omega)).mpr t1, t2⟩
      · rintro ⟨t, t1, t2⟩
        exact ⟨t, (rc_new w s (by omega)).mp t1, t2⟩
  · rw [h4 s y j hy]
    constructor
    · rintro ⟨z1, z2⟩
      rw [eL j z1]
      exact ⟨z1, z2⟩
    · rintro ⟨z1, z2⟩
      rw [eL j z1] at z2
      exact ⟨z1, z2⟩
  · rw [eL i hi, eL j hj] at e2
    exact h5 i j hi hj ki kj e1 e2
  · rw [eL j hj]
    exact h7.1 j hj kj
  · unfold ms_ sm_
    rw [sm_ext (g := fun s => ct_ (db_ lx vn ow s) 8) sn (fun s hs => ?_), ct_0 8 (fun y hy => ?_)]
    · exact h8
    · unfold db_
      rw [l0 y hy, v0 y hy]
      simp
    · refine ct_ext 8 (fun y hy => ?_)
      unfold db_
      rw [up_n (by omega)]
end
end
section
theorem uj_ (f : Nat → Nat) (n v : Nat) : upd (fun i => nI (f i)) n (nI v) = fun i => nI (up_ f n v i) := by
  funext j
  unfold upd up_
  by_cases e : j = n
  · rw [if_pos e, if_pos e]
  · rw [if_neg e, if_neg e]
theorem uk_ {f g : Nat → Nat} {n m : Nat} (hn : n < 2 ^ 31) (hm : m < 2 ^ 31) : upd (fun i => nI (f i)) (nI n).toNatClampNeg ((fun i => nI (g i)) (nI m).toNatClampNeg) = fun i => nI (up_ f n (g m) i) := by
  rw [nI_clamp hn, nI_clamp hm]
  exact uj_ f n (g m)
theorem ul_ {f g : Nat → Nat} {n m : Nat} (hn : n < 2 ^ 31) (hm : m < 2 ^ 31) : upd (fun i => nI (f i)) (nI n).toNatClampNeg ((fun i => nI (g i)) (nI m).toNatClampNeg + 1) = fun i => nI (up_ f n (g m + 1) i) := by
  rw [nI_clamp hn, nI_clamp hm]
  show upd (fun i => nI (f i)) n (nI (g m) + 1) = _
  rw [nI_1]
  exact uj_ f n (g m + 1)
theorem m8_ (s x : Nat) : (8 : Int32) * nI s + nI x = nI (8 * s + x) := by
  rw [show (8 : Int32) = nI 8 from rfl, pk_mul, nI_add]
theorem m4_ (s x : Nat) : (4 : Int32) * nI s + nI x = nI (4 * s + x) := by
  rw [show (4 : Int32) = nI 4 from rfl, pk_mul, nI_add]
theorem m40_ (s : Nat) : (4 : Int32) * nI s = nI (4 * s) := by
  rw [show (4 : Int32) = nI 4 from rfl, pk_mul]
section
variable {mL mT mD cm n sp sn oc : Nat} {kd ls oe od ar se ol pl pa ow sl lo lh lt : Nat → Nat} {lx an vn : Nat → Int32} {c : CT} {d : DT}
theorem xw_ns {post : SX → Prop} {line : Nat} (hs : sn < 64) (hp : sp < 64) (hl : line < 48) (hk : kd line ≤ 14)
    (p1 : kd line = 5 ∨ kd line = 6 → post (XZ mL mT mD cm n sn (sn + 1) oc kd ls oe (up_ od line sn) ar se ol pl (up_ pa sn sp) (up_ ow sn sn) (up_ sl sn line) (up_ lo sn 0) lh lt lx (upd an sn 0) vn c d))
    (p2 : kd line = 9 → post (XZ mL mT mD cm n sn (sn + 1) oc kd ls oe (up_ od line sn) ar se ol pl (up_ pa sn sp) (up_ ow sn (ow sp)) (up_ sl sn line) (up_ lo sn (oe line + 1)) lh lt lx (upd an sn (an sp)) vn c d))
    (p3 : kd line ≠ 5 → kd line ≠ 6 → kd line ≠ 9 → post (XZ mL mT mD cm n sn (sn + 1) oc kd ls oe (up_ od line sn) ar se ol pl (up_ pa sn sp) (up_ ow sn (ow sp)) (up_ sl sn line) (up_ lo sn (lo sp)) lh lt lx (upd an sn (an sp)) vn c d)) :
    wpX_newScope post (XZ mL mT mD cm n sp sn oc kd ls oe od ar se ol pl pa ow sl lo lh lt lx an vn c d) (nI line) := by
  have vl : vp_in (nI line) 48 := vp_in_nI hl (by omega)
  have vs : vp_in (nI sn) 64 := vp_in_nI hs (by omega)
  have vp : vp_in (nI sp) 64 := vp_in_nI hp (by omega)
  refine nm_r (nI_1 _) (And.intro vl ?_)
  have A : kd line = 5 ∨ kd line = 6 → wX_newScope_33 post (nI line) (nI sn) 0 1 2 3 0 1 2 3 4 5 (-1) 48 512 (nI (mL)) (nI (mT)) (nI (mD)) (nI (cm)) (nI (n)) (nI (sp)) (nI ((sn + 1))) (nI (oc)) (in_ d) (ss_ d) (nI (cu_ d)) (nI (pc_ d)) (nI (tk_ d)) (nI (ou_ d)) (nI (ev_ d)) (nI (ht_ d)) (nI (cl_ d)) (nI (fc_ d)) (fa_ d) (fun i => nI (kd i)) (fun i => nI (ls i)) (fun i => nI (oe i)) (fun i => nI (od i)) (fun i => nI (ar i)) (fun i => nI (se i)) (fun i => nI (ol i)) (fun i => nI (pl i)) (fun i => nI (sv_ d i)) (fun i => nI (sw_ d i)) (fun i => nI (pa i)) (fun i => nI (ow i)) (fun i => nI (sl i)) (fun i => nI (lo i)) lx an vn (fun i => nI (lh i)) (cp_ c) (fun i => nI (st_ c i)) (fun i => nI (nc_ c i)) (fun i => nI (cc_ c i)) (fun i => nI (hd_ c i)) (fun i => nI (lt i)) (fun i => nI (hm_ c i)) (fun i => nI (rm_ c i)) (ri_ c) (fun i => nI (rh_ c i)) (me_ d) (fun i => nI (fs_ d i)) (fun i => nI (fe_ d i)) (ot_ d) (li_ d) := by
    intro hh
    refine And.intro vs (nm_r (ug_ sp (by omega)) ⟨vs, nm_r (ug_ line (by omega)) ⟨vl, nm_r (ug_ sn (by omega)) ?_⟩⟩)
    refine br_f (by decide) (And.intro vs (nm_r (ug_ sn (by omega)) ?_))
    refine br_f (by decide) (And.intro vs (nm_r (ub_ (by omega)) ⟨vl, ?_⟩))
    refine pk_eq (kd line) 9 (fun h => by omega) (fun h => ?_) (ga_ rfl (by omega)) rfl (by omega) (by omega)
    exact br_f (by decide) ⟨vs, nm_r (ug_ 0 (by omega)) (p1 hh)⟩
  refine pk_eq (kd line) 5 (fun h => A (Or.inl h)) (fun h => ⟨vl, ?_⟩) (ga_ rfl (by omega)) rfl (by omega) (by omega)
  refine pk_eq (kd line) 6 (fun h => A (Or.inr h)) (fun h6 => ?_) (ga_ rfl (by omega)) rfl (by omega) (by omega)
  refine And.intro vs (nm_r (ug_ sp (by omega)) ⟨vs, nm_r (ug_ line (by omega)) ⟨vl, nm_r (ug_ sn (by omega)) ?_⟩⟩)
  refine br_t rfl ⟨vp, And.intro vs (nm_r (uk_ (by omega) (by omega)) ?_)⟩
  refine br_t rfl ⟨vp, And.intro vs (nm_r (e' := upd an sn (an sp)) (by rw [nI_clamp (by omega), nI_clamp (by omega)]) ⟨vl, ?_⟩)⟩
  refine pk_eq (kd line) 9 (fun h => ⟨vl, vs, nm_r (ul_ (by omega) (by omega)) (p2 h)⟩) (fun h9 => ?_) (ga_ rfl (by omega)) rfl (by omega) (by omega)
  exact br_t rfl ⟨vp, vs, nm_r (uk_ (by omega) (by omega)) (p3 h h6 h9)⟩
theorem xw_d36 {post : SX → Prop} {k x : Nat} (hk : k = 0 ∨ k = 5) (hp : sp < 64) (h : post (XZ mL mT mD cm n sp sn oc kd ls oe od ar se ol pl pa ow sl lo lh lt (upd lx sp (lx sp ||| ((1 : Int32) <<< (nI x &&& 31)))) (upd an sp (an sp ||| ((1 : Int32) <<< (nI x &&& 31)))) vn c d)) : wX_declare_36 post (nI k) (nI x) 0 1 2 3 0 1 2 3 4 5 (-1) 48 512 (nI (mL)) (nI (mT)) (nI (mD)) (nI (cm)) (nI (n)) (nI (sp)) (nI (sn)) (nI (oc)) (in_ d) (ss_ d) (nI (cu_ d)) (nI (pc_ d)) (nI (tk_ d)) (nI (ou_ d)) (nI (ev_ d)) (nI (ht_ d)) (nI (cl_ d)) (nI (fc_ d)) (fa_ d) (fun i => nI (kd i)) (fun i => nI (ls i)) (fun i => nI (oe i)) (fun i => nI (od i)) (fun i => nI (ar i)) (fun i => nI (se i)) (fun i => nI (ol i)) (fun i => nI (pl i)) (fun i => nI (sv_ d i)) (fun i => nI (sw_ d i)) (fun i => nI (pa i)) (fun i => nI (ow i)) (fun i => nI (sl i)) (fun i => nI (lo i)) lx an vn (fun i => nI (lh i)) (cp_ c) (fun i => nI (st_ c i)) (fun i => nI (nc_ c i)) (fun i => nI (cc_ c i)) (fun i => nI (hd_ c i)) (fun i => nI (lt i)) (fun i => nI (hm_ c i)) (fun i => nI (rm_ c i)) (ri_ c) (fun i => nI (rh_ c i)) (me_ d) (fun i => nI (fs_ d i)) (fun i => nI (fe_ d i)) (ot_ d) (li_ d) := by
  have vp : vp_in (nI sp) 64 := vp_in_nI hp (by omega)
  have k1 : ¬ nI k = 1 := by rcases hk with rfl | rfl <;> decide
  refine br_f k1 ⟨vp, vp, nm_r (e' := upd lx sp (lx sp ||| ((1 : Int32) <<< (nI x &&& 31)))) (by rw [nI_clamp (by omega)]) ?_⟩
  refine br_f k1 ⟨vp, vp, nm_r (e' := upd an sp (an sp ||| ((1 : Int32) <<< (nI x &&& 31)))) (by rw [nI_clamp (by omega)]) ?_⟩
  refine ⟨1, ?_⟩
  rw [wX_declare_85]
  exact br_f k1 h
theorem xw_let {post : SX → Prop} {line x : Nat} (hp : sp < 64) (hx : x < 8) (h : post (XZ mL mT mD cm n sp sn oc kd ls oe od ar se ol pl pa ow sl lo lh (up_ lt (8 * sp + x) (line + 1)) (upd lx sp (lx sp ||| ((1 : Int32) <<< (nI x &&& 31)))) (upd an sp (an sp ||| ((1 : Int32) <<< (nI x &&& 31)))) vn c d)) : wpX_declare post (XZ mL mT mD cm n sp sn oc kd ls oe od ar se ol pl pa ow sl lo lh lt lx an vn c d) (nI line) 0 (nI x) := by
  refine br_t rfl ⟨pk_in (8 * sp + x) 512 (by omega) (m8_ _ _) (by omega), nm_r (e' := fun i => nI (up_ lt (8 * sp + x) (line + 1) i)) ?_ ?_⟩
  · rw [nI_1]
    exact uh_ (m8_ _ _) (by omega)
  · exact br_f (by decide) (xw_d36 (k := 0) (Or.inl rfl) hp h)
theorem xw_fun {post : SX → Prop} {line x : Nat} (hp : sp < 64) (h : post (XZ mL mT mD cm n sp sn oc kd ls oe od ar se ol pl pa ow sl lo (up_ lh sp line) lt (upd lx sp (lx sp ||| ((1 : Int32) <<< (nI x &&& 31)))) (upd an sp (an sp ||| ((1 : Int32) <<< (nI x &&& 31)))) vn c d)) : wpX_declare post (XZ mL mT mD cm n sp sn oc kd ls oe od ar se ol pl pa ow sl lo lh lt lx an vn c d) (nI line) 5 (nI x) := by
  have vp : vp_in (nI sp) 64 := vp_in_nI hp (by omega)
  refine br_f (by decide) (br_t rfl ⟨vp, nm_r (ug_ line (by omega)) ?_⟩)
  exact xw_d36 (k := 5) (Or.inr rfl) hp h
theorem xw_d85 {post : SX → Prop} {x : Nat} (hx : x < 8) (w : ws_ sn pa ow) (h64 : sn ≤ 49) : ∀ s, s < sn → ∀ t N vn, s + t ≤ 48 → s < N →
    (∀ vn', (∀ u, rc_ pa ow s u → vn' u = vn u ||| ((1 : Int32) <<< (nI x &&& 31))) → (∀ u, ¬ rc_ pa ow s u → vn' u = vn u) → post (XZ mL mT mD cm n sp sn oc kd ls oe od ar se ol pl pa ow sl lo lh lt lx an vn' c d)) →
    wX_declare_85 post 1 (nI x) 0 1 2 3 0 1 2 3 4 5 (-1) 48 512 (nI (mL)) (nI (mT)) (nI (mD)) (nI (cm)) (nI (n)) (nI (sp)) (nI (sn)) (nI (oc)) (in_ d) (ss_ d) (nI (cu_ d)) (nI (pc_ d)) (nI (tk_ d)) (nI (ou_ d)) (nI (ev_ d)) (nI (ht_ d)) (nI (cl_ d)) (nI (fc_ d)) (fa_ d) N (nI s) (nI t) (fun i => nI (kd i)) (fun i => nI (ls i)) (fun i => nI (oe i)) (fun i => nI (od i)) (fun i => nI (ar i)) (fun i => nI (se i)) (fun i => nI (ol i)) (fun i => nI (pl i)) (fun i => nI (sv_ d i)) (fun i => nI (sw_ d i)) (fun i => nI (pa i)) (fun i => nI (ow i)) (fun i => nI (sl i)) (fun i => nI (lo i)) lx an vn (fun i => nI (lh i)) (cp_ c) (fun i => nI (st_ c i)) (fun i => nI (nc_ c i)) (fun i => nI (cc_ c i)) (fun i => nI (hd_ c i)) (fun i => nI (lt i)) (fun i => nI (hm_ c i)) (fun i => nI (rm_ c i)) (ri_ c) (fun i => nI (rh_ c i)) (me_ d) (fun i => nI (fs_ d i)) (fun i => nI (fe_ d i)) (ot_ d) (li_ d) := by
  refine rc_ind w (fun s hs ih => ?_)
  intro t N vn ht hN hp
  cases N with
  | zero => omega
  | succ N =>
    rw [wX_declare_85]
    have vs : vp_in (nI s) 64 := vp_in_nI (by omega) (by omega)
    refine br_t rfl (br_f (nI_ge (b := 64) (by omega) (by decide)) ⟨vs, vs, nm_r (e' := upd vn s (vn s ||| ((1 : Int32) <<< (nI x &&& 31)))) ?_ ⟨vs, ?_⟩⟩)
    · rw [nI_clamp (by omega)]
    · have hon : ow s ≤ s := (rc_own w s hs).2.2
      refine pk_eq (ow s) s (fun ho => ?_) (fun ho => ⟨vs, ?_⟩) (ga_ rfl (by omega)) rfl (by omega) (by omega)
      · refine hp _ (fun u hu => ?_) (fun u hu => ?_)
        · rcases rc_it.mp hu with z | z
          · subst z; exact pk_us
          · exact absurd ho z.1
        · refine pk_un (fun z => hu ?_)
          subst z; exact rc_self _ _ _
      · obtain ⟨p1, p2, p3⟩ := ih ho
        refine nm_r (e' := nI (pa s)) (ga_ rfl (by omega)) (nm_r (nI_1 t) ?_)
        refine p3 (t + 1) N _ (by omega) (by omega) (fun vn' a1 a2 => ?_)
        have ns : ¬ rc_ pa ow (pa s) s := by
          intro z
          have := (rc_le w _ (by omega) z).1
          omega
        refine hp vn' (fun u hu => ?_) (fun u hu => ?_)
        · rcases rc_it.mp hu with z | z
          · subst z; rw [a2 _ ns]; exact pk_us
          · rw [a1 u z.2, pk_un]
            intro zz; subst zz; exact ns z.2
        · rw [a2 u (fun z => hu (rc_up1 ho z)), pk_un]
          intro z; subst z; exact hu (rc_self _ _ _)
theorem xw_var {post : SX → Prop} {line x : Nat} (hx : x < 8) (w : ws_ sn pa ow) (h64 : sn ≤ 49) (hp : sp < sn)
    (h : ∀ vn', (∀ u, rc_ pa ow sp u → vn' u = vn u ||| ((1 : Int32) <<< (nI x &&& 31))) → (∀ u, ¬ rc_ pa ow sp u → vn' u = vn u) → post (XZ mL mT mD cm n sp sn oc kd ls oe od ar se ol pl pa ow sl lo lh lt lx an vn' c d)) : wpX_declare post (XZ mL mT mD cm n sp sn oc kd ls oe od ar se ol pl pa ow sl lo lh lt lx an vn c d) (nI line) 1 (nI x) := by
  refine br_f (by decide) (br_f (by decide) (br_t rfl (br_t rfl ⟨50, ?_⟩)))
  exact xw_d85 hx w h64 sp hp 0 50 vn (by omega) (by omega) h
theorem xw_open {post : SX → Prop} {line k : Nat} (hs : sn < 64) (hp : sp < 64) (hl : line < 48) (ho : oc < 8) (hk : kd line = k) (h5 : 5 ≤ k) (h8 : k ≤ 8)
    (h : post (XZ mL mT mD cm n sn (sn + 1) (oc + 1) kd ls oe (up_ od line sn) ar se (up_ ol (oc + 1) line) (up_ pl (oc + 1) (if k = 8 then 1 else 0)) (up_ pa sn sp) (up_ ow sn (if k = 5 ∨ k = 6 then sn else ow sp)) (up_ sl sn line) (up_ lo sn (if k = 5 ∨ k = 6 then 0 else lo sp)) lh lt lx (upd an sn (if k = 5 ∨ k = 6 then 0 else an sp)) vn c d)) : wpX_open post (XZ mL mT mD cm n sp sn oc kd ls oe od ar se ol pl pa ow sl lo lh lt lx an vn c d) (nI line) := by
  have vl : vp_in (nI line) 48 := vp_in_nI hl (by omega)
  have vo : vp_in (nI (oc + 1)) 9 := vp_in_nI (by omega) (by omega)
  refine nm_r (nI_1 _) ⟨vo, nm_r (ug_ line (by omega)) ⟨vl, ?_⟩⟩
  refine pk_eq k 8 (fun e8 => ?_) (fun e8 => ?_) (by rw [← hk]; exact ga_ rfl (by omega)) rfl (by omega) (by omega)
  · rw [if_pos e8, if_neg (by omega), if_neg (by omega), if_neg (by omega)] at h
    refine And.intro vo (nm_r (ug_ 1 (by omega)) ?_)
    exact xw_ns hs hp hl (by omega) (fun z => by omega) (fun z => by omega) (fun _ _ _ => h)
  · rw [if_neg e8] at h
    refine And.intro vo (nm_r (ug_ 0 (by omega)) ?_)
    refine xw_ns hs hp hl (by omega) (fun z => ?_) (fun z => by omega) (fun z1 z2 z3 => ?_)
    · rw [if_pos (by omega), if_pos (by omega), if_pos (by omega)] at h
      exact h
    · rw [if_neg (by omega), if_neg (by omega), if_neg (by omega)] at h
      exact h
end
end
section
section
variable {mL mT mD cm n sp sn oc : Nat} {kd ls oe od ar se ol pl pa ow sl lo lh lt : Nat → Nat} {lx an vn : Nat → Int32} {c : CT} {d : DT}
theorem xw_es {post : SX → Prop} {line l p : Nat} (hl : line < 48) (hs : sn < 64) (hsp : sp < 64) (ho : oc ≤ 8) (hle : oe line = l) (hoe : l < 48) (hk : kd line ≤ 14) (hp : pl oc = p) (p3 : p ≤ 3)
    (h0 : p = 0 → post (XZ mL mT mD cm n (ls l) sn (oc - 1) kd ls oe od ar (up_ se (4 * l) line) ol (up_ pl oc 1) pa ow sl lo lh lt lx an vn c d) ∧ oc ≠ 0) (h12 : p = 1 ∨ p = 2 → post (XZ mL mT mD cm n sp sn oc kd ls oe od ar (up_ se (4 * l + p) line) ol (up_ pl oc (p + 1)) pa ow sl lo lh lt lx an vn c d))
    (h3 : p = 3 → kd line = 9 ∧ post (XZ mL mT mD cm n sn (sn + 1) oc kd ls oe (up_ od line sn) ar (up_ se (4 * l + 3) line) ol (up_ pl oc 0) (up_ pa sn sp) (up_ ow sn (ow sp)) (up_ sl sn line) (up_ lo sn (l + 1)) lh lt lx (upd an sn (an sp)) vn c d)) : wpX_endSection post (XZ mL mT mD cm n sp sn oc kd ls oe od ar se ol pl pa ow sl lo lh lt lx an vn c d) (nI line) := by
  subst hle
  have vl : vp_in (nI line) 48 := vp_in_nI hl (by omega)
  have vo : vp_in (nI oc) 9 := vp_in_nI (by omega) (by omega)
  have e4 : (4 : Int32) * ((fun i => nI (oe i)) (nI line).toNatClampNeg) + nI p = nI (4 * oe line + p) := by
    rw [ga_ (f := oe) rfl (by omega)]
    exact m4_ _ _
  refine And.intro vo (nm_r (e' := nI p) (by rw [← hp]; exact ga_ rfl (by omega)) (And.intro vl (And.intro (pk_in (4 * oe line + p) 192 (by omega) e4 (by omega)) ?_)))
  refine nm_r (e' := fun i => nI (up_ se (4 * oe line + p) line i)) (uh_ e4 (by omega)) (And.intro vo ?_)
  refine nm_r (e' := fun i => nI (up_ pl oc ((p + 1) % 4) i)) ?_ ?_
  · rw [nI_1, pk_andN (by omega) 2 rfl]
    exact ug_ _ (by omega)
  · refine pk_eq p 3 (fun e3 => ?_) (fun e3 => ?_) rfl rfl (by omega) (by omega)
    · subst e3
      obtain ⟨k9, hh⟩ := h3 rfl
      refine xw_ns hs hsp hl hk (fun z => by omega) (fun _ => ?_) (fun _ _ z => absurd k9 z)
      exact br_f (by decide) (br_f (by decide) hh)
    · refine pk_eq p 0 (fun e0 => ?_) (fun e0 => ?_) rfl rfl (by omega) (by omega)
      · subst e0
        obtain ⟨hh, hne⟩ := h0 rfl
        refine ⟨vl, pk_in (oe line) 48 hoe (ga_ rfl (by omega)) (by omega), nm_r (e' := nI (ls (oe line))) ?_ ?_⟩
        · exact ga_ (ga_ rfl (by omega)) (by omega)
        · refine br_t rfl (nm_r (e' := nI (oc - 1)) ?_ hh)
          exact pk_sub (b := 1) (by omega)
      · have e1 : (p + 1) % 4 = p + 1 := by omega
        rw [e1]
        exact br_f (fun z => e0 ((nI_eq (by omega) (by omega)).mp z)) (h12 (by omega))
theorem xw_ap {post : Int32 → SX → Prop} {k x y z o : Nat} (hn : n < 48) (hsp : sp < 64) (hoc : oc ≤ 8) (hlo : lo sp ≤ 48) (hk : k ≤ 14)
    (ho1 : k = 11 ∨ k = 12 → lo sp = o + 1) (ho2 : ¬ (k = 11 ∨ k = 12) → o = ol oc)
    (h : ((nI k = 0 → wX_append_125 post (nI k) (nI x) (nI n) 0 1 2 3 0 1 2 3 4 5 (-1) 48 512 (nI (mL)) (nI (mT)) (nI (mD)) (nI (cm)) (nI ((n + 1))) (nI (sp)) (nI (sn)) (nI (oc)) (in_ d) (ss_ d) (nI (cu_ d)) (nI (pc_ d)) (nI (tk_ d)) (nI (ou_ d)) (nI (ev_ d)) (nI (ht_ d)) (nI (cl_ d)) (nI (fc_ d)) (fa_ d) (fun i => nI ((up_ kd n k) i)) (fun i => nI ((up_ ls n sp) i)) (fun i => nI ((up_ oe n o) i)) (fun i => nI (od i)) (fun i => nI ((up_ (up_ (up_ ar (4 * n + 1) x) (4 * n + 2) y) (4 * n + 3) z) i)) (fun i => nI (se i)) (fun i => nI (ol i)) (fun i => nI (pl i)) (fun i => nI (sv_ d i)) (fun i => nI (sw_ d i)) (fun i => nI (pa i)) (fun i => nI (ow i)) (fun i => nI (sl i)) (fun i => nI (lo i)) lx an vn (fun i => nI (lh i)) (cp_ c) (fun i => nI (st_ c i)) (fun i => nI (nc_ c i)) (fun i => nI (cc_ c i)) (fun i => nI (hd_ c i)) (fun i => nI (lt i)) (fun i => nI (hm_ c i)) (fun i => nI (rm_ c i)) (ri_ c) (fun i => nI (rh_ c i)) (me_ d) (fun i => nI (fs_ d i)) (fun i => nI (fe_ d i)) (ot_ d) (li_ d)) ∧ (¬ nI k = 0 → ((nI k = 1 → wX_append_125 post (nI k) (nI x) (nI n) 0 1 2 3 0 1 2 3 4 5 (-1) 48 512 (nI (mL)) (nI (mT)) (nI (mD)) (nI (cm)) (nI ((n + 1))) (nI (sp)) (nI (sn)) (nI (oc)) (in_ d) (ss_ d) (nI (cu_ d)) (nI (pc_ d)) (nI (tk_ d)) (nI (ou_ d)) (nI (ev_ d)) (nI (ht_ d)) (nI (cl_ d)) (nI (fc_ d)) (fa_ d) (fun i => nI ((up_ kd n k) i)) (fun i => nI ((up_ ls n sp) i)) (fun i => nI ((up_ oe n o) i)) (fun i => nI (od i)) (fun i => nI ((up_ (up_ (up_ ar (4 * n + 1) x) (4 * n + 2) y) (4 * n + 3) z) i)) (fun i => nI (se i)) (fun i => nI (ol i)) (fun i => nI (pl i)) (fun i => nI (sv_ d i)) (fun i => nI (sw_ d i)) (fun i => nI (pa i)) (fun i => nI (ow i)) (fun i => nI (sl i)) (fun i => nI (lo i)) lx an vn (fun i => nI (lh i)) (cp_ c) (fun i => nI (st_ c i)) (fun i => nI (nc_ c i)) (fun i => nI (cc_ c i)) (fun i => nI (hd_ c i)) (fun i => nI (lt i)) (fun i => nI (hm_ c i)) (fun i => nI (rm_ c i)) (ri_ c) (fun i => nI (rh_ c i)) (me_ d) (fun i => nI (fs_ d i)) (fun i => nI (fe_ d i)) (ot_ d) (li_ d)) ∧ (¬ nI k = 1 → ((nI k = 5 → wX_append_125 post (nI k) (nI x) (nI n) 0 1 2 3 0 1 2 3 4 5 (-1) 48 512 (nI (mL)) (nI (mT)) (nI (mD)) (nI (cm)) (nI ((n + 1))) (nI (sp)) (nI (sn)) (nI (oc)) (in_ d) (ss_ d) (nI (cu_ d)) (nI (pc_ d)) (nI (tk_ d)) (nI (ou_ d)) (nI (ev_ d)) (nI (ht_ d)) (nI (cl_ d)) (nI (fc_ d)) (fa_ d) (fun i => nI ((up_ kd n k) i)) (fun i => nI ((up_ ls n sp) i)) (fun i => nI ((up_ oe n o) i)) (fun i => nI (od i)) (fun i => nI ((up_ (up_ (up_ ar (4 * n + 1) x) (4 * n + 2) y) (4 * n + 3) z) i)) (fun i => nI (se i)) (fun i => nI (ol i)) (fun i => nI (pl i)) (fun i => nI (sv_ d i)) (fun i => nI (sw_ d i)) (fun i => nI (pa i)) (fun i => nI (ow i)) (fun i => nI (sl i)) (fun i => nI (lo i)) lx an vn (fun i => nI (lh i)) (cp_ c) (fun i => nI (st_ c i)) (fun i => nI (nc_ c i)) (fun i => nI (cc_ c i)) (fun i => nI (hd_ c i)) (fun i => nI (lt i)) (fun i => nI (hm_ c i)) (fun i => nI (rm_ c i)) (ri_ c) (fun i => nI (rh_ c i)) (me_ d) (fun i => nI (fs_ d i)) (fun i => nI (fe_ d i)) (ot_ d) (li_ d)) ∧ (¬ nI k = 5 → wX_append_133 post (nI k) (nI n) 0 1 2 3 0 1 2 3 4 5 (-1) 48 512 (nI (mL)) (nI (mT)) (nI (mD)) (nI (cm)) (nI ((n + 1))) (nI (sp)) (nI (sn)) (nI (oc)) (in_ d) (ss_ d) (nI (cu_ d)) (nI (pc_ d)) (nI (tk_ d)) (nI (ou_ d)) (nI (ev_ d)) (nI (ht_ d)) (nI (cl_ d)) (nI (fc_ d)) (fa_ d) (fun i => nI ((up_ kd n k) i)) (fun i => nI ((up_ ls n sp) i)) (fun i => nI ((up_ oe n o) i)) (fun i => nI (od i)) (fun i => nI ((up_ (up_ (up_ ar (4 * n + 1) x) (4 * n + 2) y) (4 * n + 3) z) i)) (fun i => nI (se i)) (fun i => nI (ol i)) (fun i => nI (pl i)) (fun i => nI (sv_ d i)) (fun i => nI (sw_ d i)) (fun i => nI (pa i)) (fun i => nI (ow i)) (fun i => nI (sl i)) (fun i => nI (lo i)) lx an vn (fun i => nI (lh i)) (cp_ c) (fun i => nI (st_ c i)) (fun i => nI (nc_ c i)) (fun i => nI (cc_ c i)) (fun i => nI (hd_ c i)) (fun i => nI (lt i)) (fun i => nI (hm_ c i)) (fun i => nI (rm_ c i)) (ri_ c) (fun i => nI (rh_ c i)) (me_ d) (fun i => nI (fs_ d i)) (fun i => nI (fe_ d i)) (ot_ d) (li_ d)))))))) :
    wpX_append post (XZ mL mT mD cm n sp sn oc kd ls oe od ar se ol pl pa ow sl lo lh lt lx an vn c d) (nI k) (nI x) (nI y) (nI z) := by
  have vn' : vp_in (nI n) 48 := vp_in_nI hn (by omega)
  have v1 : ∀ r, r < 4 → vp_in ((4 : Int32) * nI n + nI r) 192 := fun r hr => pk_in (4 * n + r) 192 (by omega) (m4_ _ _) (by omega)
  refine nm_r (nI_1 _) (And.intro vn' (nm_r (ug_ k (by omega)) (And.intro (v1 1 (by omega)) ?_)))
  refine nm_r (uh_ (m4_ n 1) (by omega)) (And.intro (v1 2 (by omega)) (nm_r (uh_ (m4_ n 2) (by omega)) (And.intro (v1 3 (by omega)) (nm_r (uh_ (m4_ n 3) (by omega)) (And.intro vn' (nm_r (ug_ sp (by omega)) ?_))))))
  have T : ∀ z0, z0 = nI o → wX_append_110 post (nI k) (nI x) (nI n) z0 (nI n) 0 1 2 3 0 1 2 3 4 5 (-1) 48 512 (nI (mL)) (nI (mT)) (nI (mD)) (nI (cm)) (nI ((n + 1))) (nI (sp)) (nI (sn)) (nI (oc)) (in_ d) (ss_ d) (nI (cu_ d)) (nI (pc_ d)) (nI (tk_ d)) (nI (ou_ d)) (nI (ev_ d)) (nI (ht_ d)) (nI (cl_ d)) (nI (fc_ d)) (fa_ d) (fun i => nI ((up_ kd n k) i)) (fun i => nI ((up_ ls n sp) i)) (fun i => nI (oe i)) (fun i => nI (od i)) (fun i => nI ((up_ (up_ (up_ ar (4 * n + 1) x) (4 * n + 2) y) (4 * n + 3) z) i)) (fun i => nI (se i)) (fun i => nI (ol i)) (fun i => nI (pl i)) (fun i => nI (sv_ d i)) (fun i => nI (sw_ d i)) (fun i => nI (pa i)) (fun i => nI (ow i)) (fun i => nI (sl i)) (fun i => nI (lo i)) lx an vn (fun i => nI (lh i)) (cp_ c) (fun i => nI (st_ c i)) (fun i => nI (nc_ c i)) (fun i => nI (cc_ c i)) (fun i => nI (hd_ c i)) (fun i => nI (lt i)) (fun i => nI (hm_ c i)) (fun i => nI (rm_ c i)) (ri_ c) (fun i => nI (rh_ c i)) (me_ d) (fun i => nI (fs_ d i)) (fun i => nI (fe_ d i)) (ot_ d) (li_ d) := by
    intro z0 hz
    subst hz
    exact And.intro vn' (nm_r (ug_ o (by omega)) h)
  have B : k = 11 ∨ k = 12 → wX_append_87 post (nI k) (nI x) (nI n) (nI n) 0 1 2 3 0 1 2 3 4 5 (-1) 48 512 (nI (mL)) (nI (mT)) (nI (mD)) (nI (cm)) (nI ((n + 1))) (nI (sp)) (nI (sn)) (nI (oc)) (in_ d) (ss_ d) (nI (cu_ d)) (nI (pc_ d)) (nI (tk_ d)) (nI (ou_ d)) (nI (ev_ d)) (nI (ht_ d)) (nI (cl_ d)) (nI (fc_ d)) (fa_ d) (fun i => nI ((up_ kd n k) i)) (fun i => nI ((up_ ls n sp) i)) (fun i => nI (oe i)) (fun i => nI (od i)) (fun i => nI ((up_ (up_ (up_ ar (4 * n + 1) x) (4 * n + 2) y) (4 * n + 3) z) i)) (fun i => nI (se i)) (fun i => nI (ol i)) (fun i => nI (pl i)) (fun i => nI (sv_ d i)) (fun i => nI (sw_ d i)) (fun i => nI (pa i)) (fun i => nI (ow i)) (fun i => nI (sl i)) (fun i => nI (lo i)) lx an vn (fun i => nI (lh i)) (cp_ c) (fun i => nI (st_ c i)) (fun i => nI (nc_ c i)) (fun i => nI (cc_ c i)) (fun i => nI (hd_ c i)) (fun i => nI (lt i)) (fun i => nI (hm_ c i)) (fun i => nI (rm_ c i)) (ri_ c) (fun i => nI (rh_ c i)) (me_ d) (fun i => nI (fs_ d i)) (fun i => nI (fe_ d i)) (ot_ d) (li_ d) := by
    intro hh
    refine And.intro (vp_in_nI hsp (by omega)) (T _ ?_)
    rw [ga_ (f := lo) rfl (by omega), ho1 hh, nI_pred]
  refine pk_eq k 11 (fun e => B (Or.inl e)) (fun e => ?_) rfl rfl (by omega) (by omega)
  refine pk_eq k 12 (fun e => B (Or.inr e)) (fun e2 => ?_) rfl rfl (by omega) (by omega)
  refine And.intro (vp_in_nI (by omega) (by omega)) (T _ ?_)
  rw [ho2 (by omega)]
  exact ga_ rfl (by omega)
end
section
variable {mL mT mD cm n : Nat} {kd ar : Nat → Nat} {e : ET}
theorem ya_f {f : Nat → Nat} {n r v : Nat} {g : Nat → Nat} (hn : n < 2 ^ 31) (h : ∀ i, g i = if i = n then v else f (4 * i + r)) : upd (fun i => nI (f (4 * i + r))) (nI n).toNatClampNeg (nI v) = fun i => nI (g i) := by
  rw [nI_clamp hn]
  funext i
  rw [h i]
  unfold upd
  by_cases e : i = n
  · rw [if_pos e, if_pos e]
  · rw [if_neg e, if_neg e]
theorem yw_add {post : Int32 → SY → Prop} {k x y z : Nat} (hn : n < 48) (h : post (nI n) (YZ mL mT mD cm (n + 1) (up_ kd n k) (up_ (up_ (up_ ar (4 * n + 1) x) (4 * n + 2) y) (4 * n + 3) z) e)) : wpY_add post (YZ mL mT mD cm n kd ar e) (nI k) (nI x) (nI y) (nI z) := by
  have vn : vp_in (nI n) 48 := vp_in_nI hn (by omega)
  have A : ∀ i r, 1 ≤ r → r ≤ 3 → up_ (up_ (up_ ar (4 * n + 1) x) (4 * n + 2) y) (4 * n + 3) z (4 * i + r) = if i = n then (if r = 1 then x else if r = 2 then y else z) else ar (4 * i + r) := by
    intro i r h1 h3
    unfold up_
    by_cases e : i = n
    · subst e
      rw [if_pos rfl]
      have : r = 1 ∨ r = 2 ∨ r = 3 := by omega
      rcases this with rfl | rfl | rfl
      · rw [if_neg (by omega), if_neg (by omega), if_pos rfl, if_pos rfl]
      · rw [if_neg (by omega), if_pos rfl, if_neg (by omega), if_pos rfl]
      · rw [if_pos rfl, if_neg (by omega), if_neg (by omega)]
    · rw [if_neg e, if_neg (by omega), if_neg (by omega), if_neg (by omega)]
  refine br_t (nI_lt (b := 48) hn (by decide)) ⟨vn, nm_r (ug_ k (by omega)) ⟨vn, nm_r (ya_f (r := 1) (by omega) (fun i => A i 1 (by omega) (by omega))) ⟨vn, nm_r (ya_f (r := 2) (by omega) (fun i => A i 2 (by omega) (by omega))) ⟨vn, nm_r (ya_f (r := 3) (by omega) (fun i => A i 3 (by omega) (by omega))) (nm_r (nI_1 _) ?_)⟩⟩⟩⟩
  rw [nI_pred]
  exact h
end
end
section
def AP (q : QT) (k x y z : Nat) : Prop := ∃ q', FQ q' ∧ MQ_ q' ∧ mL_ q' = mL_ q ∧ mT_ q' = mT_ q ∧ mD_ q' = mD_ q ∧ cm_ q' = cm_ q ∧ nn_ q' = nn_ q + 1 ∧
  (∀ (c : CT) (d : DT) (post : Int32 → SX → Prop), post (nI (nn_ q)) (XT q' c d) → wpX_append post (XT q c d) (nI k) (nI x) (nI y) (nI z)) ∧
  (∀ (e : ET) (post : Int32 → SY → Prop), post (nI (nn_ q)) (YT q' e) → wpY_add post (YT q e) (nI k) (nI x) (nI y) (nI z))
section
variable {q : QT} {k x y z : Nat}
theorem lq_n : Lq_ q (nn_ q) = sp_ q := up_s
theorem ar_old : ∀ j, j < nn_ q → up_ (up_ (up_ (ar_ q) (4 * nn_ q + 1) x) (4 * nn_ q + 2) y) (4 * nn_ q + 3) z (4 * j + 1) = ar_ q (4 * j + 1) := by
  intro j hj
  rw [up_n (by omega), up_n (by omega), up_n (by omega)]
theorem ar_new : up_ (up_ (up_ (ar_ q) (4 * nn_ q + 1) x) (4 * nn_ q + 2) y) (4 * nn_ q + 3) z (4 * nn_ q + 1) = x := by
  rw [up_n (by omega), up_n (by omega), up_s]
theorem ar_72 (M : MQ_ q) (hx : x ≤ 72) (hy : y ≤ 72) (hz : z ≤ 72) : ∀ j, up_ (up_ (up_ (ar_ q) (4 * nn_ q + 1) x) (4 * nn_ q + 2) y) (4 * nn_ q + 3) z j ≤ 72 := by
  intro j
  unfold up_
  have := M.2.2.2.2.2.2.2.2.1 j
  split
  · exact hz
  · split
    · exact hy
    · split
      · exact hx
      · exact this
theorem fq_lo (F : FQ q) : ∀ s, s < sn_ q → lo_ q s ≤ 48 := by
  have hn := fq_n F
  intro s
  induction s using Nat.strongRecOn with
  | _ s ih =>
    intro hs
    rcases Nat.eq_zero_or_pos s with e | e
    · subst e; rw [(fs_r F).2.2.2]; omega
    · obtain ⟨a1, a2, a3, a4, a5, a6, a7⟩ := fs_c F s e hs
      rw [a7]
      split
      · have := eo_le (kd_ q) (sl_ q s); omega
      · split
        · omega
        · exact ih _ a1 (by omega)
theorem fq_ol (F : FQ q) : ol_ q (oc_ q) < 48 := by
  have hn := fq_n F
  by_cases e : oc_ q = 0
  · rw [e, (fs_t F).2.1]; omega
  · have := (fs_top F e).1; omega
theorem fq_sp (F : FQ q) : sp_ q < sn_ q := by
  have := lq_s F (i := nn_ q) (Nat.le_refl _)
  rw [lq_n] at this
  exact this
theorem ap_plain (F : FQ q) (M : MQ_ q) (hn : nn_ q < 48) {o : Nat} (hk : k = 2 ∨ k = 3 ∨ k = 4 ∨ k = 11 ∨ k = 12 ∨ k = 13) (hx : x ≤ 72) (hy : y ≤ 72) (hz : z ≤ 72) (hx8 : k = 2 → x < 8)
    (g1 : 11 ≤ k → pl_ q (oc_ q) = 0) (g3 : k = 13 → ow_ q (sp_ q) ≠ 0) (g4 : k = 11 ∨ k = 12 → lo_ q (sp_ q) = o + 1) (g5 : ¬ (k = 11 ∨ k = 12) → o = ol_ q (oc_ q)) : AP q k x y z := by
  have h49 := fq_s F
  have hsp := fq_sp F
  have ob := (fs_b F).2.2.2.1
  refine ⟨(mL_ q, mT_ q, mD_ q, cm_ q, nn_ q + 1, sp_ q, sn_ q, oc_ q, up_ (kd_ q) (nn_ q) k, up_ (ls_ q) (nn_ q) (sp_ q), up_ (oe_ q) (nn_ q) (o), od_ q, up_ (up_ (up_ (ar_ q) (4 * nn_ q + 1) x) (4 * nn_ q + 2) y) (4 * nn_ q + 3) z, se_ q, ol_ q, pl_ q, pa_ q, ow_ q, sl_ q, lo_ q, lh_ q, lt_ q, lx_ q, an_ q, vn_ q), ?_, ?_, rfl, rfl, rfl, rfl, rfl, fun c d post h => ?_, fun e post h => yw_add hn h⟩
  · have := fs_plain F (k := k) (o := o) hn (by omega) (fun w => fs_pl0 F (g1 w)) (fun w => by omega) (fun w => by rw [lq_n]; exact g3 w) (fun w => by rw [lq_n]; exact (g4 w).symm) (fun w => by rw [g5 w]; exact eo_oe F)
    rw [lq_n] at this
    exact this
  · have := fm_line0 M (k := k) (by omega) (by omega) (by omega) (ar_old (x := x) (y := y) (z := z)) (ar_72 M hx hy hz) (fun w => by rw [ar_new]; omega)
    rw [lq_n] at this
    exact this
  · refine xw_ap hn (by omega) ob (fq_lo F _ hsp) (by omega) g4 g5 ?_
    have n0 : ∀ m, m < 15 → k ≠ m → ¬ nI k = nI m := fun m hm hne w => hne ((nI_eq (by omega) (by omega)).mp w)
    refine br_f (n0 0 (by omega) (by omega)) (br_f (n0 1 (by omega) (by omega)) (br_f (n0 5 (by omega) (by omega)) ?_))
    have t150 : wX_append_150 post (nI k) (nI (nn_ q)) 0 1 2 3 0 1 2 3 4 5 (-1) 48 512 (nI ((mL_ q))) (nI ((mT_ q))) (nI ((mD_ q))) (nI ((cm_ q))) (nI ((nn_ q + 1))) (nI ((sp_ q))) (nI ((sn_ q))) (nI ((oc_ q))) (in_ d) (ss_ d) (nI (cu_ d)) (nI (pc_ d)) (nI (tk_ d)) (nI (ou_ d)) (nI (ev_ d)) (nI (ht_ d)) (nI (cl_ d)) (nI (fc_ d)) (fa_ d) (fun i => nI ((up_ (kd_ q) (nn_ q) k) i)) (fun i => nI ((up_ (ls_ q) (nn_ q) (sp_ q)) i)) (fun i => nI ((up_ (oe_ q) (nn_ q) (o)) i)) (fun i => nI ((od_ q) i)) (fun i => nI ((up_ (up_ (up_ (ar_ q) (4 * nn_ q + 1) x) (4 * nn_ q + 2) y) (4 * nn_ q + 3) z) i)) (fun i => nI ((se_ q) i)) (fun i => nI ((ol_ q) i)) (fun i => nI ((pl_ q) i)) (fun i => nI (sv_ d i)) (fun i => nI (sw_ d i)) (fun i => nI ((pa_ q) i)) (fun i => nI ((ow_ q) i)) (fun i => nI ((sl_ q) i)) (fun i => nI ((lo_ q) i)) ((lx_ q)) ((an_ q)) ((vn_ q)) (fun i => nI ((lh_ q) i)) (cp_ c) (fun i => nI (st_ c i)) (fun i => nI (nc_ c i)) (fun i => nI (cc_ c i)) (fun i => nI (hd_ c i)) (fun i => nI ((lt_ q) i)) (fun i => nI (hm_ c i)) (fun i => nI (rm_ c i)) (ri_ c) (fun i => nI (rh_ c i)) (me_ d) (fun i => nI (fs_ d i)) (fun i => nI (fe_ d i)) (ot_ d) (li_ d) := br_f (n0 9 (by omega) (by omega)) (br_f (n0 10 (by omega) (by omega)) (br_f (n0 14 (by omega) (by omega)) h))
    by_cases h5 : k < 5
    · exact br_t (nI_lt (b := 5) h5 (by decide)) t150
    · exact br_f (nI_nlt (b := 5) (by omega) (by omega)) (br_t (nI_lt (a := 8) (by omega) (by omega)) t150)
theorem g_let (F : FQ q) (hp : pl_ q (oc_ q) < 2) : Lq_ q (nn_ q) ≠ 0 → kd_ q (sl_ q (Lq_ q (nn_ q))) = 8 → se_ q (4 * sl_ q (Lq_ q (nn_ q)) + 1) = 0 := by
  intro h0 h8
  have ho : oc_ q ≠ 0 := fun w => h0 (fs_scope0 F w).1
  obtain ⟨t1, t2, t3, t4, t5, t6⟩ := fs_top F ho
  obtain ⟨s1, s2⟩ := fs_scope F ho
  by_cases w : kd_ q (ol_ q (oc_ q)) = 8 ∧ se_ q (4 * ol_ q (oc_ q) + 3) ≠ 0
  · have e := (s1 w).2.2
    rw [e] at h8
    have := ((fs_e F _ t1).2.2.2 w.2).2.2.2.1
    omega
  · have e := (s2 w).2.2
    rw [e] at h8 ⊢
    have : pl_ q (oc_ q) = 0 ∨ pl_ q (oc_ q) = 1 := by omega
    rcases this with z | z
    · rw [z] at t6
      exact absurd ⟨h8, pq_0 t6.symm h8⟩ w
    · rw [z] at t6
      exact (pq_1 t6.symm).2
theorem ap_let (F : FQ q) (M : MQ_ q) (hn : nn_ q < 48) (hx : x < 8) (hy : y ≤ 72) (hz : z ≤ 72) (hp : pl_ q (oc_ q) < 2) (g1 : bt (lx_ q (sp_ q)) x = false) (g2 : bt (vn_ q (sp_ q)) x = false) : AP q 0 x y z := by
  have h49 := fq_s F
  have hsp := fq_sp F
  have ob := (fs_b F).2.2.2.1
  refine ⟨(mL_ q, mT_ q, mD_ q, cm_ q, nn_ q + 1, sp_ q, sn_ q, oc_ q, up_ (kd_ q) (nn_ q) 0, up_ (ls_ q) (nn_ q) (sp_ q), up_ (oe_ q) (nn_ q) (ol_ q (oc_ q)), od_ q, up_ (up_ (up_ (ar_ q) (4 * nn_ q + 1) x) (4 * nn_ q + 2) y) (4 * nn_ q + 3) z, se_ q, ol_ q, pl_ q, pa_ q, ow_ q, sl_ q, lo_ q, lh_ q, up_ (lt_ q) (8 * sp_ q + x) (nn_ q + 1), upd (lx_ q) (sp_ q) (lx_ q (sp_ q) ||| ((1 : Int32) <<< (nI x &&& 31))), upd (an_ q) (sp_ q) (an_ q (sp_ q) ||| ((1 : Int32) <<< (nI x &&& 31))), vn_ q), ?_, ?_, rfl, rfl, rfl, rfl, rfl, fun c d post h => ?_, fun e post h => yw_add hn h⟩
  · have := fs_plain F (k := 0) (o := ol_ q (oc_ q)) hn (by omega) (fun w => by omega) (fun _ => g_let F hp) (fun w => by omega) (fun w => by omega) (fun w => eo_oe F)
    rw [lq_n] at this
    exact this
  · have := fm_lex M (ws_of F) (k := 0) (x := x) (by rw [lq_n]; exact hsp) hn (Or.inl rfl) hx (ar_old (x := x) (y := y) (z := z)) ar_new (ar_72 M (by omega) hy hz) (by rw [lq_n]; exact g1) (by rw [lq_n]; exact g2)
    rw [lq_n, if_pos rfl, if_neg (by decide)] at this
    exact this
  · refine xw_ap (k := 0) hn (by omega) ob (fq_lo F _ hsp) (by omega) (fun w => by omega) (fun _ => rfl) ?_
    refine br_t rfl ?_
    refine xw_let (line := nn_ q) (by omega) hx ?_
    exact br_t (by decide) (br_f (by decide) (br_f (by decide) (br_f (by decide) h)))
noncomputable def vv_ (pa ow : Nat → Nat) (vn : Nat → Int32) (s x : Nat) : Nat → Int32 := fun u => @ite _ (rc_ pa ow s u) (Classical.propDecidable _) (vn u ||| ((1 : Int32) <<< (nI x &&& 31))) (vn u)
theorem vv_1 {pa ow : Nat → Nat} {vn : Nat → Int32} {s x : Nat} : ∀ u, rc_ pa ow s u → vv_ pa ow vn s x u = vn u ||| ((1 : Int32) <<< (nI x &&& 31)) := fun u h => by
  unfold vv_
  rw [if_pos h]
theorem vv_2 {pa ow : Nat → Nat} {vn : Nat → Int32} {s x : Nat} : ∀ u, ¬ rc_ pa ow s u → vv_ pa ow vn s x u = vn u := fun u h => by
  unfold vv_
  rw [if_neg h]
theorem ap_var (F : FQ q) (M : MQ_ q) (hn : nn_ q < 48) (hx : x < 8) (hy : y ≤ 72) (hz : z ≤ 72) (hp : pl_ q (oc_ q) < 2) (g1 : bt (an_ q (sp_ q)) x = false) : AP q 1 x y z := by
  have h49 := fq_s F
  have hsp := fq_sp F
  have ob := (fs_b F).2.2.2.1
  refine ⟨(mL_ q, mT_ q, mD_ q, cm_ q, nn_ q + 1, sp_ q, sn_ q, oc_ q, up_ (kd_ q) (nn_ q) 1, up_ (ls_ q) (nn_ q) (sp_ q), up_ (oe_ q) (nn_ q) (ol_ q (oc_ q)), od_ q, up_ (up_ (up_ (ar_ q) (4 * nn_ q + 1) x) (4 * nn_ q + 2) y) (4 * nn_ q + 3) z, se_ q, ol_ q, pl_ q, pa_ q, ow_ q, sl_ q, lo_ q, lh_ q, lt_ q, lx_ q, an_ q, vv_ (pa_ q) (ow_ q) (vn_ q) (sp_ q) x), ?_, ?_, rfl, rfl, rfl, rfl, rfl, fun c d post h => ?_, fun e post h => yw_add hn h⟩
  · have := fs_plain F (k := 1) (o := ol_ q (oc_ q)) hn (by omega) (fun w => by omega) (fun _ => g_let F hp) (fun w => by omega) (fun w => by omega) (fun w => eo_oe F)
    rw [lq_n] at this
    exact this
  · have := fm_var M (ws_of F) (x := x) (vn' := vv_ (pa_ q) (ow_ q) (vn_ q) (sp_ q) x) (by rw [lq_n]; exact hsp) hx (ar_old (x := x) (y := y) (z := z)) ar_new (ar_72 M (by omega) hy hz) (by rw [lq_n]; exact g1) (by rw [lq_n]; exact vv_1) (by rw [lq_n]; exact vv_2)
    rw [lq_n] at this
    exact this
  · refine xw_ap (k := 1) hn (by omega) ob (fq_lo F _ hsp) (by omega) (fun w => by omega) (fun _ => rfl) ?_
    refine br_f (by decide) (br_t rfl ?_)
    refine xw_var (line := nn_ q) hx (ws_of F) h49 hsp (fun vn' a1 a2 => ?_)
    have ev : vn' = vv_ (pa_ q) (ow_ q) (vn_ q) (sp_ q) x := by
      funext u
      rcases Classical.em (rc_ (pa_ q) (ow_ q) (sp_ q) u) with w | w
      · rw [vv_1 u w]; exact a1 u w
      · rw [vv_2 u w]; exact a2 u w
    subst ev
    exact br_t (by decide) (br_f (by decide) (br_f (by decide) (br_f (by decide) h)))
theorem ap_open (F : FQ q) (M : MQ_ q) (hn : nn_ q < 48) (hk : k = 6 ∨ k = 7 ∨ k = 8) (hx : x ≤ 72) (hy : y ≤ 72) (hz : z ≤ 72) (hx8 : k = 6 → x < 8) (hoc : oc_ q < 8) (g1 : k ≠ 6 → pl_ q (oc_ q) = 0) : AP q k x y z := by
  have h49 := fq_s F
  have hsp := fq_sp F
  refine ⟨(mL_ q, mT_ q, mD_ q, cm_ q, nn_ q + 1, sn_ q, sn_ q + 1, oc_ q + 1, up_ (kd_ q) (nn_ q) k, up_ (ls_ q) (nn_ q) (sp_ q), up_ (oe_ q) (nn_ q) (ol_ q (oc_ q)), up_ (od_ q) (nn_ q) (sn_ q), up_ (up_ (up_ (ar_ q) (4 * nn_ q + 1) x) (4 * nn_ q + 2) y) (4 * nn_ q + 3) z, se_ q, up_ (ol_ q) (oc_ q + 1) (nn_ q), up_ (pl_ q) (oc_ q + 1) (if k = 8 then 1 else 0), up_ (pa_ q) (sn_ q) (sp_ q), up_ (ow_ q) (sn_ q) (if k = 5 ∨ k = 6 then sn_ q else ow_ q (sp_ q)), up_ (sl_ q) (sn_ q) (nn_ q), up_ (lo_ q) (sn_ q) (if k = 5 ∨ k = 6 then 0 else lo_ q (sp_ q)), lh_ q, lt_ q, lx_ q, upd (an_ q) (sn_ q) (if k = 5 ∨ k = 6 then 0 else an_ q (sp_ q)), vn_ q), ?_, ?_, rfl, rfl, rfl, rfl, rfl, fun c d post h => ?_, fun e post h => yw_add hn h⟩
  · have := fs_open F (k := k) hn (by omega) (by omega) hoc g1
    rw [lq_n] at this
    exact this
  · have h1 := fm_line0 M (k := k) (by omega) (by omega) (by omega) (ar_old (x := x) (y := y) (z := z)) (ar_72 M hx hy hz) (fun w => by rw [ar_new]; omega)
    have h2 := fm_ns (o := if k = 5 ∨ k = 6 then sn_ q else ow_ q (sp_ q)) (a := if k = 5 ∨ k = 6 then 0 else an_ q (sp_ q)) h1 (ws_of F) (fun i hi => by
      by_cases e : i = nn_ q + 1
      · subst e; rw [up_s, lq_n]; exact hsp
      · rw [up_n e]; exact lq_s F (by omega)) (by
      rw [up_s, lq_n]
      by_cases w : k = 5 ∨ k = 6
      · rw [if_pos w, if_pos w]; exact Or.inl ⟨rfl, rfl⟩
      · rw [if_neg w, if_neg w]; exact Or.inr ⟨rfl, rfl⟩)
    rw [up_s, lq_n, up_up] at h2
    exact h2
  · refine xw_ap hn (by omega) (by omega) (fq_lo F _ hsp) (by omega) (fun w => by omega) (fun _ => rfl) ?_
    have n0 : ∀ m, m < 15 → k ≠ m → ¬ nI k = nI m := fun m hm hne w => hne ((nI_eq (by omega) (by omega)).mp w)
    refine br_f (n0 0 (by omega) (by omega)) (br_f (n0 1 (by omega) (by omega)) (br_f (n0 5 (by omega) (by omega)) ?_))
    refine br_f (nI_nlt (b := 5) (by omega) (by omega)) (br_f (nI_nlt (a := 8) (by omega) (by omega)) ?_)
    refine xw_open (k := k) (by omega) (by omega) hn hoc up_s (by omega) (by omega) ?_
    exact br_f (n0 9 (by omega) (by omega)) (br_f (n0 10 (by omega) (by omega)) (br_f (n0 14 (by omega) (by omega)) h))
theorem ap_fun (F : FQ q) (M : MQ_ q) (hn : nn_ q < 48) (hx : x < 8) (hoc : oc_ q < 8) (g0 : pl_ q (oc_ q) = 0) (g1 : bt (lx_ q (sp_ q)) x = false) (g2 : bt (vn_ q (sp_ q)) x = false) : AP q 5 x 0 0 := by
  have h49 := fq_s F
  have hsp := fq_sp F
  refine ⟨(mL_ q, mT_ q, mD_ q, cm_ q, nn_ q + 1, sn_ q, sn_ q + 1, oc_ q + 1, up_ (kd_ q) (nn_ q) 5, up_ (ls_ q) (nn_ q) (sp_ q), up_ (oe_ q) (nn_ q) (ol_ q (oc_ q)), up_ (od_ q) (nn_ q) (sn_ q), up_ (up_ (up_ (ar_ q) (4 * nn_ q + 1) x) (4 * nn_ q + 2) 0) (4 * nn_ q + 3) 0, se_ q, up_ (ol_ q) (oc_ q + 1) (nn_ q), up_ (pl_ q) (oc_ q + 1) 0, up_ (pa_ q) (sn_ q) (sp_ q), up_ (ow_ q) (sn_ q) (sn_ q), up_ (sl_ q) (sn_ q) (nn_ q), up_ (lo_ q) (sn_ q) 0, up_ (lh_ q) (sp_ q) (nn_ q), lt_ q, upd (lx_ q) (sp_ q) (lx_ q (sp_ q) ||| ((1 : Int32) <<< (nI x &&& 31))), upd (upd (an_ q) (sp_ q) (an_ q (sp_ q) ||| ((1 : Int32) <<< (nI x &&& 31)))) (sn_ q) 0, vn_ q), ?_, ?_, rfl, rfl, rfl, rfl, rfl, fun c d post h => ?_, fun e post h => yw_add hn h⟩
  · have := fs_open F (k := 5) hn (by omega) (by omega) hoc (fun _ => g0)
    rw [lq_n] at this
    exact this
  · have h1 := fm_lex M (ws_of F) (k := 5) (x := x) (by rw [lq_n]; exact hsp) hn (Or.inr rfl) hx (ar_old (x := x) (y := 0) (z := 0)) ar_new (ar_72 M (by omega) (by omega) (by omega)) (by rw [lq_n]; exact g1) (by rw [lq_n]; exact g2)
    have h2 := fm_ns (o := sn_ q) (a := 0) h1 (ws_of F) (fun i hi => by
      by_cases e : i = nn_ q + 1
      · subst e; rw [up_s, lq_n]; exact hsp
      · rw [up_n e]; exact lq_s F (by omega)) (Or.inl ⟨rfl, rfl⟩)
    rw [up_s, lq_n, up_up, if_neg (by decide), if_pos rfl] at h2
    exact h2
  · refine xw_ap (k := 5) hn (by omega) (by omega) (fq_lo F _ hsp) (by omega) (fun w => by omega) (fun _ => rfl) ?_
    refine br_f (by decide) (br_f (by decide) (br_t rfl ?_))
    refine xw_fun (line := nn_ q) (by omega) ?_
    refine br_f (by decide) (br_f (by decide) ?_)
    refine xw_open (k := 5) (by omega) (by omega) hn hoc up_s (by omega) (by omega) ?_
    exact br_f (by decide) (br_f (by decide) (br_f (by decide) h))
theorem ap_sec {p : Nat} (F : FQ q) (M : MQ_ q) (hn : nn_ q < 48) (hx : x ≤ 72) (hy : y ≤ 72) (hk : (k = 9 ∧ p = 1) ∨ (k = 10 ∧ p = 2)) (hp : pl_ q (oc_ q) = p) : AP q k x y 0 := by
  have h49 := fq_s F
  have hsp := fq_sp F
  have ob := (fs_b F).2.2.2.1
  have hoc : oc_ q ≠ 0 := by
    intro w
    rw [w, (fs_p F).1] at hp
    omega
  refine ⟨(mL_ q, mT_ q, mD_ q, cm_ q, nn_ q + 1, sp_ q, sn_ q, oc_ q, up_ (kd_ q) (nn_ q) k, up_ (ls_ q) (nn_ q) (sp_ q), up_ (oe_ q) (nn_ q) (ol_ q (oc_ q)), od_ q, up_ (up_ (up_ (ar_ q) (4 * nn_ q + 1) x) (4 * nn_ q + 2) y) (4 * nn_ q + 3) 0, up_ (se_ q) (4 * ol_ q (oc_ q) + p) (nn_ q), ol_ q, up_ (pl_ q) (oc_ q) (p + 1), pa_ q, ow_ q, sl_ q, lo_ q, lh_ q, lt_ q, lx_ q, an_ q, vn_ q), ?_, ?_, rfl, rfl, rfl, rfl, rfl, fun c d post h => ?_, fun e post h => yw_add hn h⟩
  · have := fs_sec F hn hoc hk hp
    rw [lq_n] at this
    exact this
  · have h1 := fm_line0 M (k := k) (by omega) (by omega) (by omega) (ar_old (x := x) (y := y) (z := 0)) (ar_72 M hx hy (by omega)) (fun w => by rw [ar_new]; omega)
    rw [lq_n] at h1
    exact h1
  · refine xw_ap hn (by omega) (by omega) (fq_lo F _ hsp) (by omega) (fun w => by omega) (fun _ => rfl) ?_
    have n0 : ∀ m, m < 15 → k ≠ m → ¬ nI k = nI m := fun m hm hne w => hne ((nI_eq (by omega) (by omega)).mp w)
    refine br_f (n0 0 (by omega) (by omega)) (br_f (n0 1 (by omega) (by omega)) (br_f (n0 5 (by omega) (by omega)) ?_))
    refine br_f (nI_nlt (b := 5) (by omega) (by omega)) (br_t (nI_lt (a := 8) (by omega) (by omega)) ?_)
    have fin : wX_append_168 post (nI (nn_ q)) 0 1 2 3 0 1 2 3 4 5 (-1) 48 512 (nI ((mL_ q))) (nI ((mT_ q))) (nI ((mD_ q))) (nI ((cm_ q))) (nI ((nn_ q + 1))) (nI ((sp_ q))) (nI ((sn_ q))) (nI ((oc_ q))) (in_ d) (ss_ d) (nI (cu_ d)) (nI (pc_ d)) (nI (tk_ d)) (nI (ou_ d)) (nI (ev_ d)) (nI (ht_ d)) (nI (cl_ d)) (nI (fc_ d)) (fa_ d) (fun i => nI ((up_ (kd_ q) (nn_ q) k) i)) (fun i => nI ((up_ (ls_ q) (nn_ q) (sp_ q)) i)) (fun i => nI ((up_ (oe_ q) (nn_ q) (ol_ q (oc_ q))) i)) (fun i => nI ((od_ q) i)) (fun i => nI ((up_ (up_ (up_ (ar_ q) (4 * nn_ q + 1) x) (4 * nn_ q + 2) y) (4 * nn_ q + 3) 0) i)) (fun i => nI ((se_ q) i)) (fun i => nI ((ol_ q) i)) (fun i => nI ((pl_ q) i)) (fun i => nI (sv_ d i)) (fun i => nI (sw_ d i)) (fun i => nI ((pa_ q) i)) (fun i => nI ((ow_ q) i)) (fun i => nI ((sl_ q) i)) (fun i => nI ((lo_ q) i)) ((lx_ q)) ((an_ q)) ((vn_ q)) (fun i => nI ((lh_ q) i)) (cp_ c) (fun i => nI (st_ c i)) (fun i => nI (nc_ c i)) (fun i => nI (cc_ c i)) (fun i => nI (hd_ c i)) (fun i => nI ((lt_ q) i)) (fun i => nI (hm_ c i)) (fun i => nI (rm_ c i)) (ri_ c) (fun i => nI (rh_ c i)) (me_ d) (fun i => nI (fs_ d i)) (fun i => nI (fe_ d i)) (ot_ d) (li_ d) := by
      exact xw_es (l := ol_ q (oc_ q)) (p := p) hn (by omega) (by omega) ob up_s (fq_ol F) (by rw [up_s]; omega) hp (by omega) (fun w => by omega) (fun _ => h) (fun w => by omega)
    rcases hk with ⟨rfl, -⟩ | ⟨rfl, -⟩
    · exact br_t rfl fin
    · exact br_f (by decide) (br_t rfl fin)
theorem ap_body (F : FQ q) (M : MQ_ q) (hn : nn_ q < 48) (hp : pl_ q (oc_ q) = 3) : AP q 9 0 0 0 := by
  have h49 := fq_s F
  have hsp := fq_sp F
  have ob := (fs_b F).2.2.2.1
  have hoc : oc_ q ≠ 0 := by
    intro w
    rw [w, (fs_p F).1] at hp
    omega
  refine ⟨(mL_ q, mT_ q, mD_ q, cm_ q, nn_ q + 1, sn_ q, sn_ q + 1, oc_ q, up_ (kd_ q) (nn_ q) 9, up_ (ls_ q) (nn_ q) (sp_ q), up_ (oe_ q) (nn_ q) (ol_ q (oc_ q)), up_ (od_ q) (nn_ q) (sn_ q), up_ (up_ (up_ (ar_ q) (4 * nn_ q + 1) 0) (4 * nn_ q + 2) 0) (4 * nn_ q + 3) 0, up_ (se_ q) (4 * ol_ q (oc_ q) + 3) (nn_ q), ol_ q, up_ (pl_ q) (oc_ q) 0, up_ (pa_ q) (sn_ q) (sp_ q), up_ (ow_ q) (sn_ q) (ow_ q (sp_ q)), up_ (sl_ q) (sn_ q) (nn_ q), up_ (lo_ q) (sn_ q) (ol_ q (oc_ q) + 1), lh_ q, lt_ q, lx_ q, upd (an_ q) (sn_ q) (an_ q (sp_ q)), vn_ q), ?_, ?_, rfl, rfl, rfl, rfl, rfl, fun c d post h => ?_, fun e post h => yw_add hn h⟩
  · have := fs_body F hn hoc hp
    rw [lq_n] at this
    exact this
  · have h1 := fm_line0 M (k := 9) (by omega) (by omega) (by omega) (ar_old (x := 0) (y := 0) (z := 0)) (ar_72 M (by omega) (by omega) (by omega)) (fun w => by omega)
    have h2 := fm_ns (o := ow_ q (sp_ q)) (a := an_ q (sp_ q)) h1 (ws_of F) (fun i hi => by
      by_cases e : i = nn_ q + 1
      · subst e; rw [up_s, lq_n]; exact hsp
      · rw [up_n e]; exact lq_s F (by omega)) (by
      rw [up_s, lq_n]
      exact Or.inr ⟨rfl, rfl⟩)
    rw [up_s, lq_n, up_up] at h2
    exact h2
  · refine xw_ap (k := 9) hn (by omega) (by omega) (fq_lo F _ hsp) (by omega) (fun w => by omega) (fun _ => rfl) ?_
    refine br_f (by decide) (br_f (by decide) (br_f (by decide) (br_f (by decide) (br_t (by decide) (br_t rfl ?_)))))
    exact xw_es (l := ol_ q (oc_ q)) (p := 3) hn (by omega) (by omega) ob up_s (fq_ol F) (by rw [up_s]; omega) hp (by omega) (fun w => by omega) (fun w => by omega) (fun _ => ⟨up_s, h⟩)
theorem ap_end (F : FQ q) (M : MQ_ q) (hn : nn_ q < 48) (hoc : oc_ q ≠ 0) (hp : pl_ q (oc_ q) = 0) : AP q 14 0 0 0 := by
  have h49 := fq_s F
  have hsp := fq_sp F
  have ob := (fs_b F).2.2.2.1
  refine ⟨(mL_ q, mT_ q, mD_ q, cm_ q, nn_ q + 1, Lq_ q (ol_ q (oc_ q)), sn_ q, oc_ q - 1, up_ (kd_ q) (nn_ q) 14, up_ (ls_ q) (nn_ q) (sp_ q), up_ (oe_ q) (nn_ q) (ol_ q (oc_ q)), od_ q, up_ (up_ (up_ (ar_ q) (4 * nn_ q + 1) 0) (4 * nn_ q + 2) 0) (4 * nn_ q + 3) 0, up_ (se_ q) (4 * ol_ q (oc_ q)) (nn_ q), ol_ q, up_ (pl_ q) (oc_ q) 1, pa_ q, ow_ q, sl_ q, lo_ q, lh_ q, lt_ q, lx_ q, an_ q, vn_ q), ?_, ?_, rfl, rfl, rfl, rfl, rfl, fun c d post h => ?_, fun e post h => yw_add hn h⟩
  · exact fs_end F hn hoc hp
  · have h1 := fm_line0 M (k := 14) (by omega) (by omega) (by omega) (ar_old (x := 0) (y := 0) (z := 0)) (ar_72 M (by omega) (by omega) (by omega)) (fun w => by omega)
    have hac : ac_ (pa_ q) (Lq_ q (nn_ q)) (Lq_ q (ol_ q (oc_ q))) := by
      obtain ⟨t1, t2, t3, t4, t5, t6⟩ := fs_top F hoc
      obtain ⟨s1, s2⟩ := fs_scope F hoc
      obtain ⟨o1, o2, o3, o4⟩ := (fs_l F _ t1).2.1 t3 t4
      by_cases w : kd_ q (ol_ q (oc_ q)) = 8 ∧ se_ q (4 * ol_ q (oc_ q) + 3) ≠ 0
      · obtain ⟨b1, b2, b3⟩ := s1 w
        obtain ⟨c1, c2, c3, c4, c5⟩ := (fs_e F _ t1).2.2.2 w.2
        obtain ⟨l2, d1, d2, d3, d4⟩ := (fs_l F _ c3).2.2.1 c4
        have el : l2 = ol_ q (oc_ q) := by omega
        subst el
        have pb : pa_ q (Lq_ q (nn_ q)) = od_ q (ol_ q (oc_ q)) := by
          rw [(fs_c F _ b2 (lq_s F (Nat.le_refl _))).2.2.2.1, b3]
          exact d3
        exact ac_it.mpr (Or.inr (ac_it.mpr (Or.inr ⟨0, by rw [pb, o3]; rfl⟩)))
      · obtain ⟨b1, b2, b3⟩ := s2 w
        exact ac_it.mpr (Or.inr ⟨0, by rw [b1, o3]; rfl⟩)
    have h2 := fm_pop h1 (s' := Lq_ q (ol_ q (oc_ q))) (by rw [up_s]; exact hac)
    rw [up_up] at h2
    exact h2
  · refine xw_ap (k := 14) hn (by omega) (by omega) (fq_lo F _ hsp) (by omega) (fun w => by omega) (fun _ => rfl) ?_
    refine br_f (by decide) (br_f (by decide) (br_f (by decide) (br_f (by decide) (br_t (by decide) (br_f (by decide) (br_f (by decide) (br_t rfl ?_)))))))
    exact xw_es (l := ol_ q (oc_ q)) (p := 0) hn (by omega) (by omega) ob up_s (fq_ol F) (by rw [up_s]; omega) hp (by omega) (fun _ => ⟨h, hoc⟩) (fun w => by omega) (fun w => by omega)
end
end
section
def KP (q q' : QT) : Prop := FQ q' ∧ MQ_ q' ∧ mL_ q' = mL_ q ∧ mT_ q' = mT_ q ∧ mD_ q' = mD_ q ∧ cm_ q' = cm_ q ∧ nn_ q' = nn_ q + 1
def FO (q : QT) (c : CT) (d : DT) (e : ET) (WX : (Int32 → SX → Prop) → Prop) (WY : (Int32 → SY → Prop) → Prop) : Prop :=
  (∃ r, (∀ post, post r (XT q c d) → WX post) ∧ (∀ post, post r (YT q e) → WY post)) ∨
  (cm_ q = 0 ∧ nn_ q < mL_ q ∧ ∃ r q', KP q q' ∧ (∀ post, post r (XT q' c d) → WX post) ∧ (∀ post, post r (YT q' e) → WY post))
def in72 (v : Int32) : Prop := ∃ x, x ≤ 72 ∧ v = nI x
def in7 (v : Int32) : Prop := ∃ x, x < 8 ∧ v = nI x
theorem in72_of {v : Int32} (h0 : ¬ v < 0) (h : ¬ 72 < v) : in72 v := by
  obtain ⟨j, hj, e⟩ := nI_of2 (n := 72) (by decide) h0 (Int32.not_lt.mp h)
  exact ⟨j, hj, e⟩
theorem in72_n {v : Int32} (h : in72 v) : ¬ v < 0 ∧ ¬ 72 < v ∧ v ≤ 72 := by
  obtain ⟨x, hx, rfl⟩ := h
  exact ⟨nI_pos (by omega), nI_nlt (a := 72) (by omega) (by omega), nI_le (b := 72) (by omega) (by omega)⟩
theorem in7_of {v : Int32} (h0 : ¬ v < 0) (h : ¬ 7 < v) : in7 v := by
  obtain ⟨j, hj, e⟩ := nI_of2 (n := 7) (by decide) h0 (Int32.not_lt.mp h)
  exact ⟨j, by omega, e⟩
theorem in7_n {v : Int32} (h : in7 v) : ¬ v < 0 ∧ ¬ 7 < v ∧ v ≤ 7 := by
  obtain ⟨x, hx, rfl⟩ := h
  exact ⟨nI_pos (by omega), nI_nlt (a := 7) (by omega) (by omega), nI_le (b := 7) (by omega) (by omega)⟩
section
variable {q : QT} {c : CT} {d : DT} {e : ET}
theorem xw_bp {post : Int32 → Prop} {a b : Int32} (h0 : in72 a → in72 b → post 0) (h1 : ¬ (in72 a ∧ in72 b) → post 1) : wpX_badPair post (XT q c d) a b := by
  refine br_c (fun w => h1 (fun z => (in72_n z.1).1 w)) (fun w1 => br_c (fun w => h1 (fun z => (in72_n z.1).2.1 w)) (fun w2 => br_c (fun w => h1 (fun z => (in72_n z.2).1 w)) (fun w3 => br_c (fun w => h0 (in72_of w1 w2) (in72_of w3 (Int32.not_lt.mpr w))) (fun w => h1 (fun z => w (in72_n z.2).2.2)))))
theorem yw_op {post : Int32 → Prop} {a : Int32} (h1 : in72 a → post 1) (h0 : ¬ in72 a → post 0) : wpY_operand post (YT q e) a := by
  refine br_c (fun w => h0 (fun z => (in72_n z).1 w)) (fun w1 => br_c (fun w => h0 (fun z => (in72_n z).2.1 w)) (fun w2 => h1 (in72_of w1 w2)))
def cb_ (q : QT) (k x : Nat) : Bool := if k = 1 then bt (an_ q (sp_ q)) x else if k = 0 ∨ k = 5 then (bt (lx_ q (sp_ q)) x || bt (vn_ q (sp_ q)) x) else false
theorem xw_c49 {post : Int32 → Prop} {v : Int32} {z : Int32} (h : ∀ r, (∀ x, x < 8 → v = nI x → r = if bt z x = true then -6 else 0) → post r) : wX_clash_49 post v z 0 1 2 3 0 1 2 3 4 5 (-1) 48 512 (nI (mL_ q)) (nI (mT_ q)) (nI (mD_ q)) (nI (cm_ q)) (nI (nn_ q)) (nI (sp_ q)) (nI (sn_ q)) (nI (oc_ q)) (in_ d) (ss_ d) (nI (cu_ d)) (nI (pc_ d)) (nI (tk_ d)) (nI (ou_ d)) (nI (ev_ d)) (nI (ht_ d)) (nI (cl_ d)) (nI (fc_ d)) (fa_ d) (fun i => nI (kd_ q i)) (fun i => nI (ls_ q i)) (fun i => nI (oe_ q i)) (fun i => nI (od_ q i)) (fun i => nI (ar_ q i)) (fun i => nI (se_ q i)) (fun i => nI (ol_ q i)) (fun i => nI (pl_ q i)) (fun i => nI (sv_ d i)) (fun i => nI (sw_ d i)) (fun i => nI (pa_ q i)) (fun i => nI (ow_ q i)) (fun i => nI (sl_ q i)) (fun i => nI (lo_ q i)) (lx_ q) (an_ q) (vn_ q) (fun i => nI (lh_ q i)) (cp_ c) (fun i => nI (st_ c i)) (fun i => nI (nc_ c i)) (fun i => nI (cc_ c i)) (fun i => nI (hd_ c i)) (fun i => nI (lt_ q i)) (fun i => nI (hm_ c i)) (fun i => nI (rm_ c i)) (ri_ c) (fun i => nI (rh_ c i)) (me_ d) (fun i => nI (fs_ d i)) (fun i => nI (fe_ d i)) (ot_ d) (li_ d) := by
  refine br_c (fun w => h 0 (fun x hx e => ?_)) (fun w => h (-6) (fun x hx e => ?_))
  · subst e
    rw [if_neg]
    rw [(bs_t (by omega)).mp w]
    decide
  · subst e
    rw [if_pos]
    cases hb : bt z x with
    | true => rfl
    | false => exact absurd ((bs_t (by omega)).mpr hb) w
theorem xw_clash {post : Int32 → Prop} {k v : Int32} (hs : sp_ q < 64) (h : ∀ r, (∀ m x, m ≤ 14 → x < 8 → k = nI m → v = nI x → r = if cb_ q m x = true then -6 else 0) → post r) : wpX_clash post (XT q c d) k v := by
  have vs : vp_in (nI (sp_ q)) 64 := vp_in_nI hs (by omega)
  have E : ∀ m n : Nat, m ≤ 14 → n ≤ 14 → nI m = nI n → m = n := fun m n h1 h2 h3 => (nI_eq (by omega) (by omega)).mp h3
  have L26 : (k = nI 0 ∨ k = nI 5) → wX_clash_26 post v 0 1 2 3 0 1 2 3 4 5 (-1) 48 512 (nI (mL_ q)) (nI (mT_ q)) (nI (mD_ q)) (nI (cm_ q)) (nI (nn_ q)) (nI (sp_ q)) (nI (sn_ q)) (nI (oc_ q)) (in_ d) (ss_ d) (nI (cu_ d)) (nI (pc_ d)) (nI (tk_ d)) (nI (ou_ d)) (nI (ev_ d)) (nI (ht_ d)) (nI (cl_ d)) (nI (fc_ d)) (fa_ d) (fun i => nI (kd_ q i)) (fun i => nI (ls_ q i)) (fun i => nI (oe_ q i)) (fun i => nI (od_ q i)) (fun i => nI (ar_ q i)) (fun i => nI (se_ q i)) (fun i => nI (ol_ q i)) (fun i => nI (pl_ q i)) (fun i => nI (sv_ d i)) (fun i => nI (sw_ d i)) (fun i => nI (pa_ q i)) (fun i => nI (ow_ q i)) (fun i => nI (sl_ q i)) (fun i => nI (lo_ q i)) (lx_ q) (an_ q) (vn_ q) (fun i => nI (lh_ q i)) (cp_ c) (fun i => nI (st_ c i)) (fun i => nI (nc_ c i)) (fun i => nI (cc_ c i)) (fun i => nI (hd_ c i)) (fun i => nI (lt_ q i)) (fun i => nI (hm_ c i)) (fun i => nI (rm_ c i)) (ri_ c) (fun i => nI (rh_ c i)) (me_ d) (fun i => nI (fs_ d i)) (fun i => nI (fe_ d i)) (ot_ d) (li_ d) := by
    intro hk
    refine And.intro vs (And.intro vs (xw_c49 (fun r hr => h r (fun m x hm hx e1 e2 => ?_))))
    rw [hr x hx e2, nI_clamp (by omega)]
    unfold cb_
    have : m = 0 ∨ m = 5 := by
      rcases hk with hk | hk
      · exact Or.inl (E m 0 hm (by omega) (by rw [← e1, hk]))
      · exact Or.inr (E m 5 hm (by omega) (by rw [← e1, hk]))
    rw [if_neg (show ¬ m = 1 by omega), if_pos this, b_or]
  refine br_c (fun w1 => ⟨vs, xw_c49 (fun r hr => h r (fun m x hm hx e1 e2 => ?_))⟩) (fun w1 => br_c (fun w0 => L26 (Or.inl w0)) (fun w0 => br_c (fun w5 => L26 (Or.inr w5)) (fun w5 => xw_c49 (fun r hr => h r (fun m x hm hx e1 e2 => ?_)))))
  · have : m = 1 := E m 1 hm (by omega) (by rw [← e1]; exact w1)
    rw [hr x hx e2, nI_clamp (by omega)]
    unfold cb_
    rw [if_pos this]
  · rw [hr x hx e2, b_0, if_neg (by decide)]
    unfold cb_
    have n1 : m ≠ 1 := fun z => w1 (by rw [e1, z]; rfl)
    have n0 : m ≠ 0 := fun z => w0 (by rw [e1, z]; rfl)
    have n5 : m ≠ 5 := fun z => w5 (by rw [e1, z]; rfl)
    have nf : ¬ (m = 0 ∨ m = 5) := by omega
    have e0 : (if m = 1 then bt (an_ q (sp_ q)) x else if m = 0 ∨ m = 5 then (bt (lx_ q (sp_ q)) x || bt (vn_ q (sp_ q)) x) else false) = false := by rw [if_neg n1, if_neg nf]
    rw [e0]
    rfl
theorem cl_iff (F : FQ q) (M : MQ_ q) {k x : Nat} (hk : k = 0 ∨ k = 1 ∨ k = 5) (hx : x < 8) : (∃ i, i < nn_ q ∧ hc_ (nn_ q) (kd_ q) (Lq_ q) (ar_ q) (pa_ q) (ow_ q) k x i) ↔ cb_ q k x = true := by
  obtain ⟨h1, h2, h3, -⟩ := M
  have hn := lq_n (q := q)
  unfold cb_
  by_cases k1 : k = 1
  · rw [if_pos k1, ← hn, h3 _ x hx (ac_self _ _)]
    constructor
    · rintro ⟨i, i1, i2, ⟨-, a, -⟩ | ⟨a, b, c⟩ | ⟨-, a, -⟩⟩
      · exact absurd k1 a
      · exact ⟨_, c, (h1 _ x hx).mpr ⟨i, i1, a, i2, rfl⟩⟩
      · exact absurd k1 a
    · rintro ⟨t, t1, t2⟩
      obtain ⟨j, j1, j2, j3, j4⟩ := (h1 t x hx).mp t2
      subst j4
      exact ⟨j, j1, j3, Or.inr (Or.inl ⟨j2, k1, t1⟩)⟩
  · rw [if_neg k1, if_pos (by omega), Bool.or_eq_true, ← hn, h1 _ x hx, h2 _ x hx]
    constructor
    · rintro ⟨i, i1, i2, ⟨a, -, b⟩ | ⟨-, a, -⟩ | ⟨a, -, b⟩⟩
      · exact Or.inr ⟨i, i1, a, i2, b⟩
      · exact absurd a k1
      · exact Or.inl ⟨i, i1, a, i2, b⟩
    · rintro (⟨j, j1, j2, j3, j4⟩ | ⟨j, j1, j2, j3, j4⟩)
      · exact ⟨j, j1, j3, Or.inr (Or.inr ⟨j2, k1, j4⟩)⟩
      · exact ⟨j, j1, j3, Or.inl ⟨j2, k1, j4⟩⟩
theorem yw_clash {post : Int32 → Prop} (F : FQ q) (M : MQ_ q) {k x : Nat} (hk : k = 0 ∨ k = 1 ∨ k = 5) (hx : x < 8) (h1 : cb_ q k x = true → post 1) (h0 : cb_ q k x = false → post 0) : wpY_clash post (YT q e) (nI k) (nI x) := by
  refine yw_cl F M.2.2.2.2.2.2.2.2.1 (by omega) hx (fun w => h1 ((cl_iff F M hk hx).mp w)) (fun w => h0 ?_)
  cases hb : cb_ q k x with
  | false => rfl
  | true =>
    obtain ⟨i, i1, i2⟩ := (cl_iff F M hk hx).mpr hb
    exact absurd i2 (w i i1)
theorem xw_feed {post : Int32 → SX → Prop} {B Mi Lt K X Y Z : Int32} (hn : nn_ q ≤ 48) (hm : mL_ q ≤ 48) (hc : cm_ q ≤ 1)
    (h1 : cm_ q ≠ 0 → post (-1) (XT q c d)) (h2 : cm_ q = 0 → B ≠ 0 → post (-2) (XT q c d)) (h3 : cm_ q = 0 → B = 0 → mL_ q ≤ nn_ q → post (-3) (XT q c d))
    (h4 : cm_ q = 0 → B = 0 → nn_ q < mL_ q → Mi ≠ 0 → post (-4) (XT q c d)) (h5 : cm_ q = 0 → B = 0 → nn_ q < mL_ q → Mi = 0 → Lt ≠ 0 → post Lt (XT q c d))
    (h6 : cm_ q = 0 → B = 0 → nn_ q < mL_ q → Mi = 0 → Lt = 0 → ∀ post', (∀ r q', post r (XT q' c d) → post' r (XT q' c d)) → wpX_append post' (XT q c d) K X Y Z) : wpX_feed post (XT q c d) B Mi Lt K X Y Z := by
  refine pk_eq (cm_ q) 0 (fun z => ?_) (fun z => br_f (by decide) (h1 z)) rfl rfl (by omega) (by omega)
  refine br_c (fun b => ?_) (fun b => br_f (by decide) (h2 z b))
  refine pk_lt (nn_ q) (mL_ q) (fun l => ?_) (fun l => br_f (by decide) (h3 z b l)) rfl rfl (by omega) (by omega)
  refine br_c (fun m => ?_) (fun m => br_f (by decide) (h4 z b l m))
  exact br_c (fun t => h6 z b l m t _ (fun r q' hh => hh)) (fun t => h5 z b l m t)
end
end
section
section
variable {q : QT} {c : CT} {d : DT} {e : ET}
theorem fo_mk (hn : nn_ q ≤ 48) (hm : mL_ q ≤ 48) (hc : cm_ q ≤ 1) {WX : (Int32 → SX → Prop) → Prop} {WY : (Int32 → SY → Prop) → Prop} {bad mis : Prop} {late vK vX vY vZ : Int32}
    (hX : ∀ post, (∀ B Mi Lt, (B = 0 ↔ ¬ bad) → (¬ bad → (Mi = 0 ↔ ¬ mis)) → (¬ bad → ¬ mis → Lt = late) → wpX_feed post (XT q c d) B Mi Lt vK vX vY vZ) → WX post)
    (hY1 : cm_ q ≠ 0 → ∀ post, post (-1) (YT q e) → WY post) (hY2 : cm_ q = 0 → bad → ∀ post, post (-2) (YT q e) → WY post)
    (hY3 : cm_ q = 0 → ¬ bad → mL_ q ≤ nn_ q → ∀ post, post (-3) (YT q e) → WY post) (hY4 : cm_ q = 0 → ¬ bad → nn_ q < mL_ q → mis → ∀ post, post (-4) (YT q e) → WY post)
    (hY5 : cm_ q = 0 → ¬ bad → nn_ q < mL_ q → ¬ mis → late ≠ 0 → ∀ post, post late (YT q e) → WY post)
    (hA : cm_ q = 0 → ¬ bad → nn_ q < mL_ q → ¬ mis → late = 0 → ∃ k x y z : Nat, vK = nI k ∧ vX = nI x ∧ vY = nI y ∧ vZ = nI z ∧ AP q k x y z ∧ ∀ post, (∀ post', (∀ r q', post r (YT q' e) → post' r (YT q' e)) → wpY_add post' (YT q e) (nI k) (nI x) (nI y) (nI z)) → WY post) : FO q c d e WX WY := by
  by_cases hcm : cm_ q = 0
  · by_cases hb : bad
    · refine Or.inl ⟨-2, fun post h => hX post (fun B Mi Lt a1 a2 a3 => ?_), hY2 hcm hb⟩
      have b0 : B ≠ 0 := fun z => a1.mp z hb
      exact xw_feed hn hm hc (fun z => absurd hcm z) (fun _ _ => h) (fun _ z => absurd z b0) (fun _ z => absurd z b0) (fun _ z => absurd z b0) (fun _ z => absurd z b0)
    · by_cases hl : nn_ q < mL_ q
      · by_cases hmi : mis
        · refine Or.inl ⟨-4, fun post h => hX post (fun B Mi Lt a1 a2 a3 => ?_), hY4 hcm hb hl hmi⟩
          have b0 : B = 0 := a1.mpr hb
          have m0 : Mi ≠ 0 := fun z => (a2 hb).mp z hmi
          exact xw_feed hn hm hc (fun z => absurd hcm z) (fun _ z => absurd b0 z) (fun _ _ z => by omega) (fun _ _ _ _ => h) (fun _ _ _ z => absurd z m0) (fun _ _ _ z => absurd z m0)
        · by_cases hlt : late = 0
          · obtain ⟨k, x, y, z, e1, e2, e3, e4, ⟨q', f1, f2, f3, f4, f5, f6, f7, f8, f9⟩, hw⟩ := hA hcm hb hl hmi hlt
            refine Or.inr ⟨hcm, hl, nI (nn_ q), q', ⟨f1, f2, f3, f4, f5, f6, f7⟩, fun post h => hX post (fun B Mi Lt a1 a2 a3 => ?_), fun post h => hw post (fun post' hh => f9 e post' (hh _ _ h))⟩
            have b0 : B = 0 := a1.mpr hb
            have m0 : Mi = 0 := (a2 hb).mpr hmi
            have l0 := a3 hb hmi
            refine xw_feed hn hm hc (fun z => absurd hcm z) (fun _ z => absurd b0 z) (fun _ _ z => by omega) (fun _ _ _ z => absurd m0 z) (fun _ _ _ _ z => absurd (l0.trans hlt) z) (fun _ _ _ _ _ post' hh => ?_)
            rw [e1, e2, e3, e4]
            exact f8 c d post' (hh _ _ h)
          · refine Or.inl ⟨late, fun post h => hX post (fun B Mi Lt a1 a2 a3 => ?_), hY5 hcm hb hl hmi hlt⟩
            have b0 : B = 0 := a1.mpr hb
            have m0 : Mi = 0 := (a2 hb).mpr hmi
            have l0 := a3 hb hmi
            subst l0
            exact xw_feed hn hm hc (fun z => absurd hcm z) (fun _ z => absurd b0 z) (fun _ _ z => by omega) (fun _ _ _ z => absurd m0 z) (fun _ _ _ _ _ => h) (fun _ _ _ _ z => absurd z hlt)
      · refine Or.inl ⟨-3, fun post h => hX post (fun B Mi Lt a1 a2 a3 => ?_), hY3 hcm hb (by omega)⟩
        have b0 : B = 0 := a1.mpr hb
        exact xw_feed hn hm hc (fun z => absurd hcm z) (fun _ z => absurd b0 z) (fun _ _ _ => h) (fun _ _ z => absurd z hl) (fun _ _ z => absurd z hl) (fun _ _ z => absurd z hl)
  · refine Or.inl ⟨-1, fun post h => hX post (fun B Mi Lt a1 a2 a3 => ?_), hY1 hcm⟩
    exact xw_feed hn hm hc (fun _ => h) (fun z => absurd z hcm) (fun z => absurd z hcm) (fun z => absurd z hcm) (fun z => absurd z hcm) (fun z => absurd z hcm)
def GQ (q : QT) : Prop := FQ q ∧ MQ_ q ∧ mL_ q ≤ 48 ∧ cm_ q ≤ 1
theorem cm0 {A B : Prop} (h : cm_ q = 0) (a : A) : (nI (cm_ q) = 0 → A) ∧ (¬ nI (cm_ q) = 0 → B) := br_t (by rw [h]; rfl) a
theorem cm1 {A B : Prop} (hc : cm_ q ≤ 1) (h : cm_ q ≠ 0) (b : B) : (nI (cm_ q) = 0 → A) ∧ (¬ nI (cm_ q) = 0 → B) := br_f (fun z => h ((nI_eq (b := 0) (by omega) (by omega)).mp z)) b
theorem pl_b (F : FQ q) : pl_ q (oc_ q) ≤ 3 := by
  by_cases z : oc_ q = 0
  · rw [z, (fs_p F).1]; omega
  · rw [(fs_top F z).2.2.2.2.2]; exact pq_le _
theorem nlt_ (h : nn_ q < mL_ q) (hm : mL_ q ≤ 48) : nI (nn_ q) < nI (mL_ q) := nI_lt h (by omega)
theorem nge_ (h : mL_ q ≤ nn_ q) (hn : nn_ q ≤ 48) : ¬ nI (nn_ q) < nI (mL_ q) := nI_nlt h (by omega)
theorem nI_n {a b : Nat} (ha : a < 100) (hb : b < 100) (h : a ≠ b) : ¬ nI a = nI b := fun z => h ((nI_eq (by omega) (by omega)).mp z)
def pg_ (v1 v2 v3 v4 : Int32) : Prop := (v1 = 0 ∨ v1 = 1 ∨ v1 = 2) ∧ in7 v2 ∧ in72 v3 ∧ in72 v4
theorem xw_put (G : GQ q) {post : Int32 → SX → Prop} {v1 v2 v3 v4 : Int32}
    (h : ∀ B Mi Lt, (B = 0 ↔ pg_ v1 v2 v3 v4) → ((v1 = 0 ∨ v1 = 1) → (Mi = 0 ↔ pl_ q (oc_ q) < 2)) → (¬ (v1 = 0 ∨ v1 = 1) → Mi = 0) → (∀ m x, m ≤ 14 → x < 8 → v1 = nI m → v2 = nI x → Lt = if cb_ q m x = true then -6 else 0) → wpX_feed post (XT q c d) B Mi Lt v1 v2 v3 v4) :
    wpX_put post (XT q c d) v1 v2 v3 v4 := by
  obtain ⟨F, M, hm, hc⟩ := G
  have h49 := fq_s F
  have hsp := fq_sp F
  have ob := (fs_b F).2.2.2.1
  have pb := pl_b F
  have L48 : ∀ x5 z0 : Int32, (x5 = 0 ↔ ¬ (v1 = 0 ∨ v1 = 1)) → (z0 = 0 ↔ pg_ v1 v2 v3 v4) → wX_put_48 post v1 v2 v3 v4 x5 z0 0 1 2 3 0 1 2 3 4 5 (-1) 48 512 (nI (mL_ q)) (nI (mT_ q)) (nI (mD_ q)) (nI (cm_ q)) (nI (nn_ q)) (nI (sp_ q)) (nI (sn_ q)) (nI (oc_ q)) (in_ d) (ss_ d) (nI (cu_ d)) (nI (pc_ d)) (nI (tk_ d)) (nI (ou_ d)) (nI (ev_ d)) (nI (ht_ d)) (nI (cl_ d)) (nI (fc_ d)) (fa_ d) (fun i => nI (kd_ q i)) (fun i => nI (ls_ q i)) (fun i => nI (oe_ q i)) (fun i => nI (od_ q i)) (fun i => nI (ar_ q i)) (fun i => nI (se_ q i)) (fun i => nI (ol_ q i)) (fun i => nI (pl_ q i)) (fun i => nI (sv_ d i)) (fun i => nI (sw_ d i)) (fun i => nI (pa_ q i)) (fun i => nI (ow_ q i)) (fun i => nI (sl_ q i)) (fun i => nI (lo_ q i)) (lx_ q) (an_ q) (vn_ q) (fun i => nI (lh_ q i)) (cp_ c) (fun i => nI (st_ c i)) (fun i => nI (nc_ c i)) (fun i => nI (cc_ c i)) (fun i => nI (hd_ c i)) (fun i => nI (lt_ q i)) (fun i => nI (hm_ c i)) (fun i => nI (rm_ c i)) (ri_ c) (fun i => nI (rh_ c i)) (me_ d) (fun i => nI (fs_ d i)) (fun i => nI (fe_ d i)) (ot_ d) (li_ d) := by
    intro x5 z0 hx5 hz0
    refine xw_clash (q := q) (c := c) (d := d) (by omega) (fun r hr => ?_)
    refine br_c (fun w => ?_) (fun w => ⟨vp_in_nI (by omega) (by omega), ?_⟩)
    · exact h z0 0 r hz0 (fun z => absurd z (hx5.mp w)) (fun _ => rfl) hr
    · have b01 : v1 = 0 ∨ v1 = 1 := Classical.byContradiction (fun z => w (hx5.mpr z))
      refine pk_lt (pl_ q (oc_ q)) 2 (fun z => ?_) (fun z => ?_) (ga_ rfl (by omega)) rfl (by omega) (by omega)
      · exact h z0 0 r hz0 (fun _ => ⟨fun _ => z, fun _ => rfl⟩) (fun _ => rfl) hr
      · exact h z0 1 r hz0 (fun _ => ⟨fun w => absurd w (by decide), fun w => by omega⟩) (fun z => absurd b01 z) hr
  have L43 : ∀ x5 : Int32, (x5 = 0 ↔ ¬ (v1 = 0 ∨ v1 = 1)) → ¬ pg_ v1 v2 v3 v4 → wX_put_43 post v1 v2 v3 v4 x5 0 1 2 3 0 1 2 3 4 5 (-1) 48 512 (nI (mL_ q)) (nI (mT_ q)) (nI (mD_ q)) (nI (cm_ q)) (nI (nn_ q)) (nI (sp_ q)) (nI (sn_ q)) (nI (oc_ q)) (in_ d) (ss_ d) (nI (cu_ d)) (nI (pc_ d)) (nI (tk_ d)) (nI (ou_ d)) (nI (ev_ d)) (nI (ht_ d)) (nI (cl_ d)) (nI (fc_ d)) (fa_ d) (fun i => nI (kd_ q i)) (fun i => nI (ls_ q i)) (fun i => nI (oe_ q i)) (fun i => nI (od_ q i)) (fun i => nI (ar_ q i)) (fun i => nI (se_ q i)) (fun i => nI (ol_ q i)) (fun i => nI (pl_ q i)) (fun i => nI (sv_ d i)) (fun i => nI (sw_ d i)) (fun i => nI (pa_ q i)) (fun i => nI (ow_ q i)) (fun i => nI (sl_ q i)) (fun i => nI (lo_ q i)) (lx_ q) (an_ q) (vn_ q) (fun i => nI (lh_ q i)) (cp_ c) (fun i => nI (st_ c i)) (fun i => nI (nc_ c i)) (fun i => nI (cc_ c i)) (fun i => nI (hd_ c i)) (fun i => nI (lt_ q i)) (fun i => nI (hm_ c i)) (fun i => nI (rm_ c i)) (ri_ c) (fun i => nI (rh_ c i)) (me_ d) (fun i => nI (fs_ d i)) (fun i => nI (fe_ d i)) (ot_ d) (li_ d) := fun x5 h5 hg => L48 x5 1 h5 ⟨fun w => absurd w (by decide), fun w => absurd w hg⟩
  have L26 : ∀ x5 : Int32, (x5 = 0 ↔ ¬ (v1 = 0 ∨ v1 = 1)) → (v1 = 0 ∨ v1 = 1 ∨ v1 = 2) → wX_put_26 post v1 v2 v3 v4 x5 0 1 2 3 0 1 2 3 4 5 (-1) 48 512 (nI (mL_ q)) (nI (mT_ q)) (nI (mD_ q)) (nI (cm_ q)) (nI (nn_ q)) (nI (sp_ q)) (nI (sn_ q)) (nI (oc_ q)) (in_ d) (ss_ d) (nI (cu_ d)) (nI (pc_ d)) (nI (tk_ d)) (nI (ou_ d)) (nI (ev_ d)) (nI (ht_ d)) (nI (cl_ d)) (nI (fc_ d)) (fa_ d) (fun i => nI (kd_ q i)) (fun i => nI (ls_ q i)) (fun i => nI (oe_ q i)) (fun i => nI (od_ q i)) (fun i => nI (ar_ q i)) (fun i => nI (se_ q i)) (fun i => nI (ol_ q i)) (fun i => nI (pl_ q i)) (fun i => nI (sv_ d i)) (fun i => nI (sw_ d i)) (fun i => nI (pa_ q i)) (fun i => nI (ow_ q i)) (fun i => nI (sl_ q i)) (fun i => nI (lo_ q i)) (lx_ q) (an_ q) (vn_ q) (fun i => nI (lh_ q i)) (cp_ c) (fun i => nI (st_ c i)) (fun i => nI (nc_ c i)) (fun i => nI (cc_ c i)) (fun i => nI (hd_ c i)) (fun i => nI (lt_ q i)) (fun i => nI (hm_ c i)) (fun i => nI (rm_ c i)) (ri_ c) (fun i => nI (rh_ c i)) (me_ d) (fun i => nI (fs_ d i)) (fun i => nI (fe_ d i)) (ot_ d) (li_ d) := by
    intro x5 h5 hv
    refine br_c (fun w => ?_) (fun w => L43 x5 h5 (fun z => w ((bs_8i v2).mpr z.2.1)))
    refine xw_bp (q := q) (c := c) (d := d) (fun a b => br_t rfl (L48 x5 0 h5 ⟨fun _ => ⟨hv, (bs_8i v2).mp w, a, b⟩, fun _ => rfl⟩)) (fun a => br_f (by decide) (L43 x5 h5 (fun z => a z.2.2)))
  have L9 : (v1 = 0 ∨ v1 = 1) → wX_put_9 post v1 v2 v3 v4 0 1 2 3 0 1 2 3 4 5 (-1) 48 512 (nI (mL_ q)) (nI (mT_ q)) (nI (mD_ q)) (nI (cm_ q)) (nI (nn_ q)) (nI (sp_ q)) (nI (sn_ q)) (nI (oc_ q)) (in_ d) (ss_ d) (nI (cu_ d)) (nI (pc_ d)) (nI (tk_ d)) (nI (ou_ d)) (nI (ev_ d)) (nI (ht_ d)) (nI (cl_ d)) (nI (fc_ d)) (fa_ d) (fun i => nI (kd_ q i)) (fun i => nI (ls_ q i)) (fun i => nI (oe_ q i)) (fun i => nI (od_ q i)) (fun i => nI (ar_ q i)) (fun i => nI (se_ q i)) (fun i => nI (ol_ q i)) (fun i => nI (pl_ q i)) (fun i => nI (sv_ d i)) (fun i => nI (sw_ d i)) (fun i => nI (pa_ q i)) (fun i => nI (ow_ q i)) (fun i => nI (sl_ q i)) (fun i => nI (lo_ q i)) (lx_ q) (an_ q) (vn_ q) (fun i => nI (lh_ q i)) (cp_ c) (fun i => nI (st_ c i)) (fun i => nI (nc_ c i)) (fun i => nI (cc_ c i)) (fun i => nI (hd_ c i)) (fun i => nI (lt_ q i)) (fun i => nI (hm_ c i)) (fun i => nI (rm_ c i)) (ri_ c) (fun i => nI (rh_ c i)) (me_ d) (fun i => nI (fs_ d i)) (fun i => nI (fe_ d i)) (ot_ d) (li_ d) := by
    intro hv
    refine br_f (by decide) (L26 1 ⟨fun w => absurd w (by decide), fun w => absurd hv w⟩ (by rcases hv with z | z; exact Or.inl z; exact Or.inr (Or.inl z)))
  refine br_c (fun w => L9 (Or.inl w)) (fun w0 => br_c (fun w => L9 (Or.inr w)) (fun w1 => ?_))
  have nb : ¬ (v1 = 0 ∨ v1 = 1) := fun z => z.elim w0 w1
  refine br_t rfl (br_c (fun w2 => L26 0 ⟨fun _ => nb, fun _ => rfl⟩ (Or.inr (Or.inr w2))) (fun w2 => L43 0 ⟨fun _ => nb, fun _ => rfl⟩ (fun z => ?_)))
  rcases z.1 with z | z | z
  · exact w0 z
  · exact w1 z
  · exact w2 z
theorem yw_put (G : GQ q) {post : Int32 → SY → Prop} {v1 v2 v3 v4 : Int32} (h0 : cm_ q = 0) (hb : ¬ pg_ v1 v2 v3 v4 → post (-2) (YT q e))
    (hg : ∀ k x y z : Nat, k ≤ 2 → x < 8 → y ≤ 72 → z ≤ 72 → v1 = nI k → v2 = nI x → v3 = nI y → v4 = nI z → pg_ v1 v2 v3 v4 → ((nI (nn_ q) < nI (mL_ q) → wpY_place (fun r_71 => ((v1 = 2 → wY_put_88 post v1 v2 v3 v4 (nI (mL_ q)) (nI (mT_ q)) (nI (mD_ q)) (nI (nn_ q)) (nI (yp_ e)) (yc_ e) (nI (yu_ e)) (nI (yo_ e)) (nI (yb_ e)) (nI (yi_ e)) (nI (yf_ e)) (nI (yl_ e)) (yn_ e) (yr_ e) (yt_ e) (nI (cm_ q)) (fun i => nI (kd_ q i)) (fun i => nI (ar_ q (4 * i + 1))) (fun i => nI (ar_ q (4 * i + 2))) (fun i => nI (ar_ q (4 * i + 3))) (fun i => nI (bi_ e i)) (fun i => nI (bm_ e i)) (bv_ e) (bl_ e) (io_ e) (fun i => nI (fl_ e i)) (fun i => nI (fi_ e i)) (fun i => nI (cx_ e i)) (fun i => nI (ci_ e i)) (yx_ e)) ∧ (¬ v1 = 2 → ((r_71 = 2 → post (-4) (YT q e)) ∧ (¬ r_71 = 2 → ((r_71 = 3 → post (-4) (YT q e)) ∧ (¬ r_71 = 3 → wY_put_88 post v1 v2 v3 v4 (nI (mL_ q)) (nI (mT_ q)) (nI (mD_ q)) (nI (nn_ q)) (nI (yp_ e)) (yc_ e) (nI (yu_ e)) (nI (yo_ e)) (nI (yb_ e)) (nI (yi_ e)) (nI (yf_ e)) (nI (yl_ e)) (yn_ e) (yr_ e) (yt_ e) (nI (cm_ q)) (fun i => nI (kd_ q i)) (fun i => nI (ar_ q (4 * i + 1))) (fun i => nI (ar_ q (4 * i + 2))) (fun i => nI (ar_ q (4 * i + 3))) (fun i => nI (bi_ e i)) (fun i => nI (bm_ e i)) (bv_ e) (bl_ e) (io_ e) (fun i => nI (fl_ e i)) (fun i => nI (fi_ e i)) (fun i => nI (cx_ e i)) (fun i => nI (ci_ e i)) (yx_ e)))))))) (YT q e)) ∧ (¬ nI (nn_ q) < nI (mL_ q) → post (-3) (YT q e)))) :
    wpY_put post (YT q e) v1 v2 v3 v4 := by
  have T : ∀ v : Int32, ¬ v < 0 → ¬ 2 < v → v = 0 ∨ v = 1 ∨ v = 2 := by
    intro v a b
    obtain ⟨j, hj, ej⟩ := nI_of2 (n := 2) (by decide) a (Int32.not_lt.mp b)
    have : j = 0 ∨ j = 1 ∨ j = 2 := by omega
    rcases this with rfl | rfl | rfl
    · exact Or.inl ej
    · exact Or.inr (Or.inl ej)
    · exact Or.inr (Or.inr ej)
  have nv : ∀ {v : Int32}, (v = 0 ∨ v = 1 ∨ v = 2) → ¬ v < 0 ∧ ¬ 2 < v := by
    intro v hv
    rcases hv with rfl | rfl | rfl <;> exact ⟨by decide, by decide⟩
  refine cm0 h0 ?_
  refine br_c (fun w => hb (fun z => (nv z.1).1 w)) (fun a1 => br_c (fun w => hb (fun z => (nv z.1).2 w)) (fun a2 => br_c (fun w => hb (fun z => (in7_n z.2.1).1 w)) (fun a3 => br_c (fun w => hb (fun z => (in7_n z.2.1).2.1 w)) (fun a4 => ?_))))
  refine yw_op (q := q) (e := e) (fun a5 => br_f (by decide) ?_) (fun a5 => br_t rfl (hb (fun z => a5 z.2.2.1)))
  refine yw_op (q := q) (e := e) (fun a6 => br_f (by decide) ?_) (fun a6 => br_t rfl (hb (fun z => a6 z.2.2.2)))
  have t := T v1 a1 a2
  obtain ⟨x, x1, x2⟩ := in7_of a3 a4
  obtain ⟨y, y1, y2⟩ := a5
  obtain ⟨z, z1, z2⟩ := a6
  have P : pg_ v1 v2 v3 v4 := ⟨t, ⟨x, x1, x2⟩, ⟨y, y1, y2⟩, ⟨z, z1, z2⟩⟩
  rcases t with t | t | t
  · exact hg 0 x y z (by omega) x1 y1 z1 t x2 y2 z2 P
  · exact hg 1 x y z (by omega) x1 y1 z1 t x2 y2 z2 P
  · exact hg 2 x y z (by omega) x1 y1 z1 t x2 y2 z2 P
end
end
section
section
variable {q : QT} {c : CT} {d : DT} {e : ET}
theorem fo_put (G : GQ q) (v1 v2 v3 v4 : Int32) : FO q c d e (fun post => wpX_put post (XT q c d) v1 v2 v3 v4) (fun post => wpY_put post (YT q e) v1 v2 v3 v4) := by
  have G0 := G
  obtain ⟨F, M, hm, hc⟩ := G
  have hn := fq_n F
  have pb := pl_b F
  by_cases P : pg_ v1 v2 v3 v4
  · have P0 := P
    obtain ⟨t, ⟨x, x1, rfl⟩, ⟨y, y1, rfl⟩, ⟨z, z1, rfl⟩⟩ := P
    have hk : ∃ k, k ≤ 2 ∧ v1 = nI k := by
      rcases t with t | t | t
      · exact ⟨0, by omega, t⟩
      · exact ⟨1, by omega, t⟩
      · exact ⟨2, by omega, t⟩
    obtain ⟨k, k2, rfl⟩ := hk
    have k01 : (nI k = 0 ∨ nI k = 1) ↔ k < 2 := by
      have : k = 0 ∨ k = 1 ∨ k = 2 := by omega
      rcases this with rfl | rfl | rfl
      · exact ⟨fun _ => by omega, fun _ => Or.inl rfl⟩
      · exact ⟨fun _ => by omega, fun _ => Or.inr rfl⟩
      · exact ⟨fun z => absurd z (by decide), fun _ => by omega⟩
    refine fo_mk hn hm hc (bad := ¬ pg_ (nI k) (nI x) (nI y) (nI z)) (mis := k < 2 ∧ ¬ pl_ q (oc_ q) < 2) (late := if cb_ q k x = true then -6 else 0) (vK := nI k) (vX := nI x) (vY := nI y) (vZ := nI z) (fun post h => xw_put G0 (fun B Mi Lt b1 b2 b3 b4 => h B Mi Lt ?_ (fun _ => ?_) (fun _ _ => b4 k x (by omega) x1 rfl rfl))) (fun w post h => cm1 hc w h) (fun _ w => absurd P0 w) (fun w _ wl post h => ?_) (fun w _ wl wm post h => ?_) (fun w _ wl wm wt post h => ?_) (fun w _ wl wm wt => ?_)
    · exact ⟨fun w v => v (b1.mp w), fun w => b1.mpr (Classical.byContradiction w)⟩
    · by_cases kk : k < 2
      · exact (b2 (k01.mpr kk)).trans ⟨fun w v => v.2 w, fun w => Classical.byContradiction (fun v => w ⟨kk, v⟩)⟩
      · exact ⟨fun _ v => kk v.1, fun _ => b3 (fun v => kk (k01.mp v))⟩
    · exact yw_put G0 w (fun z => absurd P0 z) (fun _ _ _ _ _ _ _ _ _ _ _ _ _ => br_f (nge_ wl hn) h)
    · refine yw_put G0 w (fun z => absurd P0 z) (fun _ _ _ _ _ _ _ _ _ _ _ _ _ => br_t (nlt_ wl hm) (yw_place F ?_))
      have k2' : ¬ nI k = 2 := nI_n (b := 2) (by omega) (by omega) (by omega)
      refine br_f k2' ?_
      have : pl_ q (oc_ q) = 2 ∨ pl_ q (oc_ q) = 3 := by omega
      rcases this with v | v
      · rw [v]; exact br_t rfl h
      · rw [v]; exact br_f (by decide) (br_t rfl h)
    · have kk : k < 2 := by
        apply Classical.byContradiction
        intro kk
        have : k = 2 := by omega
        subst this
        exact wt rfl
      have cbt : cb_ q k x = true := by
        cases hb : cb_ q k x with
        | true => rfl
        | false => rw [hb] at wt; exact absurd rfl wt
      rw [if_pos cbt] at h
      refine yw_put G0 w (fun z => absurd P0 z) (fun _ _ _ _ _ _ _ _ _ _ _ _ _ => br_t (nlt_ wl hm) (yw_place F ?_))
      have k2' : ¬ nI k = 2 := nI_n (b := 2) (by omega) (by omega) (by omega)
      have pl2 : pl_ q (oc_ q) < 2 := Classical.byContradiction (fun v => wm ⟨kk, v⟩)
      refine br_f k2' (br_f (nI_n (b := 2) (by omega) (by omega) (by omega)) (br_f (nI_n (b := 3) (by omega) (by omega) (by omega)) (br_f k2' ?_)))
      exact yw_clash F M (by omega) x1 (fun _ => br_f (by decide) h) (fun z => absurd (cbt.symm.trans z) (by decide))
    · have cbf : cb_ q k x = false := by
        cases hb : cb_ q k x with
        | false => rfl
        | true => rw [hb] at wt; exact absurd wt (by decide)
      refine ⟨k, x, y, z, rfl, rfl, rfl, rfl, ?_, fun post h => ?_⟩
      · by_cases kk : k < 2
        · have pl2 : pl_ q (oc_ q) < 2 := Classical.byContradiction (fun v => wm ⟨kk, v⟩)
          have : k = 0 ∨ k = 1 := by omega
          rcases this with rfl | rfl
          · have cbf' : (bt (lx_ q (sp_ q)) x || bt (vn_ q (sp_ q)) x) = false := cbf
            rw [Bool.or_eq_false_iff] at cbf'
            exact ap_let F M (by omega) x1 y1 z1 pl2 cbf'.1 cbf'.2
          · exact ap_var F M (by omega) x1 y1 z1 pl2 cbf
        · have : k = 2 := by omega
          subst this
          exact ap_plain F M (o := ol_ q (oc_ q)) (by omega) (by omega) (by omega) y1 z1 (fun _ => x1) (fun v => by omega) (fun v => by omega) (fun v => by omega) (fun _ => rfl)
      · refine yw_put G0 w (fun z => absurd P0 z) (fun _ _ _ _ _ _ _ _ _ _ _ _ _ => br_t (nlt_ wl hm) (yw_place F ?_))
        have fin : wY_put_105 post (nI k) (nI x) (nI y) (nI z) (nI (mL_ q)) (nI (mT_ q)) (nI (mD_ q)) (nI (nn_ q)) (nI (yp_ e)) (yc_ e) (nI (yu_ e)) (nI (yo_ e)) (nI (yb_ e)) (nI (yi_ e)) (nI (yf_ e)) (nI (yl_ e)) (yn_ e) (yr_ e) (yt_ e) (nI (cm_ q)) (fun i => nI (kd_ q i)) (fun i => nI (ar_ q (4 * i + 1))) (fun i => nI (ar_ q (4 * i + 2))) (fun i => nI (ar_ q (4 * i + 3))) (fun i => nI (bi_ e i)) (fun i => nI (bm_ e i)) (bv_ e) (bl_ e) (io_ e) (fun i => nI (fl_ e i)) (fun i => nI (fi_ e i)) (fun i => nI (cx_ e i)) (fun i => nI (ci_ e i)) (yx_ e) := h _ (fun r q' hh => hh)
        by_cases kk : k < 2
        · have k2' : ¬ nI k = 2 := nI_n (b := 2) (by omega) (by omega) (by omega)
          have pl2 : pl_ q (oc_ q) < 2 := Classical.byContradiction (fun v => wm ⟨kk, v⟩)
          refine br_f k2' (br_f (nI_n (b := 2) (by omega) (by omega) (by omega)) (br_f (nI_n (b := 3) (by omega) (by omega) (by omega)) (br_f k2' ?_)))
          exact yw_clash F M (by omega) x1 (fun z => absurd (cbf.symm.trans z) (by decide)) (fun _ => br_t rfl fin)
        · have : k = 2 := by omega
          subst this
          exact br_t rfl (br_t rfl fin)
  · refine fo_mk hn hm hc (bad := ¬ pg_ v1 v2 v3 v4) (mis := False) (late := 0) (vK := v1) (vX := v2) (vY := v3) (vZ := v4) (fun post h => xw_put G0 (fun B Mi Lt b1 b2 b3 b4 => h B Mi Lt ?_ (fun z => absurd P z) (fun z => absurd P z))) (fun w post h => cm1 hc w h) (fun w _ post h => ?_) (fun _ w => absurd P w) (fun _ w => absurd P w) (fun _ w => absurd P w) (fun _ w => absurd P w)
    · exact ⟨fun w v => v (b1.mp w), fun w => b1.mpr (Classical.byContradiction w)⟩
    · exact yw_put G0 w (fun _ => h) (fun _ _ _ _ _ _ _ _ _ _ _ _ z => absurd z P)
theorem fo_act (G : GQ q) (v1 v2 v3 : Int32) : FO q c d e (fun post => wpX_act post (XT q c d) v1 v2 v3) (fun post => wpY_act post (YT q e) v1 v2 v3) := by
  obtain ⟨F, M, hm, hc⟩ := G
  have hn := fq_n F
  have HX : ∀ post, (∀ B Mi Lt, (B = 0 ↔ ¬ ¬ ((v1 = 3 ∨ v1 = 4) ∧ in72 v2 ∧ in72 v3)) → (¬ ¬ ((v1 = 3 ∨ v1 = 4) ∧ in72 v2 ∧ in72 v3) → (Mi = 0 ↔ ¬ False)) → (¬ ¬ ((v1 = 3 ∨ v1 = 4) ∧ in72 v2 ∧ in72 v3) → ¬ False → Lt = (0 : Int32)) → wpX_feed post (XT q c d) B Mi Lt v1 v2 v3 0) → wpX_act post (XT q c d) v1 v2 v3 := by
    intro post h
    have L19 : ¬ ((v1 = 3 ∨ v1 = 4) ∧ in72 v2 ∧ in72 v3) → wX_act_19 post v1 v2 v3 0 1 2 3 0 1 2 3 4 5 (-1) 48 512 (nI (mL_ q)) (nI (mT_ q)) (nI (mD_ q)) (nI (cm_ q)) (nI (nn_ q)) (nI (sp_ q)) (nI (sn_ q)) (nI (oc_ q)) (in_ d) (ss_ d) (nI (cu_ d)) (nI (pc_ d)) (nI (tk_ d)) (nI (ou_ d)) (nI (ev_ d)) (nI (ht_ d)) (nI (cl_ d)) (nI (fc_ d)) (fa_ d) (fun i => nI (kd_ q i)) (fun i => nI (ls_ q i)) (fun i => nI (oe_ q i)) (fun i => nI (od_ q i)) (fun i => nI (ar_ q i)) (fun i => nI (se_ q i)) (fun i => nI (ol_ q i)) (fun i => nI (pl_ q i)) (fun i => nI (sv_ d i)) (fun i => nI (sw_ d i)) (fun i => nI (pa_ q i)) (fun i => nI (ow_ q i)) (fun i => nI (sl_ q i)) (fun i => nI (lo_ q i)) (lx_ q) (an_ q) (vn_ q) (fun i => nI (lh_ q i)) (cp_ c) (fun i => nI (st_ c i)) (fun i => nI (nc_ c i)) (fun i => nI (cc_ c i)) (fun i => nI (hd_ c i)) (fun i => nI (lt_ q i)) (fun i => nI (hm_ c i)) (fun i => nI (rm_ c i)) (ri_ c) (fun i => nI (rh_ c i)) (me_ d) (fun i => nI (fs_ d i)) (fun i => nI (fe_ d i)) (ot_ d) (li_ d) := fun z => h 1 0 0 ⟨fun w => absurd w (by decide), fun w => absurd z w⟩ (fun w => absurd z w) (fun w => absurd z w)
    have L10 : (v1 = 3 ∨ v1 = 4) → wX_act_10 post v1 v2 v3 0 1 2 3 0 1 2 3 4 5 (-1) 48 512 (nI (mL_ q)) (nI (mT_ q)) (nI (mD_ q)) (nI (cm_ q)) (nI (nn_ q)) (nI (sp_ q)) (nI (sn_ q)) (nI (oc_ q)) (in_ d) (ss_ d) (nI (cu_ d)) (nI (pc_ d)) (nI (tk_ d)) (nI (ou_ d)) (nI (ev_ d)) (nI (ht_ d)) (nI (cl_ d)) (nI (fc_ d)) (fa_ d) (fun i => nI (kd_ q i)) (fun i => nI (ls_ q i)) (fun i => nI (oe_ q i)) (fun i => nI (od_ q i)) (fun i => nI (ar_ q i)) (fun i => nI (se_ q i)) (fun i => nI (ol_ q i)) (fun i => nI (pl_ q i)) (fun i => nI (sv_ d i)) (fun i => nI (sw_ d i)) (fun i => nI (pa_ q i)) (fun i => nI (ow_ q i)) (fun i => nI (sl_ q i)) (fun i => nI (lo_ q i)) (lx_ q) (an_ q) (vn_ q) (fun i => nI (lh_ q i)) (cp_ c) (fun i => nI (st_ c i)) (fun i => nI (nc_ c i)) (fun i => nI (cc_ c i)) (fun i => nI (hd_ c i)) (fun i => nI (lt_ q i)) (fun i => nI (hm_ c i)) (fun i => nI (rm_ c i)) (ri_ c) (fun i => nI (rh_ c i)) (me_ d) (fun i => nI (fs_ d i)) (fun i => nI (fe_ d i)) (ot_ d) (li_ d) := by
      intro hv
      refine xw_bp (q := q) (c := c) (d := d) (fun a b => br_t rfl ?_) (fun a => br_f (by decide) (L19 (fun z => a z.2)))
      exact h 0 0 0 ⟨fun _ w => w ⟨hv, a, b⟩, fun _ => rfl⟩ (fun _ => ⟨fun _ w => w, fun _ => rfl⟩) (fun _ _ => rfl)
    exact br_c (fun w => L10 (Or.inl w)) (fun w3 => br_c (fun w => L10 (Or.inr w)) (fun w4 => L19 (fun z => z.1.elim w3 w4)))
  have HY : ∀ post, cm_ q = 0 → (¬ ((v1 = 3 ∨ v1 = 4) ∧ in72 v2 ∧ in72 v3) → post (-2) (YT q e)) → (((v1 = 3 ∨ v1 = 4) ∧ in72 v2 ∧ in72 v3) → ((nI (nn_ q) < nI (mL_ q) → wpY_add post (YT q e) v1 v2 v3 0) ∧ (¬ nI (nn_ q) < nI (mL_ q) → post (-3) (YT q e)))) → wpY_act post (YT q e) v1 v2 v3 := by
    intro post h0 hb hg
    refine cm0 h0 ?_
    have L19 : (v1 = 3 ∨ v1 = 4) → wY_act_19 post v1 v2 v3 (nI (mL_ q)) (nI (mT_ q)) (nI (mD_ q)) (nI (nn_ q)) (nI (yp_ e)) (yc_ e) (nI (yu_ e)) (nI (yo_ e)) (nI (yb_ e)) (nI (yi_ e)) (nI (yf_ e)) (nI (yl_ e)) (yn_ e) (yr_ e) (yt_ e) (nI (cm_ q)) (fun i => nI (kd_ q i)) (fun i => nI (ar_ q (4 * i + 1))) (fun i => nI (ar_ q (4 * i + 2))) (fun i => nI (ar_ q (4 * i + 3))) (fun i => nI (bi_ e i)) (fun i => nI (bm_ e i)) (bv_ e) (bl_ e) (io_ e) (fun i => nI (fl_ e i)) (fun i => nI (fi_ e i)) (fun i => nI (cx_ e i)) (fun i => nI (ci_ e i)) (yx_ e) := by
      intro hv
      refine yw_op (q := q) (e := e) (fun a5 => br_f (by decide) ?_) (fun a5 => br_t rfl (hb (fun z => a5 z.2.1)))
      exact yw_op (q := q) (e := e) (fun a6 => br_f (by decide) (hg ⟨hv, a5, a6⟩)) (fun a6 => br_t rfl (hb (fun z => a6 z.2.2)))
    exact br_c (fun w => L19 (Or.inl w)) (fun w3 => br_c (fun w => L19 (Or.inr w)) (fun w4 => hb (fun z => z.1.elim w3 w4)))
  refine fo_mk hn hm hc (bad := ¬ ((v1 = 3 ∨ v1 = 4) ∧ in72 v2 ∧ in72 v3)) (mis := False) (late := 0) (vK := v1) (vX := v2) (vY := v3) (vZ := 0) HX (fun w post h => cm1 hc w h) (fun w wb post h => HY post w (fun _ => h) (fun z => absurd z wb)) (fun w wb wl post h => HY post w (fun z => absurd z wb) (fun _ => br_f (nge_ wl hn) h)) (fun _ _ _ w => w.elim) (fun _ _ _ _ w => absurd rfl w) (fun w wb wl _ _ => ?_)
  have P : (v1 = 3 ∨ v1 = 4) ∧ in72 v2 ∧ in72 v3 := Classical.byContradiction wb
  obtain ⟨hv, ⟨x, x1, rfl⟩, ⟨y, y1, rfl⟩⟩ := P
  rcases hv with rfl | rfl
  · exact ⟨3, x, y, 0, rfl, rfl, rfl, rfl, ap_plain F M (o := ol_ q (oc_ q)) (by omega) (by omega) (by omega) y1 (by omega) (fun v => by omega) (fun v => by omega) (fun v => by omega) (fun v => by omega) (fun _ => rfl), fun post h => HY post w (fun z => absurd z wb) (fun _ => br_t (nlt_ wl hm) (h _ (fun r q' hh => hh)))⟩
  · exact ⟨4, x, y, 0, rfl, rfl, rfl, rfl, ap_plain F M (o := ol_ q (oc_ q)) (by omega) (by omega) (by omega) y1 (by omega) (fun v => by omega) (fun v => by omega) (fun v => by omega) (fun v => by omega) (fun _ => rfl), fun post h => HY post w (fun z => absurd z wb) (fun _ => br_t (nlt_ wl hm) (h _ (fun r q' hh => hh)))⟩
end
end
section
section
variable {q : QT} {c : CT} {d : DT} {e : ET}
theorem yw_o36 (F : FQ q) {post : Int32 → SY → Prop} {x1 x2 x3 : Int32}
    (hT : ((nI (oc_ q) < 8 → ((x1 = 5 → wpY_clash (fun r_37 => ((r_37 = 0 → wY_open_115 post x1 x2 x3 (nI (mL_ q)) (nI (mT_ q)) (nI (mD_ q)) (nI (nn_ q)) (nI (yp_ e)) (yc_ e) (nI (yu_ e)) (nI (yo_ e)) (nI (yb_ e)) (nI (yi_ e)) (nI (yf_ e)) (nI (yl_ e)) (yn_ e) (yr_ e) (yt_ e) (nI (cm_ q)) (fun i => nI (kd_ q i)) (fun i => nI (ar_ q (4 * i + 1))) (fun i => nI (ar_ q (4 * i + 2))) (fun i => nI (ar_ q (4 * i + 3))) (fun i => nI (bi_ e i)) (fun i => nI (bm_ e i)) (bv_ e) (bl_ e) (io_ e) (fun i => nI (fl_ e i)) (fun i => nI (fi_ e i)) (fun i => nI (cx_ e i)) (fun i => nI (ci_ e i)) (yx_ e)) ∧ (¬ r_37 = 0 → post (-6) (YT q e)))) (YT q e) x1 x2) ∧ (¬ x1 = 5 → wY_open_115 post x1 x2 x3 (nI (mL_ q)) (nI (mT_ q)) (nI (mD_ q)) (nI (nn_ q)) (nI (yp_ e)) (yc_ e) (nI (yu_ e)) (nI (yo_ e)) (nI (yb_ e)) (nI (yi_ e)) (nI (yf_ e)) (nI (yl_ e)) (yn_ e) (yr_ e) (yt_ e) (nI (cm_ q)) (fun i => nI (kd_ q i)) (fun i => nI (ar_ q (4 * i + 1))) (fun i => nI (ar_ q (4 * i + 2))) (fun i => nI (ar_ q (4 * i + 3))) (fun i => nI (bi_ e i)) (fun i => nI (bm_ e i)) (bv_ e) (bl_ e) (io_ e) (fun i => nI (fl_ e i)) (fun i => nI (fi_ e i)) (fun i => nI (cx_ e i)) (fun i => nI (ci_ e i)) (yx_ e)))) ∧ (¬ nI (oc_ q) < 8 → post (-5) (YT q e)))) :
    ∀ m j N, j + m = nn_ q → m < N → wY_open_36 post x1 x2 x3 (nI (mL_ q)) (nI (mT_ q)) (nI (mD_ q)) (nI (nn_ q)) (nI (yp_ e)) (yc_ e) (nI (yu_ e)) (nI (yo_ e)) (nI (yb_ e)) (nI (yi_ e)) (nI (yf_ e)) (nI (yl_ e)) (yn_ e) (yr_ e) (yt_ e) (nI (cm_ q)) (fun i => nI (kd_ q i)) (fun i => nI (ar_ q (4 * i + 1))) (fun i => nI (ar_ q (4 * i + 2))) (fun i => nI (ar_ q (4 * i + 3))) (fun i => nI (bi_ e i)) (fun i => nI (bm_ e i)) (bv_ e) (bl_ e) (io_ e) (fun i => nI (fl_ e i)) (fun i => nI (fi_ e i)) (fun i => nI (cx_ e i)) (fun i => nI (ci_ e i)) (yx_ e) N (dq_ (kd_ q) j) (nI j) := by
  have hn := fq_n F
  intro m
  induction m with
  | zero =>
    intro j N hj hN
    cases N with
    | zero => omega
    | succ N =>
      rw [wY_open_36]
      have : j = nn_ q := by omega
      subst this
      rw [fs_d F]
      exact br_t (nI_le (Nat.le_refl _) (by omega)) hT
  | succ m ih =>
    intro j N hj hN
    cases N with
    | zero => omega
    | succ N =>
      rw [wY_open_36]
      have ih := ih (j + 1) N (by omega) (by omega)
      have hkj := fs_k F j (by omega)
      refine br_f (nI_ge (by omega) (by omega)) ?_
      rw [dq_] at ih
      refine yw_opens (q := q) (e := e) (by omega) hkj (fun h5 => br_f (by decide) ?_) (fun h5 => br_t rfl ⟨vp_in_nI (by omega) (by omega), ?_⟩)
      · rw [if_pos h5] at ih
        exact nm_e (nm_r (nI_1 j) ih)
      · rw [if_neg h5] at ih
        refine pk_eq (kd_ q j) 14 (fun h => ?_) (fun h => ?_) (ga_ rfl (by omega)) rfl (by omega) (by omega)
        · rw [if_pos h] at ih
          exact nm_e (nm_r (nI_1 j) ih)
        · rw [if_neg h] at ih
          exact nm_e (nm_r (nI_1 j) ih)
theorem yw_open (G : GQ q) {post : Int32 → SY → Prop} {k x y : Nat} (hk : k = 5 ∨ k = 6 ∨ k = 7 ∨ k = 8) (hx : k = 5 → x < 8)
    (h3 : mL_ q ≤ nn_ q → post (-3) (YT q e)) (h4 : nn_ q < mL_ q → k ≠ 6 → pl_ q (oc_ q) ≠ 0 → post (-4) (YT q e)) (h5 : nn_ q < mL_ q → (k = 6 ∨ pl_ q (oc_ q) = 0) → oc_ q = 8 → post (-5) (YT q e))
    (h6 : nn_ q < mL_ q → (k = 6 ∨ pl_ q (oc_ q) = 0) → oc_ q < 8 → k = 5 → cb_ q 5 x = true → post (-6) (YT q e))
    (hA : nn_ q < mL_ q → (k = 6 ∨ pl_ q (oc_ q) = 0) → oc_ q < 8 → (k = 5 → cb_ q 5 x = false) → ∀ post', (∀ r q', post r (YT q' e) → post' r (YT q' e)) → wpY_add post' (YT q e) (nI k) (nI x) (nI y) 0) : wpY_open post (YT q e) (nI k) (nI x) (nI y) := by
  obtain ⟨F, M, hm, hc⟩ := G
  have hn := fq_n F
  have ob := (fs_b F).2.2.2.1
  have pb := pl_b F
  refine pk_lt (nn_ q) (mL_ q) (fun hl => ?_) (fun hl => h3 hl) rfl rfl (by omega) (by omega)
  have go : (k = 6 ∨ pl_ q (oc_ q) = 0) → ∃ n36 : Nat, wY_open_36 post (nI k) (nI x) (nI y) (nI (mL_ q)) (nI (mT_ q)) (nI (mD_ q)) (nI (nn_ q)) (nI (yp_ e)) (yc_ e) (nI (yu_ e)) (nI (yo_ e)) (nI (yb_ e)) (nI (yi_ e)) (nI (yf_ e)) (nI (yl_ e)) (yn_ e) (yr_ e) (yt_ e) (nI (cm_ q)) (fun i => nI (kd_ q i)) (fun i => nI (ar_ q (4 * i + 1))) (fun i => nI (ar_ q (4 * i + 2))) (fun i => nI (ar_ q (4 * i + 3))) (fun i => nI (bi_ e i)) (fun i => nI (bm_ e i)) (bv_ e) (bl_ e) (io_ e) (fun i => nI (fl_ e i)) (fun i => nI (fi_ e i)) (fun i => nI (cx_ e i)) (fun i => nI (ci_ e i)) (yx_ e) n36 0 0 := by
    intro hp
    refine ⟨nn_ q + 1, yw_o36 F ?_ (nn_ q) 0 (nn_ q + 1) (by omega) (by omega)⟩
    refine pk_lt (oc_ q) 8 (fun ho => ?_) (fun ho => h5 hl hp (by omega)) rfl rfl (by omega) (by omega)
    have add : (k = 5 → cb_ q 5 x = false) → wY_open_115 post (nI k) (nI x) (nI y) (nI (mL_ q)) (nI (mT_ q)) (nI (mD_ q)) (nI (nn_ q)) (nI (yp_ e)) (yc_ e) (nI (yu_ e)) (nI (yo_ e)) (nI (yb_ e)) (nI (yi_ e)) (nI (yf_ e)) (nI (yl_ e)) (yn_ e) (yr_ e) (yt_ e) (nI (cm_ q)) (fun i => nI (kd_ q i)) (fun i => nI (ar_ q (4 * i + 1))) (fun i => nI (ar_ q (4 * i + 2))) (fun i => nI (ar_ q (4 * i + 3))) (fun i => nI (bi_ e i)) (fun i => nI (bm_ e i)) (bv_ e) (bl_ e) (io_ e) (fun i => nI (fl_ e i)) (fun i => nI (fi_ e i)) (fun i => nI (cx_ e i)) (fun i => nI (ci_ e i)) (yx_ e) := fun hcb => hA hl hp ho hcb _ (fun r q' hh => hh)
    refine pk_eq k 5 (fun e5 => ?_) (fun e5 => add (fun z => absurd z e5)) rfl rfl (by omega) (by omega)
    subst e5
    exact yw_clash F M (by omega) (hx rfl) (fun z => br_f (by decide) (h6 hl hp ho rfl z)) (fun z => br_t rfl (add (fun _ => z)))
  refine pk_eq k 6 (fun e6 => go (Or.inl e6)) (fun e6 => ?_) rfl rfl (by omega) (by omega)
  refine yw_place F ?_
  exact pk_eq (pl_ q (oc_ q)) 0 (fun z => go (Or.inr z)) (fun z => h4 hl e6 z) rfl rfl (by omega) (by omega)
theorem fo_openFunction (G : GQ q) (v1 v2 : Int32) : FO q c d e (fun post => wpX_openFunction post (XT q c d) v1 v2) (fun post => wpY_openFunction post (YT q e) v1 v2) := by
  have G0 := G
  obtain ⟨F, M, hm, hc⟩ := G
  have hn := fq_n F
  have h49 := fq_s F
  have hsp := fq_sp F
  have ob := (fs_b F).2.2.2.1
  have pb := pl_b F
  have HX : ∀ post, (∀ B Mi Lt, (B = 0 ↔ ((v1 = 5 ∨ v1 = 6) ∧ in7 v2)) → (Mi = 0 ↔ ¬ (v1 = 5 ∧ pl_ q (oc_ q) ≠ 0)) → (oc_ q = 8 → Lt = -5) → (oc_ q ≠ 8 → ∀ m x, m ≤ 14 → x < 8 → v1 = nI m → v2 = nI x → Lt = if cb_ q m x = true then -6 else 0) → wpX_feed post (XT q c d) B Mi Lt v1 v2 0 0) → wpX_openFunction post (XT q c d) v1 v2 := by
    intro post h
    have L44 : ∀ x3 z0 : Int32, (x3 = 0 ↔ ((v1 = 5 ∨ v1 = 6) ∧ in7 v2)) → (oc_ q = 8 → z0 = -5) → (oc_ q ≠ 8 → ∀ m x, m ≤ 14 → x < 8 → v1 = nI m → v2 = nI x → z0 = if cb_ q m x = true then -6 else 0) → wX_openFunction_44 post v1 v2 x3 z0 0 1 2 3 0 1 2 3 4 5 (-1) 48 512 (nI (mL_ q)) (nI (mT_ q)) (nI (mD_ q)) (nI (cm_ q)) (nI (nn_ q)) (nI (sp_ q)) (nI (sn_ q)) (nI (oc_ q)) (in_ d) (ss_ d) (nI (cu_ d)) (nI (pc_ d)) (nI (tk_ d)) (nI (ou_ d)) (nI (ev_ d)) (nI (ht_ d)) (nI (cl_ d)) (nI (fc_ d)) (fa_ d) (fun i => nI (kd_ q i)) (fun i => nI (ls_ q i)) (fun i => nI (oe_ q i)) (fun i => nI (od_ q i)) (fun i => nI (ar_ q i)) (fun i => nI (se_ q i)) (fun i => nI (ol_ q i)) (fun i => nI (pl_ q i)) (fun i => nI (sv_ d i)) (fun i => nI (sw_ d i)) (fun i => nI (pa_ q i)) (fun i => nI (ow_ q i)) (fun i => nI (sl_ q i)) (fun i => nI (lo_ q i)) (lx_ q) (an_ q) (vn_ q) (fun i => nI (lh_ q i)) (cp_ c) (fun i => nI (st_ c i)) (fun i => nI (nc_ c i)) (fun i => nI (cc_ c i)) (fun i => nI (hd_ c i)) (fun i => nI (lt_ q i)) (fun i => nI (hm_ c i)) (fun i => nI (rm_ c i)) (ri_ c) (fun i => nI (rh_ c i)) (me_ d) (fun i => nI (fs_ d i)) (fun i => nI (fe_ d i)) (ot_ d) (li_ d) := by
      intro x3 z0 a1 a2 a3
      refine br_c (fun w => ⟨vp_in_nI (by omega) (by omega), ?_⟩) (fun w => h x3 0 z0 a1 ⟨fun _ v => w v.1, fun _ => rfl⟩ a2 a3)
      refine pk_eq (pl_ q (oc_ q)) 0 (fun z => ?_) (fun z => ?_) (ga_ rfl (by omega)) rfl (by omega) (by omega)
      · exact h x3 0 z0 a1 ⟨fun _ v => v.2 z, fun _ => rfl⟩ a2 a3
      · exact h x3 1 z0 a1 ⟨fun v => absurd v (by decide), fun v => absurd ⟨w, z⟩ v⟩ a2 a3
    have L23 : ∀ z0 : Int32, (z0 = 0 ↔ ((v1 = 5 ∨ v1 = 6) ∧ in7 v2)) → wX_openFunction_23 post v1 v2 z0 0 1 2 3 0 1 2 3 4 5 (-1) 48 512 (nI (mL_ q)) (nI (mT_ q)) (nI (mD_ q)) (nI (cm_ q)) (nI (nn_ q)) (nI (sp_ q)) (nI (sn_ q)) (nI (oc_ q)) (in_ d) (ss_ d) (nI (cu_ d)) (nI (pc_ d)) (nI (tk_ d)) (nI (ou_ d)) (nI (ev_ d)) (nI (ht_ d)) (nI (cl_ d)) (nI (fc_ d)) (fa_ d) (fun i => nI (kd_ q i)) (fun i => nI (ls_ q i)) (fun i => nI (oe_ q i)) (fun i => nI (od_ q i)) (fun i => nI (ar_ q i)) (fun i => nI (se_ q i)) (fun i => nI (ol_ q i)) (fun i => nI (pl_ q i)) (fun i => nI (sv_ d i)) (fun i => nI (sw_ d i)) (fun i => nI (pa_ q i)) (fun i => nI (ow_ q i)) (fun i => nI (sl_ q i)) (fun i => nI (lo_ q i)) (lx_ q) (an_ q) (vn_ q) (fun i => nI (lh_ q i)) (cp_ c) (fun i => nI (st_ c i)) (fun i => nI (nc_ c i)) (fun i => nI (cc_ c i)) (fun i => nI (hd_ c i)) (fun i => nI (lt_ q i)) (fun i => nI (hm_ c i)) (fun i => nI (rm_ c i)) (ri_ c) (fun i => nI (rh_ c i)) (me_ d) (fun i => nI (fs_ d i)) (fun i => nI (fe_ d i)) (ot_ d) (li_ d) := by
      intro z0 a1
      refine pk_eq (oc_ q) 8 (fun z => L44 z0 (-5) a1 (fun _ => rfl) (fun w => absurd z w)) (fun z => ?_) rfl rfl (by omega) (by omega)
      exact xw_clash (q := q) (c := c) (d := d) (by omega) (fun r hr => L44 z0 r a1 (fun w => absurd w z) (fun _ => hr))
    have L18 : ¬ ((v1 = 5 ∨ v1 = 6) ∧ in7 v2) → wX_openFunction_18 post v1 v2 0 1 2 3 0 1 2 3 4 5 (-1) 48 512 (nI (mL_ q)) (nI (mT_ q)) (nI (mD_ q)) (nI (cm_ q)) (nI (nn_ q)) (nI (sp_ q)) (nI (sn_ q)) (nI (oc_ q)) (in_ d) (ss_ d) (nI (cu_ d)) (nI (pc_ d)) (nI (tk_ d)) (nI (ou_ d)) (nI (ev_ d)) (nI (ht_ d)) (nI (cl_ d)) (nI (fc_ d)) (fa_ d) (fun i => nI (kd_ q i)) (fun i => nI (ls_ q i)) (fun i => nI (oe_ q i)) (fun i => nI (od_ q i)) (fun i => nI (ar_ q i)) (fun i => nI (se_ q i)) (fun i => nI (ol_ q i)) (fun i => nI (pl_ q i)) (fun i => nI (sv_ d i)) (fun i => nI (sw_ d i)) (fun i => nI (pa_ q i)) (fun i => nI (ow_ q i)) (fun i => nI (sl_ q i)) (fun i => nI (lo_ q i)) (lx_ q) (an_ q) (vn_ q) (fun i => nI (lh_ q i)) (cp_ c) (fun i => nI (st_ c i)) (fun i => nI (nc_ c i)) (fun i => nI (cc_ c i)) (fun i => nI (hd_ c i)) (fun i => nI (lt_ q i)) (fun i => nI (hm_ c i)) (fun i => nI (rm_ c i)) (ri_ c) (fun i => nI (rh_ c i)) (me_ d) (fun i => nI (fs_ d i)) (fun i => nI (fe_ d i)) (ot_ d) (li_ d) := fun z => L23 1 ⟨fun w => absurd w (by decide), fun w => absurd w z⟩
    have L11 : (v1 = 5 ∨ v1 = 6) → wX_openFunction_11 post v1 v2 0 1 2 3 0 1 2 3 4 5 (-1) 48 512 (nI (mL_ q)) (nI (mT_ q)) (nI (mD_ q)) (nI (cm_ q)) (nI (nn_ q)) (nI (sp_ q)) (nI (sn_ q)) (nI (oc_ q)) (in_ d) (ss_ d) (nI (cu_ d)) (nI (pc_ d)) (nI (tk_ d)) (nI (ou_ d)) (nI (ev_ d)) (nI (ht_ d)) (nI (cl_ d)) (nI (fc_ d)) (fa_ d) (fun i => nI (kd_ q i)) (fun i => nI (ls_ q i)) (fun i => nI (oe_ q i)) (fun i => nI (od_ q i)) (fun i => nI (ar_ q i)) (fun i => nI (se_ q i)) (fun i => nI (ol_ q i)) (fun i => nI (pl_ q i)) (fun i => nI (sv_ d i)) (fun i => nI (sw_ d i)) (fun i => nI (pa_ q i)) (fun i => nI (ow_ q i)) (fun i => nI (sl_ q i)) (fun i => nI (lo_ q i)) (lx_ q) (an_ q) (vn_ q) (fun i => nI (lh_ q i)) (cp_ c) (fun i => nI (st_ c i)) (fun i => nI (nc_ c i)) (fun i => nI (cc_ c i)) (fun i => nI (hd_ c i)) (fun i => nI (lt_ q i)) (fun i => nI (hm_ c i)) (fun i => nI (rm_ c i)) (ri_ c) (fun i => nI (rh_ c i)) (me_ d) (fun i => nI (fs_ d i)) (fun i => nI (fe_ d i)) (ot_ d) (li_ d) := by
      intro hv
      exact br_c (fun w => L23 0 ⟨fun _ => ⟨hv, (bs_8i v2).mp w⟩, fun _ => rfl⟩) (fun w => L18 (fun z => w ((bs_8i v2).mpr z.2)))
    exact br_c (fun w => L11 (Or.inl w)) (fun w5 => br_c (fun w => L11 (Or.inr w)) (fun w6 => L18 (fun z => z.1.elim w5 w6)))
  by_cases P : (v1 = 5 ∨ v1 = 6) ∧ in7 v2
  · have P0 := P
    obtain ⟨hv, x, x8, rfl⟩ := P
    have hk : ∃ k, (k = 5 ∨ k = 6) ∧ v1 = nI k := by
      rcases hv with t | t
      · exact ⟨5, Or.inl rfl, t⟩
      · exact ⟨6, Or.inr rfl, t⟩
    obtain ⟨k, k56, rfl⟩ := hk
    have k5 : nI k = 5 ↔ k = 5 := nI_eq (b := 5) (by omega) (by omega)
    have HY : ∀ post, cm_ q = 0 → wpY_open post (YT q e) (nI k) (nI x) (nI 0) → wpY_openFunction post (YT q e) (nI k) (nI x) := by
      intro post h0 hh
      refine cm0 h0 ?_
      have L20 : wY_openFunction_20 post (nI k) (nI x) (nI (mL_ q)) (nI (mT_ q)) (nI (mD_ q)) (nI (nn_ q)) (nI (yp_ e)) (yc_ e) (nI (yu_ e)) (nI (yo_ e)) (nI (yb_ e)) (nI (yi_ e)) (nI (yf_ e)) (nI (yl_ e)) (yn_ e) (yr_ e) (yt_ e) (nI (cm_ q)) (fun i => nI (kd_ q i)) (fun i => nI (ar_ q (4 * i + 1))) (fun i => nI (ar_ q (4 * i + 2))) (fun i => nI (ar_ q (4 * i + 3))) (fun i => nI (bi_ e i)) (fun i => nI (bm_ e i)) (bv_ e) (bl_ e) (io_ e) (fun i => nI (fl_ e i)) (fun i => nI (fi_ e i)) (fun i => nI (cx_ e i)) (fun i => nI (ci_ e i)) (yx_ e) := br_f (nI_pos (by omega)) (br_t (nI_le (b := 7) (by omega) (by omega)) hh)
      rcases k56 with rfl | rfl
      · exact br_t rfl L20
      · exact br_f (by decide) (br_t rfl L20)
    refine fo_mk hn hm hc (bad := False) (mis := k = 5 ∧ pl_ q (oc_ q) ≠ 0) (late := if oc_ q = 8 then -5 else if cb_ q k x = true then -6 else 0) (vK := nI k) (vX := nI x) (vY := 0) (vZ := 0) (fun post h => HX post (fun B Mi Lt b1 b2 b3 b4 => h B Mi Lt ⟨fun _ w => w, fun _ => b1.mpr P0⟩ (fun _ => ?_) (fun _ _ => ?_))) (fun w post h => cm1 hc w h) (fun _ w => w.elim) (fun w _ wl post h => ?_) (fun w _ wl wm post h => ?_) (fun w _ wl wm wt post h => ?_) (fun w _ wl wm wt => ?_)
    · rw [k5] at b2; exact b2
    · by_cases o : oc_ q = 8
      · rw [if_pos o]; exact b3 o
      · rw [if_neg o]; exact b4 o k x (by omega) x8 rfl rfl
    · exact HY post w (yw_open G0 (by omega) (fun _ => x8) (fun _ => h) (fun z => by omega) (fun z => by omega) (fun z => by omega) (fun z => by omega))
    · exact HY post w (yw_open G0 (by omega) (fun _ => x8) (fun z => by omega) (fun _ _ _ => h) (fun _ z => by omega) (fun _ z => by omega) (fun _ z => by omega))
    · refine HY post w (yw_open G0 (by omega) (fun _ => x8) (fun z => by omega) (fun _ z1 z2 => by omega) (fun _ _ o => ?_) (fun _ _ o z5 z => ?_) (fun _ _ o z => ?_))
      · rw [if_pos o] at h; exact h
      · subst z5
        rw [if_neg (by omega), if_pos z] at h; exact h
      · exfalso
        apply wt
        rw [if_neg (by omega)]
        rcases k56 with rfl | rfl
        · rw [z rfl]; rfl
        · rfl
    · have o8 : oc_ q < 8 := by
        apply Classical.byContradiction
        intro z
        have : oc_ q = 8 := by omega
        rw [if_pos this] at wt
        exact absurd wt (by decide)
      rw [if_neg (by omega)] at wt
      have cbf : cb_ q k x = false := by
        cases hb : cb_ q k x with
        | false => rfl
        | true => rw [hb] at wt; exact absurd wt (by decide)
      refine ⟨k, x, 0, 0, rfl, rfl, rfl, rfl, ?_, fun post h => ?_⟩
      · rcases k56 with rfl | rfl
        · have cbf' : (bt (lx_ q (sp_ q)) x || bt (vn_ q (sp_ q)) x) = false := cbf
          rw [Bool.or_eq_false_iff] at cbf'
          exact ap_fun F M (by omega) x8 o8 (by omega) cbf'.1 cbf'.2
        · exact ap_open F M (by omega) (by omega) (by omega) (by omega) (by omega) (fun _ => x8) o8 (fun z => absurd rfl z)
      · refine HY post w (yw_open G0 (by omega) (fun _ => x8) (fun z => by omega) (fun _ z1 z2 => by omega) (fun _ _ o => by omega) (fun _ _ o z5 z => ?_) (fun _ _ o z => h))
        subst z5
        exact absurd (cbf.symm.trans z) (by decide)
  · refine fo_mk hn hm hc (bad := True) (mis := False) (late := 0) (vK := v1) (vX := v2) (vY := 0) (vZ := 0) (fun post h => HX post (fun B Mi Lt b1 b2 b3 b4 => h B Mi Lt ⟨fun w => absurd (b1.mp w) P, fun w => absurd trivial w⟩ (fun z => absurd trivial z) (fun z => absurd trivial z))) (fun w post h => cm1 hc w h) (fun w _ post h => ?_) (fun _ w => absurd trivial w) (fun _ w => absurd trivial w) (fun _ w => absurd trivial w) (fun _ w => absurd trivial w)
    refine cm0 w ?_
    have L20 : (v1 = 5 ∨ v1 = 6) → wY_openFunction_20 post v1 v2 (nI (mL_ q)) (nI (mT_ q)) (nI (mD_ q)) (nI (nn_ q)) (nI (yp_ e)) (yc_ e) (nI (yu_ e)) (nI (yo_ e)) (nI (yb_ e)) (nI (yi_ e)) (nI (yf_ e)) (nI (yl_ e)) (yn_ e) (yr_ e) (yt_ e) (nI (cm_ q)) (fun i => nI (kd_ q i)) (fun i => nI (ar_ q (4 * i + 1))) (fun i => nI (ar_ q (4 * i + 2))) (fun i => nI (ar_ q (4 * i + 3))) (fun i => nI (bi_ e i)) (fun i => nI (bm_ e i)) (bv_ e) (bl_ e) (io_ e) (fun i => nI (fl_ e i)) (fun i => nI (fi_ e i)) (fun i => nI (cx_ e i)) (fun i => nI (ci_ e i)) (yx_ e) := by
      intro hv
      refine br_c (fun _ => h) (fun a => br_c (fun b => ?_) (fun _ => h))
      exact absurd ⟨hv, in7_of a (Int32.not_lt.mpr b)⟩ P
    exact br_c (fun w => L20 (Or.inl w)) (fun w5 => br_c (fun w => L20 (Or.inr w)) (fun w6 => h))
theorem fo_openBlock (G : GQ q) (v1 v2 : Int32) : FO q c d e (fun post => wpX_openBlock post (XT q c d) v1 v2) (fun post => wpY_openBlock post (YT q e) v1 v2) := by
  have G0 := G
  obtain ⟨F, M, hm, hc⟩ := G
  have hn := fq_n F
  have ob := (fs_b F).2.2.2.1
  have pb := pl_b F
  have HX : ∀ post, (∀ B Mi Lt, (B = 0 ↔ (in72 v1 ∧ in72 v2)) → (Mi = 0 ↔ ¬ (pl_ q (oc_ q) ≠ 0)) → Lt = (if oc_ q = 8 then -5 else 0) → wpX_feed post (XT q c d) B Mi Lt 7 v1 v2 0) → wpX_openBlock post (XT q c d) v1 v2 := by
    intro post h
    have L26 : ∀ z0 z1 : Int32, (z1 = 0 ↔ (in72 v1 ∧ in72 v2)) → (z0 = 0 ↔ ¬ (pl_ q (oc_ q) ≠ 0)) → wX_openBlock_26 post v1 v2 z0 z1 0 1 2 3 0 1 2 3 4 5 (-1) 48 512 (nI (mL_ q)) (nI (mT_ q)) (nI (mD_ q)) (nI (cm_ q)) (nI (nn_ q)) (nI (sp_ q)) (nI (sn_ q)) (nI (oc_ q)) (in_ d) (ss_ d) (nI (cu_ d)) (nI (pc_ d)) (nI (tk_ d)) (nI (ou_ d)) (nI (ev_ d)) (nI (ht_ d)) (nI (cl_ d)) (nI (fc_ d)) (fa_ d) (fun i => nI (kd_ q i)) (fun i => nI (ls_ q i)) (fun i => nI (oe_ q i)) (fun i => nI (od_ q i)) (fun i => nI (ar_ q i)) (fun i => nI (se_ q i)) (fun i => nI (ol_ q i)) (fun i => nI (pl_ q i)) (fun i => nI (sv_ d i)) (fun i => nI (sw_ d i)) (fun i => nI (pa_ q i)) (fun i => nI (ow_ q i)) (fun i => nI (sl_ q i)) (fun i => nI (lo_ q i)) (lx_ q) (an_ q) (vn_ q) (fun i => nI (lh_ q i)) (cp_ c) (fun i => nI (st_ c i)) (fun i => nI (nc_ c i)) (fun i => nI (cc_ c i)) (fun i => nI (hd_ c i)) (fun i => nI (lt_ q i)) (fun i => nI (hm_ c i)) (fun i => nI (rm_ c i)) (ri_ c) (fun i => nI (rh_ c i)) (me_ d) (fun i => nI (fs_ d i)) (fun i => nI (fe_ d i)) (ot_ d) (li_ d) := by
      intro z0 z1 a1 a2
      exact pk_eq (oc_ q) 8 (fun z => h z1 z0 (-5) a1 a2 (by rw [if_pos z])) (fun z => h z1 z0 0 a1 a2 (by rw [if_neg z])) rfl rfl (by omega) (by omega)
    have L : ∀ r : Int32, (r = 0 ↔ (in72 v1 ∧ in72 v2)) → (vp_in (nI (oc_ q)) 9 ∧ (((fun i => nI (pl_ q i)) (nI (oc_ q)).toNatClampNeg = 0 → wX_openBlock_26 post v1 v2 0 r 0 1 2 3 0 1 2 3 4 5 (-1) 48 512 (nI (mL_ q)) (nI (mT_ q)) (nI (mD_ q)) (nI (cm_ q)) (nI (nn_ q)) (nI (sp_ q)) (nI (sn_ q)) (nI (oc_ q)) (in_ d) (ss_ d) (nI (cu_ d)) (nI (pc_ d)) (nI (tk_ d)) (nI (ou_ d)) (nI (ev_ d)) (nI (ht_ d)) (nI (cl_ d)) (nI (fc_ d)) (fa_ d) (fun i => nI (kd_ q i)) (fun i => nI (ls_ q i)) (fun i => nI (oe_ q i)) (fun i => nI (od_ q i)) (fun i => nI (ar_ q i)) (fun i => nI (se_ q i)) (fun i => nI (ol_ q i)) (fun i => nI (pl_ q i)) (fun i => nI (sv_ d i)) (fun i => nI (sw_ d i)) (fun i => nI (pa_ q i)) (fun i => nI (ow_ q i)) (fun i => nI (sl_ q i)) (fun i => nI (lo_ q i)) (lx_ q) (an_ q) (vn_ q) (fun i => nI (lh_ q i)) (cp_ c) (fun i => nI (st_ c i)) (fun i => nI (nc_ c i)) (fun i => nI (cc_ c i)) (fun i => nI (hd_ c i)) (fun i => nI (lt_ q i)) (fun i => nI (hm_ c i)) (fun i => nI (rm_ c i)) (ri_ c) (fun i => nI (rh_ c i)) (me_ d) (fun i => nI (fs_ d i)) (fun i => nI (fe_ d i)) (ot_ d) (li_ d)) ∧ (¬ (fun i => nI (pl_ q i)) (nI (oc_ q)).toNatClampNeg = 0 → wX_openBlock_26 post v1 v2 1 r 0 1 2 3 0 1 2 3 4 5 (-1) 48 512 (nI (mL_ q)) (nI (mT_ q)) (nI (mD_ q)) (nI (cm_ q)) (nI (nn_ q)) (nI (sp_ q)) (nI (sn_ q)) (nI (oc_ q)) (in_ d) (ss_ d) (nI (cu_ d)) (nI (pc_ d)) (nI (tk_ d)) (nI (ou_ d)) (nI (ev_ d)) (nI (ht_ d)) (nI (cl_ d)) (nI (fc_ d)) (fa_ d) (fun i => nI (kd_ q i)) (fun i => nI (ls_ q i)) (fun i => nI (oe_ q i)) (fun i => nI (od_ q i)) (fun i => nI (ar_ q i)) (fun i => nI (se_ q i)) (fun i => nI (ol_ q i)) (fun i => nI (pl_ q i)) (fun i => nI (sv_ d i)) (fun i => nI (sw_ d i)) (fun i => nI (pa_ q i)) (fun i => nI (ow_ q i)) (fun i => nI (sl_ q i)) (fun i => nI (lo_ q i)) (lx_ q) (an_ q) (vn_ q) (fun i => nI (lh_ q i)) (cp_ c) (fun i => nI (st_ c i)) (fun i => nI (nc_ c i)) (fun i => nI (cc_ c i)) (fun i => nI (hd_ c i)) (fun i => nI (lt_ q i)) (fun i => nI (hm_ c i)) (fun i => nI (rm_ c i)) (ri_ c) (fun i => nI (rh_ c i)) (me_ d) (fun i => nI (fs_ d i)) (fun i => nI (fe_ d i)) (ot_ d) (li_ d)))) := by
      intro r a1
      refine ⟨vp_in_nI (by omega) (by omega), ?_⟩
      exact pk_eq (pl_ q (oc_ q)) 0 (fun z => L26 0 r a1 ⟨fun _ w => w z, fun _ => rfl⟩) (fun z => L26 1 r a1 ⟨fun w => absurd w (by decide), fun w => absurd z w⟩) (ga_ rfl (by omega)) rfl (by omega) (by omega)
    unfold wpX_openBlock
    unfold XT
    dsimp only
    refine xw_bp (q := q) (c := c) (d := d) (fun a b => ?_) (fun a => ?_)
    · exact L 0 ⟨fun _ => ⟨a, b⟩, fun _ => rfl⟩
    · exact L 1 ⟨fun w => absurd w (by decide), fun w => absurd w a⟩
  have HY : ∀ post, cm_ q = 0 → (¬ (in72 v1 ∧ in72 v2) → post (-2) (YT q e)) → ((in72 v1 ∧ in72 v2) → wpY_open post (YT q e) 7 v1 v2) → wpY_openBlock post (YT q e) v1 v2 := by
    intro post h0 hb hg
    refine cm0 h0 ?_
    refine yw_op (q := q) (e := e) (fun a5 => br_f (by decide) ?_) (fun a5 => br_t rfl (hb (fun z => a5 z.1)))
    exact yw_op (q := q) (e := e) (fun a6 => br_f (by decide) (hg ⟨a5, a6⟩)) (fun a6 => br_t rfl (hb (fun z => a6 z.2)))
  refine fo_mk hn hm hc (bad := ¬ (in72 v1 ∧ in72 v2)) (mis := pl_ q (oc_ q) ≠ 0) (late := if oc_ q = 8 then -5 else 0) (vK := 7) (vX := v1) (vY := v2) (vZ := 0) (fun post h => HX post (fun B Mi Lt b1 b2 b3 => h B Mi Lt ⟨fun w v => v (b1.mp w), fun w => b1.mpr (Classical.byContradiction w)⟩ (fun _ => b2) (fun _ _ => b3))) (fun w post h => cm1 hc w h) (fun w wb post h => HY post w (fun _ => h) (fun z => absurd z wb)) (fun w wb wl post h => HY post w (fun z => absurd z wb) (fun z => ?_)) (fun w wb wl wm post h => HY post w (fun z => absurd z wb) (fun z => ?_)) (fun w wb wl wm wt post h => HY post w (fun z => absurd z wb) (fun z => ?_)) (fun w wb wl wm wt => ?_)
  · obtain ⟨⟨x, x1, rfl⟩, ⟨y, y1, rfl⟩⟩ := z
    exact yw_open G0 (k := 7) (by omega) (fun z => by omega) (fun _ => h) (fun z => by omega) (fun z => by omega) (fun z => by omega) (fun z => by omega)
  · obtain ⟨⟨x, x1, rfl⟩, ⟨y, y1, rfl⟩⟩ := z
    exact yw_open G0 (k := 7) (by omega) (fun z => by omega) (fun z => by omega) (fun _ _ _ => h) (fun _ z => by omega) (fun _ z => by omega) (fun _ z => by omega)
  · obtain ⟨⟨x, x1, rfl⟩, ⟨y, y1, rfl⟩⟩ := z
    have o8 : oc_ q = 8 := Classical.byContradiction (fun v => wt (by rw [if_neg v]))
    rw [if_pos o8] at h
    exact yw_open G0 (k := 7) (by omega) (fun z => by omega) (fun z => by omega) (fun _ _ z => absurd z wm) (fun _ _ _ => h) (fun _ _ z => by omega) (fun _ _ z => by omega)
  · have o8 : oc_ q ≠ 8 := by
      intro v
      rw [if_pos v] at wt
      exact absurd wt (by decide)
    obtain ⟨⟨x, x1, rfl⟩, ⟨y, y1, rfl⟩⟩ : in72 v1 ∧ in72 v2 := Classical.byContradiction wb
    refine ⟨7, x, y, 0, rfl, rfl, rfl, rfl, ap_open F M (by omega) (by omega) x1 y1 (by omega) (fun z => by omega) (by omega) (fun _ => by omega), fun post h => HY post w (fun z => absurd z wb) (fun z => ?_)⟩
    exact yw_open G0 (k := 7) (by omega) (fun z => by omega) (fun z => by omega) (fun _ _ z => absurd z wm) (fun _ _ z => by omega) (fun _ _ _ z => by omega) (fun _ _ _ _ => h)
theorem fo_openFor (G : GQ q) : FO q c d e (fun post => wpX_openFor post (XT q c d)) (fun post => wpY_openFor post (YT q e)) := by
  have G0 := G
  obtain ⟨F, M, hm, hc⟩ := G
  have hn := fq_n F
  have ob := (fs_b F).2.2.2.1
  have pb := pl_b F
  have HX : ∀ post, (∀ B Mi Lt, B = 0 → (Mi = 0 ↔ ¬ (pl_ q (oc_ q) ≠ 0)) → Lt = (if oc_ q = 8 then -5 else 0) → wpX_feed post (XT q c d) B Mi Lt 8 0 0 0) → wpX_openFor post (XT q c d) := by
    intro post h
    have L19 : ∀ z0 : Int32, (z0 = 0 ↔ ¬ (pl_ q (oc_ q) ≠ 0)) → wX_openFor_19 post z0 0 0 1 2 3 0 1 2 3 4 5 (-1) 48 512 (nI (mL_ q)) (nI (mT_ q)) (nI (mD_ q)) (nI (cm_ q)) (nI (nn_ q)) (nI (sp_ q)) (nI (sn_ q)) (nI (oc_ q)) (in_ d) (ss_ d) (nI (cu_ d)) (nI (pc_ d)) (nI (tk_ d)) (nI (ou_ d)) (nI (ev_ d)) (nI (ht_ d)) (nI (cl_ d)) (nI (fc_ d)) (fa_ d) (fun i => nI (kd_ q i)) (fun i => nI (ls_ q i)) (fun i => nI (oe_ q i)) (fun i => nI (od_ q i)) (fun i => nI (ar_ q i)) (fun i => nI (se_ q i)) (fun i => nI (ol_ q i)) (fun i => nI (pl_ q i)) (fun i => nI (sv_ d i)) (fun i => nI (sw_ d i)) (fun i => nI (pa_ q i)) (fun i => nI (ow_ q i)) (fun i => nI (sl_ q i)) (fun i => nI (lo_ q i)) (lx_ q) (an_ q) (vn_ q) (fun i => nI (lh_ q i)) (cp_ c) (fun i => nI (st_ c i)) (fun i => nI (nc_ c i)) (fun i => nI (cc_ c i)) (fun i => nI (hd_ c i)) (fun i => nI (lt_ q i)) (fun i => nI (hm_ c i)) (fun i => nI (rm_ c i)) (ri_ c) (fun i => nI (rh_ c i)) (me_ d) (fun i => nI (fs_ d i)) (fun i => nI (fe_ d i)) (ot_ d) (li_ d) := by
      intro z0 a2
      exact pk_eq (oc_ q) 8 (fun z => h 0 z0 (-5) rfl a2 (by rw [if_pos z])) (fun z => h 0 z0 0 rfl a2 (by rw [if_neg z])) rfl rfl (by omega) (by omega)
    refine And.intro (vp_in_nI (by omega) (by omega)) ?_
    exact pk_eq (pl_ q (oc_ q)) 0 (fun z => L19 0 ⟨fun _ w => w z, fun _ => rfl⟩) (fun z => L19 1 ⟨fun w => absurd w (by decide), fun w => absurd z w⟩) (ga_ rfl (by omega)) rfl (by omega) (by omega)
  refine fo_mk hn hm hc (bad := False) (mis := pl_ q (oc_ q) ≠ 0) (late := if oc_ q = 8 then -5 else 0) (vK := 8) (vX := 0) (vY := 0) (vZ := 0) (fun post h => HX post (fun B Mi Lt b1 b2 b3 => h B Mi Lt ⟨fun _ v => v, fun _ => b1⟩ (fun _ => b2) (fun _ _ => b3))) (fun w post h => cm1 hc w h) (fun w wb post h => wb.elim) (fun w wb wl post h => cm0 w ?_) (fun w wb wl wm post h => cm0 w ?_) (fun w wb wl wm wt post h => cm0 w ?_) (fun w wb wl wm wt => ?_)
  · exact yw_open G0 (k := 8) (x := 0) (y := 0) (by omega) (fun z => by omega) (fun _ => h) (fun z => by omega) (fun z => by omega) (fun z => by omega) (fun z => by omega)
  · exact yw_open G0 (k := 8) (x := 0) (y := 0) (by omega) (fun z => by omega) (fun z => by omega) (fun _ _ _ => h) (fun _ z => by omega) (fun _ z => by omega) (fun _ z => by omega)
  · have o8 : oc_ q = 8 := Classical.byContradiction (fun v => wt (by rw [if_neg v]))
    rw [if_pos o8] at h
    exact yw_open G0 (k := 8) (x := 0) (y := 0) (by omega) (fun z => by omega) (fun z => by omega) (fun _ _ z => absurd z wm) (fun _ _ _ => h) (fun _ _ z => by omega) (fun _ _ z => by omega)
  · have o8 : oc_ q ≠ 8 := by
      intro v
      rw [if_pos v] at wt
      exact absurd wt (by decide)
    refine ⟨8, 0, 0, 0, rfl, rfl, rfl, rfl, ap_open F M (by omega) (by omega) (by omega) (by omega) (by omega) (fun z => by omega) (by omega) (fun _ => by omega), fun post h => cm0 w ?_⟩
    exact yw_open G0 (k := 8) (x := 0) (y := 0) (by omega) (fun z => by omega) (fun z => by omega) (fun _ _ z => absurd z wm) (fun _ _ z => by omega) (fun _ _ _ z => by omega) (fun _ _ _ _ => h)
theorem fo_part (G : GQ q) : FO q c d e (fun post => wpX_part post (XT q c d)) (fun post => wpY_part post (YT q e)) := by
  obtain ⟨F, M, hm, hc⟩ := G
  have hn := fq_n F
  have ob := (fs_b F).2.2.2.1
  have pb := pl_b F
  have HX : ∀ post, (∀ B Mi Lt, B = 0 → (Mi = 0 ↔ ¬ (pl_ q (oc_ q) ≠ 1 ∧ pl_ q (oc_ q) ≠ 3)) → Lt = 0 → wpX_feed post (XT q c d) B Mi Lt 9 0 0 0) → wpX_part post (XT q c d) := by
    intro post h
    have vo : vp_in (nI (oc_ q)) 9 := vp_in_nI (by omega) (by omega)
    refine And.intro vo ?_
    refine pk_eq (pl_ q (oc_ q)) 1 (fun z => h 0 0 0 rfl ⟨fun _ w => w.1 z, fun _ => rfl⟩ rfl) (fun z => ⟨vo, ?_⟩) (ga_ rfl (by omega)) rfl (by omega) (by omega)
    exact pk_eq (pl_ q (oc_ q)) 3 (fun z => h 0 0 0 rfl ⟨fun _ w => w.2 z, fun _ => rfl⟩ rfl) (fun z3 => h 0 1 0 rfl ⟨fun w => absurd w (by decide), fun w => absurd ⟨z, z3⟩ w⟩ rfl) (ga_ rfl (by omega)) rfl (by omega) (by omega)
  refine fo_mk hn hm hc (bad := False) (mis := pl_ q (oc_ q) ≠ 1 ∧ pl_ q (oc_ q) ≠ 3) (late := 0) (vK := 9) (vX := 0) (vY := 0) (vZ := 0) (fun post h => HX post (fun B Mi Lt b1 b2 b3 => h B Mi Lt ⟨fun _ v => v, fun _ => b1⟩ (fun _ => b2) (fun _ _ => b3))) (fun w post h => cm1 hc w (cm1 hc w h)) (fun w wb post h => wb.elim) (fun w wb wl post h => cm0 w (br_f (nge_ wl hn) (cm0 w h))) (fun w wb wl wm post h => cm0 w (br_t (nlt_ wl hm) (yw_place F ?_))) (fun w wb wl wm wt post h => absurd rfl wt) (fun w wb wl wm wt => ?_)
  · exact br_f (nI_n (b := 1) (by omega) (by omega) wm.1) (br_f (nI_n (b := 3) (by omega) (by omega) wm.2) h)
  · refine ⟨9, 0, 0, 0, rfl, rfl, rfl, rfl, ?_, fun post h => cm0 w (br_t (nlt_ wl hm) (yw_place F ?_))⟩
    · by_cases p1 : pl_ q (oc_ q) = 1
      · exact ap_sec F M (by omega) (by omega) (by omega) (Or.inl ⟨rfl, rfl⟩) p1
      · exact ap_body F M (by omega) (Classical.byContradiction (fun z => wm ⟨p1, z⟩))
    · have fin : wY_part_47 post (nI (mL_ q)) (nI (mT_ q)) (nI (mD_ q)) (nI (nn_ q)) (nI (yp_ e)) (yc_ e) (nI (yu_ e)) (nI (yo_ e)) (nI (yb_ e)) (nI (yi_ e)) (nI (yf_ e)) (nI (yl_ e)) (yn_ e) (yr_ e) (yt_ e) (nI (cm_ q)) (fun i => nI (kd_ q i)) (fun i => nI (ar_ q (4 * i + 1))) (fun i => nI (ar_ q (4 * i + 2))) (fun i => nI (ar_ q (4 * i + 3))) (fun i => nI (bi_ e i)) (fun i => nI (bm_ e i)) (bv_ e) (bl_ e) (io_ e) (fun i => nI (fl_ e i)) (fun i => nI (fi_ e i)) (fun i => nI (cx_ e i)) (fun i => nI (ci_ e i)) (yx_ e) := h _ (fun r q' hh => hh)
      by_cases p1 : pl_ q (oc_ q) = 1
      · rw [p1]; exact br_t rfl fin
      · have p3 : pl_ q (oc_ q) = 3 := Classical.byContradiction (fun z => wm ⟨p1, z⟩)
        rw [p3]; exact br_f (by decide) (br_t rfl fin)
theorem fo_condition (G : GQ q) (v1 v2 : Int32) : FO q c d e (fun post => wpX_condition post (XT q c d) v1 v2) (fun post => wpY_condition post (YT q e) v1 v2) := by
  obtain ⟨F, M, hm, hc⟩ := G
  have hn := fq_n F
  have ob := (fs_b F).2.2.2.1
  have pb := pl_b F
  have HX : ∀ post, (∀ B Mi Lt, (B = 0 ↔ (in72 v1 ∧ in72 v2)) → (Mi = 0 ↔ ¬ (pl_ q (oc_ q) ≠ 2)) → Lt = 0 → wpX_feed post (XT q c d) B Mi Lt 10 v1 v2 0) → wpX_condition post (XT q c d) v1 v2 := by
    intro post h
    have L : ∀ r : Int32, (r = 0 ↔ (in72 v1 ∧ in72 v2)) → (vp_in (nI (oc_ q)) 9 ∧ (((fun i => nI (pl_ q i)) (nI (oc_ q)).toNatClampNeg = 2 → wX_condition_27 post v1 v2 0 r 0 1 2 3 0 1 2 3 4 5 (-1) 48 512 (nI (mL_ q)) (nI (mT_ q)) (nI (mD_ q)) (nI (cm_ q)) (nI (nn_ q)) (nI (sp_ q)) (nI (sn_ q)) (nI (oc_ q)) (in_ d) (ss_ d) (nI (cu_ d)) (nI (pc_ d)) (nI (tk_ d)) (nI (ou_ d)) (nI (ev_ d)) (nI (ht_ d)) (nI (cl_ d)) (nI (fc_ d)) (fa_ d) (fun i => nI (kd_ q i)) (fun i => nI (ls_ q i)) (fun i => nI (oe_ q i)) (fun i => nI (od_ q i)) (fun i => nI (ar_ q i)) (fun i => nI (se_ q i)) (fun i => nI (ol_ q i)) (fun i => nI (pl_ q i)) (fun i => nI (sv_ d i)) (fun i => nI (sw_ d i)) (fun i => nI (pa_ q i)) (fun i => nI (ow_ q i)) (fun i => nI (sl_ q i)) (fun i => nI (lo_ q i)) (lx_ q) (an_ q) (vn_ q) (fun i => nI (lh_ q i)) (cp_ c) (fun i => nI (st_ c i)) (fun i => nI (nc_ c i)) (fun i => nI (cc_ c i)) (fun i => nI (hd_ c i)) (fun i => nI (lt_ q i)) (fun i => nI (hm_ c i)) (fun i => nI (rm_ c i)) (ri_ c) (fun i => nI (rh_ c i)) (me_ d) (fun i => nI (fs_ d i)) (fun i => nI (fe_ d i)) (ot_ d) (li_ d)) ∧ (¬ (fun i => nI (pl_ q i)) (nI (oc_ q)).toNatClampNeg = 2 → wX_condition_27 post v1 v2 1 r 0 1 2 3 0 1 2 3 4 5 (-1) 48 512 (nI (mL_ q)) (nI (mT_ q)) (nI (mD_ q)) (nI (cm_ q)) (nI (nn_ q)) (nI (sp_ q)) (nI (sn_ q)) (nI (oc_ q)) (in_ d) (ss_ d) (nI (cu_ d)) (nI (pc_ d)) (nI (tk_ d)) (nI (ou_ d)) (nI (ev_ d)) (nI (ht_ d)) (nI (cl_ d)) (nI (fc_ d)) (fa_ d) (fun i => nI (kd_ q i)) (fun i => nI (ls_ q i)) (fun i => nI (oe_ q i)) (fun i => nI (od_ q i)) (fun i => nI (ar_ q i)) (fun i => nI (se_ q i)) (fun i => nI (ol_ q i)) (fun i => nI (pl_ q i)) (fun i => nI (sv_ d i)) (fun i => nI (sw_ d i)) (fun i => nI (pa_ q i)) (fun i => nI (ow_ q i)) (fun i => nI (sl_ q i)) (fun i => nI (lo_ q i)) (lx_ q) (an_ q) (vn_ q) (fun i => nI (lh_ q i)) (cp_ c) (fun i => nI (st_ c i)) (fun i => nI (nc_ c i)) (fun i => nI (cc_ c i)) (fun i => nI (hd_ c i)) (fun i => nI (lt_ q i)) (fun i => nI (hm_ c i)) (fun i => nI (rm_ c i)) (ri_ c) (fun i => nI (rh_ c i)) (me_ d) (fun i => nI (fs_ d i)) (fun i => nI (fe_ d i)) (ot_ d) (li_ d)))) := by
      intro r a1
      refine ⟨vp_in_nI (by omega) (by omega), ?_⟩
      exact pk_eq (pl_ q (oc_ q)) 2 (fun z => h r 0 0 a1 ⟨fun _ w => w z, fun _ => rfl⟩ rfl) (fun z => h r 1 0 a1 ⟨fun w => absurd w (by decide), fun w => absurd z w⟩ rfl) (ga_ rfl (by omega)) rfl (by omega) (by omega)
    unfold wpX_condition
    unfold XT
    dsimp only
    refine xw_bp (q := q) (c := c) (d := d) (fun a b => ?_) (fun a => ?_)
    · exact L 0 ⟨fun _ => ⟨a, b⟩, fun _ => rfl⟩
    · exact L 1 ⟨fun w => absurd w (by decide), fun w => absurd w a⟩
  have HY : ∀ post, cm_ q = 0 → (¬ (in72 v1 ∧ in72 v2) → post (-2) (YT q e)) → ((in72 v1 ∧ in72 v2) → ((nI (nn_ q) < nI (mL_ q) → ((nI (pl_ q (oc_ q)) = 2 → wpY_add (fun r u => post r u) (YT q e) 10 v1 v2 0) ∧ (¬ nI (pl_ q (oc_ q)) = 2 → post (-4) (YT q e)))) ∧ (¬ nI (nn_ q) < nI (mL_ q) → post (-3) (YT q e)))) → wpY_condition post (YT q e) v1 v2 := by
    intro post h0 hb hg
    refine cm0 h0 ?_
    refine yw_op (q := q) (e := e) (fun a5 => br_f (by decide) ?_) (fun a5 => br_t rfl (hb (fun z => a5 z.1)))
    refine yw_op (q := q) (e := e) (fun a6 => br_f (by decide) ?_) (fun a6 => br_t rfl (hb (fun z => a6 z.2)))
    obtain ⟨g1, g2⟩ := hg ⟨a5, a6⟩
    exact ⟨fun w => yw_place F (g1 w), g2⟩
  refine fo_mk hn hm hc (bad := ¬ (in72 v1 ∧ in72 v2)) (mis := pl_ q (oc_ q) ≠ 2) (late := 0) (vK := 10) (vX := v1) (vY := v2) (vZ := 0) (fun post h => HX post (fun B Mi Lt b1 b2 b3 => h B Mi Lt ⟨fun w v => v (b1.mp w), fun w => b1.mpr (Classical.byContradiction w)⟩ (fun _ => b2) (fun _ _ => b3))) (fun w post h => cm1 hc w h) (fun w wb post h => HY post w (fun _ => h) (fun z => absurd z wb)) (fun w wb wl post h => HY post w (fun z => absurd z wb) (fun z => br_f (nge_ wl hn) h)) (fun w wb wl wm post h => HY post w (fun z => absurd z wb) (fun z => br_t (nlt_ wl hm) (br_f (nI_n (b := 2) (by omega) (by omega) wm) h))) (fun w wb wl wm wt post h => absurd rfl wt) (fun w wb wl wm wt => ?_)
  have p2 : pl_ q (oc_ q) = 2 := Classical.byContradiction wm
  have Pb : in72 v1 ∧ in72 v2 := Classical.byContradiction wb
  obtain ⟨⟨x, x1, rfl⟩, ⟨y, y1, rfl⟩⟩ := Pb
  exact ⟨10, x, y, 0, rfl, rfl, rfl, rfl, ap_sec F M (by omega) x1 y1 (Or.inr ⟨rfl, rfl⟩) p2, fun post h => HY post w (fun z => absurd z wb) (fun z => br_t (nlt_ wl hm) (br_t (by rw [p2]; rfl) (h _ (fun r q' hh => hh))))⟩
theorem fo_jump (G : GQ q) (v1 : Int32) : FO q c d e (fun post => wpX_jump post (XT q c d) v1) (fun post => wpY_jump post (YT q e) v1) := by
  obtain ⟨F, M, hm, hc⟩ := G
  have hn := fq_n F
  have h49 := fq_s F
  have hsp := fq_sp F
  have ob := (fs_b F).2.2.2.1
  have pb := pl_b F
  have lob := fq_lo F _ hsp
  have owb := (rc_own (ws_of F) _ hsp).2.2
  have HX : ∀ post, (∀ B Mi, (B = 0 ↔ (v1 = 11 ∨ v1 = 12 ∨ v1 = 13)) → (Mi = 0 ↔ ¬ ((v1 = 13 ∧ ow_ q (sp_ q) = 0) ∨ (v1 ≠ 13 ∧ lo_ q (sp_ q) = 0) ∨ pl_ q (oc_ q) ≠ 0)) → wpX_feed post (XT q c d) B Mi 0 v1 0 0 0) → wpX_jump post (XT q c d) v1 := by
    intro post h
    have vs : vp_in (nI (sp_ q)) 64 := vp_in_nI (by omega) (by omega)
    have vo : vp_in (nI (oc_ q)) 9 := vp_in_nI (by omega) (by omega)
    have L67 : ∀ x2 z0 : Int32, (x2 = 0 ↔ (v1 = 11 ∨ v1 = 12 ∨ v1 = 13)) → (z0 = 0 ↔ ¬ ((v1 = 13 ∧ ow_ q (sp_ q) = 0) ∨ (v1 ≠ 13 ∧ lo_ q (sp_ q) = 0))) → wX_jump_67 post v1 x2 z0 0 1 2 3 0 1 2 3 4 5 (-1) 48 512 (nI (mL_ q)) (nI (mT_ q)) (nI (mD_ q)) (nI (cm_ q)) (nI (nn_ q)) (nI (sp_ q)) (nI (sn_ q)) (nI (oc_ q)) (in_ d) (ss_ d) (nI (cu_ d)) (nI (pc_ d)) (nI (tk_ d)) (nI (ou_ d)) (nI (ev_ d)) (nI (ht_ d)) (nI (cl_ d)) (nI (fc_ d)) (fa_ d) (fun i => nI (kd_ q i)) (fun i => nI (ls_ q i)) (fun i => nI (oe_ q i)) (fun i => nI (od_ q i)) (fun i => nI (ar_ q i)) (fun i => nI (se_ q i)) (fun i => nI (ol_ q i)) (fun i => nI (pl_ q i)) (fun i => nI (sv_ d i)) (fun i => nI (sw_ d i)) (fun i => nI (pa_ q i)) (fun i => nI (ow_ q i)) (fun i => nI (sl_ q i)) (fun i => nI (lo_ q i)) (lx_ q) (an_ q) (vn_ q) (fun i => nI (lh_ q i)) (cp_ c) (fun i => nI (st_ c i)) (fun i => nI (nc_ c i)) (fun i => nI (cc_ c i)) (fun i => nI (hd_ c i)) (fun i => nI (lt_ q i)) (fun i => nI (hm_ c i)) (fun i => nI (rm_ c i)) (ri_ c) (fun i => nI (rh_ c i)) (me_ d) (fun i => nI (fs_ d i)) (fun i => nI (fe_ d i)) (ot_ d) (li_ d) := by
      intro x2 z0 a1 a2
      refine br_c (fun w => ⟨vo, ?_⟩) (fun w => h x2 1 a1 ⟨fun v => absurd v (by decide), fun v => absurd (a2.mpr (fun z => v (z.elim Or.inl (fun y => Or.inr (Or.inl y))))) w⟩)
      refine pk_eq (pl_ q (oc_ q)) 0 (fun z => h x2 0 a1 ⟨fun _ v => ?_, fun _ => rfl⟩) (fun z => h x2 1 a1 ⟨fun v => absurd v (by decide), fun v => absurd (Or.inr (Or.inr z)) v⟩) (ga_ rfl (by omega)) rfl (by omega) (by omega)
      rcases v with v | v | v
      · exact a2.mp w (Or.inl v)
      · exact a2.mp w (Or.inr v)
      · exact v z
    have L23 : ∀ z0 : Int32, (z0 = 0 ↔ (v1 = 11 ∨ v1 = 12 ∨ v1 = 13)) → wX_jump_23 post v1 z0 0 1 2 3 0 1 2 3 4 5 (-1) 48 512 (nI (mL_ q)) (nI (mT_ q)) (nI (mD_ q)) (nI (cm_ q)) (nI (nn_ q)) (nI (sp_ q)) (nI (sn_ q)) (nI (oc_ q)) (in_ d) (ss_ d) (nI (cu_ d)) (nI (pc_ d)) (nI (tk_ d)) (nI (ou_ d)) (nI (ev_ d)) (nI (ht_ d)) (nI (cl_ d)) (nI (fc_ d)) (fa_ d) (fun i => nI (kd_ q i)) (fun i => nI (ls_ q i)) (fun i => nI (oe_ q i)) (fun i => nI (od_ q i)) (fun i => nI (ar_ q i)) (fun i => nI (se_ q i)) (fun i => nI (ol_ q i)) (fun i => nI (pl_ q i)) (fun i => nI (sv_ d i)) (fun i => nI (sw_ d i)) (fun i => nI (pa_ q i)) (fun i => nI (ow_ q i)) (fun i => nI (sl_ q i)) (fun i => nI (lo_ q i)) (lx_ q) (an_ q) (vn_ q) (fun i => nI (lh_ q i)) (cp_ c) (fun i => nI (st_ c i)) (fun i => nI (nc_ c i)) (fun i => nI (cc_ c i)) (fun i => nI (hd_ c i)) (fun i => nI (lt_ q i)) (fun i => nI (hm_ c i)) (fun i => nI (rm_ c i)) (ri_ c) (fun i => nI (rh_ c i)) (me_ d) (fun i => nI (fs_ d i)) (fun i => nI (fe_ d i)) (ot_ d) (li_ d) := by
      intro z0 a1
      refine br_c (fun w => ⟨vs, ?_⟩) (fun w => ⟨vs, ?_⟩)
      · refine pk_eq (ow_ q (sp_ q)) 0 (fun z => L67 z0 1 a1 ⟨fun v => absurd v (by decide), fun v => absurd (Or.inl ⟨w, z⟩) v⟩) (fun z => L67 z0 0 a1 ⟨fun _ v => ?_, fun _ => rfl⟩) (ga_ rfl (by omega)) rfl (by omega) (by omega)
        rcases v with v | v
        · exact z v.2
        · exact v.1 w
      · refine pk_eq (lo_ q (sp_ q)) 0 (fun z => L67 z0 1 a1 ⟨fun v => absurd v (by decide), fun v => absurd (Or.inr ⟨w, z⟩) v⟩) (fun z => L67 z0 0 a1 ⟨fun _ v => ?_, fun _ => rfl⟩) (ga_ rfl (by omega)) rfl (by omega) (by omega)
        rcases v with v | v
        · exact w v.1
        · exact z v.2
    have L22 : (v1 = 11 ∨ v1 = 12 ∨ v1 = 13) → wX_jump_22 post v1 0 1 2 3 0 1 2 3 4 5 (-1) 48 512 (nI (mL_ q)) (nI (mT_ q)) (nI (mD_ q)) (nI (cm_ q)) (nI (nn_ q)) (nI (sp_ q)) (nI (sn_ q)) (nI (oc_ q)) (in_ d) (ss_ d) (nI (cu_ d)) (nI (pc_ d)) (nI (tk_ d)) (nI (ou_ d)) (nI (ev_ d)) (nI (ht_ d)) (nI (cl_ d)) (nI (fc_ d)) (fa_ d) (fun i => nI (kd_ q i)) (fun i => nI (ls_ q i)) (fun i => nI (oe_ q i)) (fun i => nI (od_ q i)) (fun i => nI (ar_ q i)) (fun i => nI (se_ q i)) (fun i => nI (ol_ q i)) (fun i => nI (pl_ q i)) (fun i => nI (sv_ d i)) (fun i => nI (sw_ d i)) (fun i => nI (pa_ q i)) (fun i => nI (ow_ q i)) (fun i => nI (sl_ q i)) (fun i => nI (lo_ q i)) (lx_ q) (an_ q) (vn_ q) (fun i => nI (lh_ q i)) (cp_ c) (fun i => nI (st_ c i)) (fun i => nI (nc_ c i)) (fun i => nI (cc_ c i)) (fun i => nI (hd_ c i)) (fun i => nI (lt_ q i)) (fun i => nI (hm_ c i)) (fun i => nI (rm_ c i)) (ri_ c) (fun i => nI (rh_ c i)) (me_ d) (fun i => nI (fs_ d i)) (fun i => nI (fe_ d i)) (ot_ d) (li_ d) := fun z => L23 0 ⟨fun _ => z, fun _ => rfl⟩
    refine br_c (fun w => L22 (Or.inl w)) (fun w1 => br_c (fun w => L22 (Or.inr (Or.inl w))) (fun w2 => br_c (fun w => L22 (Or.inr (Or.inr w))) (fun w3 => L23 1 ⟨fun v => absurd v (by decide), fun v => ?_⟩)))
    rcases v with v | v | v
    · exact absurd v w1
    · exact absurd v w2
    · exact absurd v w3
  have T : ∀ v : Int32, ¬ v < 11 → v ≤ 13 → v = 11 ∨ v = 12 ∨ v = 13 := by
    intro v a b
    have h0 : ¬ v < 0 := fun z => a (Int32.lt_of_lt_of_le z (by decide))
    obtain ⟨j, hj, rfl⟩ := nI_of2 (n := 13) (by decide) h0 b
    have : ¬ j < 11 := fun z => a (nI_lt (b := 11) z (by decide))
    have : j = 11 ∨ j = 12 ∨ j = 13 := by omega
    rcases this with rfl | rfl | rfl
    · exact Or.inl rfl
    · exact Or.inr (Or.inl rfl)
    · exact Or.inr (Or.inr rfl)
  by_cases P : v1 = 11 ∨ v1 = 12 ∨ v1 = 13
  · have hk : ∃ k, (k = 11 ∨ k = 12 ∨ k = 13) ∧ v1 = nI k := by
      rcases P with t | t | t
      · exact ⟨11, Or.inl rfl, t⟩
      · exact ⟨12, Or.inr (Or.inl rfl), t⟩
      · exact ⟨13, Or.inr (Or.inr rfl), t⟩
    obtain ⟨k, k3, rfl⟩ := hk
    have e13 : nI k = 13 ↔ k = 13 := nI_eq (b := 13) (by omega) (by omega)
    have HY : ∀ post, cm_ q = 0 → (mL_ q ≤ nn_ q → post (-3) (YT q e)) → (nn_ q < mL_ q → ((k = 13 ∧ ow_ q (sp_ q) = 0) ∨ (k ≠ 13 ∧ lo_ q (sp_ q) = 0) ∨ pl_ q (oc_ q) ≠ 0) → post (-4) (YT q e)) → (nn_ q < mL_ q → ¬ ((k = 13 ∧ ow_ q (sp_ q) = 0) ∨ (k ≠ 13 ∧ lo_ q (sp_ q) = 0) ∨ pl_ q (oc_ q) ≠ 0) → wpY_add (fun r u => post r u) (YT q e) (nI k) 0 0 0) → wpY_jump post (YT q e) (nI k) := by
      intro post h0 g3 g4 gA
      refine cm0 h0 (br_f (nI_nlt (b := 11) (by omega) (by omega)) (br_t (nI_le (b := 13) (by omega) (by omega)) ?_))
      refine pk_lt (nn_ q) (mL_ q) (fun hl => ?_) (fun hl => g3 hl) rfl rfl (by omega) (by omega)
      have L63 : ∀ r : Int32, (pl_ q (oc_ q) = 0 → (r < 0 ↔ ((k = 13 ∧ ow_ q (sp_ q) = 0) ∨ (k ≠ 13 ∧ lo_ q (sp_ q) = 0)))) → wY_jump_63 post (nI k) r (nI (mL_ q)) (nI (mT_ q)) (nI (mD_ q)) (nI (nn_ q)) (nI (yp_ e)) (yc_ e) (nI (yu_ e)) (nI (yo_ e)) (nI (yb_ e)) (nI (yi_ e)) (nI (yf_ e)) (nI (yl_ e)) (yn_ e) (yr_ e) (yt_ e) (nI (cm_ q)) (fun i => nI (kd_ q i)) (fun i => nI (ar_ q (4 * i + 1))) (fun i => nI (ar_ q (4 * i + 2))) (fun i => nI (ar_ q (4 * i + 3))) (fun i => nI (bi_ e i)) (fun i => nI (bm_ e i)) (bv_ e) (bl_ e) (io_ e) (fun i => nI (fl_ e i)) (fun i => nI (fi_ e i)) (fun i => nI (cx_ e i)) (fun i => nI (ci_ e i)) (yx_ e) := by
        intro r hr
        refine br_c (fun w => g4 hl ?_) (fun w => yw_place F ?_)
        · by_cases p0 : pl_ q (oc_ q) = 0
          · exact ((hr p0).mp w).elim Or.inl (fun z => Or.inr (Or.inl z))
          · exact Or.inr (Or.inr p0)
        · refine pk_eq (pl_ q (oc_ q)) 0 (fun p0 => gA hl (fun z => ?_)) (fun p0 => g4 hl (Or.inr (Or.inr p0))) rfl rfl (by omega) (by omega)
          rcases z with z | z | z
          · exact w ((hr p0).mpr (Or.inl z))
          · exact w ((hr p0).mpr (Or.inr z))
          · exact z p0
      refine pk_eq k 13 (fun z13 => ?_) (fun z13 => ?_) rfl rfl (by omega) (by omega)
      · refine yw_fs F (Nat.le_refl _) (L63 _ (fun _ => ?_))
        rw [lq_n, mo_neg (by have := sc_lt F (s := ow_ q (sp_ q)) (by omega); omega)]
        unfold sc_
        constructor
        · intro z
          refine Or.inl ⟨z13, ?_⟩
          split at z
          · assumption
          · omega
        · rintro (z | z)
          · rw [if_pos z.2]
          · exact absurd z13 z.1
      · refine yw_la F (Nat.le_refl _) (L63 _ (fun p0 => ?_))
        have g := fs_pl0 F p0
        rw [lq_n] at g ⊢
        unfold la_
        rw [if_neg (fun z => g z.1 z.2), mo_neg (by omega)]
        constructor
        · intro z; exact Or.inr ⟨z13, z⟩
        · rintro (z | z)
          · exact absurd z.1 z13
          · exact z.2
    refine fo_mk hn hm hc (bad := False) (mis := (k = 13 ∧ ow_ q (sp_ q) = 0) ∨ (k ≠ 13 ∧ lo_ q (sp_ q) = 0) ∨ pl_ q (oc_ q) ≠ 0) (late := 0) (vK := nI k) (vX := 0) (vY := 0) (vZ := 0) (fun post h => HX post (fun B Mi b1 b2 => h B Mi 0 ⟨fun _ v => v, fun _ => b1.mpr P⟩ (fun _ => ?_) (fun _ _ => rfl))) (fun w post h => cm1 hc w h) (fun w wb post h => wb.elim) (fun w wb wl post h => HY post w (fun _ => h) (fun z => by omega) (fun z => by omega)) (fun w wb wl wm post h => HY post w (fun z => by omega) (fun _ _ => h) (fun _ z => absurd wm z)) (fun w wb wl wm wt post h => absurd rfl wt) (fun w wb wl wm wt => ?_)
    · have n13 : nI k ≠ 13 ↔ k ≠ 13 := ⟨fun a b => a (e13.mpr b), fun a b => a (e13.mp b)⟩
      rw [e13, n13] at b2
      exact b2
    · have p0 : pl_ q (oc_ q) = 0 := Classical.byContradiction (fun z => wm (Or.inr (Or.inr z)))
      refine ⟨k, 0, 0, 0, rfl, rfl, rfl, rfl, ?_, fun post h => HY post w (fun z => by omega) (fun _ z => absurd z wm) (fun _ _ => h _ (fun r q' hh => hh))⟩
      refine ap_plain F M (o := if k = 13 then ol_ q (oc_ q) else lo_ q (sp_ q) - 1) (by omega) (by omega) (by omega) (by omega) (by omega) (fun z => by omega) (fun _ => p0) (fun z13 z => wm (Or.inl ⟨z13, z⟩)) (fun z => ?_) (fun z => ?_)
      · rw [if_neg (by omega)]
        have : lo_ q (sp_ q) ≠ 0 := fun z0 => wm (Or.inr (Or.inl ⟨by omega, z0⟩))
        omega
      · rw [if_pos (by omega)]
  · refine fo_mk hn hm hc (bad := True) (mis := False) (late := 0) (vK := v1) (vX := 0) (vY := 0) (vZ := 0) (fun post h => HX post (fun B Mi b1 b2 => h B Mi 0 ⟨fun w => absurd (b1.mp w) P, fun w => absurd trivial w⟩ (fun z => absurd trivial z) (fun z => absurd trivial z))) (fun w post h => cm1 hc w h) (fun w _ post h => ?_) (fun _ w => absurd trivial w) (fun _ w => absurd trivial w) (fun _ w => absurd trivial w) (fun _ w => absurd trivial w)
    exact cm0 w (br_c (fun _ => h) (fun a => br_c (fun b => absurd (T v1 a b) P) (fun _ => h)))
theorem fo_end (G : GQ q) : FO q c d e (fun post => wpX_end post (XT q c d)) (fun post => wpY_end post (YT q e)) := by
  obtain ⟨F, M, hm, hc⟩ := G
  have hn := fq_n F
  have ob := (fs_b F).2.2.2.1
  have pb := pl_b F
  have HX : ∀ post, (∀ B Mi, B = 0 → (Mi = 0 ↔ ¬ (oc_ q = 0 ∨ pl_ q (oc_ q) ≠ 0)) → wpX_feed post (XT q c d) B Mi 0 14 0 0 0) → wpX_end post (XT q c d) := by
    intro post h
    refine pk_eq (oc_ q) 0 (fun z => h 0 1 rfl ⟨fun w => absurd w (by decide), fun w => absurd (Or.inl z) w⟩) (fun z => ⟨vp_in_nI (by omega) (by omega), ?_⟩) rfl rfl (by omega) (by omega)
    exact pk_eq (pl_ q (oc_ q)) 0 (fun z0 => h 0 0 rfl ⟨fun _ w => w.elim z (fun v => v z0), fun _ => rfl⟩) (fun z0 => h 0 1 rfl ⟨fun w => absurd w (by decide), fun w => absurd (Or.inr z0) w⟩) (ga_ rfl (by omega)) rfl (by omega) (by omega)
  have eb : eo_ (kd_ q) (nn_ q) = 0 ↔ oc_ q = 0 := by
    rw [(fs_t F).1]
    unfold sk_
    split
    · exact ⟨fun _ => by assumption, fun _ => rfl⟩
    · exact ⟨fun _ => by omega, fun _ => by omega⟩
  have el := eo_le (kd_ q) (nn_ q)
  have HY : ∀ post, cm_ q = 0 → nn_ q < mL_ q → ((oc_ q = 0 ∨ pl_ q (oc_ q) ≠ 0) → post (-4) (YT q e)) → (¬ (oc_ q = 0 ∨ pl_ q (oc_ q) ≠ 0) → wpY_add (fun r u => post r u) (YT q e) 14 0 0 0) → wpY_end post (YT q e) := by
    intro post h0 hl g4 gA
    refine cm0 h0 (br_t (nlt_ hl hm) (yw_en (by omega) (fs_k F) ?_))
    refine br_c (fun w => g4 (Or.inl (eb.mp ((mo_neg (by omega)).mp w)))) (fun w => yw_place F ?_)
    have o0 : oc_ q ≠ 0 := fun z => w ((mo_neg (by omega)).mpr (eb.mpr z))
    exact pk_eq (pl_ q (oc_ q)) 0 (fun p0 => gA (fun z => z.elim o0 (fun v => v p0))) (fun p0 => g4 (Or.inr p0)) rfl rfl (by omega) (by omega)
  refine fo_mk hn hm hc (bad := False) (mis := oc_ q = 0 ∨ pl_ q (oc_ q) ≠ 0) (late := 0) (vK := 14) (vX := 0) (vY := 0) (vZ := 0) (fun post h => HX post (fun B Mi b1 b2 => h B Mi 0 ⟨fun _ v => v, fun _ => b1⟩ (fun _ => b2) (fun _ _ => rfl))) (fun w post h => cm1 hc w (cm1 hc w h)) (fun w wb post h => wb.elim) (fun w wb wl post h => cm0 w (br_f (nge_ wl hn) (cm0 w h))) (fun w wb wl wm post h => HY post w wl (fun _ => h) (fun z => absurd wm z)) (fun w wb wl wm wt post h => absurd rfl wt) (fun w wb wl wm wt => ?_)
  refine ⟨14, 0, 0, 0, rfl, rfl, rfl, rfl, ap_end F M (by omega) (fun z => wm (Or.inl z)) (Classical.byContradiction (fun z => wm (Or.inr z))), fun post h => HY post w wl (fun z => absurd z wm) (fun _ => h _ (fun r q' hh => hh))⟩
end
end
section
def oa_ (kd ar : Nat → Nat) (r : Nat) : Nat :=
  if kd (r / 4) ≤ 2 then (if r % 4 = 0 then 0 else ar r + 1)
  else if kd (r / 4) = 5 ∨ kd (r / 4) = 6 then (if r % 4 = 1 then ar r + 1 else 0)
  else if kd (r / 4) = 3 ∨ kd (r / 4) = 4 ∨ kd (r / 4) = 7 ∨ kd (r / 4) = 10 then (if r % 4 ≤ 1 then 0 else ar (r - 1) + 1)
  else 0
def fn_ (db : Nat → Nat → Bool) (pa : Nat → Nat) (x : Nat) : Nat → Nat → Nat
  | 0, s => if db s x = true then s + 1 else 0
  | f + 1, s => if db s x = true then s + 1 else if s = 0 then 0 else fn_ db pa x f (pa s)
def fd_ (db : Nat → Nat → Bool) (pa : Nat → Nat) (s x : Nat) : Nat := fn_ db pa x s s
theorem fn_fuel {db : Nat → Nat → Bool} {sn : Nat} {pa ow : Nat → Nat} (w : ws_ sn pa ow) (x : Nat) : ∀ s, s < sn → ∀ f, s ≤ f → fn_ db pa x f s = fn_ db pa x s s := by
  intro s
  induction s using Nat.strongRecOn with
  | _ s ih =>
    intro hs f hf
    cases s with
    | zero =>
      cases f with
      | zero => rfl
      | succ f => rw [fn_, fn_, if_pos rfl]
    | succ s =>
      cases f with
      | zero => omega
      | succ f =>
        rw [fn_, fn_]
        have p := (w.2.2 (s + 1) (by omega) hs).1
        rw [ih _ p (by omega) f (by omega), ih _ p (by omega) s (by omega)]
theorem fd_it {db : Nat → Nat → Bool} {sn : Nat} {pa ow : Nat → Nat} (w : ws_ sn pa ow) {s x : Nat} (hs : s < sn) : fd_ db pa s x = if db s x = true then s + 1 else if s = 0 then 0 else fd_ db pa (pa s) x := by
  unfold fd_
  cases s with
  | zero => rw [fn_, if_pos rfl]
  | succ s =>
    rw [fn_]
    have p := (w.2.2 (s + 1) (by omega) hs).1
    rw [fn_fuel w x _ (show pa (s + 1) < sn by omega) s (by omega)]
theorem fd_le {db : Nat → Nat → Bool} {sn : Nat} {pa ow : Nat → Nat} (w : ws_ sn pa ow) {x : Nat} : ∀ s, s < sn → fd_ db pa s x ≤ s + 1 ∧ (∀ t, fd_ db pa s x = t + 1 → db t x = true ∧ ac_ pa s t) := by
  intro s
  induction s using Nat.strongRecOn with
  | _ s ih =>
    intro hs
    rw [fd_it w hs]
    by_cases hd : db s x = true
    · rw [if_pos hd]
      refine ⟨Nat.le_refl _, fun t ht => ?_⟩
      have : s = t := by omega
      subst this
      exact ⟨hd, ac_self _ _⟩
    · rw [if_neg hd]
      by_cases z : s = 0
      · rw [if_pos z]
        exact ⟨by omega, fun t ht => by omega⟩
      · rw [if_neg z]
        have p := (w.2.2 s (by omega) hs).1
        obtain ⟨i1, i2⟩ := ih _ p (by omega)
        refine ⟨by omega, fun t ht => ?_⟩
        obtain ⟨j1, j2⟩ := i2 t ht
        exact ⟨j1, ac_it.mpr (Or.inr j2)⟩
def dq2_ (q : QT) : Nat → Nat → Bool := db_ (lx_ q) (vn_ q) (ow_ q)
section
variable {q : QT} {c : CT} {d : DT} {post : Int32 → Prop}
theorem sh2_ {r : Nat} (h : r < 192) : nI r >>> ((2 : Int32) &&& 31) = nI (r / 4) := pk_shrN (by omega) _ 2 (by decide)
theorem an3_ {r : Nat} (h : r < 192) : nI r &&& 3 = nI (r % 4) := pk_andN (by omega) 2 rfl
theorem xw_oa {r : Nat} (hr : r < 192) (hk : kd_ q (r / 4) ≤ 14) (h : post (mo_ (oa_ (kd_ q) (ar_ q) r))) : wpX_operandAt post (XT q c d) (nI r) := by
  have vr : vp_in (nI r) 192 := vp_in_nI hr (by omega)
  have n0 : ∀ m, m < 15 → kd_ q (r / 4) ≠ m → ¬ nI (kd_ q (r / 4)) = nI m := fun m hm hne w => hne ((nI_eq (by omega) (by omega)).mp w)
  refine And.intro (pk_in (r / 4) 48 (by omega) (sh2_ hr) (by omega)) (nm_r (e' := nI (kd_ q (r / 4))) (ga_ (sh2_ hr) (by omega)) (nm_r (an3_ hr) ?_))
  unfold oa_ at h
  have L44 : kd_ q (r / 4) = 5 ∨ kd_ q (r / 4) = 6 → wX_operandAt_44 post (nI r) (nI (r % 4)) 0 1 2 3 0 1 2 3 4 5 (-1) 48 512 (nI (mL_ q)) (nI (mT_ q)) (nI (mD_ q)) (nI (cm_ q)) (nI (nn_ q)) (nI (sp_ q)) (nI (sn_ q)) (nI (oc_ q)) (in_ d) (ss_ d) (nI (cu_ d)) (nI (pc_ d)) (nI (tk_ d)) (nI (ou_ d)) (nI (ev_ d)) (nI (ht_ d)) (nI (cl_ d)) (nI (fc_ d)) (fa_ d) (fun i => nI (kd_ q i)) (fun i => nI (ls_ q i)) (fun i => nI (oe_ q i)) (fun i => nI (od_ q i)) (fun i => nI (ar_ q i)) (fun i => nI (se_ q i)) (fun i => nI (ol_ q i)) (fun i => nI (pl_ q i)) (fun i => nI (sv_ d i)) (fun i => nI (sw_ d i)) (fun i => nI (pa_ q i)) (fun i => nI (ow_ q i)) (fun i => nI (sl_ q i)) (fun i => nI (lo_ q i)) (lx_ q) (an_ q) (vn_ q) (fun i => nI (lh_ q i)) (cp_ c) (fun i => nI (st_ c i)) (fun i => nI (nc_ c i)) (fun i => nI (cc_ c i)) (fun i => nI (hd_ c i)) (fun i => nI (lt_ q i)) (fun i => nI (hm_ c i)) (fun i => nI (rm_ c i)) (ri_ c) (fun i => nI (rh_ c i)) (me_ d) (fun i => nI (fs_ d i)) (fun i => nI (fe_ d i)) (ot_ d) (li_ d) := by
    intro hh
    rw [if_neg (by omega), if_pos hh] at h
    refine pk_eq (r % 4) 1 (fun z => ⟨vr, ?_⟩) (fun z => ?_) rfl rfl (by omega) (by omega)
    · rw [if_pos z, mo_s] at h
      rw [ga_ (f := ar_ q) rfl (by omega)]
      exact h
    · rw [if_neg z, mo_0] at h
      exact h
  have L82 : kd_ q (r / 4) = 3 ∨ kd_ q (r / 4) = 4 ∨ kd_ q (r / 4) = 7 ∨ kd_ q (r / 4) = 10 → wX_operandAt_82 post (nI r) (nI (r % 4)) 0 1 2 3 0 1 2 3 4 5 (-1) 48 512 (nI (mL_ q)) (nI (mT_ q)) (nI (mD_ q)) (nI (cm_ q)) (nI (nn_ q)) (nI (sp_ q)) (nI (sn_ q)) (nI (oc_ q)) (in_ d) (ss_ d) (nI (cu_ d)) (nI (pc_ d)) (nI (tk_ d)) (nI (ou_ d)) (nI (ev_ d)) (nI (ht_ d)) (nI (cl_ d)) (nI (fc_ d)) (fa_ d) (fun i => nI (kd_ q i)) (fun i => nI (ls_ q i)) (fun i => nI (oe_ q i)) (fun i => nI (od_ q i)) (fun i => nI (ar_ q i)) (fun i => nI (se_ q i)) (fun i => nI (ol_ q i)) (fun i => nI (pl_ q i)) (fun i => nI (sv_ d i)) (fun i => nI (sw_ d i)) (fun i => nI (pa_ q i)) (fun i => nI (ow_ q i)) (fun i => nI (sl_ q i)) (fun i => nI (lo_ q i)) (lx_ q) (an_ q) (vn_ q) (fun i => nI (lh_ q i)) (cp_ c) (fun i => nI (st_ c i)) (fun i => nI (nc_ c i)) (fun i => nI (cc_ c i)) (fun i => nI (hd_ c i)) (fun i => nI (lt_ q i)) (fun i => nI (hm_ c i)) (fun i => nI (rm_ c i)) (ri_ c) (fun i => nI (rh_ c i)) (me_ d) (fun i => nI (fs_ d i)) (fun i => nI (fe_ d i)) (ot_ d) (li_ d) := by
    intro hh
    rw [if_neg (by omega), if_neg (by omega), if_pos hh] at h
    refine br_f (by decide) (pk_le (r % 4) 1 (fun z => ?_) (fun z => ?_) rfl rfl (by omega) (by omega))
    · rw [if_pos z, mo_0] at h
      exact h
    · rw [if_neg (by omega), mo_s] at h
      have e1 : nI r - 1 = nI (r - 1) := pk_sub (b := 1) (by omega)
      refine ⟨pk_in (r - 1) 192 (by omega) e1 (by omega), ?_⟩
      rw [ga_ (f := ar_ q) e1 (by omega)]
      exact h
  refine pk_lt 2 (kd_ q (r / 4)) (fun h2 => ?_) (fun h2 => ?_) rfl rfl (by omega) (by omega)
  · refine br_c (fun z => L44 (Or.inl ((nI_eq (b := 5) (by omega) (by omega)).mp z))) (fun z5 => br_c (fun z => L44 (Or.inr ((nI_eq (b := 6) (by omega) (by omega)).mp z))) (fun z6 => br_c (fun z => L82 (Or.inl ((nI_eq (b := 3) (by omega) (by omega)).mp z))) (fun z3 => br_c (fun z => L82 (Or.inr (Or.inl ((nI_eq (b := 4) (by omega) (by omega)).mp z)))) (fun z4 => br_c (fun z => L82 (Or.inr (Or.inr (Or.inl ((nI_eq (b := 7) (by omega) (by omega)).mp z))))) (fun z7 => br_c (fun z => L82 (Or.inr (Or.inr (Or.inr ((nI_eq (b := 10) (by omega) (by omega)).mp z))))) (fun z10 => ?_))))))
    have k5 : kd_ q (r / 4) ≠ 5 := fun z => z5 (by rw [z]; rfl)
    have k6 : kd_ q (r / 4) ≠ 6 := fun z => z6 (by rw [z]; rfl)
    have k3 : kd_ q (r / 4) ≠ 3 := fun z => z3 (by rw [z]; rfl)
    have k4 : kd_ q (r / 4) ≠ 4 := fun z => z4 (by rw [z]; rfl)
    have k7 : kd_ q (r / 4) ≠ 7 := fun z => z7 (by rw [z]; rfl)
    have k10 : kd_ q (r / 4) ≠ 10 := fun z => z10 (by rw [z]; rfl)
    rw [if_neg (by omega), if_neg (by omega), if_neg (by omega), mo_0] at h
    exact br_t rfl h
  · rw [if_pos h2] at h
    refine pk_eq (r % 4) 0 (fun z => ?_) (fun z => ⟨vr, ?_⟩) rfl rfl (by omega) (by omega)
    · rw [if_pos z, mo_0] at h
      exact h
    · rw [if_neg z, mo_s] at h
      rw [ga_ (f := ar_ q) rfl (by omega)]
      exact h
theorem xw_db {s x : Nat} (hs : s < 64) (ho : ow_ q s < 64) (hx : x < 8) (h1 : dq2_ q s x = true → post 1) (h0 : dq2_ q s x = false → post 0) : wpX_declares post (XT q c d) (nI s) (nI x) := by
  have vs : vp_in (nI s) 64 := vp_in_nI hs (by omega)
  have e : dq2_ q s x = if ow_ q s = s then (bt (lx_ q s) x || bt (vn_ q s) x) else bt (lx_ q s) x := rfl
  have T : ∀ z : Int32, bt z x = dq2_ q s x → wX_declares_32 post (nI x) z 0 1 2 3 0 1 2 3 4 5 (-1) 48 512 (nI (mL_ q)) (nI (mT_ q)) (nI (mD_ q)) (nI (cm_ q)) (nI (nn_ q)) (nI (sp_ q)) (nI (sn_ q)) (nI (oc_ q)) (in_ d) (ss_ d) (nI (cu_ d)) (nI (pc_ d)) (nI (tk_ d)) (nI (ou_ d)) (nI (ev_ d)) (nI (ht_ d)) (nI (cl_ d)) (nI (fc_ d)) (fa_ d) (fun i => nI (kd_ q i)) (fun i => nI (ls_ q i)) (fun i => nI (oe_ q i)) (fun i => nI (od_ q i)) (fun i => nI (ar_ q i)) (fun i => nI (se_ q i)) (fun i => nI (ol_ q i)) (fun i => nI (pl_ q i)) (fun i => nI (sv_ d i)) (fun i => nI (sw_ d i)) (fun i => nI (pa_ q i)) (fun i => nI (ow_ q i)) (fun i => nI (sl_ q i)) (fun i => nI (lo_ q i)) (lx_ q) (an_ q) (vn_ q) (fun i => nI (lh_ q i)) (cp_ c) (fun i => nI (st_ c i)) (fun i => nI (nc_ c i)) (fun i => nI (cc_ c i)) (fun i => nI (hd_ c i)) (fun i => nI (lt_ q i)) (fun i => nI (hm_ c i)) (fun i => nI (rm_ c i)) (ri_ c) (fun i => nI (rh_ c i)) (me_ d) (fun i => nI (fs_ d i)) (fun i => nI (fe_ d i)) (ot_ d) (li_ d) := by
    intro z hz
    refine br_c (fun w => h0 ?_) (fun w => h1 ?_)
    · rw [← hz]; exact (bs_t (by omega)).mp w
    · rw [← hz]
      cases hb : bt z x with
      | true => rfl
      | false => exact absurd ((bs_t (by omega)).mpr hb) w
  refine And.intro vs ?_
  refine pk_eq (ow_ q s) s (fun z => ⟨vs, vs, T _ ?_⟩) (fun z => ⟨vs, T _ ?_⟩) (ga_ rfl (by omega)) rfl (by omega) (by omega)
  · rw [e, if_pos z, nI_clamp (by omega), b_or]
  · rw [e, if_neg z, nI_clamp (by omega)]
theorem ow_lt (F : FQ q) {s : Nat} (hs : s < sn_ q) : ow_ q s < 64 := by
  have := (rc_own (ws_of F) s hs).2.2
  have := fq_s F
  omega
theorem xw_fi5 (F : FQ q) {x : Nat} (hx : x < 8) : ∀ s, s < sn_ q → ∀ t N, s + t ≤ 48 → s < N → post (mo_ (fd_ (dq2_ q) (pa_ q) s x)) → wX_find_5 post (nI x) 0 1 2 3 0 1 2 3 4 5 (-1) 48 512 (nI (mL_ q)) (nI (mT_ q)) (nI (mD_ q)) (nI (cm_ q)) (nI (nn_ q)) (nI (sp_ q)) (nI (sn_ q)) (nI (oc_ q)) (in_ d) (ss_ d) (nI (cu_ d)) (nI (pc_ d)) (nI (tk_ d)) (nI (ou_ d)) (nI (ev_ d)) (nI (ht_ d)) (nI (cl_ d)) (nI (fc_ d)) (fa_ d) (fun i => nI (kd_ q i)) (fun i => nI (ls_ q i)) (fun i => nI (oe_ q i)) (fun i => nI (od_ q i)) (fun i => nI (ar_ q i)) (fun i => nI (se_ q i)) (fun i => nI (ol_ q i)) (fun i => nI (pl_ q i)) (fun i => nI (sv_ d i)) (fun i => nI (sw_ d i)) (fun i => nI (pa_ q i)) (fun i => nI (ow_ q i)) (fun i => nI (sl_ q i)) (fun i => nI (lo_ q i)) (lx_ q) (an_ q) (vn_ q) (fun i => nI (lh_ q i)) (cp_ c) (fun i => nI (st_ c i)) (fun i => nI (nc_ c i)) (fun i => nI (cc_ c i)) (fun i => nI (hd_ c i)) (fun i => nI (lt_ q i)) (fun i => nI (hm_ c i)) (fun i => nI (rm_ c i)) (ri_ c) (fun i => nI (rh_ c i)) (me_ d) (fun i => nI (fs_ d i)) (fun i => nI (fe_ d i)) (ot_ d) (li_ d) N (nI s) (nI t) := by
  have h49 := fq_s F
  have w := ws_of F
  intro s
  induction s using Nat.strongRecOn with
  | _ s ih =>
    intro hs t N ht hN hp
    have ho := ow_lt F hs
    cases N with
    | zero => omega
    | succ N =>
      rw [wX_find_5]
      rw [fd_it w hs] at hp
      have vs : vp_in (nI s) 64 := vp_in_nI (by omega) (by omega)
      refine br_f (nI_ge (b := 64) (by omega) (by decide)) ?_
      refine pk_le s 0 (fun z => ?_) (fun z => ?_) rfl rfl (by omega) (by omega)
      · have z0 : s = 0 := by omega
        refine xw_db (q := q) (c := c) (d := d) (by omega) ho hx (fun hd => br_f (by decide) ?_) (fun hd => br_t rfl ?_)
        · rw [if_pos hd, mo_s] at hp
          exact hp
        · rw [hd, if_neg (by decide), if_pos z0, mo_0] at hp
          exact hp
      · refine xw_db (q := q) (c := c) (d := d) (by omega) ho hx (fun hd => br_f (by decide) ?_) (fun hd => br_t rfl ⟨vs, ?_⟩)
        · rw [if_pos hd, mo_s] at hp
          exact xw_db (q := q) (c := c) (d := d) (by omega) ho hx (fun _ => br_f (by decide) hp) (fun hd' => absurd (hd.symm.trans hd') (by decide))
        · have p := (w.2.2 s z hs).1
          rw [hd, if_neg (by decide), if_neg (by omega)] at hp
          exact nm_r (e' := nI (pa_ q s)) (ga_ rfl (by omega)) (nm_r (nI_1 t) (ih _ p (by omega) (t + 1) N (by omega) (by omega) hp))
theorem xw_find (F : FQ q) {s x : Nat} (hs : s < sn_ q) (hx : x < 8) (hp : post (mo_ (fd_ (dq2_ q) (pa_ q) s x))) : wpX_find post (XT q c d) (nI s) (nI x) := by
  have h49 := fq_s F
  exact ⟨50, xw_fi5 F hx s hs 0 50 (by omega) (by omega) hp⟩
end
end
section
theorem up_id {f : Nat → Nat} {k v : Nat} (h : f k = v) : up_ f k v = f := by
  funext j
  unfold up_
  by_cases e : j = k
  · rw [if_pos e, e, h]
  · rw [if_neg e]
def CPi (q : QT) (r : Nat) (cp : Nat → Int32) : Prop := ∀ t x, x < 8 → (bt (cp t) x = true ↔ ∃ r', r' < r ∧ oa_ (kd_ q) (ar_ q) r' = x + 1 ∧ fd_ (dq2_ q) (pa_ q) (ls_ q (r' / 4)) x = t + 1 ∧ ow_ q t ≠ ow_ q (ls_ q (r' / 4)))
def cd_ (q : QT) (cp : Nat → Int32) (s x : Nat) : Bool := dq2_ q s x && bt (cp s) x
def ud_ (q : QT) (cp : Nat → Int32) (s x : Nat) : Bool := dq2_ q s x && !bt (cp s) x
def hv_ (q : QT) (cp : Nat → Int32) (b s y : Nat) : Nat := if bt (cp s) y = true then ct_ (cd_ q cp s) y + 1 else b + ct_ (ud_ q cp s) y
def bs_ (q : QT) (st : Nat → Nat) (s : Nat) : Nat := if ow_ q s = s then 0 else st (pa_ q s)
def LY (q : QT) (cp : Nat → Int32) (st nc cc hd hm : Nat → Nat) (s : Nat) : Prop :=
  nc s = ct_ (dq2_ q s) 8 ∧ cc s = ct_ (cd_ q cp s) 8 ∧ st s = bs_ q st s + ct_ (ud_ q cp s) 8 ∧ (∀ y, y < 8 → dq2_ q s y = true → hm (8 * s + y) = hv_ q cp (bs_ q st s) s y) ∧ hd s = (if s = 0 then 0 else hd (pa_ q s)) + (if 0 < cc s then 1 else 0)
theorem ls_lt {q : QT} (F : FQ q) {i : Nat} (hi : i < nn_ q) : ls_ q i < sn_ q ∧ Lq_ q i = ls_ q i := by
  have e : Lq_ q i = ls_ q i := up_n (by omega)
  have := lq_s F (Nat.le_of_lt hi)
  rw [e] at this
  exact ⟨this, e⟩
section
variable {q : QT} {d : DT} {cp : Nat → Int32} {st nc cc hd hm rm rh : Nat → Nat} {ri : Nat → Int32}
theorem xw_mark {post : SX → Prop} (F : FQ q) (M : MQ_ q) {r : Nat} (hr : r < 4 * nn_ q) (hc : CPi q r cp) (h : ∀ cp', CPi q (r + 1) cp' → post (XC q cp' st nc cc hd hm rm ri rh d)) : wpX_markCapture post (XC q cp st nc cc hd hm rm ri rh d) (nI r) := by
  have hn := fq_n F
  have h49 := fq_s F
  have hl := (ls_lt F (i := r / 4) (by omega)).1
  have hol := ow_lt F hl
  have h72 := M.2.2.2.2.2.2.2.2.1
  have step : ∀ cp', (∀ t x, x < 8 → (bt (cp' t) x = true ↔ bt (cp t) x = true ∨ (oa_ (kd_ q) (ar_ q) r = x + 1 ∧ fd_ (dq2_ q) (pa_ q) (ls_ q (r / 4)) x = t + 1 ∧ ow_ q t ≠ ow_ q (ls_ q (r / 4))))) → CPi q (r + 1) cp' := by
    intro cp' hs t x hx
    rw [hs t x hx, hc t x hx, exS (Q := fun r' => oa_ (kd_ q) (ar_ q) r' = x + 1 ∧ fd_ (dq2_ q) (pa_ q) (ls_ q (r' / 4)) x = t + 1 ∧ ow_ q t ≠ ow_ q (ls_ q (r' / 4))) (fun j _ => Iff.rfl)]
  have ob : oa_ (kd_ q) (ar_ q) r ≤ 73 := by
    unfold oa_
    have a1 := h72 r
    have a2 := h72 (r - 1)
    split
    · split <;> omega
    · split
      · split <;> omega
      · split
        · split <;> omega
        · omega
  unfold wpX_markCapture XC
  dsimp only
  refine xw_oa (q := q) (c := (cp, st, nc, cc, hd, hm, rm, ri, rh)) (d := d) (by omega) (fs_k F _ (by omega)) (And.intro (pk_in (r / 4) 48 (by omega) (sh2_ (by omega)) (by omega)) (nm_r (e' := nI (ls_ q (r / 4))) (ga_ (sh2_ (by omega)) (by omega)) ?_))
  by_cases o0 : oa_ (kd_ q) (ar_ q) r = 0
  · refine br_t ((mo_neg (by omega)).mpr o0) (h cp (step cp (fun t x hx => ⟨Or.inl, fun w => w.elim id (fun v => ?_)⟩)))
    have := v.1
    rw [o0] at this
    exact absurd this (by omega)
  · refine br_f (fun w => o0 ((mo_neg (by omega)).mp w)) ?_
    obtain ⟨x, hx⟩ : ∃ x, oa_ (kd_ q) (ar_ q) r = x + 1 := ⟨oa_ (kd_ q) (ar_ q) r - 1, by omega⟩
    rw [hx, mo_s]
    refine pk_le x 7 (fun x7 => ?_) (fun x7 => ?_) rfl rfl (by omega) (by omega)
    · have fl := fd_le (db := dq2_ q) (ws_of F) (x := x) _ hl
      refine xw_find (q := q) (c := (cp, st, nc, cc, hd, hm, rm, ri, rh)) (d := d) F hl (by omega) ?_
      by_cases f0 : fd_ (dq2_ q) (pa_ q) (ls_ q (r / 4)) x = 0
      · refine br_t ((mo_neg (by omega)).mpr f0) (h cp (step cp (fun t y hy => ⟨Or.inl, fun w => w.elim id (fun v => ?_)⟩)))
        have e : y = x := by omega
        subst e
        omega
      · refine br_f (fun w => f0 ((mo_neg (by omega)).mp w)) ?_
        obtain ⟨t, ht⟩ : ∃ t, fd_ (dq2_ q) (pa_ q) (ls_ q (r / 4)) x = t + 1 := ⟨fd_ (dq2_ q) (pa_ q) (ls_ q (r / 4)) x - 1, by omega⟩
        rw [ht, mo_s]
        have hot := ow_lt F (s := t) (by omega)
        have vt : vp_in (nI t) 64 := vp_in_nI (by omega) (by omega)
        refine ⟨vt, vp_in_nI (by omega) (by omega), ?_⟩
        refine pk_eq (ow_ q t) (ow_ q (ls_ q (r / 4))) (fun eo => ?_) (fun eo => ⟨vt, vt, ?_⟩) (ga_ rfl (by omega)) (ga_ rfl (by omega)) (by omega) (by omega)
        · refine h cp (step cp (fun t' y hy => ⟨Or.inl, fun w => w.elim id (fun v => ?_)⟩))
          have e : y = x := by omega
          subst e
          have e2 : t' = t := by omega
          subst e2
          exact absurd eo v.2.2
        · refine nm_r (e' := upd cp t (cp t ||| ((1 : Int32) <<< (nI x &&& 31)))) (by rw [nI_clamp (by omega)]) (h _ (step _ (fun t' y hy => ?_)))
          by_cases e2 : t' = t
          · subst e2
            rw [pk_us, bs_s (by omega) (by omega), Bool.or_eq_true, decide_eq_true_iff]
            constructor
            · rintro (a | a)
              · exact Or.inl a
              · subst a; exact Or.inr ⟨hx, ht, eo⟩
            · rintro (a | ⟨a, -, -⟩)
              · exact Or.inl a
              · exact Or.inr (by omega)
          · rw [pk_un e2]
            refine ⟨Or.inl, fun w => w.elim id (fun v => ?_)⟩
            have e : y = x := by omega
            subst e
            exact absurd (show t' = t by omega) e2
    · refine h cp (step cp (fun t y hy => ⟨Or.inl, fun w => w.elim id (fun v => ?_)⟩))
      omega
theorem xw_c21 {post : Int32 → SX → Prop} (F : FQ q) (M : MQ_ q) (h : ∀ cp', CPi q (4 * nn_ q) cp' → ∃ N, wX_compile_44 post N 0 0 1 2 3 0 1 2 3 4 5 (-1) 48 512 (nI (mL_ q)) (nI (mT_ q)) (nI (mD_ q)) (nI (cm_ q)) (nI (nn_ q)) (nI (sp_ q)) (nI (sn_ q)) (nI (oc_ q)) (in_ d) (ss_ d) (nI (cu_ d)) (nI (pc_ d)) (nI (tk_ d)) (nI (ou_ d)) (nI (ev_ d)) (nI (ht_ d)) (nI (cl_ d)) (nI (fc_ d)) (fa_ d) (fun i => nI (kd_ q i)) (fun i => nI (ls_ q i)) (fun i => nI (oe_ q i)) (fun i => nI (od_ q i)) (fun i => nI (ar_ q i)) (fun i => nI (se_ q i)) (fun i => nI (ol_ q i)) (fun i => nI (pl_ q i)) (fun i => nI (sv_ d i)) (fun i => nI (sw_ d i)) (fun i => nI (pa_ q i)) (fun i => nI (ow_ q i)) (fun i => nI (sl_ q i)) (fun i => nI (lo_ q i)) (lx_ q) (an_ q) (vn_ q) (fun i => nI (lh_ q i)) cp' (fun i => nI (st i)) (fun i => nI (nc i)) (fun i => nI (cc i)) (fun i => nI (hd i)) (fun i => nI (lt_ q i)) (fun i => nI (hm i)) (fun i => nI (rm i)) ri (fun i => nI (rh i)) (me_ d) (fun i => nI (fs_ d i)) (fun i => nI (fe_ d i)) (ot_ d) (li_ d)) :
    ∀ m r N cp, r + m = 4 * nn_ q → m < N → CPi q r cp → wX_compile_21 post N (nI r) 0 1 2 3 0 1 2 3 4 5 (-1) 48 512 (nI (mL_ q)) (nI (mT_ q)) (nI (mD_ q)) (nI (cm_ q)) (nI (nn_ q)) (nI (sp_ q)) (nI (sn_ q)) (nI (oc_ q)) (in_ d) (ss_ d) (nI (cu_ d)) (nI (pc_ d)) (nI (tk_ d)) (nI (ou_ d)) (nI (ev_ d)) (nI (ht_ d)) (nI (cl_ d)) (nI (fc_ d)) (fa_ d) (fun i => nI (kd_ q i)) (fun i => nI (ls_ q i)) (fun i => nI (oe_ q i)) (fun i => nI (od_ q i)) (fun i => nI (ar_ q i)) (fun i => nI (se_ q i)) (fun i => nI (ol_ q i)) (fun i => nI (pl_ q i)) (fun i => nI (sv_ d i)) (fun i => nI (sw_ d i)) (fun i => nI (pa_ q i)) (fun i => nI (ow_ q i)) (fun i => nI (sl_ q i)) (fun i => nI (lo_ q i)) (lx_ q) (an_ q) (vn_ q) (fun i => nI (lh_ q i)) cp (fun i => nI (st i)) (fun i => nI (nc i)) (fun i => nI (cc i)) (fun i => nI (hd i)) (fun i => nI (lt_ q i)) (fun i => nI (hm i)) (fun i => nI (rm i)) ri (fun i => nI (rh i)) (me_ d) (fun i => nI (fs_ d i)) (fun i => nI (fe_ d i)) (ot_ d) (li_ d) := by
  have hn := fq_n F
  intro m
  induction m with
  | zero =>
    intro r N cp hr hN hc
    cases N with
    | zero => omega
    | succ N =>
      rw [wX_compile_21]
      refine br_t ?_ (h cp (by rw [show 4 * nn_ q = r by omega]; exact hc))
      rw [m40_]
      exact nI_le (by omega) (by omega)
  | succ m ih =>
    intro r N cp hr hN hc
    cases N with
    | zero => omega
    | succ N =>
      rw [wX_compile_21]
      refine br_f ?_ ?_
      · rw [m40_]
        exact nI_ge (by omega) (by omega)
      · exact xw_mark F M (by omega) hc (fun cp' hc' => nm_r (nI_1 r) (ih (r + 1) N cp' (by omega) (by omega) hc'))
theorem xw_lo28 {post : SX → Prop} (F : FQ q) {s b : Nat} (hs : s < sn_ q) (hb : b < 1000) (hc0 : hd (pa_ q s) < 1000) (hpz : s = 0 → hd 0 = 0)
    (h : ∀ hm' : Nat → Nat, (∀ y, y < 8 → dq2_ q s y = true → hm' (8 * s + y) = hv_ q cp b s y) → (∀ j, (∀ y, y < 8 → j ≠ 8 * s + y) → hm' j = hm j) → post (XC q cp (up_ st s (b + ct_ (ud_ q cp s) 8)) (up_ nc s (ct_ (dq2_ q s) 8)) (up_ cc s (ct_ (cd_ q cp s) 8)) (up_ hd s ((if s = 0 then 0 else hd (pa_ q s)) + (if 0 < ct_ (cd_ q cp s) 8 then 1 else 0))) hm' rm ri rh d)) :
    ∀ (m x N : Nat) (hm' : Nat → Nat), x + m = 8 → m < N → (∀ y, y < x → dq2_ q s y = true → hm' (8 * s + y) = hv_ q cp b s y) → (∀ j, (∀ y, y < 8 → j ≠ 8 * s + y) → hm' j = hm j) →
    wX_layOut_28 post (nI s) 0 1 2 3 0 1 2 3 4 5 (-1) 48 512 (nI (mL_ q)) (nI (mT_ q)) (nI (mD_ q)) (nI (cm_ q)) (nI (nn_ q)) (nI (sp_ q)) (nI (sn_ q)) (nI (oc_ q)) (in_ d) (ss_ d) (nI (cu_ d)) (nI (pc_ d)) (nI (tk_ d)) (nI (ou_ d)) (nI (ev_ d)) (nI (ht_ d)) (nI (cl_ d)) (nI (fc_ d)) (fa_ d) N (nI (b + ct_ (ud_ q cp s) x)) (nI x) (fun i => nI (kd_ q i)) (fun i => nI (ls_ q i)) (fun i => nI (oe_ q i)) (fun i => nI (od_ q i)) (fun i => nI (ar_ q i)) (fun i => nI (se_ q i)) (fun i => nI (ol_ q i)) (fun i => nI (pl_ q i)) (fun i => nI (sv_ d i)) (fun i => nI (sw_ d i)) (fun i => nI (pa_ q i)) (fun i => nI (ow_ q i)) (fun i => nI (sl_ q i)) (fun i => nI (lo_ q i)) (lx_ q) (an_ q) (vn_ q) (fun i => nI (lh_ q i)) cp (fun i => nI (st i)) (fun i => nI ((up_ nc s (ct_ (dq2_ q s) x)) i)) (fun i => nI ((up_ cc s (ct_ (cd_ q cp s) x)) i)) (fun i => nI (hd i)) (fun i => nI (lt_ q i)) (fun i => nI (hm' i)) (fun i => nI (rm i)) ri (fun i => nI (rh i)) (me_ d) (fun i => nI (fs_ d i)) (fun i => nI (fe_ d i)) (ot_ d) (li_ d) := by
  have h49 := fq_s F
  have vs : vp_in (nI s) 64 := vp_in_nI (by omega) (by omega)
  have hpa : pa_ q s ≤ s := by
    rcases Nat.eq_zero_or_pos s with z | z
    · subst z; rw [(fs_r F).1]; exact Nat.le_refl _
    · exact Nat.le_of_lt ((ws_of F).2.2 s z hs).1
  have epa : pa_ q s = if s = 0 then 0 else pa_ q s := by
    split
    · rename_i z; subst z; exact (fs_r F).1
    · rfl
  have ehd : hd (pa_ q s) = if s = 0 then 0 else hd (pa_ q s) := by
    by_cases z : s = 0
    · rw [if_pos z, z, (fs_r F).1]; exact hpz z
    · rw [if_neg z]
  intro m
  induction m with
  | zero =>
    intro x N hm' hx hN i1 i2
    cases N with
    | zero => omega
    | succ N =>
      have : x = 8 := by omega
      subst this
      rw [wX_layOut_28]
      have cl := ct_le (cd_ q cp s) 8
      refine br_t (nI_le (b := 8) (Nat.le_refl _) (by decide)) ⟨vs, nm_r (ug_ _ (by omega)) ⟨vs, pk_in (pa_ q s) 64 (by omega) (ga_ rfl (by omega)) (by omega), vs, ?_⟩⟩
      have hh := h hm' i1 i2
      have eg : (fun i => nI (up_ cc s (ct_ (cd_ q cp s) 8) i)) (nI s).toNatClampNeg = nI (ct_ (cd_ q cp s) 8) := by
        rw [ga_ (f := up_ cc s (ct_ (cd_ q cp s) 8)) rfl (by omega), up_s]
      have eh : (fun i => nI (hd i)) ((fun i => nI (pa_ q i)) (nI s).toNatClampNeg).toNatClampNeg = nI (hd (pa_ q s)) := ga_ (ga_ rfl (by omega)) (by omega)
      refine pk_le (ct_ (cd_ q cp s) 8) 0 (fun z => ⟨vs, ?_⟩) (fun z => ⟨vs, ?_⟩) eg rfl (by omega) (by omega)
      · refine nm_r (e' := fun i => nI (up_ hd s ((if s = 0 then 0 else hd (pa_ q s)) + (if 0 < ct_ (cd_ q cp s) 8 then 1 else 0)) i)) ?_ hh
        rw [eh, Int32.add_zero, if_neg (show ¬ 0 < ct_ (cd_ q cp s) 8 by omega), Nat.add_zero, ← ehd]
        exact ug_ _ (by omega)
      · refine nm_r (e' := fun i => nI (up_ hd s ((if s = 0 then 0 else hd (pa_ q s)) + (if 0 < ct_ (cd_ q cp s) 8 then 1 else 0)) i)) ?_ hh
        rw [eh, nI_1, if_pos (show 0 < ct_ (cd_ q cp s) 8 by omega), ← ehd]
        exact ug_ _ (by omega)
  | succ m ih =>
    intro x N hm' hx hN i1 i2
    cases N with
    | zero => omega
    | succ N =>
      rw [wX_layOut_28]
      have ih := ih (x + 1) N
      have v8 : vp_in ((8 : Int32) * nI s + nI x) 512 := pk_in (8 * s + x) 512 (by omega) (m8_ _ _) (by omega)
      have cu := ct_le (ud_ q cp s) x
      have cl := ct_le (cd_ q cp s) x
      have cn := ct_le (dq2_ q s) x
      refine br_f (nI_ge (b := 8) (by omega) (by decide)) ?_
      refine xw_db (q := q) (c := (cp, st, up_ nc s (ct_ (dq2_ q s) x), up_ cc s (ct_ (cd_ q cp s) x), hd, hm', rm, ri, rh)) (d := d) (by omega) (ow_lt F hs) (by omega) (fun hd1 => br_f (by decide) ⟨vs, vs, ?_⟩) (fun hd0 => br_t rfl ?_)
      · have e1 : ct_ (dq2_ q s) (x + 1) = ct_ (dq2_ q s) x + 1 := by rw [ct_, if_pos hd1]
        refine nm_r (e' := fun i => nI (up_ nc s (ct_ (dq2_ q s) (x + 1)) i)) ?_ ⟨vs, ?_⟩
        · rw [ga_ (f := up_ nc s (ct_ (dq2_ q s) x)) rfl (by omega), up_s, nI_1, ug_ _ (by omega), up_up, e1]
        · refine br_c (fun w => ?_) (fun w => ⟨vs, vs, ?_⟩)
          · rw [nI_clamp (by omega), bs_t (by omega)] at w
            have w' : bt (cp s) x = false := w
            have u1 : ct_ (ud_ q cp s) (x + 1) = ct_ (ud_ q cp s) x + 1 := by
              rw [ct_, if_pos]
              unfold ud_
              rw [hd1, w']; rfl
            have c1 : ct_ (cd_ q cp s) (x + 1) = ct_ (cd_ q cp s) x := by
              rw [ct_, if_neg, Nat.add_zero]
              unfold cd_
              rw [w']; simp
            refine nm_r (nI_1 _) ⟨v8, nm_r (e' := fun i => nI (up_ hm' (8 * s + x) (b + ct_ (ud_ q cp s) x) i)) (uh_ (m8_ _ _) (by omega)) (nm_r (nI_1 x) ?_)⟩
            have := ih (up_ hm' (8 * s + x) (b + ct_ (ud_ q cp s) x)) (by omega) (by omega) (fun y hy hdy => ?_) (fun j hj => ?_)
            · rw [u1, c1, ← Nat.add_assoc] at this
              exact this
            · by_cases ey : y = x
              · subst ey
                rw [up_s]
                unfold hv_
                rw [w', if_neg (by decide)]
              · rw [up_n (by omega)]
                exact i1 y (by omega) hdy
            · rw [up_n (hj x (by omega))]
              exact i2 j hj
          · have w' : bt (cp s) x = true := by
              cases hbt : bt (cp s) x with
              | true => rfl
              | false =>
                rw [nI_clamp (by omega), bs_t (by omega)] at w
                exact absurd hbt w
            have u1 : ct_ (ud_ q cp s) (x + 1) = ct_ (ud_ q cp s) x := by
              rw [ct_, if_neg, Nat.add_zero]
              unfold ud_
              rw [w']; simp
            have c1 : ct_ (cd_ q cp s) (x + 1) = ct_ (cd_ q cp s) x + 1 := by
              rw [ct_, if_pos]
              unfold cd_
              rw [hd1, w']; rfl
            have eg : (fun i => nI (up_ cc s (ct_ (cd_ q cp s) x) i)) (nI s).toNatClampNeg + 1 = nI (ct_ (cd_ q cp s) x + 1) := by
              rw [ga_ (f := up_ cc s (ct_ (cd_ q cp s) x)) rfl (by omega), up_s, nI_1]
            refine nm_r (e' := fun i => nI (up_ cc s (ct_ (cd_ q cp s) (x + 1)) i)) ?_ ⟨v8, nm_r (e' := fun i => nI (up_ hm' (8 * s + x) (ct_ (cd_ q cp s) x + 1) i)) ?_ (nm_r (nI_1 x) ?_)⟩
            · rw [eg, ug_ _ (by omega), up_up, c1]
            · rw [eg]
              exact uh_ (m8_ _ _) (by omega)
            · have := ih (up_ hm' (8 * s + x) (ct_ (cd_ q cp s) x + 1)) (by omega) (by omega) (fun y hy hdy => ?_) (fun j hj => ?_)
              · rw [u1] at this
                exact this
              · by_cases ey : y = x
                · subst ey
                  rw [up_s]
                  unfold hv_
                  rw [w', if_pos rfl]
                · rw [up_n (by omega)]
                  exact i1 y (by omega) hdy
              · rw [up_n (hj x (by omega))]
                exact i2 j hj
      · have e1 : ct_ (dq2_ q s) (x + 1) = ct_ (dq2_ q s) x := by rw [ct_, if_neg (by rw [hd0]; decide), Nat.add_zero]
        have u1 : ct_ (ud_ q cp s) (x + 1) = ct_ (ud_ q cp s) x := by
          rw [ct_, if_neg, Nat.add_zero]
          unfold ud_
          rw [hd0]; simp
        have c1 : ct_ (cd_ q cp s) (x + 1) = ct_ (cd_ q cp s) x := by
          rw [ct_, if_neg, Nat.add_zero]
          unfold cd_
          rw [hd0]; simp
        refine nm_r (nI_1 x) ?_
        have := ih hm' (by omega) (by omega) (fun y hy hdy => ?_) i2
        · rw [e1, u1, c1] at this
          exact this
        · by_cases ey : y = x
          · subst ey; rw [hd0] at hdy; exact absurd hdy (by decide)
          · exact i1 y (by omega) hdy
theorem xw_lay {post : SX → Prop} (F : FQ q) {s : Nat} (hs : s < sn_ q) (hb : bs_ q st s < 1000) (hc0 : hd (pa_ q s) < 1000) (hpz : s = 0 → hd 0 = 0) (n0 : nc s = 0) (c0 : cc s = 0)
    (h : ∀ hm' : Nat → Nat, (∀ y, y < 8 → dq2_ q s y = true → hm' (8 * s + y) = hv_ q cp (bs_ q st s) s y) → (∀ j, (∀ y, y < 8 → j ≠ 8 * s + y) → hm' j = hm j) → post (XC q cp (up_ st s (bs_ q st s + ct_ (ud_ q cp s) 8)) (up_ nc s (ct_ (dq2_ q s) 8)) (up_ cc s (ct_ (cd_ q cp s) 8)) (up_ hd s ((if s = 0 then 0 else hd (pa_ q s)) + (if 0 < ct_ (cd_ q cp s) 8 then 1 else 0))) hm' rm ri rh d)) : wpX_layOut post (XC q cp st nc cc hd hm rm ri rh d) (nI s) := by
  have h49 := fq_s F
  have vs : vp_in (nI s) 64 := vp_in_nI (by omega) (by omega)
  have go := xw_lo28 (d := d) (rm := rm) (ri := ri) (rh := rh) F hs hb hc0 hpz h 8 0 9 hm (by omega) (by omega) (fun y hy => by omega) (fun j _ => rfl)
  have en : up_ nc s (ct_ (dq2_ q s) 0) = nc := up_id n0
  have ec : up_ cc s (ct_ (cd_ q cp s) 0) = cc := up_id c0
  rw [en, ec] at go
  have ho := ow_lt F hs
  refine And.intro vs ?_
  refine pk_eq (ow_ q s) s (fun z => ?_) (fun z => ⟨vs, ?_⟩) (ga_ rfl (by omega)) rfl (by omega) (by omega)
  · have eb : bs_ q st s = 0 := if_pos z
    rw [eb] at go
    exact ⟨9, go⟩
  · have eb : bs_ q st s = st (pa_ q s) := if_neg z
    have hpa : pa_ q s < s := ((ws_of F).2.2 s (by
      apply Nat.pos_of_ne_zero
      intro z0
      rw [z0] at z
      exact z (fs_r F).2.1) hs).1
    refine ⟨pk_in (pa_ q s) 64 (by omega) (ga_ rfl (by omega)) (by omega), nm_r (e' := nI (st (pa_ q s))) (ga_ (ga_ rfl (by omega)) (by omega)) ⟨9, ?_⟩⟩
    rw [eb] at go
    exact go
end
end
section
section
variable {q : QT} {d : DT} {cp : Nat → Int32} {st nc cc hd hm rm rh : Nat → Nat} {ri : Nat → Int32}
theorem ly_b (F : FQ q) {n : Nat} (hn : n ≤ sn_ q) (h : ∀ s, s < n → LY q cp st nc cc hd hm s) : ∀ s, s < n → st s ≤ 8 * (s + 1) ∧ hd s ≤ s + 1 := by
  intro s
  induction s using Nat.strongRecOn with
  | _ s ih =>
    intro hs
    obtain ⟨a1, a2, a3, a4, a5⟩ := h s hs
    have c1 := ct_le (ud_ q cp s) 8
    rcases Nat.eq_zero_or_pos s with z | z
    · subst z
      have e : bs_ q st 0 = 0 := if_pos (fs_r F).2.1
      rw [e] at a3
      rw [if_pos rfl] at a5
      refine ⟨by omega, ?_⟩
      rw [a5]
      split <;> omega
    · have p := ((ws_of F).2.2 s z (by omega)).1
      obtain ⟨i1, i2⟩ := ih _ p (by omega)
      rw [if_neg (by omega)] at a5
      constructor
      · rw [a3]
        unfold bs_
        split <;> omega
      · rw [a5]
        split <;> omega
theorem xw_c44 {post : Int32 → SX → Prop} (F : FQ q) (h : ∀ st nc cc hd hm, (∀ s, s < sn_ q → LY q cp st nc cc hd hm s) → ∃ N, wX_compile_65 post N 0 0 1 2 3 0 1 2 3 4 5 (-1) 48 512 (nI (mL_ q)) (nI (mT_ q)) (nI (mD_ q)) (nI (cm_ q)) (nI (nn_ q)) (nI (sp_ q)) (nI (sn_ q)) (nI (oc_ q)) (in_ d) (ss_ d) (nI (cu_ d)) (nI (pc_ d)) (nI (tk_ d)) (nI (ou_ d)) (nI (ev_ d)) (nI (ht_ d)) (nI (cl_ d)) (nI (fc_ d)) (fa_ d) (fun i => nI (kd_ q i)) (fun i => nI (ls_ q i)) (fun i => nI (oe_ q i)) (fun i => nI (od_ q i)) (fun i => nI (ar_ q i)) (fun i => nI (se_ q i)) (fun i => nI (ol_ q i)) (fun i => nI (pl_ q i)) (fun i => nI (sv_ d i)) (fun i => nI (sw_ d i)) (fun i => nI (pa_ q i)) (fun i => nI (ow_ q i)) (fun i => nI (sl_ q i)) (fun i => nI (lo_ q i)) (lx_ q) (an_ q) (vn_ q) (fun i => nI (lh_ q i)) cp (fun i => nI (st i)) (fun i => nI (nc i)) (fun i => nI (cc i)) (fun i => nI (hd i)) (fun i => nI (lt_ q i)) (fun i => nI (hm i)) (fun i => nI (rm i)) ri (fun i => nI (rh i)) (me_ d) (fun i => nI (fs_ d i)) (fun i => nI (fe_ d i)) (ot_ d) (li_ d)) :
    ∀ (m s N : Nat) (st nc cc hd hm : Nat → Nat), s + m = sn_ q → m < N → (∀ s', s' < s → LY q cp st nc cc hd hm s') → (∀ s', s ≤ s' → nc s' = 0 ∧ cc s' = 0 ∧ hd s' = 0) → wX_compile_44 post N (nI s) 0 1 2 3 0 1 2 3 4 5 (-1) 48 512 (nI (mL_ q)) (nI (mT_ q)) (nI (mD_ q)) (nI (cm_ q)) (nI (nn_ q)) (nI (sp_ q)) (nI (sn_ q)) (nI (oc_ q)) (in_ d) (ss_ d) (nI (cu_ d)) (nI (pc_ d)) (nI (tk_ d)) (nI (ou_ d)) (nI (ev_ d)) (nI (ht_ d)) (nI (cl_ d)) (nI (fc_ d)) (fa_ d) (fun i => nI (kd_ q i)) (fun i => nI (ls_ q i)) (fun i => nI (oe_ q i)) (fun i => nI (od_ q i)) (fun i => nI (ar_ q i)) (fun i => nI (se_ q i)) (fun i => nI (ol_ q i)) (fun i => nI (pl_ q i)) (fun i => nI (sv_ d i)) (fun i => nI (sw_ d i)) (fun i => nI (pa_ q i)) (fun i => nI (ow_ q i)) (fun i => nI (sl_ q i)) (fun i => nI (lo_ q i)) (lx_ q) (an_ q) (vn_ q) (fun i => nI (lh_ q i)) cp (fun i => nI (st i)) (fun i => nI (nc i)) (fun i => nI (cc i)) (fun i => nI (hd i)) (fun i => nI (lt_ q i)) (fun i => nI (hm i)) (fun i => nI (rm i)) ri (fun i => nI (rh i)) (me_ d) (fun i => nI (fs_ d i)) (fun i => nI (fe_ d i)) (ot_ d) (li_ d) := by
  have h49 := fq_s F
  have w := ws_of F
  intro m
  induction m with
  | zero =>
    intro s N st nc cc hd hm hs hN h1 h2
    cases N with
    | zero => omega
    | succ N =>
      rw [wX_compile_44]
      exact br_t (nI_le (by omega) (by omega)) (h st nc cc hd hm (fun s' hs' => h1 s' (by omega)))
  | succ m ih =>
    intro s N st nc cc hd hm hs hN h1 h2
    cases N with
    | zero => omega
    | succ N =>
      rw [wX_compile_44]
      have bb := ly_b F (by omega) h1
      obtain ⟨z1, z2, z3⟩ := h2 s (Nat.le_refl _)
      have hps : s ≠ 0 → pa_ q s < s := fun z => (w.2.2 s (by omega) (by omega)).1
      have e0 := (fs_r F).1
      have hbs : bs_ q st s < 1000 := by
        unfold bs_
        split
        · omega
        · rename_i z
          have : s ≠ 0 := fun v => z (by rw [v]; exact (fs_r F).2.1)
          have := bb _ (hps this)
          have := hps ‹s ≠ 0›
          omega
      have hhd : hd (pa_ q s) < 1000 := by
        by_cases z : s = 0
        · rw [z, e0, ← z, z3]; omega
        · have := bb _ (hps z)
          have := hps z
          omega
      refine br_f (nI_ge (by omega) (by omega)) ?_
      refine xw_lay F (by omega) hbs hhd (fun z => by have z4 := z3; rw [z] at z4; exact z4) z1 z2 (fun hm' a1 a2 => nm_r (nI_1 s) (ih (s + 1) N _ _ _ _ _ (by omega) (by omega) (fun s' hs' => ?_) (fun s' hs' => ?_)))
      · by_cases e : s' = s
        · subst e
          have eb : bs_ q (up_ st s' (bs_ q st s' + ct_ (ud_ q cp s') 8)) s' = bs_ q st s' := by
            unfold bs_
            by_cases o : ow_ q s' = s'
            · rw [if_pos o, if_pos o]
            · rw [if_neg o, if_neg o, up_n]
              have : s' ≠ 0 := fun v => o (by rw [v]; exact (fs_r F).2.1)
              have := hps this
              omega
          unfold LY
          rw [eb, up_s, up_s, up_s, up_s]
          refine ⟨rfl, rfl, rfl, a1, ?_⟩
          by_cases z : s' = 0
          · rw [if_pos z, if_pos z]
          · rw [if_neg z, if_neg z, up_n (by have := hps z; omega)]
        · obtain ⟨b1, b2, b3, b4, b5⟩ := h1 s' (by omega)
          have hps' : s' ≠ 0 → pa_ q s' < s' := fun z => (w.2.2 s' (by omega) (by omega)).1
          have eb : bs_ q (up_ st s (bs_ q st s + ct_ (ud_ q cp s) 8)) s' = bs_ q st s' := by
            unfold bs_
            by_cases o : ow_ q s' = s'
            · rw [if_pos o, if_pos o]
            · rw [if_neg o, if_neg o, up_n]
              have : s' ≠ 0 := fun v => o (by rw [v]; exact (fs_r F).2.1)
              have := hps' this
              omega
          unfold LY
          rw [eb, up_n e, up_n e, up_n e, up_n e]
          refine ⟨b1, b2, b3, fun y hy hdy => ?_, ?_⟩
          · rw [a2 _ (fun y' hy' => by omega)]
            exact b4 y hy hdy
          · rw [b5]
            by_cases z : s' = 0
            · rw [if_pos z, if_pos z]
            · rw [if_neg z, if_neg z, up_n (by have := hps' z; omega)]
      · obtain ⟨y1, y2, y3⟩ := h2 s' (by omega)
        rw [up_n (by omega), up_n (by omega), up_n (by omega)]
        exact ⟨y1, y2, y3⟩
end
def mf_ (pa ow : Nat → Nat) (out : Nat) : Nat → Nat → Nat
  | 0, f => f
  | k + 1, f => if ow (pa f) = out then f else mf_ pa ow out k (ow (pa f))
def md_ (kd sl pa ow : Nat → Nat) (fn out : Nat) : Nat := if kd (sl (mf_ pa ow out fn fn)) = 6 then sl (mf_ pa ow out fn fn) else sl (pa (mf_ pa ow out fn fn))
section
variable {sn : Nat} {pa ow : Nat → Nat}
theorem ac_split (w : ws_ sn pa ow) {t : Nat} : ∀ s, s < sn → ac_ pa s t → rc_ pa ow s t ∨ ac_ pa (ow s) t := by
  refine rc_ind w (fun s hs h ha => ?_)
  by_cases o : ow s = s
  · rw [o]; exact Or.inr ha
  · obtain ⟨p1, p2, p3⟩ := h o
    rcases ac_it.mp ha with e | e
    · subst e; exact Or.inl (rc_self _ _ _)
    · rcases p3 e with z | z
      · exact Or.inl (rc_up1 o z)
      · rw [p2]; exact Or.inr z
theorem ac_rc (w : ws_ sn pa ow) {t : Nat} : ∀ s, s < sn → ac_ pa s t → ow t = ow s → rc_ pa ow s t := by
  refine rc_ind w (fun s hs h ha ho => ?_)
  by_cases o : ow s = s
  · have le := ac_le w s hs ha
    have := (rc_own w t (by omega)).2.2
    have : t = s := by omega
    subst this
    exact rc_self _ _ _
  · obtain ⟨p1, p2, p3⟩ := h o
    rcases ac_it.mp ha with e | e
    · subst e; exact rc_self _ _ _
    · exact rc_up1 o (p3 e (by rw [ho, p2]))
def mp_ (sn : Nat) (pa ow : Nat → Nat) (out t f : Nat) : Prop := f < sn ∧ ow f = f ∧ f ≠ out ∧ ac_ pa f t
theorem mp_pos (w : ws_ sn pa ow) {out t f : Nat} (ho : ow t = out) (h : mp_ sn pa ow out t f) : 0 < f ∧ pa f < f ∧ ac_ pa (pa f) t := by
  obtain ⟨h1, h2, h3, h4⟩ := h
  have f0 : 0 < f := by
    apply Nat.pos_of_ne_zero
    intro z
    subst z
    have := ac_le w 0 h1 h4
    have : t = 0 := by omega
    subst this
    rw [w.2.1] at ho
    exact h3 ho
  refine ⟨f0, (w.2.2 f f0 h1).1, ?_⟩
  rcases ac_it.mp h4 with e | e
  · subst e
    rw [h2] at ho
    exact absurd ho h3
  · exact e
theorem mp_step (w : ws_ sn pa ow) {out t f : Nat} (ho : ow t = out) (h : mp_ sn pa ow out t f) (hn : ow (pa f) ≠ out) : mp_ sn pa ow out t (ow (pa f)) ∧ ow (pa f) < f := by
  obtain ⟨p1, p2, p3⟩ := mp_pos w ho h
  have o := rc_own w (pa f) (by have := h.1; omega)
  refine ⟨⟨by have := h.1; omega, o.2.1, hn, ?_⟩, by omega⟩
  rcases ac_split w _ (by have := h.1; omega) p3 with z | z
  · have := (rc_le w _ (by have := h.1; omega) z).2
    rw [ho] at this
    exact absurd this.symm hn
  · exact z
theorem mf_spec (w : ws_ sn pa ow) {out t : Nat} (ho : ow t = out) : ∀ k f, f ≤ k → mp_ sn pa ow out t f → mp_ sn pa ow out t (mf_ pa ow out k f) ∧ ow (pa (mf_ pa ow out k f)) = out ∧ ac_ pa f (mf_ pa ow out k f) ∧ rc_ pa ow (pa (mf_ pa ow out k f)) t := by
  intro k
  induction k with
  | zero =>
    intro f hf h
    have := (mp_pos w ho h).1
    omega
  | succ k ih =>
    intro f hf h
    rw [mf_]
    obtain ⟨p1, p2, p3⟩ := mp_pos w ho h
    by_cases e : ow (pa f) = out
    · rw [if_pos e]
      exact ⟨h, e, ac_self _ _, ac_rc w _ (by have := h.1; omega) p3 (by rw [ho, e])⟩
    · rw [if_neg e]
      obtain ⟨s1, s2⟩ := mp_step w ho h e
      obtain ⟨i1, i2, i3, i4⟩ := ih _ (by omega) s1
      refine ⟨i1, i2, ?_, i4⟩
      have r := rc_ac (rc_own w (pa f) (by have := h.1; omega)).1
      exact ac_it.mpr (Or.inr (ac_tr r i3))
end
theorem mo_lt {a b : Nat} (ha : a < 2 ^ 30) (hb : b < 2 ^ 30) : mo_ a < nI b ↔ a ≤ b := by
  cases a with
  | zero =>
    rw [mo_0]
    refine ⟨fun _ => by omega, fun _ => ?_⟩
    exact Int32.lt_of_lt_of_le (by decide) (nI_pos' (n := b) (by omega))
  | succ a =>
    rw [mo_s, nI_ltI (by omega) (by omega)]
    omega
theorem mo_le {a b : Nat} (ha : a < 2 ^ 30) (hb : b < 2 ^ 30) : nI a ≤ mo_ b ↔ a + 1 ≤ b := by
  cases b with
  | zero =>
    rw [mo_0]
    refine ⟨fun z => ?_, fun z => by omega⟩
    have := Int32.le_trans (nI_pos' (n := a) (by omega)) z
    exact absurd this (by decide)
  | succ b =>
    rw [mo_s, nI_leI (by omega) (by omega)]
    omega
def ax_ (q : QT) (cp : Nat → Int32) (r t x : Nat) : Nat :=
  if ow_ q (ls_ q (r / 4)) = ow_ q t ∧ r / 4 + 1 ≤ lt_ q (8 * t + x) ∧ ¬ (kd_ q (r / 4) = 0 ∧ r % 4 = 1) then 5
  else if bt (cp t) x = false then 2
  else if ow_ q (ls_ q (r / 4)) = ow_ q t then 3
  else if md_ (kd_ q) (sl_ q) (pa_ q) (ow_ q) (ow_ q (ls_ q (r / 4))) (ow_ q t) + 1 ≤ lt_ q (8 * t + x) then 4 else 3
section
variable {q : QT} {c : CT} {d : DT} {post : Int32 → Prop}
theorem xw_m5 (F : FQ q) {t : Nat} : ∀ k f, f ≤ k → mp_ (sn_ q) (pa_ q) (ow_ q) (ow_ q t) t f → ∀ j N, j + f ≤ 60 → f < N → post (nI (if kd_ q (sl_ q (mf_ (pa_ q) (ow_ q) (ow_ q t) k f)) = 6 then sl_ q (mf_ (pa_ q) (ow_ q) (ow_ q t) k f) else sl_ q (pa_ q (mf_ (pa_ q) (ow_ q) (ow_ q t) k f)))) → wX_madeAt_5 post (nI (ow_ q t)) 0 1 2 3 0 1 2 3 4 5 (-1) 48 512 (nI (mL_ q)) (nI (mT_ q)) (nI (mD_ q)) (nI (cm_ q)) (nI (nn_ q)) (nI (sp_ q)) (nI (sn_ q)) (nI (oc_ q)) (in_ d) (ss_ d) (nI (cu_ d)) (nI (pc_ d)) (nI (tk_ d)) (nI (ou_ d)) (nI (ev_ d)) (nI (ht_ d)) (nI (cl_ d)) (nI (fc_ d)) (fa_ d) (fun i => nI (kd_ q i)) (fun i => nI (ls_ q i)) (fun i => nI (oe_ q i)) (fun i => nI (od_ q i)) (fun i => nI (ar_ q i)) (fun i => nI (se_ q i)) (fun i => nI (ol_ q i)) (fun i => nI (pl_ q i)) (fun i => nI (sv_ d i)) (fun i => nI (sw_ d i)) (fun i => nI (pa_ q i)) (fun i => nI (ow_ q i)) (fun i => nI (sl_ q i)) (fun i => nI (lo_ q i)) (lx_ q) (an_ q) (vn_ q) (fun i => nI (lh_ q i)) (cp_ c) (fun i => nI (st_ c i)) (fun i => nI (nc_ c i)) (fun i => nI (cc_ c i)) (fun i => nI (hd_ c i)) (fun i => nI (lt_ q i)) (fun i => nI (hm_ c i)) (fun i => nI (rm_ c i)) (ri_ c) (fun i => nI (rh_ c i)) (me_ d) (fun i => nI (fs_ d i)) (fun i => nI (fe_ d i)) (ot_ d) (li_ d) N (nI f) (nI j) := by
  have h49 := fq_s F
  have hn := fq_n F
  have w := ws_of F
  intro k
  induction k with
  | zero =>
    intro f hf h
    have := (mp_pos w rfl h).1
    omega
  | succ k ih =>
    intro f hf h j N hj hN hp
    cases N with
    | zero => omega
    | succ N =>
      obtain ⟨p1, p2, p3⟩ := mp_pos w rfl h
      have hfs := h.1
      have vf : vp_in (nI f) 64 := vp_in_nI (by omega) (by omega)
      have vpa : vp_in ((fun i => nI (pa_ q i)) (nI f).toNatClampNeg) 64 := pk_in (pa_ q f) 64 (by omega) (ga_ rfl (by omega)) (by omega)
      have t1 : ac_ (pa_ q) f t := h.2.2.2
      have tl := ac_le w f hfs t1
      have ot := ow_lt F (s := t) (by omega)
      have op := ow_lt F (s := pa_ q f) (by omega)
      rw [wX_madeAt_5]
      rw [mf_] at hp
      refine br_f (nI_ge (b := 64) (by omega) (by decide)) ⟨vf, vpa, ?_⟩
      refine pk_eq (ow_ q (pa_ q f)) (ow_ q t) (fun e => ?_) (fun e => ⟨vf, vpa, ?_⟩) (ga_ (ga_ rfl (by omega)) (by omega)) rfl (by omega) (by omega)
      · rw [if_pos e] at hp
        have cs := fs_c F f p1 hfs
        have hk := fs_k F _ cs.2.1
        have c2 := cs.2.1
        refine And.intro vf (And.intro (pk_in (sl_ q f) 48 (by omega) (ga_ rfl (by omega)) (by omega)) ?_)
        refine pk_eq (kd_ q (sl_ q f)) 6 (fun e6 => ⟨vf, ?_⟩) (fun e6 => ⟨vf, vpa, ?_⟩) (ga_ (ga_ rfl (by omega)) (by omega)) rfl (by omega) (by omega)
        · rw [if_pos e6] at hp
          rw [ga_ (f := sl_ q) rfl (by omega)]
          exact hp
        · rw [if_neg e6] at hp
          rw [ga_ (f := sl_ q) (ga_ (f := pa_ q) rfl (by omega)) (by omega)]
          exact hp
      · rw [if_neg e] at hp
        obtain ⟨s1, s2⟩ := mp_step w rfl h e
        refine nm_r (e' := nI (ow_ q (pa_ q f))) (ga_ (ga_ rfl (by omega)) (by omega)) (nm_r (nI_1 j) ?_)
        exact ih _ (by omega) s1 (j + 1) N (by omega) (by omega) hp
theorem lt_le (F : FQ q) (M : MQ_ q) {t x : Nat} (hx : x < 8) : lt_ q (8 * t + x) ≤ 48 := by
  have hn := fq_n F
  by_cases z : lt_ q (8 * t + x) = 0
  · omega
  · obtain ⟨j, hj⟩ : ∃ j, lt_ q (8 * t + x) = j + 1 := ⟨lt_ q (8 * t + x) - 1, by omega⟩
    have := ((M.2.2.2.1 t x j hx).mp hj).1
    omega
theorem xw_acc (F : FQ q) (M : MQ_ q) {r t x : Nat} (hr : r < 4 * nn_ q) (ht : t < sn_ q) (hx : x < 8) (ha : ac_ (pa_ q) (ls_ q (r / 4)) t) (hp : post (nI (ax_ q (cp_ c) r t x))) : wpX_access post (XT q c d) (nI r) (nI t) (nI x) := by
  have h49 := fq_s F
  have hn := fq_n F
  have w := ws_of F
  have hl := (ls_lt F (i := r / 4) (by omega)).1
  have v4 : vp_in (nI (r / 4)) 48 := vp_in_nI (by omega) (by omega)
  have vt : vp_in (nI t) 64 := vp_in_nI (by omega) (by omega)
  have oL := ow_lt F hl
  have oT := ow_lt F ht
  have hk := fs_k F (r / 4) (by omega)
  have lb := lt_le F M (t := t) hx
  unfold ax_ at hp
  refine nm_r (sh2_ (by omega)) ⟨pk_in (8 * t + x) 512 (by omega) (m8_ _ _) (by omega), nm_r (e' := mo_ (lt_ q (8 * t + x))) ?_ ⟨v4, pk_in (ls_ q (r / 4)) 64 (by omega) (ga_ rfl (by omega)) (by omega), nm_r (e' := nI (ow_ q (ls_ q (r / 4)))) (ga_ (ga_ rfl (by omega)) (by omega)) ⟨v4, ?_⟩⟩⟩
  · rw [ga_ (f := lt_ q) (m8_ _ _) (by omega)]
    rfl
  have L83 : ¬ (ow_ q (ls_ q (r / 4)) = ow_ q t ∧ r / 4 + 1 ≤ lt_ q (8 * t + x) ∧ ¬ (kd_ q (r / 4) = 0 ∧ r % 4 = 1)) → wX_access_83 post (nI t) (nI x) (mo_ (lt_ q (8 * t + x))) (nI (ow_ q (ls_ q (r / 4)))) 0 1 2 3 0 1 2 3 4 5 (-1) 48 512 (nI (mL_ q)) (nI (mT_ q)) (nI (mD_ q)) (nI (cm_ q)) (nI (nn_ q)) (nI (sp_ q)) (nI (sn_ q)) (nI (oc_ q)) (in_ d) (ss_ d) (nI (cu_ d)) (nI (pc_ d)) (nI (tk_ d)) (nI (ou_ d)) (nI (ev_ d)) (nI (ht_ d)) (nI (cl_ d)) (nI (fc_ d)) (fa_ d) (fun i => nI (kd_ q i)) (fun i => nI (ls_ q i)) (fun i => nI (oe_ q i)) (fun i => nI (od_ q i)) (fun i => nI (ar_ q i)) (fun i => nI (se_ q i)) (fun i => nI (ol_ q i)) (fun i => nI (pl_ q i)) (fun i => nI (sv_ d i)) (fun i => nI (sw_ d i)) (fun i => nI (pa_ q i)) (fun i => nI (ow_ q i)) (fun i => nI (sl_ q i)) (fun i => nI (lo_ q i)) (lx_ q) (an_ q) (vn_ q) (fun i => nI (lh_ q i)) (cp_ c) (fun i => nI (st_ c i)) (fun i => nI (nc_ c i)) (fun i => nI (cc_ c i)) (fun i => nI (hd_ c i)) (fun i => nI (lt_ q i)) (fun i => nI (hm_ c i)) (fun i => nI (rm_ c i)) (ri_ c) (fun i => nI (rh_ c i)) (me_ d) (fun i => nI (fs_ d i)) (fun i => nI (fe_ d i)) (ot_ d) (li_ d) := by
    intro hno
    rw [if_neg hno] at hp
    refine And.intro vt (br_c (fun z => ?_) (fun z => ⟨vt, ?_⟩))
    · rw [nI_clamp (by omega), bs_t (by omega)] at z
      rw [if_pos z] at hp
      exact hp
    · rw [nI_clamp (by omega), bs_t (by omega)] at z
      rw [if_neg z] at hp
      refine pk_eq (ow_ q (ls_ q (r / 4))) (ow_ q t) (fun e => ?_) (fun e => ⟨vt, ?_⟩) rfl (ga_ rfl (by omega)) (by omega) (by omega)
      · rw [if_pos e] at hp
        exact hp
      · rw [if_neg e] at hp
        rw [ga_ (f := ow_ q) rfl (by omega)]
        have oo := rc_own w _ hl
        have hm : mp_ (sn_ q) (pa_ q) (ow_ q) (ow_ q t) t (ow_ q (ls_ q (r / 4))) := by
          refine ⟨by omega, oo.2.1, e, ?_⟩
          rcases ac_split w _ hl ha with z' | z'
          · exact absurd ((rc_le w _ hl z').2).symm e
          · exact z'
        have sp := (mf_spec w rfl (ow_ q (ls_ q (r / 4))) _ (Nat.le_refl _) hm)
        have hb : md_ (kd_ q) (sl_ q) (pa_ q) (ow_ q) (ow_ q (ls_ q (r / 4))) (ow_ q t) ≤ 48 := by
          have p := mp_pos w rfl sp.1
          have s1 := sp.1.1
          unfold md_
          split
          · have := (fs_c F _ p.1 s1).2.1; omega
          · rcases Nat.eq_zero_or_pos (pa_ q (mf_ (pa_ q) (ow_ q) (ow_ q t) (ow_ q (ls_ q (r / 4))) (ow_ q (ls_ q (r / 4))))) with z0 | z0
            · rw [z0, (fs_r F).2.2.1]; omega
            · have := (fs_c F _ z0 (by omega)).2.1; omega
        refine ⟨70, xw_m5 F _ _ (Nat.le_refl _) hm 0 70 (by omega) (by omega) ?_⟩
        show (nI (md_ (kd_ q) (sl_ q) (pa_ q) (ow_ q) (ow_ q (ls_ q (r / 4))) (ow_ q t)) ≤ mo_ (lt_ q (8 * t + x)) → post 4) ∧ _
        by_cases z5 : md_ (kd_ q) (sl_ q) (pa_ q) (ow_ q) (ow_ q (ls_ q (r / 4))) (ow_ q t) + 1 ≤ lt_ q (8 * t + x)
        · rw [if_pos z5] at hp
          exact br_t ((mo_le (by omega) (by omega)).mpr z5) hp
        · rw [if_neg z5] at hp
          exact br_f (fun v => z5 ((mo_le (by omega) (by omega)).mp v)) hp
  have L56 : ∀ z0 : Int32, (z0 = 0 ↔ ¬ (kd_ q (r / 4) = 0 ∧ r % 4 = 1)) → wX_access_56 post (nI t) (nI x) (nI (r / 4)) (mo_ (lt_ q (8 * t + x))) (nI (ow_ q (ls_ q (r / 4)))) z0 0 1 2 3 0 1 2 3 4 5 (-1) 48 512 (nI (mL_ q)) (nI (mT_ q)) (nI (mD_ q)) (nI (cm_ q)) (nI (nn_ q)) (nI (sp_ q)) (nI (sn_ q)) (nI (oc_ q)) (in_ d) (ss_ d) (nI (cu_ d)) (nI (pc_ d)) (nI (tk_ d)) (nI (ou_ d)) (nI (ev_ d)) (nI (ht_ d)) (nI (cl_ d)) (nI (fc_ d)) (fa_ d) (fun i => nI (kd_ q i)) (fun i => nI (ls_ q i)) (fun i => nI (oe_ q i)) (fun i => nI (od_ q i)) (fun i => nI (ar_ q i)) (fun i => nI (se_ q i)) (fun i => nI (ol_ q i)) (fun i => nI (pl_ q i)) (fun i => nI (sv_ d i)) (fun i => nI (sw_ d i)) (fun i => nI (pa_ q i)) (fun i => nI (ow_ q i)) (fun i => nI (sl_ q i)) (fun i => nI (lo_ q i)) (lx_ q) (an_ q) (vn_ q) (fun i => nI (lh_ q i)) (cp_ c) (fun i => nI (st_ c i)) (fun i => nI (nc_ c i)) (fun i => nI (cc_ c i)) (fun i => nI (hd_ c i)) (fun i => nI (lt_ q i)) (fun i => nI (hm_ c i)) (fun i => nI (rm_ c i)) (ri_ c) (fun i => nI (rh_ c i)) (me_ d) (fun i => nI (fs_ d i)) (fun i => nI (fe_ d i)) (ot_ d) (li_ d) := by
    intro z0 hz
    refine And.intro vt (pk_eq (ow_ q (ls_ q (r / 4))) (ow_ q t) (fun e => ?_) (fun e => L83 (fun z => e z.1)) rfl (ga_ rfl (by omega)) (by omega) (by omega))
    refine br_c (fun z => L83 (fun v => ?_)) (fun z => br_c (fun z1 => ?_) (fun z1 => L83 (fun v => z1 (hz.mpr v.2.2))))
    · have := (mo_lt (by omega) (by omega)).mp z
      omega
    · have : ¬ lt_ q (8 * t + x) ≤ r / 4 := fun v => z ((mo_lt (by omega) (by omega)).mpr v)
      rw [if_pos ⟨e, by omega, hz.mp z1⟩] at hp
      exact hp
  refine pk_eq (kd_ q (r / 4)) 0 (fun k0 => ?_) (fun k0 => L56 0 ⟨fun _ v => k0 v.1, fun _ => rfl⟩) (ga_ rfl (by omega)) rfl (by omega) (by omega)
  refine pk_eq (r % 4) 1 (fun k1 => L56 1 ⟨fun v => absurd v (by decide), fun v => absurd ⟨k0, k1⟩ v⟩) (fun k1 => L56 0 ⟨fun _ v => k1 v.2, fun _ => rfl⟩) (an3_ (by omega)) rfl (by omega) (by omega)
end
end
section
def RF_ (q : QT) (cp : Nat → Int32) (hd hm rm : Nat → Nat) (ri : Nat → Int32) (rh : Nat → Nat) (r : Nat) : Prop :=
  (oa_ (kd_ q) (ar_ q) r = 0 ∨ 9 ≤ oa_ (kd_ q) (ar_ q) r → rm r = (if oa_ (kd_ q) (ar_ q) r = 73 then 1 else 0) ∧ ri r = mo_ (oa_ (kd_ q) (ar_ q) r) - 40) ∧
  ∀ x, x < 8 → oa_ (kd_ q) (ar_ q) r = x + 1 →
    (fd_ (dq2_ q) (pa_ q) (ls_ q (r / 4)) x = 0 → rm r = 5 ∧ ri r = 2) ∧
    (∀ t, fd_ (dq2_ q) (pa_ q) (ls_ q (r / 4)) x = t + 1 → rm r = ax_ q cp r t x ∧ (rm r = 5 → ri r = 1) ∧ (rm r ≠ 5 → ri r = nI (hm (8 * t + x))) ∧ rh r = hd (ls_ q (r / 4)) - hd t)
theorem ax_le (q : QT) (cp : Nat → Int32) (r t x : Nat) : ax_ q cp r t x ≤ 5 := by
  unfold ax_
  split
  · omega
  · split
    · omega
    · split
      · omega
      · split <;> omega
theorem oa_le {q : QT} (M : MQ_ q) (r : Nat) : oa_ (kd_ q) (ar_ q) r ≤ 73 := by
  have h72 := M.2.2.2.2.2.2.2.2.1
  unfold oa_
  have a1 := h72 r
  have a2 := h72 (r - 1)
  split
  · split <;> omega
  · split
    · split <;> omega
    · split
      · split <;> omega
      · omega
theorem upd_upd {f : Nat → Int32} {k : Nat} {v w : Int32} : upd (upd f k v) k w = upd f k w := by
  funext j
  unfold upd
  by_cases e : j = k
  · rw [if_pos e, if_pos e]
  · rw [if_neg e, if_neg e, if_neg e]
section
variable {q : QT} {d : DT} {cp : Nat → Int32} {st nc cc hd hm rm rh : Nat → Nat} {ri : Nat → Int32}
theorem hd_ac (F : FQ q) (hL : ∀ s, s < sn_ q → LY q cp st nc cc hd hm s) {t : Nat} : ∀ s, s < sn_ q → ac_ (pa_ q) s t → hd t ≤ hd s := by
  have w := ws_of F
  intro s
  induction s using Nat.strongRecOn with
  | _ s ih =>
    intro hs ha
    rcases ac_it.mp ha with e | e
    · subst e; exact Nat.le_refl _
    · rcases Nat.eq_zero_or_pos s with z | z
      · subst z
        have := ac_le w 0 hs ha
        have : t = 0 := by omega
        subst this
        exact Nat.le_refl _
      · have p := (w.2.2 s z hs).1
        have := ih _ p (by omega) e
        have a5 := (hL s hs).2.2.2.2
        rw [if_neg (by omega)] at a5
        omega
theorem xw_res {post : SX → Prop} (F : FQ q) (M : MQ_ q) (hL : ∀ s, s < sn_ q → LY q cp st nc cc hd hm s) {r : Nat} (hr : r < 4 * nn_ q)
    (h : ∀ v w z, RF_ q cp hd hm (up_ rm r v) (upd ri r w) (up_ rh r z) r → post (XC q cp st nc cc hd hm (up_ rm r v) (upd ri r w) (up_ rh r z) d)) : wpX_resolve post (XC q cp st nc cc hd hm rm ri rh d) (nI r) := by
  have hn := fq_n F
  have h49 := fq_s F
  have w := ws_of F
  have hl := (ls_lt F (i := r / 4) (by omega)).1
  have ob := oa_le M r
  have vr : vp_in (nI r) 192 := vp_in_nI (by omega) (by omega)
  have bb := ly_b F (Nat.le_refl _) hL
  unfold wpX_resolve XC
  dsimp only
  refine xw_oa (q := q) (c := (cp, st, nc, cc, hd, hm, rm, ri, rh)) (d := d) (by omega) (fs_k F _ (by omega)) (And.intro (pk_in (r / 4) 48 (by omega) (sh2_ (by omega)) (by omega)) (nm_r (e' := nI (ls_ q (r / 4))) (ga_ (sh2_ (by omega)) (by omega)) ?_))
  have L31 : ∀ m : Nat, m = (if oa_ (kd_ q) (ar_ q) r = 73 then 1 else 0) → wX_resolve_31 post (nI r) (mo_ (oa_ (kd_ q) (ar_ q) r)) (nI (ls_ q (r / 4))) (nI m) (nI r) 0 1 2 3 0 1 2 3 4 5 (-1) 48 512 (nI (mL_ q)) (nI (mT_ q)) (nI (mD_ q)) (nI (cm_ q)) (nI (nn_ q)) (nI (sp_ q)) (nI (sn_ q)) (nI (oc_ q)) (in_ d) (ss_ d) (nI (cu_ d)) (nI (pc_ d)) (nI (tk_ d)) (nI (ou_ d)) (nI (ev_ d)) (nI (ht_ d)) (nI (cl_ d)) (nI (fc_ d)) (fa_ d) (fun i => nI (kd_ q i)) (fun i => nI (ls_ q i)) (fun i => nI (oe_ q i)) (fun i => nI (od_ q i)) (fun i => nI (ar_ q i)) (fun i => nI (se_ q i)) (fun i => nI (ol_ q i)) (fun i => nI (pl_ q i)) (fun i => nI (sv_ d i)) (fun i => nI (sw_ d i)) (fun i => nI (pa_ q i)) (fun i => nI (ow_ q i)) (fun i => nI (sl_ q i)) (fun i => nI (lo_ q i)) (lx_ q) (an_ q) (vn_ q) (fun i => nI (lh_ q i)) cp (fun i => nI (st i)) (fun i => nI (nc i)) (fun i => nI (cc i)) (fun i => nI (hd i)) (fun i => nI (lt_ q i)) (fun i => nI (hm i)) (fun i => nI (rm i)) ri (fun i => nI (rh i)) (me_ d) (fun i => nI (fs_ d i)) (fun i => nI (fe_ d i)) (ot_ d) (li_ d) := by
    intro m hm1
    refine And.intro vr (nm_r (ug_ m (by omega)) ⟨vr, nm_r (ub_ (by omega)) ?_⟩)
    have far : (oa_ (kd_ q) (ar_ q) r = 0 ∨ 9 ≤ oa_ (kd_ q) (ar_ q) r) → post (XC q cp st nc cc hd hm (up_ rm r m) (upd ri r (mo_ (oa_ (kd_ q) (ar_ q) r) - 40)) rh d) := by
      intro hf
      have := h m (mo_ (oa_ (kd_ q) (ar_ q) r) - 40) (rh r) ⟨fun _ => ⟨by rw [up_s]; exact hm1, pk_us⟩, fun x hx e => by omega⟩
      rw [up_id rfl] at this
      exact this
    by_cases o0 : oa_ (kd_ q) (ar_ q) r = 0
    · exact br_t ((mo_neg (by omega)).mpr o0) (far (Or.inl o0))
    · refine br_f (fun v => o0 ((mo_neg (by omega)).mp v)) ?_
      obtain ⟨x, hx⟩ : ∃ x, oa_ (kd_ q) (ar_ q) r = x + 1 := ⟨oa_ (kd_ q) (ar_ q) r - 1, by omega⟩
      have hxe : mo_ (oa_ (kd_ q) (ar_ q) r) = nI x := by rw [hx, mo_s]
      refine pk_le x 7 (fun x7 => ?_) (fun x7 => far (Or.inr (by omega))) hxe rfl (by omega) (by omega)
      have near : ∀ v w z, ((fd_ (dq2_ q) (pa_ q) (ls_ q (r / 4)) x = 0 → v = 5 ∧ w = 2) ∧ (∀ t, fd_ (dq2_ q) (pa_ q) (ls_ q (r / 4)) x = t + 1 → v = ax_ q cp r t x ∧ (v = 5 → w = 1) ∧ (v ≠ 5 → w = nI (hm (8 * t + x))) ∧ z = hd (ls_ q (r / 4)) - hd t)) → post (XC q cp st nc cc hd hm (up_ rm r v) (upd ri r w) (up_ rh r z) d) := by
        intro v w z hh
        refine h v w z ⟨fun y => by omega, fun y hy e => ?_⟩
        have : y = x := by omega
        subst this
        rw [up_s, pk_us, up_s]
        exact hh
      have fl := fd_le (db := dq2_ q) w (x := x) _ hl
      rw [hxe]
      refine xw_find (q := q) (c := (cp, st, nc, cc, hd, hm, up_ rm r m, upd ri r (nI x - 40), rh)) (d := d) F hl (by omega) ?_
      have L83 : ∀ (f v : Nat) (wv : Int32) (zv : Nat), fd_ (dq2_ q) (pa_ q) (ls_ q (r / 4)) x = f → v ≤ 5 → (f = 0 → v = 5 ∧ wv = 2 ∧ zv = 0) → (∀ t, f = t + 1 → v = ax_ q cp r t x ∧ (v = 5 → wv = 1) ∧ (v ≠ 5 → wv = nI (hm (8 * t + x))) ∧ zv = hd (ls_ q (r / 4)) - hd t) →
          wX_resolve_83 post (nI r) (nI x) (nI (ls_ q (r / 4))) (mo_ f) (nI v) (nI r) 0 1 2 3 0 1 2 3 4 5 (-1) 48 512 (nI (mL_ q)) (nI (mT_ q)) (nI (mD_ q)) (nI (cm_ q)) (nI (nn_ q)) (nI (sp_ q)) (nI (sn_ q)) (nI (oc_ q)) (in_ d) (ss_ d) (nI (cu_ d)) (nI (pc_ d)) (nI (tk_ d)) (nI (ou_ d)) (nI (ev_ d)) (nI (ht_ d)) (nI (cl_ d)) (nI (fc_ d)) (fa_ d) (fun i => nI (kd_ q i)) (fun i => nI (ls_ q i)) (fun i => nI (oe_ q i)) (fun i => nI (od_ q i)) (fun i => nI (ar_ q i)) (fun i => nI (se_ q i)) (fun i => nI (ol_ q i)) (fun i => nI (pl_ q i)) (fun i => nI (sv_ d i)) (fun i => nI (sw_ d i)) (fun i => nI (pa_ q i)) (fun i => nI (ow_ q i)) (fun i => nI (sl_ q i)) (fun i => nI (lo_ q i)) (lx_ q) (an_ q) (vn_ q) (fun i => nI (lh_ q i)) cp (fun i => nI (st i)) (fun i => nI (nc i)) (fun i => nI (cc i)) (fun i => nI (hd i)) (fun i => nI (lt_ q i)) (fun i => nI (hm i)) (fun i => nI ((up_ rm r m) i)) ((upd ri r (nI x - 40))) (fun i => nI (rh i)) (me_ d) (fun i => nI (fs_ d i)) (fun i => nI (fe_ d i)) (ot_ d) (li_ d) := by
        intro f v wv zv hf hv5 g0 g1
        have L124 : ∀ z0 : Int32, z0 = wv → wX_resolve_124 post (nI r) (nI (ls_ q (r / 4))) (mo_ f) z0 (nI r) 0 1 2 3 0 1 2 3 4 5 (-1) 48 512 (nI (mL_ q)) (nI (mT_ q)) (nI (mD_ q)) (nI (cm_ q)) (nI (nn_ q)) (nI (sp_ q)) (nI (sn_ q)) (nI (oc_ q)) (in_ d) (ss_ d) (nI (cu_ d)) (nI (pc_ d)) (nI (tk_ d)) (nI (ou_ d)) (nI (ev_ d)) (nI (ht_ d)) (nI (cl_ d)) (nI (fc_ d)) (fa_ d) (fun i => nI (kd_ q i)) (fun i => nI (ls_ q i)) (fun i => nI (oe_ q i)) (fun i => nI (od_ q i)) (fun i => nI (ar_ q i)) (fun i => nI (se_ q i)) (fun i => nI (ol_ q i)) (fun i => nI (pl_ q i)) (fun i => nI (sv_ d i)) (fun i => nI (sw_ d i)) (fun i => nI (pa_ q i)) (fun i => nI (ow_ q i)) (fun i => nI (sl_ q i)) (fun i => nI (lo_ q i)) (lx_ q) (an_ q) (vn_ q) (fun i => nI (lh_ q i)) cp (fun i => nI (st i)) (fun i => nI (nc i)) (fun i => nI (cc i)) (fun i => nI (hd i)) (fun i => nI (lt_ q i)) (fun i => nI (hm i)) (fun i => nI ((up_ rm r v) i)) ((upd ri r (nI x - 40))) (fun i => nI (rh i)) (me_ d) (fun i => nI (fs_ d i)) (fun i => nI (fe_ d i)) (ot_ d) (li_ d) := by
          intro z0 hz
          subst hz
          refine And.intro vr (nm_r (e' := upd ri r z0) (by rw [nI_clamp (by omega), upd_upd]) ?_)
          by_cases f0 : f = 0
          · refine br_f (fun z => ?_) ⟨vr, nm_r (ug_ 0 (by omega)) ?_⟩
            · rw [f0, mo_0] at z; exact absurd z (by decide)
            · have := near v z0 0 ⟨fun _ => ⟨(g0 f0).1, (g0 f0).2.1⟩, fun t e => by omega⟩
              exact this
          · obtain ⟨t, ht⟩ : ∃ t, f = t + 1 := ⟨f - 1, by omega⟩
            subst ht
            obtain ⟨y1, y2, y3, y4⟩ := g1 t rfl
            have ha := (fl.2 t hf).2
            have tl := ac_le w _ hl ha
            have hm1 := hd_ac F hL _ hl ha
            have hb1 := bb _ hl
            rw [mo_s]
            refine br_t (nI_pos' (by omega)) ⟨vp_in_nI (by omega) (by omega), vp_in_nI (by omega) (by omega), vr, nm_r (e' := fun i => nI (up_ rh r (hd (ls_ q (r / 4)) - hd t) i)) ?_ ?_⟩
            · rw [ga_ (f := hd) rfl (by omega), ga_ (f := hd) rfl (by omega), pk_sub hm1]
              exact ug_ _ (by omega)
            · have := near v z0 (hd (ls_ q (r / 4)) - hd t) ⟨fun e => by omega, fun t' e => ?_⟩
              · exact this
              · have : t' = t := by omega
                subst this
                exact ⟨y1, y2, y3, rfl⟩
        refine And.intro vr (nm_r (e' := fun i => nI (up_ rm r v i)) (by rw [ug_ _ (by omega), up_up]) ⟨vr, ?_⟩)
        refine pk_eq v 5 (fun v5 => ?_) (fun v5 => ?_) (by rw [ga_ (f := up_ rm r v) rfl (by omega), up_s]) rfl (by omega) (by omega)
        · by_cases f0 : f = 0
          · refine br_f (fun z => ?_) (L124 2 (g0 f0).2.1.symm)
            rw [f0, mo_0] at z; exact absurd z (by decide)
          · obtain ⟨t, ht⟩ : ∃ t, f = t + 1 := ⟨f - 1, by omega⟩
            refine br_t ?_ (L124 1 ((g1 t ht).2.1 v5).symm)
            rw [ht, mo_s]; exact nI_pos' (by omega)
        · have f0 : f ≠ 0 := fun z => v5 (g0 z).1
          obtain ⟨t, ht⟩ : ∃ t, f = t + 1 := ⟨f - 1, by omega⟩
          have e8 : (8 : Int32) * mo_ f + nI x = nI (8 * t + x) := by rw [ht, mo_s]; exact m8_ _ _
          refine ⟨pk_in (8 * t + x) 512 (by omega) e8 (by omega), L124 _ ?_⟩
          rw [(g1 t ht).2.2.1 v5]
          exact ga_ e8 (by omega)
      by_cases f0 : fd_ (dq2_ q) (pa_ q) (ls_ q (r / 4)) x = 0
      · rw [f0]
        refine br_f (by decide) ?_
        exact L83 0 5 2 0 f0 (by omega) (fun _ => ⟨rfl, rfl, rfl⟩) (fun t e => by omega)
      · obtain ⟨t, ht⟩ : ∃ t, fd_ (dq2_ q) (pa_ q) (ls_ q (r / 4)) x = t + 1 := ⟨fd_ (dq2_ q) (pa_ q) (ls_ q (r / 4)) x - 1, by omega⟩
        have ha := (fl.2 t ht).2
        have tl := ac_le w _ hl ha
        have axl := ax_le q cp r t x
        have go := L83 (t + 1) (ax_ q cp r t x) (if ax_ q cp r t x = 5 then 1 else nI (hm (8 * t + x))) (hd (ls_ q (r / 4)) - hd t) ht axl (fun z => by omega) (fun t' e => by
          have : t' = t := by omega
          subst this
          exact ⟨rfl, fun z => by rw [if_pos z], fun z => by rw [if_neg z], rfl⟩)
        rw [ht]
        rw [mo_s] at go ⊢
        refine br_t (nI_pos' (by omega)) ?_
        exact xw_acc (q := q) (c := (cp, st, nc, cc, hd, hm, up_ rm r m, upd ri r (nI x - 40), rh)) (d := d) F M hr (by omega) (by omega) ha go
  by_cases o73 : oa_ (kd_ q) (ar_ q) r = 73
  · refine br_t ?_ (L31 1 (by rw [if_pos o73]))
    rw [o73]; exact mo_s 72
  · refine br_f (fun z => ?_) (L31 0 (by rw [if_neg o73]))
    exact o73 ((mo_nI (k := 72) (by omega) (by omega)).mp z)
theorem xw_c65 {post : Int32 → SX → Prop} (F : FQ q) (M : MQ_ q) (hL : ∀ s, s < sn_ q → LY q cp st nc cc hd hm s) (h : ∀ rm ri rh, (∀ r, r < 4 * nn_ q → RF_ q cp hd hm rm ri rh r) → post (nI (nn_ q)) (XT (mL_ q, mT_ q, mD_ q, 1, nn_ q, sp_ q, sn_ q, oc_ q, kd_ q, ls_ q, oe_ q, od_ q, ar_ q, se_ q, ol_ q, pl_ q, pa_ q, ow_ q, sl_ q, lo_ q, lh_ q, lt_ q, lx_ q, an_ q, vn_ q) (cp, st, nc, cc, hd, hm, rm, ri, rh) d)) :
    ∀ (m r N : Nat) (rm : Nat → Nat) (ri : Nat → Int32) (rh : Nat → Nat), r + m = 4 * nn_ q → m < N → (∀ r', r' < r → RF_ q cp hd hm rm ri rh r') → wX_compile_65 post N (nI r) 0 1 2 3 0 1 2 3 4 5 (-1) 48 512 (nI (mL_ q)) (nI (mT_ q)) (nI (mD_ q)) (nI (cm_ q)) (nI (nn_ q)) (nI (sp_ q)) (nI (sn_ q)) (nI (oc_ q)) (in_ d) (ss_ d) (nI (cu_ d)) (nI (pc_ d)) (nI (tk_ d)) (nI (ou_ d)) (nI (ev_ d)) (nI (ht_ d)) (nI (cl_ d)) (nI (fc_ d)) (fa_ d) (fun i => nI (kd_ q i)) (fun i => nI (ls_ q i)) (fun i => nI (oe_ q i)) (fun i => nI (od_ q i)) (fun i => nI (ar_ q i)) (fun i => nI (se_ q i)) (fun i => nI (ol_ q i)) (fun i => nI (pl_ q i)) (fun i => nI (sv_ d i)) (fun i => nI (sw_ d i)) (fun i => nI (pa_ q i)) (fun i => nI (ow_ q i)) (fun i => nI (sl_ q i)) (fun i => nI (lo_ q i)) (lx_ q) (an_ q) (vn_ q) (fun i => nI (lh_ q i)) cp (fun i => nI (st i)) (fun i => nI (nc i)) (fun i => nI (cc i)) (fun i => nI (hd i)) (fun i => nI (lt_ q i)) (fun i => nI (hm i)) (fun i => nI (rm i)) ri (fun i => nI (rh i)) (me_ d) (fun i => nI (fs_ d i)) (fun i => nI (fe_ d i)) (ot_ d) (li_ d) := by
  have hn := fq_n F
  intro m
  induction m with
  | zero =>
    intro r N rm ri rh hr hN hc
    cases N with
    | zero => omega
    | succ N =>
      rw [wX_compile_65]
      refine br_t ?_ (h rm ri rh (fun r' hr' => hc r' (by omega)))
      rw [m40_]
      exact nI_le (by omega) (by omega)
  | succ m ih =>
    intro r N rm ri rh hr hN hc
    cases N with
    | zero => omega
    | succ N =>
      rw [wX_compile_65]
      refine br_f ?_ ?_
      · rw [m40_]
        exact nI_ge (by omega) (by omega)
      · refine xw_res F M hL (by omega) (fun v w z hh => nm_r (nI_1 r) (ih (r + 1) N _ _ _ (by omega) (by omega) (fun r' hr' => ?_)))
        by_cases e : r' = r
        · subst e; exact hh
        · have old := hc r' (by omega)
          unfold RF_ at old ⊢
          rw [up_n e, pk_un e, up_n e]
          exact old
def CM (q : QT) (c : CT) : Prop := CPi q (4 * nn_ q) (cp_ c) ∧ (∀ s, s < sn_ q → LY q (cp_ c) (st_ c) (nc_ c) (cc_ c) (hd_ c) (hm_ c) s) ∧ (∀ r, r < 4 * nn_ q → RF_ q (cp_ c) (hd_ c) (hm_ c) (rm_ c) (ri_ c) (rh_ c) r)
def c0_ : CT := (fun _ => 0, fun _ => 0, fun _ => 0, fun _ => 0, fun _ => 0, fun _ => 0, fun _ => 0, fun _ => 0, fun _ => 0)
theorem xw_comp {post : Int32 → SX → Prop} (F : FQ q) (M : MQ_ q) (h0 : cm_ q = 0) (ho : oc_ q = 0) (h : ∀ c, CM q c → post (nI (nn_ q)) (XT (mL_ q, mT_ q, mD_ q, 1, nn_ q, sp_ q, sn_ q, oc_ q, kd_ q, ls_ q, oe_ q, od_ q, ar_ q, se_ q, ol_ q, pl_ q, pa_ q, ow_ q, sl_ q, lo_ q, lh_ q, lt_ q, lx_ q, an_ q, vn_ q) c d)) : wpX_compile post (XT q c0_ d) := by
  have hn := fq_n F
  have h49 := fq_s F
  refine cm0 h0 (br_t (nI_le (b := 0) (by omega) (by decide)) ⟨4 * nn_ q + 1, ?_⟩)
  refine xw_c21 (st := fun _ => 0) (nc := fun _ => 0) (cc := fun _ => 0) (hd := fun _ => 0) (hm := fun _ => 0) (rm := fun _ => 0) (ri := fun _ => 0) (rh := fun _ => 0) F M (fun cp' hcp => ⟨sn_ q + 1, ?_⟩) (4 * nn_ q) 0 (4 * nn_ q + 1) (fun _ => 0) (by omega) (by omega) (fun t x hx => ?_)
  · refine xw_c44 (cp := cp') (rm := fun _ => 0) (ri := fun _ => 0) (rh := fun _ => 0) F (fun st nc cc hd hm hL => ⟨4 * nn_ q + 1, ?_⟩) (sn_ q) 0 (sn_ q + 1) _ _ _ _ _ (by omega) (by omega) (fun s' hs' => by omega) (fun s' hs' => ⟨rfl, rfl, rfl⟩)
    exact xw_c65 F M hL (fun rm ri rh hR => h (cp', st, nc, cc, hd, hm, rm, ri, rh) ⟨hcp, hL, hR⟩) (4 * nn_ q) 0 (4 * nn_ q + 1) _ _ _ (by omega) (by omega) (fun r' hr' => by omega)
  · rw [b_0]
    refine ⟨fun z => absurd z (by decide), ?_⟩
    rintro ⟨r', h1, -⟩
    omega
end
end
section
theorem ct_mono {P : Nat → Bool} {a b : Nat} (h : a ≤ b) : ct_ P a ≤ ct_ P b := by
  obtain ⟨d, rfl⟩ : ∃ d, b = a + d := ⟨b - a, by omega⟩
  induction d with
  | zero => exact Nat.le_refl _
  | succ d ih =>
    have := ih (by omega)
    rw [show a + (d + 1) = (a + d) + 1 by omega, ct_]
    omega
theorem ct_lt {P : Nat → Bool} {a b : Nat} (hp : P a = true) (h : a < b) : ct_ P a < ct_ P b := by
  have h1 : ct_ P (a + 1) = ct_ P a + 1 := by rw [ct_, if_pos hp]
  have := ct_mono (P := P) (show a + 1 ≤ b by omega)
  omega
theorem ct_imp {P Q : Nat → Bool} : ∀ N, (∀ x, x < N → P x = true → Q x = true) → ct_ P N ≤ ct_ Q N
  | 0 => fun _ => Nat.le_refl _
  | N + 1 => fun h => by
    have := ct_imp (P := P) (Q := Q) N (fun x hx => h x (by omega))
    rw [ct_, ct_]
    by_cases p : P N = true
    · rw [if_pos p, if_pos (h N (by omega) p)]; omega
    · rw [if_neg p]; omega
theorem ct_inj {P : Nat → Bool} {a b : Nat} (ha : P a = true) (hb : P b = true) (h : ct_ P a = ct_ P b) : a = b := by
  rcases Nat.lt_trichotomy a b with z | z | z
  · have := ct_lt ha z; omega
  · exact z
  · have := ct_lt hb z; omega
theorem ct_hit {P : Nat → Bool} : ∀ N k, k < ct_ P N → ∃ a, a < N ∧ P a = true ∧ ct_ P a = k
  | 0, k => fun h => absurd h (Nat.not_lt_zero _)
  | N + 1, k => fun h => by
    by_cases z : k < ct_ P N
    · obtain ⟨a, a1, a2, a3⟩ := ct_hit N k z
      exact ⟨a, by omega, a2, a3⟩
    · rw [ct_] at h
      by_cases p : P N = true
      · rw [if_pos p] at h
        exact ⟨N, by omega, p, by omega⟩
      · rw [if_neg p] at h; omega
theorem sm_mono {f : Nat → Nat} {a b : Nat} (h : a ≤ b) : sm_ f a ≤ sm_ f b := by
  obtain ⟨d, rfl⟩ : ∃ d, b = a + d := ⟨b - a, by omega⟩
  induction d with
  | zero => exact Nat.le_refl _
  | succ d ih =>
    have := ih (by omega)
    rw [show a + (d + 1) = (a + d) + 1 by omega, sm_]
    omega
theorem ct_map {P Q : Nat → Bool} {f : Nat → Nat} {m : Nat} : ∀ (N : Nat), (∀ j, j < N → P j = true → f j < m ∧ Q (f j) = true) → (∀ i j, i < N → j < N → P i = true → P j = true → f i = f j → i = j) → ct_ P N ≤ ct_ Q m := by
  intro N
  induction N generalizing Q with
  | zero => intro _ _; exact Nat.zero_le _
  | succ N ih =>
    intro h1 h2
    rw [ct_]
    by_cases p : P N = true
    · rw [if_pos p]
      obtain ⟨fm, fq⟩ := h1 N (by omega) p
      have i1 := ih (Q := fun x => Q x && !decide (x = f N)) (fun j hj pj => ?_) (fun i j hi hj => h2 i j (by omega) (by omega))
      · have key : ∀ M, f N < M → ct_ (fun x => Q x && !decide (x = f N)) M + 1 = ct_ Q M := by
          intro M
          induction M with
          | zero => intro z; omega
          | succ M ihM =>
            intro hM
            rw [ct_, ct_]
            by_cases e : M = f N
            · have e2 : ct_ (fun x => Q x && !decide (x = f N)) M = ct_ Q M := ct_ext M (fun x hx => by
                have : x ≠ f N := by omega
                simp [this])
              rw [e2, e, fq]
              simp
            · have := ihM (by omega)
              have e3 : (Q M && !decide (M = f N)) = Q M := by simp [e]
              rw [e3]
              omega
        have := key m fm
        omega
      · obtain ⟨a, b⟩ := h1 j (by omega) pj
        refine ⟨a, ?_⟩
        have : f j ≠ f N := fun z => by
          have := h2 j N (by omega) (by omega) pj p z
          omega
        simp [b, this]
    · rw [if_neg p, Nat.add_zero]
      exact ih (fun j hj => h1 j (by omega)) (fun i j hi hj => h2 i j (by omega) (by omega))
def SR (q : QT) (c : CT) : Prop := FQ q ∧ MQ_ q ∧ oc_ q = 0 ∧ CM q c ∧ 16 ≤ mT_ q ∧ mT_ q ≤ 200 ∧ 1 ≤ mD_ q ∧ mD_ q ≤ 8
section
variable {q : QT} {c : CT}
theorem sr_f (S : SR q c) : FQ q := S.1
theorem sr_m (S : SR q c) : MQ_ q := S.2.1
theorem sr_o (S : SR q c) : oc_ q = 0 := S.2.2.1
theorem sr_c (S : SR q c) : CM q c := S.2.2.2.1
theorem sr_n (S : SR q c) : nn_ q ≤ 48 ∧ sn_ q ≤ 49 := ⟨fq_n S.1, fq_s S.1⟩
theorem sr_w (S : SR q c) : ws_ (sn_ q) (pa_ q) (ow_ q) := ws_of S.1
theorem sr_l (S : SR q c) {s : Nat} (hs : s < sn_ q) : LY q (cp_ c) (st_ c) (nc_ c) (cc_ c) (hd_ c) (hm_ c) s := S.2.2.2.1.2.1 s hs
theorem hm_cap (S : SR q c) {s x : Nat} (hs : s < sn_ q) (hx : x < 8) (hd : dq2_ q s x = true) (hb : bt (cp_ c s) x = true) : hm_ c (8 * s + x) = ct_ (cd_ q (cp_ c) s) x + 1 ∧ ct_ (cd_ q (cp_ c) s) x + 1 ≤ cc_ c s := by
  obtain ⟨a1, a2, a3, a4, a5⟩ := sr_l S hs
  constructor
  · rw [a4 x hx hd]
    unfold hv_
    rw [if_pos hb]
  · rw [a2]
    exact ct_lt (P := cd_ q (cp_ c) s) (by unfold cd_; rw [hd, hb]; rfl) hx
theorem hm_cinj (S : SR q c) {s x y : Nat} (hs : s < sn_ q) (hx : x < 8) (hy : y < 8) (hdx : dq2_ q s x = true) (hdy : dq2_ q s y = true) (hbx : bt (cp_ c s) x = true) (hby : bt (cp_ c s) y = true) (h : hm_ c (8 * s + x) = hm_ c (8 * s + y)) : x = y := by
  rw [(hm_cap S hs hx hdx hbx).1, (hm_cap S hs hy hdy hby).1] at h
  exact ct_inj (P := cd_ q (cp_ c) s) (by unfold cd_; rw [hdx, hbx]; rfl) (by unfold cd_; rw [hdy, hby]; rfl) (by omega)
theorem hm_unc (S : SR q c) {s x : Nat} (hs : s < sn_ q) (hx : x < 8) (hd : dq2_ q s x = true) (hb : bt (cp_ c s) x = false) : hm_ c (8 * s + x) = bs_ q (st_ c) s + ct_ (ud_ q (cp_ c) s) x ∧ hm_ c (8 * s + x) < st_ c s := by
  obtain ⟨a1, a2, a3, a4, a5⟩ := sr_l S hs
  have e : hm_ c (8 * s + x) = bs_ q (st_ c) s + ct_ (ud_ q (cp_ c) s) x := by
    rw [a4 x hx hd]
    unfold hv_
    rw [if_neg (by rw [hb]; decide)]
  refine ⟨e, ?_⟩
  rw [e, a3]
  have := ct_lt (P := ud_ q (cp_ c) s) (a := x) (b := 8) (by unfold ud_; rw [hd, hb]; rfl) hx
  omega
theorem st_rc (S : SR q c) {t : Nat} : ∀ s, s < sn_ q → rc_ (pa_ q) (ow_ q) s t → st_ c t ≤ st_ c s := by
  refine rc_ind (sr_w S) (fun s hs h hr => ?_)
  rcases rc_it.mp hr with e | ⟨h0, hr⟩
  · subst e; exact Nat.le_refl _
  · have := (h h0).2.2 hr
    have a3 := (sr_l S hs).2.2.1
    have e : bs_ q (st_ c) s = st_ c (pa_ q s) := if_neg h0
    omega
theorem hm_uinj (S : SR q c) {s t x y : Nat} (hs : s < sn_ q) (hr : rc_ (pa_ q) (ow_ q) s t) (hx : x < 8) (hy : y < 8) (hdx : dq2_ q s x = true) (hdy : dq2_ q t y = true) (hbx : bt (cp_ c s) x = false) (hby : bt (cp_ c t) y = false) (h : hm_ c (8 * s + x) = hm_ c (8 * t + y)) : s = t ∧ x = y := by
  have ht := rc_lt (sr_w S) hs hr
  have ux := hm_unc S hs hx hdx hbx
  have uy := hm_unc S ht hy hdy hby
  by_cases e : s = t
  · subst e
    exact ⟨rfl, ct_inj (P := ud_ q (cp_ c) s) (by unfold ud_; rw [hdx, hbx]; rfl) (by unfold ud_; rw [hdy, hby]; rfl) (by omega)⟩
  · exfalso
    rcases rc_it.mp hr with z | ⟨h0, hr'⟩
    · exact e z
    · have hp : pa_ q s < sn_ q := by
        have := ((sr_w S).2.2 s (by
          apply Nat.pos_of_ne_zero
          intro z
          rw [z] at h0
          exact h0 (sr_w S).2.1) hs).1
        omega
      have := st_rc S _ hp hr'
      have eb : bs_ q (st_ c) s = st_ c (pa_ q s) := if_neg h0
      omega
theorem st_48 (S : SR q c) : ∀ s, s < sn_ q → st_ c s ≤ 48 := by
  have w := sr_w S
  have key : ∀ s, s < sn_ q → st_ c s ≤ sm_ (fun t => ct_ (dq2_ q t) 8) (s + 1) := by
    refine rc_ind w (fun s hs h => ?_)
    obtain ⟨a1, a2, a3, a4, a5⟩ := sr_l S hs
    have c1 : ct_ (ud_ q (cp_ c) s) 8 ≤ ct_ (dq2_ q s) 8 := ct_imp 8 (fun x hx hu => by
      unfold ud_ at hu
      rw [Bool.and_eq_true] at hu
      exact hu.1)
    rw [sm_, a3]
    unfold bs_
    by_cases o : ow_ q s = s
    · rw [if_pos o]
      omega
    · rw [if_neg o]
      obtain ⟨p1, p2, p3⟩ := h o
      have := sm_mono (f := fun t => ct_ (dq2_ q t) 8) (show pa_ q s + 1 ≤ s by omega)
      omega
  intro s hs
  have h1 := key s hs
  have h2 := sm_mono (f := fun t => ct_ (dq2_ q t) 8) (show s + 1 ≤ sn_ q by omega)
  have h3 : sm_ (fun t => ct_ (dq2_ q t) 8) (sn_ q) ≤ nn_ q := (sr_m S).2.2.2.2.2.2.2.1
  have := (sr_n S).1
  omega
theorem hm_slot (S : SR q c) {s x : Nat} (hs : s < sn_ q) (hx : x < 8) (hd : dq2_ q s x = true) (hb : bt (cp_ c s) x = false) : hm_ c (8 * s + x) < 48 := by
  have := (hm_unc S hs hx hd hb).2
  have := st_48 S s hs
  omega
theorem cc_nc (S : SR q c) {s : Nat} (hs : s < sn_ q) : cc_ c s ≤ nc_ c s ∧ nc_ c s ≤ 8 := by
  obtain ⟨a1, a2, a3, a4, a5⟩ := sr_l S hs
  rw [a1, a2]
  refine ⟨ct_imp 8 (fun x hx hu => ?_), ct_le _ _⟩
  unfold cd_ at hu
  rw [Bool.and_eq_true] at hu
  exact hu.1
theorem se_ok (S : SR q c) {l : Nat} (hl : l < nn_ q) (h5 : 5 ≤ kd_ q l) (h8 : kd_ q l ≤ 8) : se_ q (4 * l) ≠ 0 := by
  intro z
  obtain ⟨k, k1, k2, -⟩ := fs_h (sr_f S) l hl h5 h8 z
  have := sr_o S
  omega
theorem no_own (S : SR q c) {l j t : Nat} (hl : l < nn_ q) (h5 : 5 ≤ kd_ q l) (h8 : kd_ q l ≤ 8) (h1 : l < j) (h2 : j ≤ se_ q (4 * l)) (ht : t ≤ Lq_ q l) : Lq_ q j ≠ t := by
  have g := fs_g (sr_f S) l hl h5 h8 j h1
  rw [if_neg (se_ok S hl h5 h8)] at g
  have g := g h2
  obtain ⟨o1, o2, o3, o4⟩ := (fs_l (sr_f S) l hl).2.1 h5 h8
  have hod : od_ q l < sn_ q := by
    rw [← o1]
    exact lq_s (sr_f S) (by omega)
  have := ((sr_w S).2.2 (od_ q l) o2 hod).1
  omega
theorem lt_same (S : SR q c) {t x P P' : Nat} (hx : x < 8) (h : P ≤ P') (hno : ∀ j, P ≤ j → j < P' → j < nn_ q → Lq_ q j = t → kd_ q j ≠ 0) : lt_ q (8 * t + x) ≤ P ↔ lt_ q (8 * t + x) ≤ P' := by
  constructor
  · intro z; omega
  · intro z
    apply Classical.byContradiction
    intro z2
    obtain ⟨j, hj⟩ : ∃ j, lt_ q (8 * t + x) = j + 1 := ⟨lt_ q (8 * t + x) - 1, by omega⟩
    obtain ⟨j1, j2, j3, j4⟩ := ((sr_m S).2.2.2.1 t x j hx).mp hj
    exact hno j (by omega) (by omega) j1 j4 j2
end
end
section
def mk2_ (q : QT) (f : Nat) : Nat := if kd_ q (sl_ q f) = 6 then sl_ q f else sl_ q (pa_ q f)
def RI (q : QT) (c : CT) (yi ht : Nat) (io me : Nat → Int32) (sg et oi wi : Nat → Nat) : Prop :=
  sg 0 = 0 ∧ oi 0 = 0 ∧ wi 0 = 0 ∧
  (∀ i, i < yi → sg i < sn_ q ∧ sg (oi i) = pa_ q (sg i) ∧ (wi i = i ↔ ow_ q (sg i) = sg i) ∧ (0 < i → 0 < sg i ∧ oi i < i ∧ (wi i = i ∨ wi i = wi (oi i)) ∧ io i = nI (oi i)) ∧ (i = 0 → io i = -1) ∧
    (0 < cc_ c (sg i) → 512 ≤ et i ∧ et i + cc_ c (sg i) < ht ∧ me (et i) = nI (if i = 0 then 0 else et (oi i))) ∧ (cc_ c (sg i) = 0 → et i = if i = 0 then 0 else et (oi i))) ∧
  (∀ i j, i < j → j < yi → 0 < cc_ c (sg i) → 0 < cc_ c (sg j) → et i + cc_ c (sg i) < et j)
def RB (q : QT) (c : CT) (yi yb : Nat) (bi bm : Nat → Nat) (bv bl : Nat → Int32) (sg : Nat → Nat) : Prop :=
  (∀ b, b < yb → bi b < yi ∧ bm b < 8 ∧ dq2_ q (sg (bi b)) (bm b) = true ∧ (bl b = 0 ∨ bl b = 1) ∧ (bl b = 0 → bv b = 0)) ∧
  (∀ i x, i < yi → x < 8 → dq2_ q (sg i) x = true → ∃ b, b < yb ∧ bi b = i ∧ bm b = x) ∧
  (∀ b b', b < yb → b' < yb → bi b = bi b' → bm b = bm b' → b = b') ∧
  (∀ i, i < yi → ct_ (fun b => decide (bi b = i)) yb = nc_ c (sg i))
def RH (q : QT) (c : CT) (yb : Nat) (bi bm : Nat → Nat) (bv bl me li : Nat → Int32) (sg et : Nat → Nat) : Prop :=
  ∀ b, b < yb → bt (cp_ c (sg (bi b))) (bm b) = true → me (et (bi b) + hm_ c (8 * sg (bi b) + bm b)) = bv b ∧ (lt_ q (8 * sg (bi b) + bm b) ≠ 0 → li (et (bi b) + hm_ c (8 * sg (bi b) + bm b)) = bl b)
def TF (q : QT) (c : CT) (yi yb : Nat) (bi bm : Nat → Nat) (bv bl me : Nat → Int32) (sg oi wi : Nat → Nat) (px : Nat → Nat → Prop) (k i P : Nat) : Prop :=
  i < yi ∧ P ≤ nn_ q ∧ sg i = Lq_ q P ∧ ∀ b, b < yb → rc_ oi wi i (bi b) → (bt (cp_ c (sg (bi b))) (bm b) = false → bl b = 1 → me (48 * k + hm_ c (8 * sg (bi b) + bm b)) = bv b) ∧ (¬ px (bi b) (bm b) → (bl b = 1 ↔ lt_ q (8 * sg (bi b) + bm b) ≤ P))
def RS (c : CT) (yb : Nat) (bi bm : Nat → Nat) (bv me : Nat → Int32) : Prop := ∀ b, b < yb → bi b = 0 → bt (cp_ c 0) (bm b) = false → me (hm_ c (bm b)) = bv b
def RK (q : QT) (yi yb : Nat) (bi bm : Nat → Nat) (bl : Nat → Int32) (sg oi wi : Nat → Nat) : Prop :=
  ∀ i, 0 < i → i < yi → wi i = i → ∀ b, b < yb → rc_ oi wi (oi i) (bi b) → lt_ q (8 * sg (bi b) + bm b) ≤ mk2_ q (sg i) → bl b = 1
def RN (q : QT) (yi yb fc : Nat) (bi bm : Nat → Nat) (bl : Nat → Int32) (fs fe fl fi sg et oi wi : Nat → Nat) (px : Nat → Nat → Prop) : Prop :=
  ∀ v, 1 ≤ v → v ≤ fc → fl v < nn_ q ∧ (kd_ q (fl v) = 5 ∨ kd_ q (fl v) = 6) ∧ fi v < yi ∧ sg (fi v) = Lq_ q (fl v) ∧ fs v = od_ q (fl v) ∧ fe v = et (fi v) ∧
    ∀ b, b < yb → rc_ oi wi (fi v) (bi b) → ¬ px (bi b) (bm b) → lt_ q (8 * sg (bi b) + bm b) ≤ mk2_ q (od_ q (fl v)) → bl b = 1
def RV (cl : Nat) (kp ps ci cx sv sw et wi : Nat → Nat) : Prop :=
  (∀ k, k < cl → ci k = kp k ∧ cx k + 1 = ps k ∧ sv k = cx k ∧ sw k = et (kp k) ∧ kp k < wi (kp (k + 1))) ∧ wi (kp 0) = 0
section
variable {q : QT} {c : CT} {yi yb ht fc cl : Nat} {io me li bv bl : Nat → Int32} {bi bm fs fe fl fi sg et oi wi kp ps ci cx sv sw : Nat → Nat} {px : Nat → Nat → Prop}
theorem ri_w (R : RI q c yi ht io me sg et oi wi) : ws_ yi oi wi := ⟨R.2.1, R.2.2.1, fun i h0 hi => ⟨((R.2.2.2.1 i hi).2.2.2.1 h0).2.1, ((R.2.2.2.1 i hi).2.2.2.1 h0).2.2.1⟩⟩
theorem ri_s (R : RI q c yi ht io me sg et oi wi) {i : Nat} (hi : i < yi) : sg i < sn_ q := (R.2.2.2.1 i hi).1
theorem ri_oi (R : RI q c yi ht io me sg et oi wi) {i : Nat} (hi : i < yi) : oi i ≤ i := by
  rcases Nat.eq_zero_or_pos i with z | z
  · subst z; rw [R.2.1]; exact Nat.le_refl _
  · exact Nat.le_of_lt ((R.2.2.2.1 i hi).2.2.2.1 z).2.1
theorem ri_ac (R : RI q c yi ht io me sg et oi wi) {j : Nat} : ∀ i, i < yi → ac_ oi i j → ac_ (pa_ q) (sg i) (sg j) := by
  intro i
  induction i using Nat.strongRecOn with
  | _ i ih =>
    intro hi ha
    rcases ac_it.mp ha with e | e
    · subst e; exact ac_self _ _
    · rcases Nat.eq_zero_or_pos i with z | z
      · subst z
        have := ac_le (ri_w R) 0 hi ha
        have : j = 0 := by omega
        subst this
        exact ac_self _ _
      · have lt := ((R.2.2.2.1 i hi).2.2.2.1 z).2.1
        have := ih _ lt (by omega) e
        rw [(R.2.2.2.1 i hi).2.1] at this
        exact ac_it.mpr (Or.inr this)
theorem ri_rc (R : RI q c yi ht io me sg et oi wi) {j : Nat} : ∀ i, i < yi → rc_ oi wi i j → rc_ (pa_ q) (ow_ q) (sg i) (sg j) := by
  refine rc_ind (ri_w R) (fun i hi h hr => ?_)
  rcases rc_it.mp hr with e | ⟨h0, hr⟩
  · subst e; exact rc_self _ _ _
  · have := (h h0).2.2 hr
    have r := R.2.2.2.1 i hi
    rw [r.2.1] at this
    exact rc_up1 (fun z => h0 (r.2.2.1.mpr z)) this
theorem ri_wi (S : SR q c) (R : RI q c yi ht io me sg et oi wi) : ∀ i, i < yi → sg (wi i) = ow_ q (sg i) := by
  refine rc_ind (ri_w R) (fun i hi h => ?_)
  have r := R.2.2.2.1 i hi
  by_cases e : wi i = i
  · rw [e]; exact (r.2.2.1.mp e).symm
  · obtain ⟨h1, h2, h3⟩ := h e
    rw [h2, h3, r.2.1]
    have hn : ow_ q (sg i) ≠ sg i := fun z => e (r.2.2.1.mpr z)
    have i0 : 0 < i := by omega
    have s0 := (r.2.2.2.1 i0).1
    rcases ((sr_w S).2.2 (sg i) s0 r.1).2 with z | z
    · exact absurd z hn
    · exact z.symm
theorem ac_lin {j k : Nat} (w : ws_ yi oi wi) : ∀ i, i < yi → ac_ oi i j → ac_ oi i k → ac_ oi j k ∨ ac_ oi k j := by
  intro i
  induction i using Nat.strongRecOn with
  | _ i ih =>
    intro hi h1 h2
    rcases ac_it.mp h1 with e | e
    · subst e; exact Or.inl h2
    · rcases ac_it.mp h2 with e2 | e2
      · subst e2; exact Or.inr h1
      · rcases Nat.eq_zero_or_pos i with z | z
        · subst z
          have a := ac_le w 0 hi h1
          have b := ac_le w 0 hi h2
          have : j = 0 := by omega
          subst this
          exact Or.inl h2
        · have lt := (w.2.2 i z hi).1
          exact ih _ lt (by omega) e e2
theorem ri_lt (S : SR q c) (R : RI q c yi ht io me sg et oi wi) {j : Nat} : ∀ i, i < yi → ac_ oi i j → j ≠ i → sg j < sg i := by
  intro i hi ha hne
  rcases ac_it.mp ha with e | e
  · exact absurd e.symm hne
  · have i0 : 0 < i := by
      apply Nat.pos_of_ne_zero
      intro z
      subst z
      have := ac_le (ri_w R) 0 hi ha
      omega
    have r := R.2.2.2.1 i hi
    have o := (r.2.2.2.1 i0).2.1
    have a := ri_ac R (oi i) (by omega) e
    rw [r.2.1] at a
    have p := ((sr_w S).2.2 (sg i) (r.2.2.2.1 i0).1 r.1).1
    have := ac_le (sr_w S) _ (show pa_ q (sg i) < sn_ q by have := r.1; omega) a
    omega
theorem ri_inj (S : SR q c) (R : RI q c yi ht io me sg et oi wi) {i j k : Nat} (hi : i < yi) (h1 : ac_ oi i j) (h2 : ac_ oi i k) (e : sg j = sg k) : j = k := by
  have w := ri_w R
  have lj := ac_le w i hi h1
  have lk := ac_le w i hi h2
  rcases ac_lin w i hi h1 h2 with z | z
  · apply Classical.byContradiction
    intro ne
    have := ri_lt S R j (by omega) z (fun v => ne v.symm)
    omega
  · apply Classical.byContradiction
    intro ne
    have := ri_lt S R k (by omega) z ne
    omega
theorem ri_rcj (S : SR q c) (R : RI q c yi ht io me sg et oi wi) {i j : Nat} (hi : i < yi) (ha : ac_ oi i j) (ho : ow_ q (sg j) = ow_ q (sg i)) : rc_ oi wi i j := by
  have w := ri_w R
  rcases ac_split w i hi ha with z | z
  · exact z
  · have o := rc_own w i hi
    by_cases e : j = wi i
    · subst e; exact o.1
    · have hj : j ≤ wi i := ac_le w _ (by omega) z
      have l := ri_lt S R (wi i) (by omega) z e
      rw [ri_wi S R i hi] at l
      have := (rc_own (sr_w S) (sg j) (ri_s R (by omega))).2.2
      omega
theorem rc_wi (R : RI q c yi ht io me sg et oi wi) {i j : Nat} (hi : i < yi) (h : rc_ oi wi i j) : wi j = wi i ∧ j ≤ i ∧ wi i ≤ j := by
  have a := rc_le (ri_w R) i hi h
  have b := (rc_own (ri_w R) j (by omega)).2.2
  exact ⟨a.2, a.1, by omega⟩
theorem rv_lt (R : RI q c yi ht io me sg et oi wi) (V : RV cl kp ps ci cx sv sw et wi) (hk : ∀ k, k ≤ cl → kp k < yi) : ∀ d k, k + d + 1 ≤ cl → kp k < wi (kp (k + d + 1)) := by
  intro d
  induction d with
  | zero => intro k h; exact (V.1 k (by omega)).2.2.2.2
  | succ d ih =>
    intro k h
    have a := ih k (by omega)
    have b := (V.1 (k + d + 1) (by omega)).2.2.2.2
    have c1 := (rc_own (ri_w R) (kp (k + d + 1)) (hk _ (by omega))).2.2
    rw [show k + (d + 1) + 1 = k + d + 1 + 1 by omega]
    omega
theorem rv_apart (R : RI q c yi ht io me sg et oi wi) (V : RV cl kp ps ci cx sv sw et wi) (hk : ∀ k, k ≤ cl → kp k < yi) {a b j : Nat} (ha : a ≤ cl) (hb : b ≤ cl) (h1 : rc_ oi wi (kp a) j) (h2 : rc_ oi wi (kp b) j) : a = b := by
  have r1 := rc_wi R (hk a ha) h1
  have r2 := rc_wi R (hk b hb) h2
  rcases Nat.lt_trichotomy a b with z | z | z
  · have := rv_lt R V hk (b - a - 1) a (by omega)
    rw [show a + (b - a - 1) + 1 = b by omega] at this
    omega
  · exact z
  · have := rv_lt R V hk (a - b - 1) b (by omega)
    rw [show b + (a - b - 1) + 1 = a by omega] at this
    omega
theorem ad_cap (S : SR q c) (R : RI q c yi ht io me sg et oi wi) (B : RB q c yi yb bi bm bv bl sg) {b : Nat} (hb : b < yb) (hc : bt (cp_ c (sg (bi b))) (bm b) = true) :
    0 < cc_ c (sg (bi b)) ∧ 1 ≤ hm_ c (8 * sg (bi b) + bm b) ∧ hm_ c (8 * sg (bi b) + bm b) ≤ cc_ c (sg (bi b)) ∧ 512 ≤ et (bi b) ∧ et (bi b) + cc_ c (sg (bi b)) < ht := by
  obtain ⟨b1, b2, b3, -⟩ := B.1 b hb
  have h := hm_cap S (ri_s R b1) b2 b3 hc
  have c0 : 0 < cc_ c (sg (bi b)) := by omega
  have r := (R.2.2.2.1 (bi b) b1).2.2.2.2.2.1 c0
  exact ⟨c0, by omega, by omega, r.1, r.2.1⟩
theorem ad_inj (S : SR q c) (R : RI q c yi ht io me sg et oi wi) (B : RB q c yi yb bi bm bv bl sg) {b b' : Nat} (hb : b < yb) (hb' : b' < yb) (hc : bt (cp_ c (sg (bi b))) (bm b) = true) (hc' : bt (cp_ c (sg (bi b'))) (bm b') = true)
    (e : et (bi b) + hm_ c (8 * sg (bi b) + bm b) = et (bi b') + hm_ c (8 * sg (bi b') + bm b')) : b = b' := by
  obtain ⟨a1, a2, a3, a4, a5⟩ := ad_cap S R B hb hc
  obtain ⟨e1, e2, e3, e4, e5⟩ := ad_cap S R B hb' hc'
  obtain ⟨b1, b2, b3, -⟩ := B.1 b hb
  obtain ⟨f1, f2, f3, -⟩ := B.1 b' hb'
  rcases Nat.lt_trichotomy (bi b) (bi b') with z | z | z
  · have := R.2.2.2.2 _ _ z f1 a1 e1
    omega
  · refine B.2.2.1 b b' hb hb' z ?_
    rw [← z] at e f3 hc'
    exact hm_cinj S (ri_s R b1) b2 f2 b3 f3 hc hc' (by omega)
  · have := R.2.2.2.2 _ _ z b1 e1 a1
    omega
def AD (c : CT) (cl cur : Nat) (bi bm sg et oi wi : Nat → Nat) (a b : Nat) : Prop :=
  (bt (cp_ c (sg (bi b))) (bm b) = true ∧ a = et (bi b) + hm_ c (8 * sg (bi b) + bm b)) ∨ (bt (cp_ c (sg (bi b))) (bm b) = false ∧ rc_ oi wi cur (bi b) ∧ a = 48 * cl + hm_ c (8 * sg (bi b) + bm b))
theorem z48_ (c : CT) (x : Nat) : 48 * 0 + hm_ c (8 * 0 + x) = hm_ c x := by simp
theorem cap_ft {m : Int32} {x : Nat} (h : ¬ bt m x = true) : bt m x = false := by
  cases hb : bt m x with
  | false => rfl
  | true => exact absurd hb h
theorem st_store {a0 b0 : Nat} {v : Int32} {px' : Nat → Nat → Prop} (S : SR q c) (R : RI q c yi ht io me sg et oi wi) (B : RB q c yi yb bi bm bv bl sg) (H : RH q c yb bi bm bv bl me li sg et) (Z : RS c yb bi bm bv me)
    (K : RK q yi yb bi bm bl sg oi wi) (N : RN q yi yb fc bi bm bl fs fe fl fi sg et oi wi px) (V : RV cl kp ps ci cx sv sw et wi) (hcl : cl ≤ 8) (T : ∀ k, k ≤ cl → TF q c yi yb bi bm bv bl me sg oi wi px k (kp k) (ps k))
    (hb : b0 < yb) (A : AD c cl (kp cl) bi bm sg et oi wi a0 b0) (hpx : ∀ i x, px i x → px' i x ∨ (i = bi b0 ∧ x = bm b0)) (hlv : ∀ k, k ≤ cl → rc_ oi wi (kp k) (bi b0) → ¬ px' (bi b0) (bm b0) → lt_ q (8 * sg (bi b0) + bm b0) ≤ ps k) :
    a0 < 1024 → RI q c yi ht io (upd me a0 v) sg et oi wi ∧ RB q c yi yb bi bm (upd bv b0 v) (upd bl b0 1) sg ∧ RH q c yb bi bm (upd bv b0 v) (upd bl b0 1) (upd me a0 v) (upd li a0 1) sg et ∧ RS c yb bi bm (upd bv b0 v) (upd me a0 v) ∧
      RK q yi yb bi bm (upd bl b0 1) sg oi wi ∧ RN q yi yb fc bi bm (upd bl b0 1) fs fe fl fi sg et oi wi px' ∧ (∀ k, k ≤ cl → TF q c yi yb bi bm (upd bv b0 v) (upd bl b0 1) (upd me a0 v) sg oi wi px' k (kp k) (ps k)) := by
  intro _
  have hkp : ∀ k, k ≤ cl → kp k < yi := fun k hk => (T k hk).1
  obtain ⟨c1, c2, c3, c4, c5⟩ := B.1 b0 hb
  have s0 := ri_s R c1
  have low : bt (cp_ c (sg (bi b0))) (bm b0) = false → a0 < 512 := by
    intro hf
    rcases A with ⟨z, -⟩ | ⟨-, -, e⟩
    · rw [hf] at z; exact absurd z (by decide)
    · have := hm_slot S s0 c2 c3 hf
      omega
  have up1 : ∀ b, bl b = 1 → upd bl b0 1 b = 1 := by
    intro b h
    by_cases e : b = b0
    · subst e; exact pk_us
    · rw [pk_un e]; exact h
  have hcell : ∀ i, i < yi → 0 < cc_ c (sg i) → et i ≠ a0 := by
    intro i hi h0 e
    have r := (R.2.2.2.1 i hi).2.2.2.2.2.1 h0
    rcases A with ⟨z, ea⟩ | ⟨z, -, -⟩
    · obtain ⟨d1, d2, d3, d4, d5⟩ := ad_cap S R B hb z
      rcases Nat.lt_trichotomy i (bi b0) with y | y | y
      · have := R.2.2.2.2 _ _ y c1 h0 d1
        omega
      · subst y; omega
      · have := R.2.2.2.2 _ _ y hi d1 h0
        omega
    · have := low z
      omega
  have hH : ∀ b, b < yb → b ≠ b0 → bt (cp_ c (sg (bi b))) (bm b) = true → et (bi b) + hm_ c (8 * sg (bi b) + bm b) ≠ a0 := by
    intro b h1 h2 h3 e
    rcases A with ⟨z, ea⟩ | ⟨z, -, -⟩
    · exact h2 (ad_inj S R B h1 hb h3 z (by omega))
    · obtain ⟨d1, d2, d3, d4, d5⟩ := ad_cap S R B h1 h3
      have := low z
      omega
  have hS : ∀ k, k ≤ cl → ∀ b, b < yb → b ≠ b0 → rc_ oi wi (kp k) (bi b) → bt (cp_ c (sg (bi b))) (bm b) = false → 48 * k + hm_ c (8 * sg (bi b) + bm b) ≠ a0 := by
    intro k hk b h1 h2 h3 h4 e
    obtain ⟨f1, f2, f3, -⟩ := B.1 b h1
    have hs := hm_slot S (ri_s R f1) f2 f3 h4
    rcases A with ⟨z, ea⟩ | ⟨z, zr, ea⟩
    · obtain ⟨d1, d2, d3, d4, d5⟩ := ad_cap S R B hb z
      omega
    · have h0 := hm_slot S s0 c2 c3 z
      have : k = cl := by omega
      subst this
      have e2 : hm_ c (8 * sg (bi b) + bm b) = hm_ c (8 * sg (bi b0) + bm b0) := by omega
      have w := ri_w R
      have same : bi b = bi b0 ∧ bm b = bm b0 := by
        rcases rc_lin w _ (hkp k hk) h3 zr with y | y
        · have u := hm_uinj S (ri_s R f1) (ri_rc R _ f1 y) f2 c2 f3 c3 h4 z e2
          exact ⟨ri_inj S R (hkp k hk) (rc_ac h3) (rc_ac zr) u.1, u.2⟩
        · have u := hm_uinj S s0 (ri_rc R _ c1 y) c2 f2 c3 f3 z h4 e2.symm
          exact ⟨ri_inj S R (hkp k hk) (rc_ac h3) (rc_ac zr) u.1.symm, u.2.symm⟩
      exact h2 (B.2.2.1 b b0 h1 hb same.1 same.2)
  refine ⟨⟨R.1, R.2.1, R.2.2.1, fun i hi => ?_, R.2.2.2.2⟩, ⟨fun b h => ?_, B.2.1, B.2.2.1, B.2.2.2⟩, fun b h hc => ?_, fun b h h0 hc => ?_, fun i h0 hi hw b h hr hl => up1 b (K i h0 hi hw b h hr hl), fun w h1 h2 => ?_, fun k hk => ?_⟩
  · obtain ⟨r1, r2, r3, r4, r5, r6, r7⟩ := R.2.2.2.1 i hi
    refine ⟨r1, r2, r3, r4, r5, fun h0 => ?_, r7⟩
    rw [pk_un (hcell i hi h0)]
    exact r6 h0
  · obtain ⟨f1, f2, f3, f4, f5⟩ := B.1 b h
    refine ⟨f1, f2, f3, ?_, ?_⟩
    · by_cases e : b = b0
      · subst e; rw [pk_us]; exact Or.inr rfl
      · rw [pk_un e]; exact f4
    · by_cases e : b = b0
      · subst e; rw [pk_us]; intro z; exact absurd z (by decide)
      · rw [pk_un e, pk_un e]; exact f5
  · by_cases e : b = b0
    · subst e
      rcases A with ⟨z, ea⟩ | ⟨z, -, -⟩
      · rw [← ea, pk_us, pk_us, pk_us, pk_us]
        exact ⟨rfl, fun _ => rfl⟩
      · rw [hc] at z; exact absurd z (by decide)
    · rw [pk_un (hH b h e hc), pk_un e, pk_un (hH b h e hc), pk_un e]
      exact H b h hc
  · have sg0 := R.1
    have k0 : rc_ oi wi (kp 0) 0 := by
      have o := (rc_own (ri_w R) (kp 0) (hkp 0 (by omega))).1
      rw [V.2] at o
      exact o
    by_cases e : b = b0
    · subst e
      rcases A with ⟨z, -⟩ | ⟨z, zr, ea⟩
      · rw [h0, sg0, hc] at z; exact absurd z (by decide)
      · rw [h0] at zr ea
        have : (0 : Nat) = cl := rv_apart R V hkp (Nat.zero_le _) (Nat.le_refl _) k0 zr
        rw [sg0] at ea
        have ea' : hm_ c (bm b) = a0 := by
          rw [ea, ← this, z48_]
        rw [ea', pk_us, pk_us]
    · rw [pk_un e]
      have := hS 0 (by omega) b h e (by rw [h0]; exact k0) (by rw [h0, sg0]; exact hc)
      rw [h0, sg0] at this
      rw [pk_un (by rw [z48_] at this; exact this)]
      exact Z b h h0 hc
  · obtain ⟨n1, n2, n3, n4, n5, n6, n7⟩ := N w h1 h2
    refine ⟨n1, n2, n3, n4, n5, n6, fun b h hr hp hl => ?_⟩
    by_cases e : b = b0
    · subst e; exact pk_us
    · rw [pk_un e]
      refine n7 b h hr (fun z => ?_) hl
      rcases hpx _ _ z with y | y
      · exact hp y
      · exact e (B.2.2.1 b b0 h hb y.1 y.2)
  · obtain ⟨t1, t2, t3, t4⟩ := T k hk
    refine ⟨t1, t2, t3, fun b h hr => ?_⟩
    obtain ⟨t5, t6⟩ := t4 b h hr
    by_cases e : b = b0
    · subst e
      rw [pk_us, pk_us]
      refine ⟨fun hc _ => ?_, fun hp => ⟨fun _ => hlv k hk hr hp, fun _ => rfl⟩⟩
      rcases A with ⟨z, -⟩ | ⟨z, zr, ea⟩
      · rw [hc] at z; exact absurd z (by decide)
      · have : k = cl := rv_apart R V hkp hk (Nat.le_refl _) hr zr
        subst this
        rw [← ea, pk_us]
    · rw [pk_un e, pk_un e]
      refine ⟨fun hc hl => ?_, fun hp => t6 (fun z => ?_)⟩
      · rw [pk_un (hS k hk b h e hr hc)]
        exact t5 hc hl
      · rcases hpx _ _ z with y | y
        · exact hp y
        · exact e (B.2.2.1 b b0 h hb y.1 y.2)
end
end
section
def TB (q : QT) (c : CT) (yb : Nat) (bi bm : Nat → Nat) (bv bl me : Nat → Int32) (sg oi wi : Nat → Nat) (px : Nat → Nat → Prop) (k i P : Nat) : Prop :=
  ∀ b, b < yb → rc_ oi wi i (bi b) → (bt (cp_ c (sg (bi b))) (bm b) = false → bl b = 1 → me (48 * k + hm_ c (8 * sg (bi b) + bm b)) = bv b) ∧ (¬ px (bi b) (bm b) → (bl b = 1 ↔ lt_ q (8 * sg (bi b) + bm b) ≤ P))
section
variable {q : QT} {c : CT} {yi yb ht fc cl : Nat} {io me li bv bl : Nat → Int32} {bi bm fs fe fl fi sg et oi wi kp ps ci cx sv sw : Nat → Nat} {px : Nat → Nat → Prop}
variable {s o M P' : Nat} {me' li' io' bv' bl' : Nat → Int32} {bi' bm' sg' oi' wi' et' : Nat → Nat} {Q : Nat → Bool} {nm : Nat → Nat} {vv lv : Nat → Int32} {px' : Nat → Nat → Prop}
theorem gr_inst (S : SR q c) (R : RI q c yi ht io me sg et oi wi) (hs : s < sn_ q) (ho : yi = 0 → s = 0 ∧ o = 0) (ho2 : 0 < yi → o < yi ∧ sg o = pa_ q s ∧ 0 < s)
    (esg : sg' = up_ sg yi s) (eoi : oi' = up_ oi yi o) (ewi : wi' = up_ wi yi (if ow_ q s = s then yi else wi o)) (eet : et' = up_ et yi (if 0 < cc_ c s then ht else if yi = 0 then 0 else et o)) (eio : io' = upd io yi (if yi = 0 then -1 else nI o))
    (h512 : 512 ≤ ht) (m1 : ∀ j, 512 ≤ j → j < ht → me' j = me j) (m3 : 0 < cc_ c s → me' ht = nI (if yi = 0 then 0 else et o)) :
    RI q c (yi + 1) (ht + (if 0 < cc_ c s then cc_ c s + 1 else 0)) io' me' sg' et' oi' wi' := by
  subst esg eoi ewi eet eio
  have w0 : ow_ q 0 = 0 := (sr_w S).2.1
  have p0 : pa_ q 0 = 0 := (sr_w S).1
  refine ⟨?_, ?_, ?_, fun i hi => ?_, fun i j hij hj ci cj => ?_⟩
  · by_cases z : yi = 0
    · rw [z, up_s]; exact (ho z).1
    · rw [up_n (by omega)]; exact R.1
  · by_cases z : yi = 0
    · rw [z, up_s]; exact (ho z).2
    · rw [up_n (by omega)]; exact R.2.1
  · by_cases z : yi = 0
    · rw [(ho z).1, if_pos w0, z, up_s]
    · rw [up_n (by omega)]; exact R.2.2.1
  · by_cases e : i = yi
    · subst e
      rw [up_s, up_s, up_s, up_s, pk_us]
      refine ⟨hs, ?_, ?_, fun h0 => ?_, fun z => by rw [if_pos z], fun h0 => ?_, fun h0 => ?_⟩
      · by_cases z : i = 0
        · obtain ⟨z1, z2⟩ := ho z
          subst z1; subst z2; subst z
          rw [up_s, p0]
        · have := ho2 (by omega)
          rw [up_n (by omega)]; exact this.2.1
      · constructor
        · intro z
          apply Classical.byContradiction
          intro z2
          rw [if_neg z2] at z
          by_cases z0 : i = 0
          · rw [(ho z0).1] at z2; exact z2 w0
          · have h2 := ho2 (by omega)
            have := (rc_own (ri_w R) o h2.1).2.2
            omega
        · intro z; rw [if_pos z]
      · obtain ⟨a1, a2, a3⟩ := ho2 h0
        rw [up_n (show o ≠ i by omega)]
        refine ⟨a3, a1, ?_, ?_⟩
        · by_cases z : ow_ q s = s
          · rw [if_pos z]; exact Or.inl rfl
          · rw [if_neg z]; exact Or.inr rfl
        · rw [if_neg (by omega)]
      · rw [if_pos h0, if_pos h0]
        refine ⟨h512, by omega, ?_⟩
        rw [m3 h0]
        by_cases z : i = 0
        · rw [if_pos z, if_pos z]
        · rw [if_neg z, if_neg z, up_n (by have := ho2 (by omega); omega)]
      · rw [if_neg (by omega)]
        by_cases z : i = 0
        · rw [if_pos z, if_pos z]
        · rw [if_neg z, if_neg z, up_n (by have := ho2 (by omega); omega)]
    · have hi' : i < yi := by omega
      obtain ⟨r1, r2, r3, r4, r5, r6, r7⟩ := R.2.2.2.1 i hi'
      have ole := ri_oi R hi'
      rw [up_n e, up_n e, up_n e, up_n e, pk_un e, up_n (show oi i ≠ yi by omega), up_n (show oi i ≠ yi by omega), up_n (show oi i ≠ yi by omega)]
      refine ⟨r1, r2, r3, r4, r5, fun h0 => ?_, r7⟩
      obtain ⟨g1, g2, g3⟩ := r6 h0
      refine ⟨g1, by omega, ?_⟩
      rw [m1 _ g1 (by omega)]
      exact g3
  · have ei : i ≠ yi := by omega
    rw [up_n ei] at ci ⊢
    rw [up_n ei]
    by_cases ej : j = yi
    · subst ej
      rw [up_s] at cj ⊢
      rw [if_pos cj]
      exact ((R.2.2.2.1 i hij).2.2.2.2.2.1 ci).2.1
    · rw [up_n ej] at cj ⊢
      exact R.2.2.2.2 i j hij (by omega) ci cj
def NB (q : QT) (c : CT) (yi yb s M : Nat) (Q : Nat → Bool) (nm : Nat → Nat) (vv lv : Nat → Int32) (bi bm bi' bm' : Nat → Nat) (bv bl bv' bl' : Nat → Int32) : Prop :=
  (∀ b, b < yb → bi' b = bi b ∧ bm' b = bm b ∧ bv' b = bv b ∧ bl' b = bl b) ∧
  (∀ y, y < M → Q y = true → bi' (yb + ct_ Q y) = yi ∧ bm' (yb + ct_ Q y) = nm y ∧ bv' (yb + ct_ Q y) = vv y ∧ bl' (yb + ct_ Q y) = lv y) ∧
  (∀ y, y < M → Q y = true → nm y < 8 ∧ dq2_ q s (nm y) = true ∧ (lv y = 0 ∨ lv y = 1) ∧ (lv y = 0 → vv y = 0)) ∧
  (∀ y z, y < M → z < M → Q y = true → Q z = true → nm y = nm z → y = z) ∧ (∀ x, x < 8 → dq2_ q s x = true → ∃ y, y < M ∧ Q y = true ∧ nm y = x) ∧ ct_ Q M = nc_ c s
theorem nb_cases (h : NB q c yi yb s M Q nm vv lv bi bm bi' bm' bv bl bv' bl') {b : Nat} (hb : b < yb + ct_ Q M) : b < yb ∨ ∃ y, y < M ∧ Q y = true ∧ b = yb + ct_ Q y := by
  by_cases z : b < yb
  · exact Or.inl z
  · obtain ⟨y, y1, y2, y3⟩ := ct_hit (P := Q) M (b - yb) (by omega)
    exact Or.inr ⟨y, y1, y2, by omega⟩
theorem gr_bind (B : RB q c yi yb bi bm bv bl sg) (N : NB q c yi yb s M Q nm vv lv bi bm bi' bm' bv bl bv' bl') (esg : sg' = up_ sg yi s) : RB q c (yi + 1) (yb + ct_ Q M) bi' bm' bv' bl' sg' := by
  subst esg
  obtain ⟨n1, n2, n3, n4, n5, n6⟩ := N
  have cs : ∀ b, b < yb + ct_ Q M → b < yb ∨ ∃ y, y < M ∧ Q y = true ∧ b = yb + ct_ Q y := fun b hb => nb_cases ⟨n1, n2, n3, n4, n5, n6⟩ hb
  refine ⟨fun b hb => ?_, fun i x hi hx hd => ?_, fun b b' hb hb' e1 e2 => ?_, fun i hi => ?_⟩
  · rcases cs b hb with z | ⟨y, y1, y2, rfl⟩
    · obtain ⟨g1, g2, g3, g4⟩ := n1 b z
      obtain ⟨f1, f2, f3, f4, f5⟩ := B.1 b z
      rw [g1, g2, g3, g4, up_n (by omega)]
      exact ⟨by omega, f2, f3, f4, f5⟩
    · obtain ⟨g1, g2, g3, g4⟩ := n2 y y1 y2
      obtain ⟨f1, f2, f3, f4⟩ := n3 y y1 y2
      rw [g1, g2, g3, g4, up_s]
      exact ⟨by omega, f1, f2, f3, f4⟩
  · by_cases e : i = yi
    · subst e
      rw [up_s] at hd
      obtain ⟨y, y1, y2, y3⟩ := n5 x hx hd
      obtain ⟨g1, g2, -⟩ := n2 y y1 y2
      exact ⟨yb + ct_ Q y, by have := ct_lt y2 y1; omega, g1, by rw [g2, y3]⟩
    · rw [up_n e] at hd
      obtain ⟨b, b1, b2, b3⟩ := B.2.1 i x (by omega) hx hd
      obtain ⟨g1, g2, -⟩ := n1 b b1
      exact ⟨b, by omega, by rw [g1, b2], by rw [g2, b3]⟩
  · rcases cs b hb with z | ⟨y, y1, y2, rfl⟩
    · obtain ⟨g1, g2, -⟩ := n1 b z
      have fb := (B.1 b z).1
      rcases cs b' hb' with z' | ⟨y', y1', y2', rfl⟩
      · obtain ⟨g1', g2', -⟩ := n1 b' z'
        rw [g1, g1'] at e1
        rw [g2, g2'] at e2
        exact B.2.2.1 b b' z z' e1 e2
      · obtain ⟨g1', g2', -⟩ := n2 y' y1' y2'
        rw [g1, g1'] at e1
        omega
    · obtain ⟨g1, g2, -⟩ := n2 y y1 y2
      rcases cs b' hb' with z' | ⟨y', y1', y2', rfl⟩
      · obtain ⟨g1', g2', -⟩ := n1 b' z'
        have fb := (B.1 b' z').1
        rw [g1, g1'] at e1
        omega
      · obtain ⟨g1', g2', -⟩ := n2 y' y1' y2'
        rw [g2, g2'] at e2
        rw [n4 y y' y1 y1' y2 y2' e2]
  · have split : ∀ D, D ≤ ct_ Q M → ct_ (fun b => decide (bi' b = i)) (yb + D) = ct_ (fun b => decide (bi' b = i)) yb + (if i = yi then D else 0) := by
      intro D
      induction D with
      | zero => intro _; split <;> rfl
      | succ D ih =>
        intro hD
        rw [show yb + (D + 1) = (yb + D) + 1 by omega, ct_, ih (by omega)]
        rcases cs (yb + D) (by omega) with z | ⟨y, y1, y2, e⟩
        · omega
        · have g1 := (n2 y y1 y2).1
          rw [← e] at g1
          rw [g1]
          by_cases ei : i = yi
          · rw [if_pos ei, if_pos ei, if_pos (decide_eq_true ei.symm)]
            omega
          · rw [if_neg ei, if_neg ei, if_neg (by rw [decide_eq_true_iff]; exact fun z => ei z.symm)]
    rw [split _ (Nat.le_refl _)]
    have old : ct_ (fun b => decide (bi' b = i)) yb = ct_ (fun b => decide (bi b = i)) yb := ct_ext yb (fun b hb => by rw [(n1 b hb).1])
    rw [old]
    by_cases ei : i = yi
    · subst ei
      rw [if_pos rfl, up_s, n6, ct_0 yb (fun b hb => ?_), Nat.zero_add]
      have := (B.1 b hb).1
      exact decide_eq_false (by omega)
    · rw [if_neg ei, up_n ei]
      exact B.2.2.2 i (by omega)
theorem gr_rest (S : SR q c) (R : RI q c yi ht io me sg et oi wi) (B : RB q c yi yb bi bm bv bl sg) (H : RH q c yb bi bm bv bl me li sg et) (Z : RS c yb bi bm bv me) (K : RK q yi yb bi bm bl sg oi wi)
    (C : RN q yi yb fc bi bm bl fs fe fl fi sg et oi wi px) (N : NB q c yi yb s M Q nm vv lv bi bm bi' bm' bv bl bv' bl') (T : ∀ k, k < cl → TF q c yi yb bi bm bv bl me sg oi wi px k (kp k) (ps k))
    (ho : yi = 0 → s = 0 ∧ o = 0) (ho2 : 0 < yi → o < yi ∧ sg o = pa_ q s ∧ 0 < s) (hs : s < sn_ q)
    (esg : sg' = up_ sg yi s) (eoi : oi' = up_ oi yi o) (ewi : wi' = up_ wi yi (if ow_ q s = s then yi else wi o)) (eet : et' = up_ et yi (if 0 < cc_ c s then ht else if yi = 0 then 0 else et o))
    (hcl : cl ≤ 8) (m1 : ∀ j, 512 ≤ j → j < ht → me' j = me j ∧ li' j = li j) (m2 : ∀ j, j < 512 → (ow_ q s = s → j < 48 * cl ∨ 48 * cl + 48 ≤ j) → me' j = me j) (hf : ow_ q s = s → 0 < yi → 0 < cl)
    (hP : P' ≤ nn_ q) (hLP : s = Lq_ q P')
    (hcap : ∀ y, y < M → Q y = true → bt (cp_ c s) (nm y) = true → me' (ht + hm_ c (8 * s + nm y)) = vv y ∧ (lt_ q (8 * s + nm y) ≠ 0 → li' (ht + hm_ c (8 * s + nm y)) = lv y))
    (hz : yi = 0 → ∀ y, y < M → Q y = true → bt (cp_ c 0) (nm y) = false → me' (hm_ c (nm y)) = vv y)
    (hk : ow_ q s = s → 0 < yi → ∀ b, b < yb → rc_ oi wi o (bi b) → lt_ q (8 * sg (bi b) + bm b) ≤ mk2_ q s → bl b = 1)
    (hpx : ∀ i x, i < yi → (px' i x ↔ px i x))
    (hnew : ∀ y, y < M → Q y = true → (bt (cp_ c s) (nm y) = false → lv y = 1 → me' (48 * cl + hm_ c (8 * s + nm y)) = vv y) ∧ (¬ px' yi (nm y) → (lv y = 1 ↔ lt_ q (8 * s + nm y) ≤ P')))
    (hold : ow_ q s ≠ s → ∀ b, b < yb → rc_ oi wi o (bi b) → (bt (cp_ c (sg (bi b))) (bm b) = false → bl b = 1 → me (48 * cl + hm_ c (8 * sg (bi b) + bm b)) = bv b) ∧ (¬ px' (bi b) (bm b) → (bl b = 1 ↔ lt_ q (8 * sg (bi b) + bm b) ≤ P'))) :
    RH q c (yb + ct_ Q M) bi' bm' bv' bl' me' li' sg' et' ∧ RS c (yb + ct_ Q M) bi' bm' bv' me' ∧ RK q (yi + 1) (yb + ct_ Q M) bi' bm' bl' sg' oi' wi' ∧ RN q (yi + 1) (yb + ct_ Q M) fc bi' bm' bl' fs fe fl fi sg' et' oi' wi' px' ∧
      (∀ k, k < cl → TF q c (yi + 1) (yb + ct_ Q M) bi' bm' bv' bl' me' sg' oi' wi' px' k (kp k) (ps k)) ∧ TF q c (yi + 1) (yb + ct_ Q M) bi' bm' bv' bl' me' sg' oi' wi' px' cl yi P' := by
  subst esg eoi ewi eet
  have cs : ∀ b, b < yb + ct_ Q M → b < yb ∨ ∃ y, y < M ∧ Q y = true ∧ b = yb + ct_ Q y := fun b hb => nb_cases N hb
  obtain ⟨n1, n2, n3, n4, n5, n6⟩ := N
  have w := ri_w R
  have w' : ∀ i j, i < yi → (rc_ (up_ oi yi o) (up_ wi yi (if ow_ q s = s then yi else wi o)) i j ↔ rc_ oi wi i j) := fun i j hi => rc_new w i hi
  have slot : ∀ k b, k < cl → b < yb → bt (cp_ c (sg (bi b))) (bm b) = false → me' (48 * k + hm_ c (8 * sg (bi b) + bm b)) = me (48 * k + hm_ c (8 * sg (bi b) + bm b)) := by
    intro k b hk hb hc
    obtain ⟨f1, f2, f3, -⟩ := B.1 b hb
    have := hm_slot S (ri_s R f1) f2 f3 hc
    exact m2 _ (by omega) (fun _ => Or.inl (by omega))
  refine ⟨fun b hb hc => ?_, fun b hb h0 hc => ?_, fun i i0 hi hw b hb hr hl => ?_, fun v v1 v2 => ?_, fun k hk => ?_, ?_⟩
  · rcases cs b hb with z | ⟨y, y1, y2, rfl⟩
    · obtain ⟨g1, g2, g3, g4⟩ := n1 b z
      have fb := (B.1 b z).1
      rw [g1, g2, up_n (show bi b ≠ yi by omega)] at hc
      rw [g1, g2, g3, g4, up_n (show bi b ≠ yi by omega), up_n (show bi b ≠ yi by omega)]
      obtain ⟨d1, d2, d3, d4, d5⟩ := ad_cap S R B z hc
      obtain ⟨e1, e2⟩ := m1 (et (bi b) + hm_ c (8 * sg (bi b) + bm b)) (by omega) (by omega)
      rw [e1, e2]
      exact H b z hc
    · obtain ⟨g1, g2, g3, g4⟩ := n2 y y1 y2
      obtain ⟨f1, f2, f3, f4⟩ := n3 y y1 y2
      rw [g1, g2, up_s] at hc
      rw [g1, g2, g3, g4, up_s, up_s]
      have := hm_cap S hs f1 f2 hc
      rw [if_pos (by omega)]
      exact hcap y y1 y2 hc
  · rcases cs b hb with z | ⟨y, y1, y2, rfl⟩
    · obtain ⟨g1, g2, g3, g4⟩ := n1 b z
      obtain ⟨f1, f2, f3, -⟩ := B.1 b z
      rw [g1] at h0
      rw [g2] at hc ⊢
      rw [g3, ← Z b z h0 hc]
      have hc' : bt (cp_ c (sg (bi b))) (bm b) = false := by rw [h0, R.1]; exact hc
      have := hm_slot S (ri_s R f1) f2 f3 hc'
      rw [h0, R.1, Nat.mul_zero, Nat.zero_add] at this
      exact m2 _ (by omega) (fun o1 => Or.inl (by have := hf o1 (by omega); omega))
    · obtain ⟨g1, g2, g3, g4⟩ := n2 y y1 y2
      rw [g1] at h0
      rw [g2] at hc ⊢
      rw [g3]
      exact hz h0 y y1 y2 hc
  · by_cases e : i = yi
    · subst e
      have h2 := ho2 i0
      rw [up_s] at hw hr hl
      have os : ow_ q s = s := by
        apply Classical.byContradiction
        intro z
        rw [if_neg z] at hw
        have := (rc_own w o h2.1).2.2
        omega
      rw [w' o _ h2.1] at hr
      have le := (rc_le w o h2.1 hr).1
      rcases cs b hb with z | ⟨y, y1, y2, rfl⟩
      · obtain ⟨g1, g2, g3, g4⟩ := n1 b z
        rw [g1] at hr le hl
        rw [g2, up_n (by omega)] at hl
        rw [g4]
        exact hk os i0 b z hr hl
      · have g1 := (n2 y y1 y2).1
        rw [g1] at le
        omega
    · have hi' : i < yi := by omega
      have ole := ri_oi R hi'
      rw [up_n e] at hw hr hl
      rw [w' _ _ (by omega)] at hr
      have le := (rc_le w (oi i) (by omega) hr).1
      rcases cs b hb with z | ⟨y, y1, y2, rfl⟩
      · obtain ⟨g1, g2, g3, g4⟩ := n1 b z
        rw [g1] at hr le hl
        rw [g2, up_n (by omega)] at hl
        rw [g4]
        exact K i i0 hi' hw b z hr hl
      · have g1 := (n2 y y1 y2).1
        rw [g1] at le
        omega
  · obtain ⟨c1, c2, c3, c4, c5, c6, c7⟩ := C v v1 v2
    rw [up_n (show fi v ≠ yi by omega), up_n (show fi v ≠ yi by omega)]
    refine ⟨c1, c2, by omega, c4, c5, c6, fun b hb hr hp hl => ?_⟩
    rw [w' _ _ c3] at hr
    have le := (rc_le w _ c3 hr).1
    rcases cs b hb with z | ⟨y, y1, y2, rfl⟩
    · obtain ⟨g1, g2, g3, g4⟩ := n1 b z
      rw [g1] at hr le hl hp
      rw [g2] at hp
      rw [g2, up_n (by omega)] at hl
      rw [g4]
      exact c7 b z hr (fun v => hp ((hpx _ _ (by omega)).mpr v)) hl
    · have g1 := (n2 y y1 y2).1
      rw [g1] at le
      omega
  · obtain ⟨t1, t2, t3, t4⟩ := T k hk
    refine ⟨by omega, t2, by rw [up_n (by omega)]; exact t3, fun b hb hr => ?_⟩
    rw [w' _ _ t1] at hr
    have le := (rc_le w _ t1 hr).1
    rcases cs b hb with z | ⟨y, y1, y2, rfl⟩
    · obtain ⟨g1, g2, g3, g4⟩ := n1 b z
      rw [g1] at hr le
      obtain ⟨t5, t6⟩ := t4 b z hr
      rw [g1, g2, g3, g4, up_n (show bi b ≠ yi by omega)]
      refine ⟨fun hc hl => ?_, fun hp => t6 (fun v => hp ((hpx _ _ (by omega)).mpr v))⟩
      rw [slot k b hk z hc]
      exact t5 hc hl
    · have g1 := (n2 y y1 y2).1
      rw [g1] at le
      omega
  · refine ⟨by omega, hP, by rw [up_s]; exact hLP, fun b hb hr => ?_⟩
    rcases cs b hb with z | ⟨y, y1, y2, rfl⟩
    · obtain ⟨g1, g2, g3, g4⟩ := n1 b z
      obtain ⟨f1, f2, f3, -⟩ := B.1 b z
      rw [g1] at hr
      rcases rc_it.mp hr with e | ⟨h0, hr2⟩
      · omega
      · rw [up_s] at h0 hr2
        have os : ow_ q s ≠ s := fun v => h0 (by rw [if_pos v])
        have h2 := ho2 (by omega)
        rw [w' _ _ h2.1] at hr2
        obtain ⟨t5, t6⟩ := hold os b z hr2
        rw [g1, g2, g3, g4, up_n (show bi b ≠ yi by omega)]
        refine ⟨fun hc hl => ?_, t6⟩
        have := hm_slot S (ri_s R f1) f2 f3 hc
        rw [m2 _ (by omega) (fun v => absurd v os)]
        exact t5 hc hl
    · obtain ⟨g1, g2, g3, g4⟩ := n2 y y1 y2
      rw [g1, g2, g3, g4, up_s]
      exact hnew y y1 y2
end
end
section
def sa_ (ss code : Int32) : Int32 := if ss = -1 then code else ss
def sb_ (ss fa line : Int32) : Int32 := if ss = -1 then line else fa
section
variable {q : QT} {c : CT} {ip ss fa : Int32} {cu pc tk ou ev ht cl fc : Nat} {sv sw fs fe : Nat → Nat} {me ot li : Nat → Int32}
theorem xw_fail {post : Int32 → SX → Prop} {code line : Int32} (h : post (-1) (XD q c ip (sa_ ss code) cu pc tk ou ev ht cl fc (sb_ ss fa line) sv sw me fs fe ot li)) : wpX_fail post (XD q c ip ss cu pc tk ou ev ht cl fc fa sv sw me fs fe ot li) code line := by
  by_cases z : ss = -1
  · unfold sa_ sb_ at h
    rw [if_pos z, if_pos z] at h
    exact br_t z (br_t z h)
  · unfold sa_ sb_ at h
    rw [if_neg z, if_neg z] at h
    exact br_f z (br_f z h)
theorem xw_take {post : SX → Prop} {k : Nat} {line : Int32} (hm : mT_ q ≤ 200) (htk : tk + k < 1000) (h1 : tk + k ≤ mT_ q → post (XD q c ip ss cu pc (tk + k) ou ev ht cl fc fa sv sw me fs fe ot li)) (h2 : mT_ q < tk + k → post (XD q c ip (sa_ ss 5) cu pc tk ou ev ht cl fc (sb_ ss fa line) sv sw me fs fe ot li)) : wpX_take post (XD q c ip ss cu pc tk ou ev ht cl fc fa sv sw me fs fe ot li) (nI k) line := by
  refine pk_le (tk + k) (mT_ q) (fun z => nm_r (nI_add _ _) (h1 z)) (fun z => ?_) (nI_add _ _) rfl (by omega) (by omega)
  exact xw_fail (h2 z)
theorem xw_l55 {yi : Nat} {io : Nat → Int32} {sg et oi wi : Nat → Nat} {post : Int32 → SX → Prop} {r m h j : Nat} (S : SR q c) (R : RI q c yi ht io me sg et oi wi) (hr : r < 192) (hrh : rh_ c r < 1000) (hri : ri_ c r = nI h) (h9 : et j + h < 1024) (hht : ht ≤ 1000) (hm4 : m < 100)
    (h4 : m = 4 → (li (et j + h) = 0 → post (-1) (XD q c ip (sa_ ss 1) cu pc tk ou ev ht cl fc (sb_ ss fa (nI cu)) sv sw me fs fe ot li))) (h3 : (m = 4 → li (et j + h) ≠ 0) → post (nI (et j + h)) (XD q c ip ss cu pc tk ou ev ht cl fc fa sv sw me fs fe ot li)) :
    ∀ i, i < yi → ac_ oi i j → ∀ t N, t + (hd_ c (sg i) - hd_ c (sg j)) = rh_ c r → rh_ c r - t < N → et j < 1000 → wX_locate_55 post (nI r) (nI m) 0 1 2 3 0 1 2 3 4 5 (-1) 48 512 (nI (mL_ q)) (nI (mT_ q)) (nI (mD_ q)) (nI (cm_ q)) (nI (nn_ q)) (nI (sp_ q)) (nI (sn_ q)) (nI (oc_ q)) ip ss (nI (cu)) (nI (pc)) (nI (tk)) (nI (ou)) (nI (ev)) (nI (ht)) (nI (cl)) (nI (fc)) fa (fun i => nI (kd_ q i)) (fun i => nI (ls_ q i)) (fun i => nI (oe_ q i)) (fun i => nI (od_ q i)) (fun i => nI (ar_ q i)) (fun i => nI (se_ q i)) (fun i => nI (ol_ q i)) (fun i => nI (pl_ q i)) (fun i => nI (sv i)) (fun i => nI (sw i)) (fun i => nI (pa_ q i)) (fun i => nI (ow_ q i)) (fun i => nI (sl_ q i)) (fun i => nI (lo_ q i)) (lx_ q) (an_ q) (vn_ q) (fun i => nI (lh_ q i)) (cp_ c) (fun i => nI (st_ c i)) (fun i => nI (nc_ c i)) (fun i => nI (cc_ c i)) (fun i => nI (hd_ c i)) (fun i => nI (lt_ q i)) (fun i => nI (hm_ c i)) (fun i => nI (rm_ c i)) (ri_ c) (fun i => nI (rh_ c i)) me (fun i => nI (fs i)) (fun i => nI (fe i)) ot li N (nI (et i)) (nI t) := by
  have w := ri_w R
  intro i
  induction i using Nat.strongRecOn with
  | _ i ih =>
    intro hi ha t N ht1 hN hej
    have vr : vp_in (nI r) 192 := vp_in_nI hr (by omega)
    by_cases e : i = j
    · subst e
      rw [Nat.sub_self, Nat.add_zero] at ht1
      subst ht1
      cases N with
      | zero => omega
      | succ N =>
        rw [wX_locate_55]
        refine And.intro vr (br_t ?_ ⟨vr, nm_r (e' := nI (et i + h)) ?_ ?_⟩)
        · rw [nI_clamp (n := r) (by omega)]; exact nI_le (Nat.le_refl _) (by omega)
        · rw [nI_clamp (n := r) (by omega), hri, nI_add]
        · refine pk_eq m 4 (fun m4 => ⟨vp_in_nI (by omega) (by omega), ?_⟩) (fun m4 => h3 (fun z => absurd z m4)) rfl rfl (by omega) (by omega)
          rw [nI_clamp (by omega)]
          exact br_c (fun z => xw_fail (h4 m4 z)) (fun z => h3 (fun _ => z))
    · have ha2 : ac_ oi (oi i) j := by
        rcases ac_it.mp ha with z | z
        · exact absurd z e
        · exact z
      have i0 : 0 < i := by
        apply Nat.pos_of_ne_zero
        intro z
        subst z
        have := ac_le w 0 hi ha
        omega
      obtain ⟨r1, r2, r3, r4, r5, r6, r7⟩ := R.2.2.2.1 i hi
      have lt := (r4 i0).2.1
      have LYi := (sr_l S r1).2.2.2.2
      rw [if_neg (by have := (r4 i0).1; omega)] at LYi
      have hdm := hd_ac (sr_f S) (fun s hs => sr_l S hs) _ (ri_s R (show oi i < yi by omega)) (ri_ac R _ (by omega) ha2)
      rw [r2] at hdm
      by_cases c0 : 0 < cc_ c (sg i)
      · rw [if_pos c0] at LYi
        obtain ⟨g1, g2, g3⟩ := r6 c0
        rw [if_neg (by omega)] at g3
        cases N with
        | zero => omega
        | succ N =>
          rw [wX_locate_55]
          refine And.intro vr (br_f ?_ ⟨vp_in_nI (by omega) (by omega), nm_r (e' := nI (et (oi i))) ?_ (nm_r (nI_1 t) ?_)⟩)
          · rw [nI_clamp (n := r) (by omega)]; exact nI_ge (by omega) (by omega)
          · rw [nI_clamp (by omega)]; exact g3
          · exact ih _ lt (by omega) ha2 (t + 1) N (by rw [r2]; omega) (by omega) hej
      · rw [if_neg c0] at LYi
        have g := r7 (by omega)
        rw [if_neg (by omega)] at g
        rw [g]
        exact ih _ lt (by omega) ha2 t N (by rw [r2]; omega) hN hej
theorem xw_loc {yi yb : Nat} {io bv bl : Nat → Int32} {bi bm sg et oi wi : Nat → Nat} {post : Int32 → SX → Prop} {r x cur b : Nat} (S : SR q c) (R : RI q c yi ht io me sg et oi wi) (B : RB q c yi yb bi bm bv bl sg) (hr : r < 4 * nn_ q) (hx : x < 8) (hoa : oa_ (kd_ q) (ar_ q) r = x + 1)
    (hcur : cur < yi) (hsg : sg cur = ls_ q (r / 4)) (hev : ev = et cur) (hb : b < yb) (hbm : bm b = x) (hac : ac_ oi cur (bi b)) (hfd : fd_ (dq2_ q) (pa_ q) (ls_ q (r / 4)) x = sg (bi b) + 1) (hht : ht ≤ 1000) (hcl : cl ≤ 8)
    (h5 : ax_ q (cp_ c) r (sg (bi b)) x = 5 → post (-1) (XD q c ip (sa_ ss 1) cu pc tk ou ev ht cl fc (sb_ ss fa (nI cu)) sv sw me fs fe ot li))
    (h2 : ax_ q (cp_ c) r (sg (bi b)) x = 2 → post (nI (48 * cl + hm_ c (8 * sg (bi b) + x))) (XD q c ip ss cu pc tk ou ev ht cl fc fa sv sw me fs fe ot li))
    (h3 : ax_ q (cp_ c) r (sg (bi b)) x = 3 → post (nI (et (bi b) + hm_ c (8 * sg (bi b) + x))) (XD q c ip ss cu pc tk ou ev ht cl fc fa sv sw me fs fe ot li))
    (h4 : ax_ q (cp_ c) r (sg (bi b)) x = 4 → (li (et (bi b) + hm_ c (8 * sg (bi b) + x)) = 0 → post (-1) (XD q c ip (sa_ ss 1) cu pc tk ou ev ht cl fc (sb_ ss fa (nI cu)) sv sw me fs fe ot li)) ∧ (li (et (bi b) + hm_ c (8 * sg (bi b) + x)) ≠ 0 → post (nI (et (bi b) + hm_ c (8 * sg (bi b) + x))) (XD q c ip ss cu pc tk ou ev ht cl fc fa sv sw me fs fe ot li))) :
    wpX_locate post (XD q c ip ss cu pc tk ou ev ht cl fc fa sv sw me fs fe ot li) (nI r) := by
  have hn := sr_n S
  have vr : vp_in (nI r) 192 := vp_in_nI (by omega) (by omega)
  obtain ⟨f1, f2, f3, f4⟩ := ((sr_c S).2.2 r hr).2 x hx hoa |>.2 (sg (bi b)) hfd
  have axl := ax_le q (cp_ c) r (sg (bi b)) x
  have b1 := (B.1 b hb).1
  have b3 := (B.1 b hb).2.2.1
  rw [hbm] at b3
  refine And.intro vr (nm_r (e' := nI (ax_ q (cp_ c) r (sg (bi b)) x)) (by rw [← f1]; exact ga_ rfl (by omega)) ?_)
  refine pk_eq (ax_ q (cp_ c) r (sg (bi b)) x) 5 (fun e5 => ⟨vr, ?_⟩) (fun e5 => ?_) rfl rfl (by omega) (by omega)
  · rw [nI_clamp (n := r) (by omega), f2 (by omega)]
    exact xw_fail (h5 e5)
  · have er := f3 (by omega)
    refine pk_eq (ax_ q (cp_ c) r (sg (bi b)) x) 2 (fun e2 => ⟨vr, ?_⟩) (fun e2 => ?_) rfl rfl (by omega) (by omega)
    · rw [nI_clamp (n := r) (by omega), er, show (48 : Int32) = nI 48 from rfl, pk_mul, nI_add]
      exact h2 e2
    · have hcap : bt (cp_ c (sg (bi b))) x = true := by
        cases hb : bt (cp_ c (sg (bi b))) x with
        | true => rfl
        | false =>
          unfold ax_ at e5 e2
          by_cases z : ow_ q (ls_ q (r / 4)) = ow_ q (sg (bi b)) ∧ r / 4 + 1 ≤ lt_ q (8 * sg (bi b) + x) ∧ ¬ (kd_ q (r / 4) = 0 ∧ r % 4 = 1)
          · rw [if_pos z] at e5; exact absurd rfl e5
          · rw [if_neg z, if_pos hb] at e2; exact absurd rfl e2
      have hc := hm_cap S (ri_s R b1) hx b3 hcap
      have r6 := (R.2.2.2.1 (bi b) b1).2.2.2.2.2.1 (by omega)
      have cn := cc_nc S (ri_s R b1)
      have bb := ly_b (sr_f S) (Nat.le_refl _) (fun s hs => sr_l S hs) (ls_ q (r / 4)) (by rw [← hsg]; exact ri_s R hcur)
      have sl := ri_s R hcur
      refine ⟨rh_ c r + 1, ?_⟩
      subst hev
      refine xw_l55 (j := bi b) (h := hm_ c (8 * sg (bi b) + x)) S R (by omega) (by omega) er (by omega) hht (by omega) (fun m4 z => (h4 m4).1 z) (fun z => ?_) cur hcur hac 0 (rh_ c r + 1) (by rw [hsg, f4]; omega) (by omega) (by omega)
      by_cases m4 : ax_ q (cp_ c) r (sg (bi b)) x = 4
      · exact (h4 m4).2 (z m4)
      · exact h3 (by
          have a0 : ax_ q (cp_ c) r (sg (bi b)) x = 5 ∨ ax_ q (cp_ c) r (sg (bi b)) x = 2 ∨ ax_ q (cp_ c) r (sg (bi b)) x = 3 ∨ ax_ q (cp_ c) r (sg (bi b)) x = 4 := by
            unfold ax_
            split
            · exact Or.inl rfl
            · split
              · exact Or.inr (Or.inl rfl)
              · split
                · exact Or.inr (Or.inr (Or.inl rfl))
                · split
                  · exact Or.inr (Or.inr (Or.inr rfl))
                  · exact Or.inr (Or.inr (Or.inl rfl))
          omega)
theorem xw_loc0 {post : Int32 → SX → Prop} {r x : Nat} (S : SR q c) (hr : r < 4 * nn_ q) (hx : x < 8) (hoa : oa_ (kd_ q) (ar_ q) r = x + 1) (hfd : fd_ (dq2_ q) (pa_ q) (ls_ q (r / 4)) x = 0) (h : post (-1) (XD q c ip (sa_ ss 2) cu pc tk ou ev ht cl fc (sb_ ss fa (nI cu)) sv sw me fs fe ot li)) : wpX_locate post (XD q c ip ss cu pc tk ou ev ht cl fc fa sv sw me fs fe ot li) (nI r) := by
  have hn := sr_n S
  have vr : vp_in (nI r) 192 := vp_in_nI (by omega) (by omega)
  obtain ⟨f1, f2⟩ := ((sr_c S).2.2 r hr).2 x hx hoa |>.1 hfd
  refine And.intro vr (nm_r (e' := nI 5) (by rw [← f1]; exact ga_ rfl (by omega)) (br_t rfl ⟨vr, ?_⟩))
  rw [nI_clamp (n := r) (by omega), f2]
  exact xw_fail h
end
section
variable {q : QT} {yp yu yo yb yi yf yl : Nat} {yc yn yr yt : Int32} {bi bm fl fi cx ci : Nat → Nat} {bv bl io yx : Nat → Int32}
theorem yw_stop {post : SY → Prop} {code line : Int32} (h : post (YD q yp yc yu yo yb yi yf yl yn (sa_ yr code) (sb_ yr yt line) bi bm bv bl io fl fi cx ci yx)) : wpY_stop post (YD q yp yc yu yo yb yi yf yl yn yr yt bi bm bv bl io fl fi cx ci yx) code line := by
  by_cases z : yr = -1
  · unfold sa_ sb_ at h
    rw [if_pos z, if_pos z] at h
    exact br_t z h
  · unfold sa_ sb_ at h
    rw [if_neg z, if_neg z] at h
    exact br_f z h
theorem yw_take {post : Int32 → SY → Prop} {k : Nat} {line : Int32} (hr : yr = -1) (hm : mT_ q ≤ 200) (htk : yu + k < 1000) (h1 : yu + k ≤ mT_ q → post 1 (YD q yp yc (yu + k) yo yb yi yf yl yn yr yt bi bm bv bl io fl fi cx ci yx)) (h2 : mT_ q < yu + k → post 0 (YD q yp yc yu yo yb yi yf yl yn 5 line bi bm bv bl io fl fi cx ci yx)) : wpY_take post (YD q yp yc yu yo yb yi yf yl yn yr yt bi bm bv bl io fl fi cx ci yx) (nI k) line := by
  subst hr
  refine pk_le (yu + k) (mT_ q) (fun z => nm_r (nI_add _ _) (br_t rfl (h1 z))) (fun z => ?_) (nI_add _ _) rfl (by omega) (by omega)
  exact yw_stop (br_f (by decide) (h2 z))
theorem yw_find2 {post : Int32 → Prop} {i x : Nat} (hi : i < 1000) (hx : x < 1000) (hb : yb ≤ 256) (hbb : ∀ b, b < yb → bi b < 1000 ∧ bm b < 1000) :
    ∀ m b N, b + m = yb → m < N → (∀ b', b ≤ b' → b' < yb → bi b' = i → bm b' = x → (∀ a, b ≤ a → a < b' → ¬ (bi a = i ∧ bm a = x)) → post (nI b')) → ((∀ b', b ≤ b' → b' < yb → ¬ (bi b' = i ∧ bm b' = x)) → post (-1)) → wY_find_2 post (nI i) (nI x) (nI (mL_ q)) (nI (mT_ q)) (nI (mD_ q)) (nI (nn_ q)) (nI (yp)) yc (nI (yu)) (nI (yo)) (nI (yb)) (nI (yi)) (nI (yf)) (nI (yl)) yn yr yt (nI (cm_ q)) (fun i => nI (kd_ q i)) (fun i => nI (ar_ q (4 * i + 1))) (fun i => nI (ar_ q (4 * i + 2))) (fun i => nI (ar_ q (4 * i + 3))) (fun i => nI (bi i)) (fun i => nI (bm i)) bv bl io (fun i => nI (fl i)) (fun i => nI (fi i)) (fun i => nI (cx i)) (fun i => nI (ci i)) yx N (nI b) := by
  intro m
  induction m with
  | zero =>
    intro b N hm hN h1 h0
    cases N with
    | zero => omega
    | succ N =>
      rw [wY_find_2]
      exact br_t (nI_le (by omega) (by omega)) (h0 (fun b' h2 h3 => by omega))
  | succ m ih =>
    intro b N hm hN h1 h0
    cases N with
    | zero => omega
    | succ N =>
      rw [wY_find_2]
      have vb : vp_in (nI b) 256 := vp_in_nI (by omega) (by omega)
      obtain ⟨c1, c2⟩ := hbb b (by omega)
      have go : ¬ (bi b = i ∧ bm b = x) → wY_find_2 post (nI i) (nI x) (nI (mL_ q)) (nI (mT_ q)) (nI (mD_ q)) (nI (nn_ q)) (nI (yp)) yc (nI (yu)) (nI (yo)) (nI (yb)) (nI (yi)) (nI (yf)) (nI (yl)) yn yr yt (nI (cm_ q)) (fun i => nI (kd_ q i)) (fun i => nI (ar_ q (4 * i + 1))) (fun i => nI (ar_ q (4 * i + 2))) (fun i => nI (ar_ q (4 * i + 3))) (fun i => nI (bi i)) (fun i => nI (bm i)) bv bl io (fun i => nI (fl i)) (fun i => nI (fi i)) (fun i => nI (cx i)) (fun i => nI (ci i)) yx N (nI (b + 1)) := by
        intro hno
        refine ih (b + 1) N (by omega) (by omega) (fun b' a1 a2 a3 a4 a5 => h1 b' (by omega) a2 a3 a4 (fun a a6 a7 => ?_)) (fun w => h0 (fun b' a1 a2 => ?_))
        · by_cases e : a = b
          · subst e; exact hno
          · exact a5 a (by omega) a7
        · by_cases e : b' = b
          · subst e; exact hno
          · exact w b' (by omega) a2
      refine br_f (nI_ge (by omega) (by omega)) ⟨vb, ?_⟩
      refine pk_eq (bi b) i (fun e1 => ⟨vb, ?_⟩) (fun e1 => nm_r (nI_1 b) (go (fun z => e1 z.1))) (ga_ rfl (by omega)) rfl (by omega) (by omega)
      refine pk_eq (bm b) x (fun e2 => ?_) (fun e2 => nm_r (nI_1 b) (go (fun z => e2 z.2))) (ga_ rfl (by omega)) rfl (by omega) (by omega)
      exact h1 b (Nat.le_refl _) (by omega) e1 e2 (fun a a1 a2 => by omega)
theorem yw_find {post : Int32 → Prop} {i x : Nat} (hi : i < 1000) (hx : x < 1000) (hb : yb ≤ 256) (hbb : ∀ b, b < yb → bi b < 1000 ∧ bm b < 1000)
    (h1 : ∀ b, b < yb → bi b = i → bm b = x → (∀ a, a < b → ¬ (bi a = i ∧ bm a = x)) → post (nI b)) (h0 : (∀ b, b < yb → ¬ (bi b = i ∧ bm b = x)) → post (-1)) : wpY_find post (YD q yp yc yu yo yb yi yf yl yn yr yt bi bm bv bl io fl fi cx ci yx) (nI i) (nI x) :=
  ⟨yb + 1, yw_find2 hi hx hb hbb yb 0 (yb + 1) (by omega) (by omega) (fun b _ a2 a3 a4 a5 => h1 b a2 a3 a4 (fun a ha => a5 a (by omega) ha)) (fun w => h0 (fun b hb => w b (by omega) hb))⟩
theorem yw_out {post : Int32 → Prop} {i : Nat} (hi : i < yi) (hy : yi ≤ 512) (h : post (io i)) : wpY_outerOf post (YD q yp yc yu yo yb yi yf yl yn yr yt bi bm bv bl io fl fi cx ci yx) (nI i) := by
  refine br_f (nI_pos (by omega)) (br_t (nI_lt hi (by omega)) ⟨vp_in_nI (by omega) (by omega), ?_⟩)
  rw [nI_clamp (by omega)]
  exact h
theorem yw_lk7 {c : CT} {ht : Nat} {me : Nat → Int32} {sg et oi wi : Nat → Nat} {post : Int32 → SY → Prop} {x : Nat} (S : SR q c) (R : RI q c yi ht io me sg et oi wi) (B : RB q c yi yb bi bm bv bl sg) (hx : x < 8) (hb : yb ≤ 256) (hy : yi ≤ 450) :
    ∀ i, i < yi → ∀ t N, i + t ≤ 500 → i + 1 < N → (fd_ (dq2_ q) (pa_ q) (sg i) x = 0 → post (-1) (YD q yp yc yu yo yb yi yf yl yn (sa_ yr 2) (sb_ yr yt (nI yp)) bi bm bv bl io fl fi cx ci yx)) →
    (∀ b, b < yb → bm b = x → ac_ oi i (bi b) → fd_ (dq2_ q) (pa_ q) (sg i) x = sg (bi b) + 1 → (bl b = 0 → post (-1) (YD q yp yc yu yo yb yi yf yl yn (sa_ yr 1) (sb_ yr yt (nI yp)) bi bm bv bl io fl fi cx ci yx)) ∧ (bl b ≠ 0 → post (nI b) (YD q yp yc yu yo yb yi yf yl yn yr yt bi bm bv bl io fl fi cx ci yx))) →
    wY_lookup_7 post (nI x) N (nI i) (nI t) (nI (mL_ q)) (nI (mT_ q)) (nI (mD_ q)) (nI (nn_ q)) (nI (yp)) yc (nI (yu)) (nI (yo)) (nI (yb)) (nI (yi)) (nI (yf)) (nI (yl)) yn yr yt (nI (cm_ q)) (fun i => nI (kd_ q i)) (fun i => nI (ar_ q (4 * i + 1))) (fun i => nI (ar_ q (4 * i + 2))) (fun i => nI (ar_ q (4 * i + 3))) (fun i => nI (bi i)) (fun i => nI (bm i)) bv bl io (fun i => nI (fl i)) (fun i => nI (fi i)) (fun i => nI (cx i)) (fun i => nI (ci i)) yx := by
  have hbb : ∀ b, b < yb → bi b < 1000 ∧ bm b < 1000 := fun b h => ⟨by have := (B.1 b h).1; omega, by have := (B.1 b h).2.1; omega⟩
  intro i
  induction i using Nat.strongRecOn with
  | _ i ih =>
    intro hi t N ht1 hN h0 h1
    cases N with
    | zero => omega
    | succ N =>
      have si := ri_s R hi
      have fit := fd_it (db := dq2_ q) (sr_w S) (x := x) si
      rw [wY_lookup_7]
      refine br_f (nI_ge (b := 512) (by omega) (by decide)) (br_f (nI_pos (by omega)) ?_)
      refine yw_find (by omega) (by omega) hb hbb (fun b b1 b2 b3 _ => br_f (nI_pos (by omega)) ⟨vp_in_nI (by omega) (by omega), ?_⟩) (fun hno => br_t (by decide) ?_)
      · have hd : dq2_ q (sg i) x = true := by
          have := (B.1 b b1).2.2.1
          rw [b2, b3] at this
          exact this
        rw [if_pos hd] at fit
        have hh := h1 b b1 b3 (by rw [b2]; exact ac_self _ _) (by rw [fit, b2])
        have vb : vp_in (nI b) 256 := vp_in_nI (by omega) (by omega)
        rw [nI_clamp (by omega)]
        refine br_c (fun z => ?_) (fun z => ?_)
        · refine yw_stop (br_f (nI_pos (by omega)) ⟨vb, ?_⟩)
          rw [nI_clamp (by omega)]
          exact br_t z (hh.1 z)
        · refine br_f (nI_pos (by omega)) ⟨vb, ?_⟩
          rw [nI_clamp (by omega)]
          exact br_f z (hh.2 z)
      · have hd : ¬ dq2_ q (sg i) x = true := by
          intro z
          obtain ⟨b, b1, b2, b3⟩ := B.2.1 i x hi hx z
          exact hno b b1 ⟨b2, b3⟩
        rw [if_neg hd] at fit
        obtain ⟨r1, r2, r3, r4, r5, r6, r7⟩ := R.2.2.2.1 i hi
        refine br_t (by decide) (yw_out hi (by omega) (nm_r (nI_1 t) ?_))
        rcases Nat.eq_zero_or_pos i with z | z
        · have s0 : sg i = 0 := by rw [z]; exact R.1
          rw [if_pos s0] at fit
          rw [r5 z]
          cases N with
          | zero => omega
          | succ N =>
            rw [wY_lookup_7]
            refine br_f (nI_ge (b := 512) (by omega) (by decide)) (br_t (by decide) ?_)
            exact yw_stop (h0 fit)
        · have g := r4 z
          rw [if_neg (by omega)] at fit
          rw [g.2.2.2]
          refine ih _ g.2.1 (by omega) (t + 1) N (by omega) (by omega) (fun e => h0 (by rw [fit, ← r2]; exact e)) (fun b b1 b2 b3 b4 => ?_)
          exact h1 b b1 b2 (ac_it.mpr (Or.inr b3)) (by rw [fit, ← r2]; exact b4)
theorem yw_set {post : SY → Prop} {b : Nat} {v : Int32} (hb : b < 256) (h : post (YD q yp yc yu yo yb yi yf yl yn yr yt bi bm (upd bv b v) (upd bl b 1) io fl fi cx ci yx)) : wpY_set post (YD q yp yc yu yo yb yi yf yl yn yr yt bi bm bv bl io fl fi cx ci yx) (nI b) v := by
  have vb : vp_in (nI b) 256 := vp_in_nI hb (by omega)
  refine br_f (nI_pos (by omega)) ⟨vb, nm_r (ub_ (by omega)) ⟨vb, nm_r (e' := upd bl b 1) ?_ h⟩⟩
  rw [nI_clamp (by omega)]
  rfl
theorem yw_make {post : SY → Prop} {line cur : Nat} (hf : yf < 511) (hc : yc = nI cur) (h : post (YD q yp yc yu yo yb yi (yf + 1) yl yn yr yt bi bm bv bl io (up_ fl (yf + 1) line) (up_ fi (yf + 1) cur) cx ci yx)) : wpY_make post (YD q yp yc yu yo yb yi yf yl yn yr yt bi bm bv bl io fl fi cx ci yx) (nI line) := by
  subst hc
  have vb : vp_in (nI (yf + 1)) 512 := vp_in_nI (by omega) (by omega)
  exact br_f (nI_ge (b := 511) hf (by decide)) (nm_r (nI_1 yf) ⟨vb, nm_r (ug_ _ (by omega)) ⟨vb, nm_r (ug_ _ (by omega)) h⟩⟩)
theorem yw_inst {post : SY → Prop} {o : Int32} (hy : yi < 512) (h : post (YD q yp (nI yi) yu yo yb (yi + 1) yf yl yn yr yt bi bm bv bl (upd io yi o) fl fi cx ci yx)) : wpY_instance post (YD q yp yc yu yo yb yi yf yl yn yr yt bi bm bv bl io fl fi cx ci yx) o :=
  br_f (nI_ge (b := 512) hy (by decide)) ⟨vp_in_nI hy (by omega), nm_r (ub_ (by omega)) (nm_r (nI_1 yi) h)⟩
theorem yw_bind {post : SY → Prop} {x cur : Nat} {v l : Int32} (hb : yb < 256) (hc : yc = nI cur) (hl : vp_nar .boolean l = l) (h : post (YD q yp yc yu yo (yb + 1) yi yf yl yn yr yt (up_ bi yb cur) (up_ bm yb x) (upd bv yb v) (upd bl yb l) io fl fi cx ci yx)) : wpY_bind post (YD q yp yc yu yo yb yi yf yl yn yr yt bi bm bv bl io fl fi cx ci yx) (nI x) v l := by
  subst hc
  have vb : vp_in (nI yb) 256 := vp_in_nI hb (by omega)
  refine br_t (nI_lt (b := 256) hb (by decide)) ⟨vb, nm_r (ug_ _ (by omega)) ⟨vb, nm_r (ug_ _ (by omega)) ⟨vb, nm_r (ub_ (by omega)) ⟨vb, nm_r (e' := upd bl yb l) ?_ (nm_r (nI_1 yb) h)⟩⟩⟩⟩
  rw [nI_clamp (by omega), hl]
end
end
section
def RR (q : QT) (c : CT) (ev ht cl fc : Nat) (sv sw : Nat → Nat) (me : Nat → Int32) (fs fe : Nat → Nat) (li : Nat → Int32) (cur yb yi : Nat) (bi bm : Nat → Nat) (bv bl io : Nat → Int32) (fl fi cx ci sg et oi wi kp ps : Nat → Nat) (px : Nat → Nat → Prop) : Prop :=
  RI q c yi ht io me sg et oi wi ∧ RB q c yi yb bi bm bv bl sg ∧ RH q c yb bi bm bv bl me li sg et ∧ RS c yb bi bm bv me ∧ RK q yi yb bi bm bl sg oi wi ∧ RN q yi yb fc bi bm bl fs fe fl fi sg et oi wi px ∧ RV cl kp ps ci cx sv sw et wi ∧
  (∀ k, k ≤ cl → TF q c yi yb bi bm bv bl me sg oi wi px k (kp k) (ps k)) ∧ kp cl = cur ∧ ev = et cur ∧ cl ≤ 8 ∧ yb ≤ 250 ∧ yi ≤ 450 ∧ ht ≤ 1000 ∧ 512 ≤ ht ∧ 0 < yi ∧ (0 < cc_ c 0 → et 0 = 512)
section
variable {q : QT} {c : CT} {ip ss fa : Int32} {cu pc tk ou ev ht cl fc yp cur yb yi : Nat} {sv sw fs fe bi bm fl fi cx ci sg et oi wi kp ps : Nat → Nat} {me ot li bv bl io yx : Nat → Int32} {px : Nat → Nat → Prop}
theorem rr_i (W : (RR q c ev ht cl fc sv sw me fs fe li cur yb yi bi bm bv bl io fl fi cx ci sg et oi wi kp ps px)) : RI q c yi ht io me sg et oi wi := W.1
theorem rr_b (W : (RR q c ev ht cl fc sv sw me fs fe li cur yb yi bi bm bv bl io fl fi cx ci sg et oi wi kp ps px)) : RB q c yi yb bi bm bv bl sg := W.2.1
theorem rr_h (W : (RR q c ev ht cl fc sv sw me fs fe li cur yb yi bi bm bv bl io fl fi cx ci sg et oi wi kp ps px)) : RH q c yb bi bm bv bl me li sg et := W.2.2.1
theorem rr_s (W : (RR q c ev ht cl fc sv sw me fs fe li cur yb yi bi bm bv bl io fl fi cx ci sg et oi wi kp ps px)) : RS c yb bi bm bv me := W.2.2.2.1
theorem rr_k (W : (RR q c ev ht cl fc sv sw me fs fe li cur yb yi bi bm bv bl io fl fi cx ci sg et oi wi kp ps px)) : RK q yi yb bi bm bl sg oi wi := W.2.2.2.2.1
theorem rr_n (W : (RR q c ev ht cl fc sv sw me fs fe li cur yb yi bi bm bv bl io fl fi cx ci sg et oi wi kp ps px)) : RN q yi yb fc bi bm bl fs fe fl fi sg et oi wi px := W.2.2.2.2.2.1
theorem rr_v (W : (RR q c ev ht cl fc sv sw me fs fe li cur yb yi bi bm bv bl io fl fi cx ci sg et oi wi kp ps px)) : RV cl kp ps ci cx sv sw et wi := W.2.2.2.2.2.2.1
theorem rr_t (W : (RR q c ev ht cl fc sv sw me fs fe li cur yb yi bi bm bv bl io fl fi cx ci sg et oi wi kp ps px)) : ∀ k, k ≤ cl → TF q c yi yb bi bm bv bl me sg oi wi px k (kp k) (ps k) := W.2.2.2.2.2.2.2.1
theorem rr_c (W : (RR q c ev ht cl fc sv sw me fs fe li cur yb yi bi bm bv bl io fl fi cx ci sg et oi wi kp ps px)) : kp cl = cur := W.2.2.2.2.2.2.2.2.1
theorem rr_e (W : (RR q c ev ht cl fc sv sw me fs fe li cur yb yi bi bm bv bl io fl fi cx ci sg et oi wi kp ps px)) : ev = et cur := W.2.2.2.2.2.2.2.2.2.1
theorem rr_z (W : (RR q c ev ht cl fc sv sw me fs fe li cur yb yi bi bm bv bl io fl fi cx ci sg et oi wi kp ps px)) : cl ≤ 8 ∧ yb ≤ 250 ∧ yi ≤ 450 ∧ ht ≤ 1000 ∧ 512 ≤ ht ∧ 0 < yi ∧ (0 < cc_ c 0 → et 0 = 512) := W.2.2.2.2.2.2.2.2.2.2
theorem rr_top (W : (RR q c ev ht cl fc sv sw me fs fe li cur yb yi bi bm bv bl io fl fi cx ci sg et oi wi kp ps px)) : TF q c yi yb bi bm bv bl me sg oi wi px cl cur (ps cl) := by
  have := rr_t W cl (Nat.le_refl _)
  rw [rr_c W] at this
  exact this
theorem ri_ex (R : RI q c yi ht io me sg et oi wi) {t : Nat} : ∀ i, i < yi → ac_ (pa_ q) (sg i) t → ∃ j, ac_ oi i j ∧ sg j = t := by
  intro i
  induction i using Nat.strongRecOn with
  | _ i ih =>
    intro hi ha
    rcases ac_it.mp ha with e | e
    · exact ⟨i, ac_self _ _, e⟩
    · obtain ⟨r1, r2, r3, r4, -⟩ := R.2.2.2.1 i hi
      rcases Nat.eq_zero_or_pos i with z | z
      · refine ⟨i, ac_self _ _, ?_⟩
        have s0 : sg i = 0 := by rw [z]; exact R.1
        have key : ∀ k, ip_ (pa_ q) k 0 = 0 := by
          intro k
          have p0 : pa_ q 0 = 0 := by rw [← s0, ← r2, z, R.2.1]
          induction k with
          | zero => rfl
          | succ k ih => show ip_ (pa_ q) k (pa_ q 0) = 0; rw [p0]; exact ih
        obtain ⟨k, hk⟩ := ha
        rw [s0, key] at hk
        rw [s0, hk]
      · rw [← r2] at e
        obtain ⟨j, j1, j2⟩ := ih _ (r4 z).2.1 (by have := (r4 z).2.1; omega) e
        exact ⟨j, ac_it.mpr (Or.inr j1), j2⟩
theorem bi_ex (S : SR q c) (R : RI q c yi ht io me sg et oi wi) (B : RB q c yi yb bi bm bv bl sg) {i x t : Nat} (hi : i < yi) (hx : x < 8) (hf : fd_ (dq2_ q) (pa_ q) (sg i) x = t + 1) : ∃ b, b < yb ∧ bm b = x ∧ ac_ oi i (bi b) ∧ sg (bi b) = t := by
  obtain ⟨h1, h2⟩ := (fd_le (db := dq2_ q) (sr_w S) (x := x) (sg i) (ri_s R hi)).2 t hf
  obtain ⟨j, j1, j2⟩ := ri_ex R i hi h2
  have jl := ac_le (ri_w R) i hi j1
  obtain ⟨b, b1, b2, b3⟩ := B.2.1 j x (by omega) hx (by rw [j2]; exact h1)
  exact ⟨b, b1, b3, by rw [b2]; exact j1, by rw [b2]; exact j2⟩
theorem lk_ (S : SR q c) (W : (RR q c ev ht cl fc sv sw me fs fe li cur yb yi bi bm bv bl io fl fi cx ci sg et oi wi kp ps px)) {r x : Nat} (hr : r < 4 * nn_ q) (hps : ps cl = r / 4) (hcu : cu = r / 4) (hyp : yp = r / 4) (hx : x < 8) (hoa : oa_ (kd_ q) (ar_ q) r = x + 1) (hnd : ¬ (kd_ q (r / 4) = 0 ∧ r % 4 = 1)) (hpx : ∀ i x, ¬ px i x) :
    (∃ code : Int32, (code = 1 ∨ code = 2) ∧ (∀ post, post (-1) (XD q c ip (sa_ ss code) cu pc tk ou ev ht cl fc (sb_ ss fa (nI (r / 4))) sv sw me fs fe ot li) → wpX_locate post (XD q c ip ss cu pc tk ou ev ht cl fc fa sv sw me fs fe ot li) (nI r)) ∧ (∀ post, post (-1) (YD q yp (nI cur) tk ou yb yi fc cl ip (sa_ ss code) (sb_ ss fa (nI (r / 4))) bi bm bv bl io fl fi cx ci yx) → wpY_lookup post (YD q yp (nI cur) tk ou yb yi fc cl ip ss fa bi bm bv bl io fl fi cx ci yx) (nI x))) ∨
    (∃ a b, b < yb ∧ bl b = 1 ∧ bm b = x ∧ AD c cl cur bi bm sg et oi wi a b ∧ a < 1024 ∧ me a = bv b ∧ (∀ post, post (nI a) (XD q c ip ss cu pc tk ou ev ht cl fc fa sv sw me fs fe ot li) → wpX_locate post (XD q c ip ss cu pc tk ou ev ht cl fc fa sv sw me fs fe ot li) (nI r)) ∧ (∀ post, post (nI b) (YD q yp (nI cur) tk ou yb yi fc cl ip ss fa bi bm bv bl io fl fi cx ci yx) → wpY_lookup post (YD q yp (nI cur) tk ou yb yi fc cl ip ss fa bi bm bv bl io fl fi cx ci yx) (nI x))) := by
  have R := rr_i W
  have B := rr_b W
  obtain ⟨z1, z2, z3, z4, z5⟩ := rr_z W
  obtain ⟨t1, t2, t3, t4⟩ := rr_top W
  have hl : Lq_ q (r / 4) = ls_ q (r / 4) := (ls_lt (sr_f S) (by omega)).2
  have hls := (ls_lt (sr_f S) (i := r / 4) (by omega)).1
  rw [hps, hl] at t3
  have w := sr_w S
  subst hyp
  subst hcu
  by_cases f0 : fd_ (dq2_ q) (pa_ q) (ls_ q (r / 4)) x = 0
  · refine Or.inl ⟨2, Or.inr rfl, fun post h => xw_loc0 S hr hx hoa f0 h, fun post h => ⟨500, yw_lk7 S R B hx (by omega) z3 cur t1 0 500 (by omega) (by omega) (fun _ => h) (fun b b1 b2 b3 b4 => ?_)⟩⟩
    rw [t3, f0] at b4
    omega
  · obtain ⟨t, htt⟩ : ∃ t, fd_ (dq2_ q) (pa_ q) (ls_ q (r / 4)) x = t + 1 := ⟨fd_ (dq2_ q) (pa_ q) (ls_ q (r / 4)) x - 1, by omega⟩
    obtain ⟨b, b1, b2, b3, b4⟩ := bi_ex S R B t1 hx (by rw [t3]; exact htt)
    have bi1 := (B.1 b b1).1
    have bd := (B.1 b b1).2.2.1
    have bl01 := (B.1 b b1).2.2.2.1
    have hss := ri_s R bi1
    rw [← b4] at htt
    have Y0 : bl b = 0 → ∀ post, post (-1) (YD q (r / 4) (nI cur) tk ou yb yi fc cl ip (sa_ ss 1) (sb_ ss fa (nI (r / 4))) bi bm bv bl io fl fi cx ci yx) → wpY_lookup post (YD q (r / 4) (nI cur) tk ou yb yi fc cl ip ss fa bi bm bv bl io fl fi cx ci yx) (nI x) := by
      intro hb0 post h
      refine ⟨500, yw_lk7 S R B hx (by omega) z3 cur t1 0 500 (by omega) (by omega) (fun z => ?_) (fun b' c1 c2 c3 c4 => ?_)⟩
      · rw [t3, htt] at z; omega
      · rw [t3, htt] at c4
        have e1 : bi b' = bi b := ri_inj S R t1 c3 b3 (by omega)
        have e2 : b' = b := B.2.2.1 b' b c1 b1 e1 (by rw [c2, b2])
        subst e2
        exact ⟨fun _ => h, fun z => absurd hb0 z⟩
    have Y1 : bl b = 1 → ∀ post, post (nI b) (YD q (r / 4) (nI cur) tk ou yb yi fc cl ip ss fa bi bm bv bl io fl fi cx ci yx) → wpY_lookup post (YD q (r / 4) (nI cur) tk ou yb yi fc cl ip ss fa bi bm bv bl io fl fi cx ci yx) (nI x) := by
      intro hb0 post h
      refine ⟨500, yw_lk7 S R B hx (by omega) z3 cur t1 0 500 (by omega) (by omega) (fun z => ?_) (fun b' c1 c2 c3 c4 => ?_)⟩
      · rw [t3, htt] at z; omega
      · rw [t3, htt] at c4
        have e1 : bi b' = bi b := ri_inj S R t1 c3 b3 (by omega)
        have e2 : b' = b := B.2.2.1 b' b c1 b1 e1 (by rw [c2, b2])
        subst e2
        refine ⟨fun z => ?_, fun _ => h⟩
        rw [hb0] at z
        exact absurd z (by decide)
    have axx : ax_ q (cp_ c) r (sg (bi b)) x = if ow_ q (ls_ q (r / 4)) = ow_ q (sg (bi b)) ∧ r / 4 + 1 ≤ lt_ q (8 * sg (bi b) + x) ∧ ¬ (kd_ q (r / 4) = 0 ∧ r % 4 = 1) then 5
      else if bt (cp_ c (sg (bi b))) x = false then 2 else if ow_ q (ls_ q (r / 4)) = ow_ q (sg (bi b)) then 3
      else if md_ (kd_ q) (sl_ q) (pa_ q) (ow_ q) (ow_ q (ls_ q (r / 4))) (ow_ q (sg (bi b))) + 1 ≤ lt_ q (8 * sg (bi b) + x) then 4 else 3 := rfl
    have hev := rr_e W
    by_cases so : ow_ q (ls_ q (r / 4)) = ow_ q (sg (bi b))
    · have rcb : rc_ oi wi cur (bi b) := ri_rcj S R t1 b3 (by rw [t3]; exact so.symm)
      obtain ⟨t5, t6⟩ := t4 b b1 rcb
      have t6 := t6 (hpx _ _)
      rw [hps, b2] at t6
      rw [b2] at t5
      by_cases dl : r / 4 + 1 ≤ lt_ q (8 * sg (bi b) + x)
      · rw [if_pos ⟨so, dl, hnd⟩] at axx
        have b0 : bl b = 0 := by
          rcases bl01 with z | z
          · exact z
          · have := t6.mp z; omega
        refine Or.inl ⟨1, Or.inl rfl, fun post h => ?_, Y0 b0⟩
        exact xw_loc S R B hr hx hoa t1 t3 hev b1 b2 b3 htt z4 z1 (fun _ => h) (fun z => by omega) (fun z => by omega) (fun z => by omega)
      · rw [if_neg (fun z => dl z.2.1)] at axx
        have b0 : bl b = 1 := t6.mpr (by omega)
        by_cases cpt : bt (cp_ c (sg (bi b))) x = false
        · rw [if_pos cpt] at axx
          have hsl := hm_slot S hss hx (by rw [← b2]; exact bd) cpt
          refine Or.inr ⟨48 * cl + hm_ c (8 * sg (bi b) + x), b, b1, b0, b2, Or.inr ⟨by rw [b2]; exact cpt, rcb, by rw [b2]⟩, by omega, t5 cpt b0, fun post h => ?_, Y1 b0⟩
          exact xw_loc S R B hr hx hoa t1 t3 hev b1 b2 b3 htt z4 z1 (fun z => by omega) (fun _ => h) (fun z => by omega) (fun z => by omega)
        · rw [if_neg cpt, if_pos so] at axx
          have cpt' : bt (cp_ c (sg (bi b))) (bm b) = true := by
            rw [b2]
            cases hb : bt (cp_ c (sg (bi b))) x with
            | true => rfl
            | false => exact absurd hb cpt
          obtain ⟨d1, d2, d3, d4, d5⟩ := ad_cap S R B b1 cpt'
          have hh := (rr_h W b b1 cpt').1
          rw [b2] at d2 d3 hh
          refine Or.inr ⟨et (bi b) + hm_ c (8 * sg (bi b) + x), b, b1, b0, b2, Or.inl ⟨cpt', by rw [b2]⟩, by omega, hh, fun post h => ?_, Y1 b0⟩
          exact xw_loc S R B hr hx hoa t1 t3 hev b1 b2 b3 htt z4 z1 (fun z => by omega) (fun z => by omega) (fun _ => h) (fun z => by omega)
    · rw [if_neg (fun z => so z.1)] at axx
      have cpt : bt (cp_ c (sg (bi b))) x = true := ((sr_c S).1 (sg (bi b)) x hx).mpr ⟨r, hr, hoa, htt, fun z => so z.symm⟩
      have cpt' : bt (cp_ c (sg (bi b))) (bm b) = true := by rw [b2]; exact cpt
      rw [if_neg (by rw [cpt]; decide), if_neg so] at axx
      obtain ⟨d1, d2, d3, d4, d5⟩ := ad_cap S R B b1 cpt'
      have hh := (rr_h W b b1 cpt').1
      have hli := (rr_h W b b1 cpt').2
      rw [b2] at d2 d3 hh hli
      by_cases md : md_ (kd_ q) (sl_ q) (pa_ q) (ow_ q) (ow_ q (ls_ q (r / 4))) (ow_ q (sg (bi b))) + 1 ≤ lt_ q (8 * sg (bi b) + x)
      · rw [if_pos md] at axx
        have hli := hli (by omega)
        rcases bl01 with b0 | b0
        · refine Or.inl ⟨1, Or.inl rfl, fun post h => ?_, Y0 b0⟩
          exact xw_loc S R B hr hx hoa t1 t3 hev b1 b2 b3 htt z4 z1 (fun z => by omega) (fun z => by omega) (fun z => by omega) (fun _ => ⟨fun _ => h, fun z => absurd (hli.trans b0) z⟩)
        · refine Or.inr ⟨et (bi b) + hm_ c (8 * sg (bi b) + x), b, b1, b0, b2, Or.inl ⟨cpt', by rw [b2]⟩, by omega, hh, fun post h => ?_, Y1 b0⟩
          refine xw_loc S R B hr hx hoa t1 t3 hev b1 b2 b3 htt z4 z1 (fun z => by omega) (fun z => by omega) (fun z => by omega) (fun _ => ⟨fun z => ?_, fun _ => h⟩)
          rw [hli, b0] at z
          exact absurd z (by decide)
      · rw [if_neg md] at axx
        have b0 : bl b = 1 := by
          have ha : ac_ (pa_ q) (ls_ q (r / 4)) (sg (bi b)) := by rw [← t3]; exact ri_ac R cur t1 b3
          have oo := rc_own w _ hls
          have hmp : mp_ (sn_ q) (pa_ q) (ow_ q) (ow_ q (sg (bi b))) (sg (bi b)) (ow_ q (ls_ q (r / 4))) := by
            refine ⟨by omega, oo.2.1, so, ?_⟩
            rcases ac_split w _ hls ha with z' | z'
            · exact absurd ((rc_le w _ hls z').2).symm so
            · exact z'
          obtain ⟨m1, m2, m3, m4⟩ := mf_spec w rfl (ow_ q (ls_ q (r / 4))) _ (Nat.le_refl _) hmp
          have mp := mp_pos w rfl m1
          have a1 : ac_ (pa_ q) (sg cur) (mf_ (pa_ q) (ow_ q) (ow_ q (sg (bi b))) (ow_ q (ls_ q (r / 4))) (ow_ q (ls_ q (r / 4)))) := by
            rw [t3]
            exact ac_tr (rc_ac oo.1) m3
          obtain ⟨i, i1, i2⟩ := ri_ex R cur t1 a1
          have il := ac_le (ri_w R) cur t1 i1
          have i0 : 0 < i := by
            apply Nat.pos_of_ne_zero
            intro z
            rw [z, R.1] at i2
            omega
          obtain ⟨r1, r2, r3, r4, -⟩ := R.2.2.2.1 i (by omega)
          have wi1 : wi i = i := r3.mpr (by rw [i2]; exact m1.2.1)
          have tle : sg (bi b) < sg i := by
            have := (rc_le w _ (by have := m1.1; omega) m4).1
            rw [i2]; omega
          have ai : ac_ oi i (bi b) := by
            rcases ac_lin (ri_w R) cur t1 i1 b3 with z | z
            · exact z
            · by_cases e : i = bi b
              · rw [e] at tle; omega
              · have := ri_lt S R (bi b) bi1 z e
                omega
          have ai2 : ac_ oi (oi i) (bi b) := by
            rcases ac_it.mp ai with z | z
            · rw [z] at tle; omega
            · exact z
          have oil := (r4 i0).2.1
          have rr1 : rc_ oi wi (oi i) (bi b) := ri_rcj S R (by omega) ai2 (by rw [r2, i2, m2])
          refine rr_k W i i0 (by omega) wi1 b b1 rr1 ?_
          rw [b2, i2]
          have : md_ (kd_ q) (sl_ q) (pa_ q) (ow_ q) (ow_ q (ls_ q (r / 4))) (ow_ q (sg (bi b))) = mk2_ q (mf_ (pa_ q) (ow_ q) (ow_ q (sg (bi b))) (ow_ q (ls_ q (r / 4))) (ow_ q (ls_ q (r / 4)))) := rfl
          omega
        refine Or.inr ⟨et (bi b) + hm_ c (8 * sg (bi b) + x), b, b1, b0, b2, Or.inl ⟨cpt', by rw [b2]⟩, by omega, hh, fun post h => ?_, Y1 b0⟩
        exact xw_loc S R B hr hx hoa t1 t3 hev b1 b2 b3 htt z4 z1 (fun z => by omega) (fun z => by omega) (fun _ => h) (fun z => by omega)
end
end
section
theorem ax_ge (q : QT) (cp : Nat → Int32) (r t x : Nat) : 2 ≤ ax_ q cp r t x := by
  unfold ax_
  split
  · omega
  · split
    · omega
    · split
      · omega
      · split <;> omega
theorem sa_ne {ss code : Int32} (h : code ≠ -1) : sa_ ss code ≠ -1 := by
  unfold sa_
  split
  · exact h
  · assumption
section
variable {q : QT} {c : CT} {ip ss fa : Int32} {cu pc tk ou ev ht cl fc yp cur yb yi : Nat} {sv sw fs fe bi bm fl fi cx ci sg et oi wi kp ps : Nat → Nat} {me ot li bv bl io yx : Nat → Int32} {px : Nat → Nat → Prop}
theorem ld_ (S : SR q c) (W : (RR q c ev ht cl fc sv sw me fs fe li cur yb yi bi bm bv bl io fl fi cx ci sg et oi wi kp ps px)) {r o : Nat} (hr : r < 4 * nn_ q) (hps : ps cl = r / 4) (hcu : cu = r / 4) (hyp : yp = r / 4) (ho : o ≤ 72) (hoa : oa_ (kd_ q) (ar_ q) r = o + 1) (hnd : ¬ (kd_ q (r / 4) = 0 ∧ r % 4 = 1)) (hpx : ∀ i x, ¬ px i x) :
    ∃ v w ss' fa', (∀ post, post v (XD q c ip ss' cu pc tk ou ev ht cl fc fa' sv sw me fs fe ot li) → wpX_load post (XD q c ip ss cu pc tk ou ev ht cl fc fa sv sw me fs fe ot li) (nI r)) ∧ (∀ post, post w (YD q yp (nI cur) tk ou yb yi fc cl ip ss' fa' bi bm bv bl io fl fi cx ci yx) → wpY_value post (YD q yp (nI cur) tk ou yb yi fc cl ip ss fa bi bm bv bl io fl fi cx ci yx) (nI o)) ∧ (ss' = -1 → v = w ∧ ss = -1 ∧ fa' = fa) := by
  have hn := sr_n S
  have vr : vp_in (nI r) 192 := vp_in_nI (by omega) (by omega)
  have rf := (sr_c S).2.2 r hr
  by_cases o8 : o < 8
  · have rm2 : 2 ≤ rm_ c r ∧ rm_ c r ≤ 5 := by
      have g := rf.2 o o8 hoa
      by_cases f0 : fd_ (dq2_ q) (pa_ q) (ls_ q (r / 4)) o = 0
      · have := (g.1 f0).1; omega
      · have := (g.2 (fd_ (dq2_ q) (pa_ q) (ls_ q (r / 4)) o - 1) (by omega)).1
        have a1 := ax_ge q (cp_ c) r (fd_ (dq2_ q) (pa_ q) (ls_ q (r / 4)) o - 1) o
        have a2 := ax_le q (cp_ c) r (fd_ (dq2_ q) (pa_ q) (ls_ q (r / 4)) o - 1) o
        omega
    have n0 : ¬ (fun i => nI (rm_ c i)) (nI r).toNatClampNeg = 0 := by
      rw [ga_ (f := rm_ c) rfl (by omega)]
      exact nI_ne0 (by omega) (by omega)
    have n1 : ¬ (fun i => nI (rm_ c i)) (nI r).toNatClampNeg = 1 := by
      rw [ga_ (f := rm_ c) rfl (by omega)]
      exact nI_n (b := 1) (by omega) (by omega) (by omega)
    rcases lk_ (ip := ip) (ss := ss) (fa := fa) (pc := pc) (tk := tk) (ou := ou) (ot := ot) (yx := yx) S W hr hps hcu hyp o8 hoa hnd hpx with ⟨code, hc, hX, hY⟩ | ⟨a, b, b1, b2, b3, b4, a1, a2, hX, hY⟩
    · refine ⟨0, 0, sa_ ss code, sb_ ss fa (nI (r / 4)), fun post h => ?_, fun post h => ?_, fun z => absurd z (sa_ne (by rcases hc with rfl | rfl <;> decide))⟩
      · refine And.intro vr (br_f n0 ⟨vr, br_f n1 (hX _ ?_)⟩)
        exact br_f (by decide) h
      · refine br_t (nI_lt (b := 8) o8 (by decide)) (hY _ ?_)
        exact br_f (by decide) h
    · refine ⟨me a, bv b, ss, fa, fun post h => ?_, fun post h => ?_, fun z => ⟨a2, z, rfl⟩⟩
      · refine And.intro vr (br_f n0 ⟨vr, br_f n1 (hX _ ?_)⟩)
        refine br_t (nI_pos' (by omega)) ⟨vp_in_nI a1 (by omega), ?_⟩
        rw [nI_clamp (by omega)]
        exact h
      · have zb := (rr_z W).2.1
        refine br_t (nI_lt (b := 8) o8 (by decide)) (hY _ ?_)
        refine br_t (nI_pos' (by omega)) ⟨vp_in_nI (by omega) (by omega), ?_⟩
        rw [nI_clamp (by omega)]
        exact h
  · obtain ⟨f1, f2⟩ := rf.1 (Or.inr (by omega))
    rw [hoa, mo_s] at f2
    rw [hoa] at f1
    by_cases o72 : o = 72
    · subst o72
      refine ⟨ip, ip, ss, fa, fun post h => ?_, fun post h => ?_, fun z => ⟨rfl, z, rfl⟩⟩
      · rw [if_pos rfl] at f1
        refine And.intro vr (br_f ?_ ⟨vr, br_t ?_ h⟩)
        · rw [ga_ (f := rm_ c) rfl (by omega), f1]; decide
        · rw [ga_ (f := rm_ c) rfl (by omega), f1]; rfl
      · exact br_f (by decide) (br_t rfl h)
    · rw [if_neg (by omega)] at f1
      refine ⟨nI o - 40, nI o - 40, ss, fa, fun post h => ?_, fun post h => ?_, fun z => ⟨rfl, z, rfl⟩⟩
      · refine And.intro vr (br_t ?_ ⟨vr, ?_⟩)
        · rw [ga_ (f := rm_ c) rfl (by omega), f1]; rfl
        · rw [nI_clamp (n := r) (by omega), f2]
          exact h
      · exact br_f (nI_nlt (b := 8) (by omega) (by omega)) (br_f (nI_n (b := 72) (by omega) (by omega) o72) h)
theorem xw_sto {post : SX → Prop} {r a : Nat} {v : Int32} (ha : a < 1024) (hX : ∀ post, post (nI a) (XD q c ip ss cu pc tk ou ev ht cl fc fa sv sw me fs fe ot li) → wpX_locate post (XD q c ip ss cu pc tk ou ev ht cl fc fa sv sw me fs fe ot li) (nI r)) (h : post (XD q c ip ss cu pc tk ou ev ht cl fc fa sv sw (upd me a v) fs fe ot (upd li a 1))) : wpX_store post (XD q c ip ss cu pc tk ou ev ht cl fc fa sv sw me fs fe ot li) (nI r) v := by
  have va : vp_in (nI a) 1024 := vp_in_nI ha (by omega)
  unfold wpX_store
  unfold XD at hX ⊢
  dsimp only at hX ⊢
  refine hX _ (br_t (nI_pos' (by omega)) ⟨va, nm_r (ub_ (by omega)) ⟨va, nm_r (e' := upd li a 1) ?_ h⟩⟩)
  rw [nI_clamp (by omega)]
  rfl
theorem xw_sto0 {post : SX → Prop} {r : Nat} {v ss' fa' : Int32} (hX : ∀ post, post (-1) (XD q c ip ss' cu pc tk ou ev ht cl fc fa' sv sw me fs fe ot li) → wpX_locate post (XD q c ip ss cu pc tk ou ev ht cl fc fa sv sw me fs fe ot li) (nI r)) (h : post (XD q c ip ss' cu pc tk ou ev ht cl fc fa' sv sw me fs fe ot li)) : wpX_store post (XD q c ip ss cu pc tk ou ev ht cl fc fa sv sw me fs fe ot li) (nI r) v := by
  unfold wpX_store
  unfold XD at hX ⊢
  dsimp only at hX ⊢
  exact hX _ (br_f (by decide) h)
theorem rr_store {a0 b0 : Nat} {v : Int32} {px' : Nat → Nat → Prop} (S : SR q c) (W : (RR q c ev ht cl fc sv sw me fs fe li cur yb yi bi bm bv bl io fl fi cx ci sg et oi wi kp ps px)) (hb : b0 < yb) (A : AD c cl cur bi bm sg et oi wi a0 b0) (ha : a0 < 1024) (hpx : ∀ i x, px i x → px' i x ∨ (i = bi b0 ∧ x = bm b0))
    (hlv : ∀ k, k ≤ cl → rc_ oi wi (kp k) (bi b0) → ¬ px' (bi b0) (bm b0) → lt_ q (8 * sg (bi b0) + bm b0) ≤ ps k) : (RR q c ev ht cl fc sv sw (upd me a0 v) fs fe (upd li a0 1) cur yb yi bi bm (upd bv b0 v) (upd bl b0 1) io fl fi cx ci sg et oi wi kp ps px') := by
  obtain ⟨R, B, H, Z, K, N, V, T, C, E, G⟩ := W
  have A' : AD c cl (kp cl) bi bm sg et oi wi a0 b0 := by rw [C]; exact A
  obtain ⟨g1, g2, g3, g4, g5, g6, g7⟩ := st_store S R B H Z K N V G.1 T hb A' hpx hlv ha
  exact ⟨g1, g2, g3, g4, g5, g6, V, g7, C, E, G⟩
theorem rr_set {a0 b0 : Nat} {v : Int32} (S : SR q c) (W : (RR q c ev ht cl fc sv sw me fs fe li cur yb yi bi bm bv bl io fl fi cx ci sg et oi wi kp ps px)) (hpx : ∀ i x, ¬ px i x) (hb : b0 < yb) (h1 : bl b0 = 1) (A : AD c cl cur bi bm sg et oi wi a0 b0) (ha : a0 < 1024) : (RR q c ev ht cl fc sv sw (upd me a0 v) fs fe (upd li a0 1) cur yb yi bi bm (upd bv b0 v) (upd bl b0 1) io fl fi cx ci sg et oi wi kp ps px) := by
  refine rr_store S W hb A ha (fun i x z => absurd z (hpx i x)) (fun k hk hr _ => ?_)
  exact (((rr_t W k hk).2.2.2 b0 hb hr).2 (hpx _ _)).mp h1
def SV (q : QT) (c : CT) (yb : Nat) (bi bm : Nat → Nat) (bv bl me : Nat → Int32) : Prop :=
  ∀ x, x < 8 → (dq2_ q 0 x = false → ∀ b, b < yb → ¬ (bi b = 0 ∧ bm b = x)) ∧
    (dq2_ q 0 x = true → ∃ b, b < yb ∧ bi b = 0 ∧ bm b = x ∧ (∀ b', b' < yb → bi b' = 0 → bm b' = x → b' = b) ∧ hm_ c x < 100 ∧ me (if bt (cp_ c 0) x = true then 512 + hm_ c x else hm_ c x) = bv b ∧ (bl b = 0 → bv b = 0))
theorem rr_sv (S : SR q c) (W : (RR q c ev ht cl fc sv sw me fs fe li cur yb yi bi bm bv bl io fl fi cx ci sg et oi wi kp ps px)) : SV q c yb bi bm bv bl me := by
  have R := rr_i W
  have B := rr_b W
  obtain ⟨z1, z2, z3, z4, z5, z6, z7⟩ := rr_z W
  have s0 : 0 < sn_ q := by
    have := ri_s R z6
    rw [R.1] at this
    exact this
  intro x hx
  refine ⟨fun hd b hb hh => ?_, fun hd => ?_⟩
  · have := (B.1 b hb).2.2.1
    rw [hh.1, hh.2, R.1, hd] at this
    exact absurd this (by decide)
  · obtain ⟨b, b1, b2, b3⟩ := B.2.1 0 x z6 hx (by rw [R.1]; exact hd)
    have e8 : 8 * 0 + x = x := by omega
    refine ⟨b, b1, b2, b3, fun b' c1 c2 c3 => B.2.2.1 b' b c1 b1 (by rw [c2, b2]) (by rw [c3, b3]), ?_, ?_, (B.1 b b1).2.2.2.2⟩
    · by_cases cp : bt (cp_ c 0) x = true
      · have h := hm_cap S s0 hx hd cp
        have := cc_nc S s0
        rw [e8] at h
        omega
      · have h := hm_slot S s0 hx hd (cap_ft cp)
        rw [e8] at h
        omega
    · by_cases cp : bt (cp_ c 0) x = true
      · rw [if_pos cp]
        have hc : bt (cp_ c (sg (bi b))) (bm b) = true := by rw [b2, b3, R.1]; exact cp
        have h := (rr_h W b b1 hc).1
        have h0 := (ad_cap S R B b1 hc).1
        rw [b2, b3, R.1, e8] at h
        rw [b2, R.1] at h0
        rw [z7 h0] at h
        exact h
      · rw [if_neg cp]
        have := rr_s W b b1 b2 (by rw [b3]; exact cap_ft cp)
        rw [b3] at this
        exact this
end
end
section
def am_ (me : Nat → Int32) (ht k : Nat) (o : Int32) (cpd : Nat) : Nat → Int32 := fun j => if j = ht then o else if ht < j ∧ j ≤ ht + k then (if cpd = 0 then 0 else me (cpd + (j - ht))) else me j
def al_ (li : Nat → Int32) (ht k cpd : Nat) : Nat → Int32 := fun j => if ht < j ∧ j ≤ ht + k then (if cpd = 0 then 0 else if li (cpd + (j - ht)) = 0 then 0 else 1) else li j
def cz_ (me : Nat → Int32) (base k : Nat) : Nat → Int32 := fun j => if base ≤ j ∧ j < base + k then 0 else me j
theorem am_0 {me : Nat → Int32} {ht cpd : Nat} {o : Int32} : upd me ht o = am_ me ht 0 o cpd := by
  funext j
  unfold upd am_
  by_cases e : j = ht
  · rw [if_pos e, if_pos e]
  · rw [if_neg e, if_neg e, if_neg (by omega)]
theorem am_s {me : Nat → Int32} {ht k cpd : Nat} {o v : Int32} (hv : v = if cpd = 0 then 0 else me (cpd + (k + 1))) : upd (am_ me ht k o cpd) (ht + (k + 1)) v = am_ me ht (k + 1) o cpd := by
  funext j
  unfold upd am_
  by_cases e : j = ht + (k + 1)
  · rw [if_pos e, if_neg (by omega), if_pos (by omega), hv]
    have : j - ht = k + 1 := by omega
    rw [this]
  · rw [if_neg e]
    by_cases e2 : j = ht
    · rw [if_pos e2, if_pos e2]
    · rw [if_neg e2, if_neg e2]
      by_cases e3 : ht < j ∧ j ≤ ht + k
      · rw [if_pos e3, if_pos (show ht < j ∧ j ≤ ht + (k + 1) by omega)]
      · rw [if_neg e3, if_neg (by omega)]
theorem al_0 {li : Nat → Int32} {ht cpd : Nat} : li = al_ li ht 0 cpd := by
  funext j
  unfold al_
  rw [if_neg (by omega)]
theorem al_s {li : Nat → Int32} {ht k cpd : Nat} {v : Int32} (hv : v = if cpd = 0 then 0 else if li (cpd + (k + 1)) = 0 then 0 else 1) : upd (al_ li ht k cpd) (ht + (k + 1)) v = al_ li ht (k + 1) cpd := by
  funext j
  unfold upd al_
  by_cases e : j = ht + (k + 1)
  · rw [if_pos e, if_pos (by omega), hv]
    have : j - ht = k + 1 := by omega
    rw [this]
  · rw [if_neg e]
    by_cases e3 : ht < j ∧ j ≤ ht + k
    · rw [if_pos e3, if_pos (show ht < j ∧ j ≤ ht + (k + 1) by omega)]
    · rw [if_neg e3, if_neg (by omega)]
theorem cz_s {me : Nat → Int32} {base k : Nat} : upd (cz_ me base k) (base + k) 0 = cz_ me base (k + 1) := by
  funext j
  unfold upd cz_
  by_cases e : j = base + k
  · rw [if_pos e, if_pos (by omega)]
  · rw [if_neg e]
    by_cases e3 : base ≤ j ∧ j < base + k
    · rw [if_pos e3, if_pos (by omega)]
    · rw [if_neg e3, if_neg (by omega)]
section
variable {q : QT} {c : CT} {ip ss fa : Int32} {cu pc tk ou ev ht cl fc : Nat} {sv sw fs fe : Nat → Nat} {me ot li : Nat → Int32}
theorem xw_takeP {post : SX → Prop} {k : Nat} {line p : Int32} (hp : p = nI k) (hm : mT_ q ≤ 200) (htk : tk + k < 1000) (h1 : tk + k ≤ mT_ q → post (XD q c ip ss cu pc (tk + k) ou ev ht cl fc fa sv sw me fs fe ot li)) (h2 : mT_ q < tk + k → post (XD q c ip (sa_ ss 5) cu pc tk ou ev ht cl fc (sb_ ss fa line) sv sw me fs fe ot li)) : wpX_take post (XD q c ip ss cu pc tk ou ev ht cl fc fa sv sw me fs fe ot li) p line := by
  subst hp
  exact xw_take hm htk h1 h2
theorem xw_al13 {post : SX → Prop} {s cpd : Nat} {o : Int32} (hs : s < 64) (hc : cc_ c s ≤ 8) (hh : ht + cc_ c s + 1 ≤ 1000) (hcp : cpd = 0 ∨ cpd + cc_ c s < ht) (h : post (XD q c ip ss cu pc tk ou ht (ht + (cc_ c s + 1)) cl fc fa sv sw (am_ me ht (cc_ c s) o cpd) fs fe ot (al_ li ht (cc_ c s) cpd))) :
    ∀ m k N, k + m = cc_ c s → m < N → wX_allocate_13 post (nI s) (nI cpd) 0 1 2 3 0 1 2 3 4 5 (-1) 48 512 (nI (mL_ q)) (nI (mT_ q)) (nI (mD_ q)) (nI (cm_ q)) (nI (nn_ q)) (nI (sp_ q)) (nI (sn_ q)) (nI (oc_ q)) ip ss (nI (cu)) (nI (pc)) (nI (tk)) (nI (ou)) (nI (ev)) (nI (ht)) (nI (cl)) (nI (fc)) fa N (nI (k + 1)) (fun i => nI (kd_ q i)) (fun i => nI (ls_ q i)) (fun i => nI (oe_ q i)) (fun i => nI (od_ q i)) (fun i => nI (ar_ q i)) (fun i => nI (se_ q i)) (fun i => nI (ol_ q i)) (fun i => nI (pl_ q i)) (fun i => nI (sv i)) (fun i => nI (sw i)) (fun i => nI (pa_ q i)) (fun i => nI (ow_ q i)) (fun i => nI (sl_ q i)) (fun i => nI (lo_ q i)) (lx_ q) (an_ q) (vn_ q) (fun i => nI (lh_ q i)) (cp_ c) (fun i => nI (st_ c i)) (fun i => nI (nc_ c i)) (fun i => nI (cc_ c i)) (fun i => nI (hd_ c i)) (fun i => nI (lt_ q i)) (fun i => nI (hm_ c i)) (fun i => nI (rm_ c i)) (ri_ c) (fun i => nI (rh_ c i)) ((am_ me ht k o cpd)) (fun i => nI (fs i)) (fun i => nI (fe i)) ot ((al_ li ht k cpd)) := by
  have vs : vp_in (nI s) 64 := vp_in_nI hs (by omega)
  intro m
  induction m with
  | zero =>
    intro k N hk hN
    cases N with
    | zero => omega
    | succ N =>
      have : k = cc_ c s := by omega
      subst this
      rw [wX_allocate_13]
      refine And.intro vs (br_t ?_ ⟨vs, nm_r (e' := nI (ht + (cc_ c s + 1))) ?_ h⟩)
      · rw [nI_clamp (n := s) (by omega)]
        exact nI_lt (by omega) (by omega)
      · rw [nI_clamp (n := s) (by omega), nI_1, nI_add]
  | succ m ih =>
    intro k N hk hN
    cases N with
    | zero => omega
    | succ N =>
      rw [wX_allocate_13]
      have ih := ih (k + 1) N (by omega) (by omega)
      have va : vp_in (nI ht + nI (k + 1)) 1024 := pk_in (ht + (k + 1)) 1024 (by omega) (nI_add _ _) (by omega)
      have ea : (nI ht + nI (k + 1)).toNatClampNeg = ht + (k + 1) := by rw [nI_add, nI_clamp (by omega)]
      refine And.intro vs (br_f ?_ ?_)
      · rw [nI_clamp (n := s) (by omega)]
        exact nI_nlt (by omega) (by omega)
      · refine pk_le cpd 0 (fun z => ?_) (fun z => ?_) rfl rfl (by omega) (by omega)
        · have z0 : cpd = 0 := by omega
          refine And.intro va (nm_r (e' := am_ me ht (k + 1) o cpd) ?_ ?_)
          · rw [ea]
            exact am_s (by rw [if_pos z0])
          · refine pk_le cpd 0 (fun _ => ⟨va, nm_r (e' := al_ li ht (k + 1) cpd) ?_ (nm_r (nI_1 _) ih)⟩) (fun w => by omega) rfl rfl (by omega) (by omega)
            rw [ea]
            exact al_s (by rw [if_pos z0]; rfl)
        · have hcp' : cpd + cc_ c s < ht := by omega
          have vb : vp_in (nI cpd + nI (k + 1)) 1024 := pk_in (cpd + (k + 1)) 1024 (by omega) (nI_add _ _) (by omega)
          have eb : (nI cpd + nI (k + 1)).toNatClampNeg = cpd + (k + 1) := by rw [nI_add, nI_clamp (by omega)]
          refine ⟨vb, And.intro va (nm_r (e' := am_ me ht (k + 1) o cpd) ?_ ?_)⟩
          · rw [ea, eb]
            refine am_s ?_
            rw [if_neg (by omega)]
            unfold am_
            rw [if_neg (by omega), if_neg (by omega)]
          · refine pk_le cpd 0 (fun w => by omega) (fun _ => ⟨vb, ?_⟩) rfl rfl (by omega) (by omega)
            have el : al_ li ht k cpd (cpd + (k + 1)) = li (cpd + (k + 1)) := by
              unfold al_
              rw [if_neg (by omega)]
            rw [eb, el]
            refine br_c (fun z0 => ⟨va, nm_r (e' := al_ li ht (k + 1) cpd) ?_ (nm_r (nI_1 _) ih)⟩) (fun z0 => ⟨va, nm_r (e' := al_ li ht (k + 1) cpd) ?_ (nm_r (nI_1 _) ih)⟩)
            · rw [ea]
              exact al_s (by rw [if_neg (by omega), if_pos z0]; rfl)
            · rw [ea]
              exact al_s (by rw [if_neg (by omega), if_neg z0]; rfl)
theorem xw_alloc {post : SX → Prop} {s cpd : Nat} {o : Int32} (hs : s < 64) (hc : cc_ c s ≤ 8) (hh : ht + cc_ c s + 1 ≤ 1000) (hcp : cpd = 0 ∨ cpd + cc_ c s < ht) (h : post (XD q c ip ss cu pc tk ou ht (ht + (cc_ c s + 1)) cl fc fa sv sw (am_ me ht (cc_ c s) o cpd) fs fe ot (al_ li ht (cc_ c s) cpd))) :
    wpX_allocate post (XD q c ip ss cu pc tk ou ev ht cl fc fa sv sw me fs fe ot li) (nI s) o (nI cpd) := by
  refine And.intro (vp_in_nI (by omega) (by omega)) (nm_r (e' := am_ me ht 0 o cpd) ?_ ⟨cc_ c s + 1, ?_⟩)
  · rw [nI_clamp (by omega)]
    exact am_0
  · have := xw_al13 (ev := ev) (cpd := cpd) (o := o) hs hc hh hcp h (cc_ c s) 0 (cc_ c s + 1) (by omega) (by omega)
    rw [← al_0] at this
    exact this
def em_ (q : QT) (c : CT) (me : Nat → Int32) (s cl ht : Nat) (o : Int32) : Nat → Int32 := if 0 < cc_ c s then am_ (if ow_ q s = s then cz_ me (48 * cl) (st_ c s) else me) ht (cc_ c s) o 0 else (if ow_ q s = s then cz_ me (48 * cl) (st_ c s) else me)
def el_ (c : CT) (li : Nat → Int32) (s ht : Nat) : Nat → Int32 := if 0 < cc_ c s then al_ li ht (cc_ c s) 0 else li
theorem xw_e75 {post : SX → Prop} {s : Nat} (hs : s < 64) (hc : cc_ c s ≤ 8) (hh : ht + cc_ c s + 1 ≤ 1000)
    (h : ∃ N, wX_enter_101 post (nI s) N (nI (sl_ q s)) 0 1 2 3 0 1 2 3 4 5 (-1) 48 512 (nI (mL_ q)) (nI (mT_ q)) (nI (mD_ q)) (nI (cm_ q)) (nI (nn_ q)) (nI (sp_ q)) (nI (sn_ q)) (nI (oc_ q)) ip ss (nI (cu)) (nI (pc)) (nI (tk)) (nI (ou)) (nI ((if 0 < cc_ c s then ht else ev))) (nI ((ht + (if 0 < cc_ c s then cc_ c s + 1 else 0)))) (nI (cl)) (nI (fc)) fa (fun i => nI (kd_ q i)) (fun i => nI (ls_ q i)) (fun i => nI (oe_ q i)) (fun i => nI (od_ q i)) (fun i => nI (ar_ q i)) (fun i => nI (se_ q i)) (fun i => nI (ol_ q i)) (fun i => nI (pl_ q i)) (fun i => nI (sv i)) (fun i => nI (sw i)) (fun i => nI (pa_ q i)) (fun i => nI (ow_ q i)) (fun i => nI (sl_ q i)) (fun i => nI (lo_ q i)) (lx_ q) (an_ q) (vn_ q) (fun i => nI (lh_ q i)) (cp_ c) (fun i => nI (st_ c i)) (fun i => nI (nc_ c i)) (fun i => nI (cc_ c i)) (fun i => nI (hd_ c i)) (fun i => nI (lt_ q i)) (fun i => nI (hm_ c i)) (fun i => nI (rm_ c i)) (ri_ c) (fun i => nI (rh_ c i)) ((if 0 < cc_ c s then am_ me ht (cc_ c s) (nI ev) 0 else me)) (fun i => nI (fs i)) (fun i => nI (fe i)) ot ((el_ c li s ht))) :
    wX_enter_75 post (nI s) 0 1 2 3 0 1 2 3 4 5 (-1) 48 512 (nI (mL_ q)) (nI (mT_ q)) (nI (mD_ q)) (nI (cm_ q)) (nI (nn_ q)) (nI (sp_ q)) (nI (sn_ q)) (nI (oc_ q)) ip ss (nI (cu)) (nI (pc)) (nI (tk)) (nI (ou)) (nI (ev)) (nI (ht)) (nI (cl)) (nI (fc)) fa (fun i => nI (kd_ q i)) (fun i => nI (ls_ q i)) (fun i => nI (oe_ q i)) (fun i => nI (od_ q i)) (fun i => nI (ar_ q i)) (fun i => nI (se_ q i)) (fun i => nI (ol_ q i)) (fun i => nI (pl_ q i)) (fun i => nI (sv i)) (fun i => nI (sw i)) (fun i => nI (pa_ q i)) (fun i => nI (ow_ q i)) (fun i => nI (sl_ q i)) (fun i => nI (lo_ q i)) (lx_ q) (an_ q) (vn_ q) (fun i => nI (lh_ q i)) (cp_ c) (fun i => nI (st_ c i)) (fun i => nI (nc_ c i)) (fun i => nI (cc_ c i)) (fun i => nI (hd_ c i)) (fun i => nI (lt_ q i)) (fun i => nI (hm_ c i)) (fun i => nI (rm_ c i)) (ri_ c) (fun i => nI (rh_ c i)) me (fun i => nI (fs i)) (fun i => nI (fe i)) ot li := by
  have vs : vp_in (nI s) 64 := vp_in_nI hs (by omega)
  unfold el_ at h
  refine And.intro vs (pk_le (cc_ c s) 0 (fun z => ⟨vs, nm_r (e' := nI (sl_ q s)) (ga_ rfl (by omega)) ?_⟩) (fun z => ?_) (ga_ rfl (by omega)) rfl (by omega) (by omega))
  · rw [if_neg (by omega), if_neg (by omega), if_neg (by omega), if_neg (by omega), Nat.add_zero] at h
    exact h
  · rw [if_pos z, if_pos z, if_pos z, if_pos z] at h
    refine xw_alloc (cpd := 0) hs hc hh (Or.inl rfl) ?_
    exact And.intro vs (nm_r (e' := nI (sl_ q s)) (ga_ rfl (by omega)) h)
theorem xw_e34 {post : SX → Prop} {s : Nat} (S : SR q c) (hs : s < sn_ q) (hcl : cl ≤ 8) (ho : ow_ q s = s) (h : wX_enter_75 post (nI s) 0 1 2 3 0 1 2 3 4 5 (-1) 48 512 (nI (mL_ q)) (nI (mT_ q)) (nI (mD_ q)) (nI (cm_ q)) (nI (nn_ q)) (nI (sp_ q)) (nI (sn_ q)) (nI (oc_ q)) ip ss (nI (cu)) (nI (pc)) (nI (tk)) (nI (ou)) (nI (ev)) (nI (ht)) (nI (cl)) (nI (fc)) fa (fun i => nI (kd_ q i)) (fun i => nI (ls_ q i)) (fun i => nI (oe_ q i)) (fun i => nI (od_ q i)) (fun i => nI (ar_ q i)) (fun i => nI (se_ q i)) (fun i => nI (ol_ q i)) (fun i => nI (pl_ q i)) (fun i => nI (sv i)) (fun i => nI (sw i)) (fun i => nI (pa_ q i)) (fun i => nI (ow_ q i)) (fun i => nI (sl_ q i)) (fun i => nI (lo_ q i)) (lx_ q) (an_ q) (vn_ q) (fun i => nI (lh_ q i)) (cp_ c) (fun i => nI (st_ c i)) (fun i => nI (nc_ c i)) (fun i => nI (cc_ c i)) (fun i => nI (hd_ c i)) (fun i => nI (lt_ q i)) (fun i => nI (hm_ c i)) (fun i => nI (rm_ c i)) (ri_ c) (fun i => nI (rh_ c i)) ((cz_ me (48 * cl) (st_ c s))) (fun i => nI (fs i)) (fun i => nI (fe i)) ot li) :
    ∀ m k N, k + m = st_ c s → m < N → wX_enter_34 post (nI s) 0 1 2 3 0 1 2 3 4 5 (-1) 48 512 (nI (mL_ q)) (nI (mT_ q)) (nI (mD_ q)) (nI (cm_ q)) (nI (nn_ q)) (nI (sp_ q)) (nI (sn_ q)) (nI (oc_ q)) ip ss (nI (cu)) (nI (pc)) (nI (tk)) (nI (ou)) (nI (ev)) (nI (ht)) (nI (cl)) (nI (fc)) fa N (nI k) (fun i => nI (kd_ q i)) (fun i => nI (ls_ q i)) (fun i => nI (oe_ q i)) (fun i => nI (od_ q i)) (fun i => nI (ar_ q i)) (fun i => nI (se_ q i)) (fun i => nI (ol_ q i)) (fun i => nI (pl_ q i)) (fun i => nI (sv i)) (fun i => nI (sw i)) (fun i => nI (pa_ q i)) (fun i => nI (ow_ q i)) (fun i => nI (sl_ q i)) (fun i => nI (lo_ q i)) (lx_ q) (an_ q) (vn_ q) (fun i => nI (lh_ q i)) (cp_ c) (fun i => nI (st_ c i)) (fun i => nI (nc_ c i)) (fun i => nI (cc_ c i)) (fun i => nI (hd_ c i)) (fun i => nI (lt_ q i)) (fun i => nI (hm_ c i)) (fun i => nI (rm_ c i)) (ri_ c) (fun i => nI (rh_ c i)) ((cz_ me (48 * cl) k)) (fun i => nI (fs i)) (fun i => nI (fe i)) ot li := by
  have hn := sr_n S
  have h48 := st_48 S s hs
  have vs : vp_in (nI s) 64 := vp_in_nI (by omega) (by omega)
  have eo : (fun i => nI (ow_ q i)) (nI s).toNatClampNeg = nI s := by rw [ga_ (f := ow_ q) rfl (by omega), ho]
  intro m
  induction m with
  | zero =>
    intro k N hk hN
    cases N with
    | zero => omega
    | succ N =>
      have : k = st_ c s := by omega
      subst this
      rw [wX_enter_34]
      refine And.intro vs (br_t eo ⟨vs, br_t ?_ h⟩)
      rw [nI_clamp (n := s) (by omega)]
      exact nI_le (Nat.le_refl _) (by omega)
  | succ m ih =>
    intro k N hk hN
    cases N with
    | zero => omega
    | succ N =>
      rw [wX_enter_34]
      have e48 : (48 : Int32) * nI cl + nI k = nI (48 * cl + k) := by rw [show (48 : Int32) = nI 48 from rfl, pk_mul, nI_add]
      refine And.intro vs (br_t eo ⟨vs, br_f ?_ ⟨pk_in (48 * cl + k) 1024 (by omega) e48 (by omega), nm_r (e' := cz_ me (48 * cl) (k + 1)) ?_ (nm_r (nI_1 k) (ih (k + 1) N (by omega) (by omega)))⟩⟩)
      · rw [nI_clamp (n := s) (by omega)]
        exact nI_ge (by omega) (by omega)
      · rw [e48, nI_clamp (by omega)]
        exact cz_s
theorem cz_0 {me : Nat → Int32} {base : Nat} : me = cz_ me base 0 := by
  funext j
  unfold cz_
  rw [if_neg (by omega)]
theorem xw_enter {post : SX → Prop} {s : Nat} {line : Int32} (S : SR q c) (hs : s < sn_ q) (hcl : cl ≤ 8) (hss : ss = -1) (htk : tk ≤ 500) (hh : ht + cc_ c s + 1 ≤ 1000)
    (h1 : tk + nc_ c s ≤ mT_ q → ∃ N, wX_enter_101 post (nI s) N (nI (sl_ q s)) 0 1 2 3 0 1 2 3 4 5 (-1) 48 512 (nI (mL_ q)) (nI (mT_ q)) (nI (mD_ q)) (nI (cm_ q)) (nI (nn_ q)) (nI (sp_ q)) (nI (sn_ q)) (nI (oc_ q)) ip ss (nI (cu)) (nI ((sl_ q s + 1))) (nI ((tk + nc_ c s))) (nI (ou)) (nI ((if 0 < cc_ c s then ht else ev))) (nI ((ht + (if 0 < cc_ c s then cc_ c s + 1 else 0)))) (nI (cl)) (nI (fc)) fa (fun i => nI (kd_ q i)) (fun i => nI (ls_ q i)) (fun i => nI (oe_ q i)) (fun i => nI (od_ q i)) (fun i => nI (ar_ q i)) (fun i => nI (se_ q i)) (fun i => nI (ol_ q i)) (fun i => nI (pl_ q i)) (fun i => nI (sv i)) (fun i => nI (sw i)) (fun i => nI (pa_ q i)) (fun i => nI (ow_ q i)) (fun i => nI (sl_ q i)) (fun i => nI (lo_ q i)) (lx_ q) (an_ q) (vn_ q) (fun i => nI (lh_ q i)) (cp_ c) (fun i => nI (st_ c i)) (fun i => nI (nc_ c i)) (fun i => nI (cc_ c i)) (fun i => nI (hd_ c i)) (fun i => nI (lt_ q i)) (fun i => nI (hm_ c i)) (fun i => nI (rm_ c i)) (ri_ c) (fun i => nI (rh_ c i)) ((em_ q c me s cl ht (nI ev))) (fun i => nI (fs i)) (fun i => nI (fe i)) ot ((el_ c li s ht)))
    (h2 : mT_ q < tk + nc_ c s → post (XD q c ip 5 cu pc tk ou ev ht cl fc line sv sw me fs fe ot li)) : wpX_enter post (XD q c ip ss cu pc tk ou ev ht cl fc fa sv sw me fs fe ot li) (nI s) line := by
  have hn := sr_n S
  have cn := cc_nc S hs
  have hm := S.2.2.2.2.2.1
  have vs : vp_in (nI s) 64 := vp_in_nI (by omega) (by omega)
  subst hss
  refine And.intro vs ?_
  refine xw_takeP (k := nc_ c s) (ga_ rfl (by omega)) hm (by omega) (fun hle => br_t rfl ⟨vs, nm_r (e' := nI (sl_ q s + 1)) ?_ ?_⟩) (fun hgt => br_f (by decide) (h2 hgt))
  · rw [ga_ (f := sl_ q) rfl (by omega), nI_1]
  · obtain ⟨N, h⟩ := h1 hle
    unfold em_ at h
    by_cases o : ow_ q s = s
    · rw [if_pos o] at h
      refine ⟨st_ c s + 1, ?_⟩
      have := xw_e34 (post := post) (ip := ip) (ss := -1) (fa := fa) (cu := cu) (pc := sl_ q s + 1) (tk := tk + nc_ c s) (ou := ou) (ev := ev) (ht := ht) (fc := fc) (sv := sv) (sw := sw) (fs := fs) (fe := fe) (me := me) (ot := ot) (li := li) S hs hcl o (xw_e75 (by omega) (by omega) hh ⟨N, h⟩) (st_ c s) 0 (st_ c s + 1) (by omega) (by omega)
      rw [← cz_0] at this
      exact this
    · rw [if_neg o] at h
      refine ⟨1, ?_⟩
      rw [wX_enter_34]
      have hol := ow_lt (sr_f S) hs
      refine And.intro vs (br_f ?_ (xw_e75 (by omega) (by omega) hh ⟨N, h⟩))
      rw [nI_clamp (n := s) (by omega)]
      exact fun z => o ((nI_eq (by omega) (by omega)).mp z)
end
end
section
def eN_ (Q : Nat → Bool) (yb : Nat) (f g : Nat → Nat) : Nat → Nat → Nat
  | 0 => f
  | x + 1 => if Q x = true then up_ (eN_ Q yb f g x) (yb + ct_ Q x) (g x) else eN_ Q yb f g x
def eI_ (Q : Nat → Bool) (yb : Nat) (f g : Nat → Int32) : Nat → Nat → Int32
  | 0 => f
  | x + 1 => if Q x = true then upd (eI_ Q yb f g x) (yb + ct_ Q x) (g x) else eI_ Q yb f g x
theorem eN_lo {Q : Nat → Bool} {yb : Nat} {f g : Nat → Nat} {b : Nat} (hb : b < yb) : ∀ m, eN_ Q yb f g m b = f b
  | 0 => rfl
  | m + 1 => by
    unfold eN_
    split
    · rw [up_n (by omega)]; exact eN_lo hb m
    · exact eN_lo hb m
theorem eI_lo {Q : Nat → Bool} {yb : Nat} {f g : Nat → Int32} {b : Nat} (hb : b < yb) : ∀ m, eI_ Q yb f g m b = f b
  | 0 => rfl
  | m + 1 => by
    unfold eI_
    split
    · rw [pk_un (by omega)]; exact eI_lo hb m
    · exact eI_lo hb m
theorem eN_at {Q : Nat → Bool} {yb : Nat} {f g : Nat → Nat} {y : Nat} (hy : Q y = true) : ∀ m, y < m → eN_ Q yb f g m (yb + ct_ Q y) = g y
  | 0 => fun h => absurd h (Nat.not_lt_zero _)
  | m + 1 => fun h => by
    unfold eN_
    by_cases e : y = m
    · subst e
      rw [if_pos hy, up_s]
    · have := ct_lt hy (show y < m by omega)
      split
      · rw [up_n (by omega)]; exact eN_at hy m (by omega)
      · exact eN_at hy m (by omega)
theorem eI_at {Q : Nat → Bool} {yb : Nat} {f g : Nat → Int32} {y : Nat} (hy : Q y = true) : ∀ m, y < m → eI_ Q yb f g m (yb + ct_ Q y) = g y
  | 0 => fun h => absurd h (Nat.not_lt_zero _)
  | m + 1 => fun h => by
    unfold eI_
    by_cases e : y = m
    · subst e
      rw [if_pos hy, pk_us]
    · have := ct_lt hy (show y < m by omega)
      split
      · rw [pk_un (by omega)]; exact eI_at hy m (by omega)
      · exact eI_at hy m (by omega)
def lv_ (q : QT) (s x : Nat) : Int32 := if bt (lx_ q s) x = true then 0 else 1
section
variable {q : QT} {c : CT} {yp yu yo yb yi yf yl : Nat} {yc yn yr yt : Int32} {bi bm fl fi cx ci : Nat → Nat} {bv bl io yx : Nat → Int32}
theorem dc_iff (S : SR q c) {s x : Nat} (hs : s < sn_ q) (hx : x < 8) : (∃ i, i < nn_ q ∧ hr_ (kd_ q) (Lq_ q) (ar_ q) (ow_ q) s x i) ↔ dq2_ q s x = true := by
  have M := sr_m S
  have w := sr_w S
  have F := sr_f S
  have e : dq2_ q s x = if ow_ q s = s then (bt (lx_ q s) x || bt (vn_ q s) x) else bt (lx_ q s) x := rfl
  rw [e]
  constructor
  · rintro ⟨i, i1, i2, ⟨i3, i4⟩ | ⟨i3, i4⟩⟩
    · have := (M.1 s x hx).mpr ⟨i, i1, i3, i2, i4⟩
      split
      · rw [this]; rfl
      · exact this
    · have o := rc_own w _ (lq_s F (Nat.le_of_lt i1))
      rw [i4] at o
      rw [if_pos o.2.1, (M.2.1 s x hx).mpr ⟨i, i1, i3, i2, o.1⟩, Bool.or_true]
  · intro h
    by_cases o : ow_ q s = s
    · rw [if_pos o, Bool.or_eq_true] at h
      rcases h with h | h
      · obtain ⟨j, j1, j2, j3, j4⟩ := (M.1 s x hx).mp h
        exact ⟨j, j1, j3, Or.inl ⟨j2, j4⟩⟩
      · obtain ⟨j, j1, j2, j3, j4⟩ := (M.2.1 s x hx).mp h
        refine ⟨j, j1, j3, Or.inr ⟨j2, ?_⟩⟩
        have := (rc_le w _ (lq_s F (Nat.le_of_lt j1)) j4).2
        omega
    · rw [if_neg o] at h
      obtain ⟨j, j1, j2, j3, j4⟩ := (M.1 s x hx).mp h
      exact ⟨j, j1, j3, Or.inl ⟨j2, j4⟩⟩
theorem dc_var (S : SR q c) {s x i : Nat} (hs : s < sn_ q) (hx : x < 8) (hi : i < nn_ q) (h : hr_ (kd_ q) (Lq_ q) (ar_ q) (ow_ q) s x i) : kd_ q i = 1 ↔ bt (lx_ q s) x = false := by
  have M := sr_m S
  have w := sr_w S
  have F := sr_f S
  obtain ⟨i2, ⟨i3, i4⟩ | ⟨i3, i4⟩⟩ := h
  · have := (M.1 s x hx).mpr ⟨i, hi, i3, i2, i4⟩
    rw [this]
    exact ⟨fun z => by omega, fun z => absurd z (by decide)⟩
  · have o := rc_own w _ (lq_s F (Nat.le_of_lt hi))
    rw [i4] at o
    have hv := (M.2.1 s x hx).mpr ⟨i, hi, i3, i2, o.1⟩
    refine ⟨fun _ => ?_, fun _ => i3⟩
    cases hb : bt (lx_ q s) x with
    | false => rfl
    | true =>
      have := M.2.2.2.2.2.1 s x hx hb
      rw [hv] at this
      exact this
theorem yd_dec {post : Int32 → Prop} (S : SR q c) {s x : Nat} (hs : s < sn_ q) (hx : x < 8) (h1 : dq2_ q s x = true → ∀ i, i < nn_ q → (kd_ q i = 1 ↔ bt (lx_ q s) x = false) → post (nI i)) (h0 : dq2_ q s x = false → post (-1)) : wpY_declarer post (YD q yp yc yu yo yb yi yf yl yn yr yt bi bm bv bl io fl fi cx ci yx) (mo_ (sc_ (sl_ q) s)) (nI x) := by
  refine yw_de (q := q) (e := (yp, yc, yu, yo, yb, yi, yf, yl, yn, yr, yt, bi, bm, bv, bl, io, fl, fi, cx, ci, yx)) (sr_f S) (sr_m S).2.2.2.2.2.2.2.2.1 hs hx (fun i i1 i2 _ => h1 ((dc_iff S hs hx).mp ⟨i, i1, i2⟩) i i1 (dc_var S hs hx i1 i2)) (fun hno => h0 ?_)
  cases hb : dq2_ q s x with
  | false => rfl
  | true =>
    obtain ⟨i, i1, i2⟩ := (dc_iff S hs hx).mpr hb
    exact absurd i2 (hno i i1)
theorem yw_e52 {post : Int32 → SY → Prop} (S : SR q c) {s cur : Nat} (hs : s < sn_ q) (hb : yb + 8 ≤ 256) (hyc : yc = nI cur)
    (h : ∃ N, wY_enter_105 post (mo_ (sc_ (sl_ q) s)) N 0 (nI (mL_ q)) (nI (mT_ q)) (nI (mD_ q)) (nI (nn_ q)) (nI (yp)) yc (nI (yu)) (nI (yo)) (nI ((yb + ct_ (dq2_ q s) 8))) (nI (yi)) (nI (yf)) (nI (yl)) yn yr yt (nI (cm_ q)) (fun i => nI (kd_ q i)) (fun i => nI (ar_ q (4 * i + 1))) (fun i => nI (ar_ q (4 * i + 2))) (fun i => nI (ar_ q (4 * i + 3))) (fun i => nI ((eN_ (dq2_ q s) yb bi (fun _ => cur) 8) i)) (fun i => nI ((eN_ (dq2_ q s) yb bm (fun x => x) 8) i)) ((eI_ (dq2_ q s) yb bv (fun _ => 0) 8)) ((eI_ (dq2_ q s) yb bl (lv_ q s) 8)) io (fun i => nI (fl i)) (fun i => nI (fi i)) (fun i => nI (cx i)) (fun i => nI (ci i)) yx) :
    ∀ m x N, x + m = 8 → m < N → wY_enter_52 post (mo_ (sc_ (sl_ q) s)) N (nI x) (nI (mL_ q)) (nI (mT_ q)) (nI (mD_ q)) (nI (nn_ q)) (nI (yp)) yc (nI (yu)) (nI (yo)) (nI ((yb + ct_ (dq2_ q s) x))) (nI (yi)) (nI (yf)) (nI (yl)) yn yr yt (nI (cm_ q)) (fun i => nI (kd_ q i)) (fun i => nI (ar_ q (4 * i + 1))) (fun i => nI (ar_ q (4 * i + 2))) (fun i => nI (ar_ q (4 * i + 3))) (fun i => nI ((eN_ (dq2_ q s) yb bi (fun _ => cur) x) i)) (fun i => nI ((eN_ (dq2_ q s) yb bm (fun x => x) x) i)) ((eI_ (dq2_ q s) yb bv (fun _ => 0) x)) ((eI_ (dq2_ q s) yb bl (lv_ q s) x)) io (fun i => nI (fl i)) (fun i => nI (fi i)) (fun i => nI (cx i)) (fun i => nI (ci i)) yx := by
  have hn := sr_n S
  intro m
  induction m with
  | zero =>
    intro x N hx hN
    cases N with
    | zero => omega
    | succ N =>
      have : x = 8 := by omega
      subst this
      rw [wY_enter_52]
      exact br_t (nI_le (b := 8) (Nat.le_refl _) (by decide)) h
  | succ m ih =>
    intro x N hx hN
    cases N with
    | zero => omega
    | succ N =>
      rw [wY_enter_52]
      have ih := ih (x + 1) N (by omega) (by omega)
      have cl := ct_le (dq2_ q s) x
      refine br_f (nI_ge (b := 8) (by omega) (by decide)) (yd_dec S hs (by omega) (fun hd i i1 i2 => br_f (nI_pos (by omega)) ⟨vp_in_nI (by omega) (by omega), ?_⟩) (fun hd => br_t (by decide) (nm_r (nI_1 x) ?_)))
      · have hkk := fs_k (sr_f S) i i1
        rw [eN_, if_pos hd, eN_, if_pos hd, eI_, if_pos hd, eI_, if_pos hd, ct_, if_pos hd] at ih
        refine pk_eq (kd_ q i) 1 (fun k1 => ?_) (fun k1 => ?_) (ga_ rfl (by omega)) rfl (by omega) (by omega)
        · have e1 : lv_ q s x = 1 := by
            unfold lv_
            rw [i2.mp k1]; rfl
          rw [e1] at ih
          exact yw_bind (cur := cur) (by omega) hyc rfl (nm_r (nI_1 x) ih)
        · have e1 : lv_ q s x = 0 := by
            unfold lv_
            rw [if_pos]
            cases hb : bt (lx_ q s) x with
            | true => rfl
            | false => exact absurd (i2.mpr hb) k1
          rw [e1] at ih
          exact yw_bind (cur := cur) (by omega) hyc rfl (nm_r (nI_1 x) ih)
      · rw [eN_, if_neg (by rw [hd]; decide), eN_, if_neg (by rw [hd]; decide), eI_, if_neg (by rw [hd]; decide), eI_, if_neg (by rw [hd]; decide), ct_, if_neg (by rw [hd]; decide), Nat.add_zero] at ih
        exact ih
theorem yw_e6 {post : Int32 → SY → Prop} (S : SR q c) {s : Nat} {ov line : Int32} (hs : s < sn_ q) (hb : yb + 8 ≤ 256) (hy : yi < 512) (hr : yr = -1) (hu : yu ≤ 500)
    (h1 : yu + nc_ c s ≤ mT_ q → ∃ N, wY_enter_105 post (mo_ (sc_ (sl_ q) s)) N 0 (nI (mL_ q)) (nI (mT_ q)) (nI (mD_ q)) (nI (nn_ q)) (nI (yp)) ((nI yi)) (nI ((yu + nc_ c s))) (nI (yo)) (nI ((yb + ct_ (dq2_ q s) 8))) (nI ((yi + 1))) (nI (yf)) (nI (yl)) yn yr yt (nI (cm_ q)) (fun i => nI (kd_ q i)) (fun i => nI (ar_ q (4 * i + 1))) (fun i => nI (ar_ q (4 * i + 2))) (fun i => nI (ar_ q (4 * i + 3))) (fun i => nI ((eN_ (dq2_ q s) yb bi (fun _ => yi) 8) i)) (fun i => nI ((eN_ (dq2_ q s) yb bm (fun x => x) 8) i)) ((eI_ (dq2_ q s) yb bv (fun _ => 0) 8)) ((eI_ (dq2_ q s) yb bl (lv_ q s) 8)) ((upd io yi ov)) (fun i => nI (fl i)) (fun i => nI (fi i)) (fun i => nI (cx i)) (fun i => nI (ci i)) yx)
    (h2 : mT_ q < yu + nc_ c s → post 0 (YD q yp yc yu yo yb yi yf yl yn 5 line bi bm bv bl io fl fi cx ci yx)) :
    ∀ m x N, x + m = 8 → m < N → wY_enter_6 post (mo_ (sc_ (sl_ q) s)) ov line (nI (mL_ q)) (nI (mT_ q)) (nI (mD_ q)) (nI (nn_ q)) (nI (yp)) yc (nI (yu)) (nI (yo)) (nI (yb)) (nI (yi)) (nI (yf)) (nI (yl)) yn yr yt (nI (cm_ q)) (fun i => nI (kd_ q i)) (fun i => nI (ar_ q (4 * i + 1))) (fun i => nI (ar_ q (4 * i + 2))) (fun i => nI (ar_ q (4 * i + 3))) (fun i => nI (bi i)) (fun i => nI (bm i)) bv bl io (fun i => nI (fl i)) (fun i => nI (fi i)) (fun i => nI (cx i)) (fun i => nI (ci i)) yx N (nI (ct_ (dq2_ q s) x)) (nI x) := by
  have cn := cc_nc S hs
  have en := (sr_l S hs).1
  have hm := S.2.2.2.2.2.1
  intro m
  induction m with
  | zero =>
    intro x N hx hN
    cases N with
    | zero => omega
    | succ N =>
      have : x = 8 := by omega
      subst this
      rw [wY_enter_6]
      rw [← en]
      refine br_t (nI_le (b := 8) (Nat.le_refl _) (by decide)) (yw_take hr hm (by omega) (fun hle => br_f (by decide) (yw_inst hy ⟨9, ?_⟩)) (fun hgt => br_t rfl (h2 hgt)))
      exact yw_e52 (yc := nI yi) (cur := yi) S hs hb rfl (h1 hle) 8 0 9 (by omega) (by omega)
  | succ m ih =>
    intro x N hx hN
    cases N with
    | zero => omega
    | succ N =>
      rw [wY_enter_6]
      have ih := ih (x + 1) N (by omega) (by omega)
      refine br_f (nI_ge (b := 8) (by omega) (by decide)) (yd_dec S hs (by omega) (fun hd i i1 i2 => br_f (nI_pos (by have := (sr_n S).1; omega)) ?_) (fun hd => br_t (by decide) ?_))
      · rw [ct_, if_pos hd] at ih
        exact nm_r (nI_1 _) (nm_r (nI_1 x) ih)
      · rw [ct_, if_neg (by rw [hd]; decide), Nat.add_zero] at ih
        exact nm_r (nI_1 x) ih
theorem yw_enter {post : Int32 → SY → Prop} (S : SR q c) {s : Nat} {ov line : Int32} (hs : s < sn_ q) (hb : yb + 8 ≤ 256) (hy : yi < 512) (hr : yr = -1) (hu : yu ≤ 500)
    (h1 : yu + nc_ c s ≤ mT_ q → ∃ N, wY_enter_105 post (mo_ (sc_ (sl_ q) s)) N 0 (nI (mL_ q)) (nI (mT_ q)) (nI (mD_ q)) (nI (nn_ q)) (nI (yp)) ((nI yi)) (nI ((yu + nc_ c s))) (nI (yo)) (nI ((yb + ct_ (dq2_ q s) 8))) (nI ((yi + 1))) (nI (yf)) (nI (yl)) yn yr yt (nI (cm_ q)) (fun i => nI (kd_ q i)) (fun i => nI (ar_ q (4 * i + 1))) (fun i => nI (ar_ q (4 * i + 2))) (fun i => nI (ar_ q (4 * i + 3))) (fun i => nI ((eN_ (dq2_ q s) yb bi (fun _ => yi) 8) i)) (fun i => nI ((eN_ (dq2_ q s) yb bm (fun x => x) 8) i)) ((eI_ (dq2_ q s) yb bv (fun _ => 0) 8)) ((eI_ (dq2_ q s) yb bl (lv_ q s) 8)) ((upd io yi ov)) (fun i => nI (fl i)) (fun i => nI (fi i)) (fun i => nI (cx i)) (fun i => nI (ci i)) yx)
    (h2 : mT_ q < yu + nc_ c s → post 0 (YD q yp yc yu yo yb yi yf yl yn 5 line bi bm bv bl io fl fi cx ci yx)) : wpY_enter post (YD q yp yc yu yo yb yi yf yl yn yr yt bi bm bv bl io fl fi cx ci yx) (mo_ (sc_ (sl_ q) s)) ov line :=
  ⟨9, yw_e6 S hs hb hy hr hu h1 h2 8 0 9 (by omega) (by omega)⟩
theorem yw_skip {post : Int32 → SY → Prop} (S : SR q c) {s : Nat} (hs : s < sn_ q) {e : Nat} (he : e ≤ nn_ q) : ∀ m j N, j + m = e → (∀ i, j ≤ i → i < e → ¬ (kd_ q i = 5 ∧ Lq_ q i = s)) → wY_enter_105 post (mo_ (sc_ (sl_ q) s)) N (nI e) (nI (mL_ q)) (nI (mT_ q)) (nI (mD_ q)) (nI (nn_ q)) (nI (yp)) yc (nI (yu)) (nI (yo)) (nI (yb)) (nI (yi)) (nI (yf)) (nI (yl)) yn yr yt (nI (cm_ q)) (fun i => nI (kd_ q i)) (fun i => nI (ar_ q (4 * i + 1))) (fun i => nI (ar_ q (4 * i + 2))) (fun i => nI (ar_ q (4 * i + 3))) (fun i => nI (bi i)) (fun i => nI (bm i)) bv bl io (fun i => nI (fl i)) (fun i => nI (fi i)) (fun i => nI (cx i)) (fun i => nI (ci i)) yx → wY_enter_105 post (mo_ (sc_ (sl_ q) s)) (N + m) (nI j) (nI (mL_ q)) (nI (mT_ q)) (nI (mD_ q)) (nI (nn_ q)) (nI (yp)) yc (nI (yu)) (nI (yo)) (nI (yb)) (nI (yi)) (nI (yf)) (nI (yl)) yn yr yt (nI (cm_ q)) (fun i => nI (kd_ q i)) (fun i => nI (ar_ q (4 * i + 1))) (fun i => nI (ar_ q (4 * i + 2))) (fun i => nI (ar_ q (4 * i + 3))) (fun i => nI (bi i)) (fun i => nI (bm i)) bv bl io (fun i => nI (fl i)) (fun i => nI (fi i)) (fun i => nI (cx i)) (fun i => nI (ci i)) yx := by
  have hn := sr_n S
  intro m
  induction m with
  | zero =>
    intro j N hj hno h
    have : j = e := by omega
    subst this
    exact h
  | succ m ih =>
    intro j N hj hno h
    have ih := ih (j + 1) N (by omega) (fun i i1 i2 => hno i (by omega) i2) h
    rw [← Nat.add_assoc, wY_enter_105]
    have hk := fs_k (sr_f S) j (by omega)
    refine br_f (nI_ge (by omega) (by omega)) ⟨vp_in_nI (by omega) (by omega), ?_⟩
    refine pk_eq (kd_ q j) 5 (fun k5 => ?_) (fun k5 => nm_r (nI_1 j) ih) (ga_ rfl (by omega)) rfl (by omega) (by omega)
    refine yw_sc (q := q) (e := (yp, yc, yu, yo, yb, yi, yf, yl, yn, yr, yt, bi, bm, bv, bl, io, fl, fi, cx, ci, yx)) (sr_f S) (by omega) ?_
    refine br_f (fun z => ?_) (nm_r (nI_1 j) ih)
    exact hno j (Nat.le_refl _) (by omega) ⟨k5, (sc_eq (sr_f S) (lq_s (sr_f S) (by omega)) hs).mp z⟩
theorem yw_skipE {post : Int32 → SY → Prop} (S : SR q c) {s j : Nat} (hs : s < sn_ q) (hj : j ≤ nn_ q) (hno : ∀ i, j ≤ i → i < nn_ q → ¬ (kd_ q i = 5 ∧ Lq_ q i = s)) (h : post 1 (YD q yp yc yu yo yb yi yf yl yn yr yt bi bm bv bl io fl fi cx ci yx)) : wY_enter_105 post (mo_ (sc_ (sl_ q) s)) (1 + (nn_ q - j)) (nI j) (nI (mL_ q)) (nI (mT_ q)) (nI (mD_ q)) (nI (nn_ q)) (nI (yp)) yc (nI (yu)) (nI (yo)) (nI (yb)) (nI (yi)) (nI (yf)) (nI (yl)) yn yr yt (nI (cm_ q)) (fun i => nI (kd_ q i)) (fun i => nI (ar_ q (4 * i + 1))) (fun i => nI (ar_ q (4 * i + 2))) (fun i => nI (ar_ q (4 * i + 3))) (fun i => nI (bi i)) (fun i => nI (bm i)) bv bl io (fun i => nI (fl i)) (fun i => nI (fi i)) (fun i => nI (cx i)) (fun i => nI (ci i)) yx := by
  refine yw_skip S hs (Nat.le_refl _) (nn_ q - j) j 1 (by omega) hno ?_
  rw [wY_enter_105]
  have hn := sr_n S
  exact br_t (nI_le (Nat.le_refl _) (by omega)) h
end
end
section
section
variable {q : QT} {c : CT}
theorem sl_lt (F : FQ q) {i : Nat} (hi : i ≤ nn_ q) (h0 : Lq_ q i ≠ 0) : sl_ q (Lq_ q i) < i := by
  have y := fs_y F i hi
  have le := eo_le (kd_ q) i
  unfold sc_ sy_ at y
  rw [if_neg h0] at y
  by_cases z : eo_ (kd_ q) i = 0
  · rw [if_pos z] at y; omega
  · rw [if_neg z] at y
    by_cases w : kd_ q (eo_ (kd_ q) i - 1) = 8 ∧ se_ q (4 * (eo_ (kd_ q) i - 1) + 3) ≠ 0 ∧ se_ q (4 * (eo_ (kd_ q) i - 1) + 3) < i
    · rw [if_pos w] at y; omega
    · rw [if_neg w] at y; omega
theorem fn_facts (S : SR q c) {j : Nat} (hj : j < nn_ q) (hk : kd_ q j = 5) : ar_ q (4 * j + 1) < 8 ∧ dq2_ q (Lq_ q j) (ar_ q (4 * j + 1)) = true ∧ lt_ q (8 * Lq_ q j + ar_ q (4 * j + 1)) = 0 := by
  have M := sr_m S
  have a8 := M.2.2.2.2.2.2.2.2.2.1 j hj (Or.inr (Or.inl hk))
  have hl := (M.1 (Lq_ q j) (ar_ q (4 * j + 1)) a8).mpr ⟨j, hj, Or.inr hk, rfl, rfl⟩
  refine ⟨a8, ?_, ?_⟩
  · show (if ow_ q (Lq_ q j) = Lq_ q j then (bt (lx_ q (Lq_ q j)) (ar_ q (4 * j + 1)) || bt (vn_ q (Lq_ q j)) (ar_ q (4 * j + 1))) else bt (lx_ q (Lq_ q j)) (ar_ q (4 * j + 1))) = true
    rw [hl]
    split <;> rfl
  · apply Classical.byContradiction
    intro z
    obtain ⟨i, hi⟩ : ∃ i, lt_ q (8 * Lq_ q j + ar_ q (4 * j + 1)) = i + 1 := ⟨_, (Nat.succ_pred_eq_of_ne_zero z).symm⟩
    obtain ⟨i1, i2, i3, i4⟩ := (M.2.2.2.1 _ _ i a8).mp hi
    have := M.2.2.2.2.1 i j i1 hj (Or.inl i2) (Or.inr hk) i3 i4
    subst this
    omega
theorem fn_od (S : SR q c) {j : Nat} (hj : j < nn_ q) (hk : 5 ≤ kd_ q j) (hk8 : kd_ q j ≤ 8) : Lq_ q (j + 1) = od_ q j ∧ 0 < od_ q j ∧ od_ q j < sn_ q ∧ pa_ q (od_ q j) = Lq_ q j ∧ sl_ q (od_ q j) = j := by
  obtain ⟨o1, o2, o3, o4⟩ := (fs_l (sr_f S) j hj).2.1 hk hk8
  exact ⟨o1, o2, by rw [← o1]; exact lq_s (sr_f S) (by omega), o3, o4⟩
def pe_ (q : QT) (s cur j : Nat) : Nat → Nat → Prop := fun i x => i = cur ∧ ∃ j', j ≤ j' ∧ j' < nn_ q ∧ kd_ q j' = 5 ∧ Lq_ q j' = s ∧ ar_ q (4 * j' + 1) = x
def rf_ (q : QT) (s : Nat) : Nat → Nat → Nat
  | 0, _ => 0
  | m + 1, j => (if kd_ q j = 5 ∧ Lq_ q j = s then 1 else 0) + rf_ q s m (j + 1)
theorem rf_ct (q : QT) (s : Nat) : ∀ m j, ct_ (fun i => decide (kd_ q i = 5 ∧ Lq_ q i = s)) (j + m) = ct_ (fun i => decide (kd_ q i = 5 ∧ Lq_ q i = s)) j + rf_ q s m j
  | 0, j => by rw [rf_]; rfl
  | m + 1, j => by
    have := rf_ct q s m (j + 1)
    rw [show j + (m + 1) = j + 1 + m by omega, this, rf_, ct_]
    by_cases h : kd_ q j = 5 ∧ Lq_ q j = s
    · rw [if_pos (decide_eq_true h), if_pos h]; omega
    · rw [if_neg (by rw [decide_eq_true_iff]; exact h), if_neg h]; omega
theorem rf_le (S : SR q c) {s : Nat} (hs : s < sn_ q) : ct_ (fun i => decide (kd_ q i = 5 ∧ Lq_ q i = s)) (nn_ q) ≤ nc_ c s := by
  rw [(sr_l S hs).1]
  refine ct_map (f := fun i => ar_ q (4 * i + 1)) (nn_ q) (fun j hj pj => ?_) (fun i j hi hj pi pj e => ?_)
  · obtain ⟨p1, p2⟩ := of_decide_eq_true pj
    obtain ⟨f1, f2, f3⟩ := fn_facts S hj p1
    rw [p2] at f2
    exact ⟨f1, f2⟩
  · obtain ⟨p1, p2⟩ := of_decide_eq_true pi
    obtain ⟨p3, p4⟩ := of_decide_eq_true pj
    exact (sr_m S).2.2.2.2.1 i j hi hj (Or.inr p1) (Or.inr p3) e (by rw [p2, p4])
end
section
variable {q : QT} {c : CT} {ip ss fa : Int32} {cu pc tk ou ev ht cl fc yp cur yb yi : Nat} {sv sw fs fe bi bm fl fi cx ci sg et oi wi kp ps : Nat → Nat} {me ot li bv bl io yx : Nat → Int32} {px : Nat → Nat → Prop}
theorem rr_px {px' : Nat → Nat → Prop} (W : (RR q c ev ht cl fc sv sw me fs fe li cur yb yi bi bm bv bl io fl fi cx ci sg et oi wi kp ps px)) (h : ∀ i x, px i x → px' i x) : (RR q c ev ht cl fc sv sw me fs fe li cur yb yi bi bm bv bl io fl fi cx ci sg et oi wi kp ps px') := by
  obtain ⟨R, B, H, Z, K, N, V, T, C, E, G⟩ := W
  refine ⟨R, B, H, Z, K, fun v v1 v2 => ?_, V, fun k hk => ?_, C, E, G⟩
  · obtain ⟨n1, n2, n3, n4, n5, n6, n7⟩ := N v v1 v2
    exact ⟨n1, n2, n3, n4, n5, n6, fun b hb hr hp => n7 b hb hr (fun z => hp (h _ _ z))⟩
  · obtain ⟨t1, t2, t3, t4⟩ := T k hk
    exact ⟨t1, t2, t3, fun b hb hr => ⟨(t4 b hb hr).1, fun hp => (t4 b hb hr).2 (fun z => hp (h _ _ z))⟩⟩
theorem rr_make (W : (RR q c ev ht cl fc sv sw me fs fe li cur yb yi bi bm bv bl io fl fi cx ci sg et oi wi kp ps px)) {l : Nat} (hl : l < nn_ q) (hk : kd_ q l = 5 ∨ kd_ q l = 6) (hsg : sg cur = Lq_ q l) (hlv : ∀ b, b < yb → rc_ oi wi cur (bi b) → ¬ px (bi b) (bm b) → lt_ q (8 * sg (bi b) + bm b) ≤ mk2_ q (od_ q l) → bl b = 1) :
    (RR q c ev ht cl (fc + 1) sv sw me (up_ fs (fc + 1) (od_ q l)) (up_ fe (fc + 1) ev) li cur yb yi bi bm bv bl io (up_ fl (fc + 1) l) (up_ fi (fc + 1) cur) cx ci sg et oi wi kp ps px) := by
  have t1 := (rr_top W).1
  obtain ⟨R, B, H, Z, K, N, V, T, C, E, G⟩ := W
  refine ⟨R, B, H, Z, K, fun v v1 v2 => ?_, V, T, C, E, G⟩
  by_cases e : v = fc + 1
  · subst e
    rw [up_s, up_s, up_s, up_s]
    exact ⟨hl, hk, t1, hsg, rfl, E, hlv⟩
  · rw [up_n e, up_n e, up_n e, up_n e]
    exact N v v1 (by omega)
theorem xw_make {post : SX → Prop} {l : Nat} (hl : l < 48) (hf : fc + 1 < 256) (h : wpX_store post (XD q c ip ss cu pc tk ou ev ht cl (fc + 1) fa sv sw me (up_ fs (fc + 1) (od_ q l)) (up_ fe (fc + 1) ev) ot li) (nI (4 * l + 1)) (nI (fc + 1))) : wpX_makeFunction post (XD q c ip ss cu pc tk ou ev ht cl fc fa sv sw me fs fe ot li) (nI l) := by
  have vf : vp_in (nI (fc + 1)) 256 := vp_in_nI hf (by omega)
  have e4 : (4 : Int32) * nI l + 1 = nI (4 * l + 1) := m4_ l 1
  refine nm_r (nI_1 fc) (And.intro (vp_in_nI hl (by omega)) (And.intro vf (nm_r (e' := fun i => nI (up_ fs (fc + 1) (od_ q l) i)) (uk_ (by omega) (by omega)) (And.intro vf (nm_r (ug_ ev (by omega)) ?_)))))
  rw [e4]
  exact h
theorem hs_ (S : SR q c) {s j yl : Nat} {cy cj : Nat → Nat} (W : (RR q c ev ht cl fc sv sw me fs fe li cur yb yi bi bm bv bl io fl fi cx ci sg et oi wi kp ps (pe_ q s cur j))) (hj : j < nn_ q) (hk : kd_ q j = 5) (hL : Lq_ q j = s) (hsg : sg cur = s) (hps : sl_ q s ≤ ps cl) (hf : fc + 1 < 256) :
    ∃ (me' li' bv' bl' : Nat → Int32), (RR q c ev ht cl (fc + 1) sv sw me' (up_ fs (fc + 1) (od_ q j)) (up_ fe (fc + 1) ev) li' cur yb yi bi bm bv' bl' io (up_ fl (fc + 1) j) (up_ fi (fc + 1) cur) cx ci sg et oi wi kp ps (pe_ q s cur (j + 1))) ∧
      (∀ post, post (XD q c ip ss cu pc tk ou ev ht cl (fc + 1) fa sv sw me' (up_ fs (fc + 1) (od_ q j)) (up_ fe (fc + 1) ev) ot li') → wpX_makeFunction post (XD q c ip ss cu pc tk ou ev ht cl fc fa sv sw me fs fe ot li) (nI j)) ∧
      (∃ b, b < 250 ∧ bv' = upd bv b (nI (fc + 1)) ∧ bl' = upd bl b 1 ∧ ∀ post : Int32 → Prop, post (nI b) → wpY_find post (YD q yp (nI cur) tk ou yb yi fc yl ip ss fa bi bm bv bl io fl fi cy cj yx) (nI cur) (nI (ar_ q (4 * j + 1)))) := by
  have hn := sr_n S
  obtain ⟨f1, f2, f3⟩ := fn_facts S hj hk
  rw [hL] at f2 f3
  have R := rr_i W
  have B := rr_b W
  obtain ⟨t1, t2, t3, t4⟩ := rr_top W
  obtain ⟨z1, z2, z3, z4, z5, z6, z7⟩ := rr_z W
  obtain ⟨b, b1, b2, b3⟩ := B.2.1 cur (ar_ q (4 * j + 1)) t1 f1 (by rw [hsg]; exact f2)
  obtain ⟨o1, o2, o3, o4, o5⟩ := fn_od S hj (by omega) (by omega)
  have mk : mk2_ q (od_ q j) = sl_ q s := by
    unfold mk2_
    rw [o5, if_neg (by omega), o4, hL]
  have W1 := rr_make W hj (Or.inl hk) (by rw [hsg, hL]) (fun b' h1 h2 h3 h4 => ((t4 b' h1 h2).2 h3).mpr (by rw [mk] at h4; omega))
  have hls : ls_ q j = s := by rw [← (ls_lt (sr_f S) hj).2]; exact hL
  have r4 : (4 * j + 1) / 4 = j := by omega
  have m4 : (4 * j + 1) % 4 = 1 := by omega
  have hoa : oa_ (kd_ q) (ar_ q) (4 * j + 1) = ar_ q (4 * j + 1) + 1 := by
    unfold oa_
    rw [r4, m4, if_neg (by omega), if_pos (Or.inl hk), if_pos rfl]
  have hss := ri_s R t1
  rw [hsg] at hss
  have hfd : fd_ (dq2_ q) (pa_ q) (ls_ q ((4 * j + 1) / 4)) (ar_ q (4 * j + 1)) = sg (bi b) + 1 := by
    rw [r4, hls, fd_it (sr_w S) hss, if_pos f2, b2, hsg]
  have axx : ax_ q (cp_ c) (4 * j + 1) (sg (bi b)) (ar_ q (4 * j + 1)) = if bt (cp_ c s) (ar_ q (4 * j + 1)) = false then 2 else 3 := by
    unfold ax_
    rw [r4, b2, hsg, hls, f3, if_neg (by omega), if_pos rfl]
  have key : ∀ a, AD c cl cur bi bm sg et oi wi a b → a < 1024 → (∀ post, post (nI a) (XD q c ip ss cu pc tk ou ev ht cl (fc + 1) fa sv sw me (up_ fs (fc + 1) (od_ q j)) (up_ fe (fc + 1) ev) ot li) → wpX_locate post (XD q c ip ss cu pc tk ou ev ht cl (fc + 1) fa sv sw me (up_ fs (fc + 1) (od_ q j)) (up_ fe (fc + 1) ev) ot li) (nI (4 * j + 1))) →
      ∃ (me' li' bv' bl' : Nat → Int32), (RR q c ev ht cl (fc + 1) sv sw me' (up_ fs (fc + 1) (od_ q j)) (up_ fe (fc + 1) ev) li' cur yb yi bi bm bv' bl' io (up_ fl (fc + 1) j) (up_ fi (fc + 1) cur) cx ci sg et oi wi kp ps (pe_ q s cur (j + 1))) ∧
      (∀ post, post (XD q c ip ss cu pc tk ou ev ht cl (fc + 1) fa sv sw me' (up_ fs (fc + 1) (od_ q j)) (up_ fe (fc + 1) ev) ot li') → wpX_makeFunction post (XD q c ip ss cu pc tk ou ev ht cl fc fa sv sw me fs fe ot li) (nI j)) ∧
      (∃ b, b < 250 ∧ bv' = upd bv b (nI (fc + 1)) ∧ bl' = upd bl b 1 ∧ ∀ post : Int32 → Prop, post (nI b) → wpY_find post (YD q yp (nI cur) tk ou yb yi fc yl ip ss fa bi bm bv bl io fl fi cy cj yx) (nI cur) (nI (ar_ q (4 * j + 1)))) := by
    intro a hA ha hX
    refine ⟨upd me a (nI (fc + 1)), upd li a 1, upd bv b (nI (fc + 1)), upd bl b 1, ?_, fun post h => xw_make (by omega) hf (xw_sto ha hX h), b, by omega, rfl, rfl, fun post h => ?_⟩
    · refine rr_store S W1 b1 hA ha (fun i x z => ?_) (fun k hk' hr hp => ?_)
      · obtain ⟨e1, j', g1, g2, g3, g4, g5⟩ := z
        by_cases e : j' = j
        · subst e
          exact Or.inr ⟨by rw [e1, b2], by rw [← g5, b3]⟩
        · exact Or.inl ⟨e1, j', by omega, g2, g3, g4, g5⟩
      · rw [b2, hsg, b3, f3]
        exact Nat.zero_le _
    · refine yw_find (by omega) (by omega) (by omega) (fun b' h' => ⟨by have := (B.1 b' h').1; omega, by have := (B.1 b' h').2.1; omega⟩) (fun b' c1 c2 c3 _ => ?_) (fun hno => absurd ⟨b2, b3⟩ (hno b b1))
      have : b' = b := B.2.2.1 b' b c1 b1 (by rw [c2, b2]) (by rw [c3, b3])
      subst this
      exact h
  have t3' : sg cur = ls_ q ((4 * j + 1) / 4) := by rw [r4, hls, hsg]
  by_cases cp : bt (cp_ c s) (ar_ q (4 * j + 1)) = false
  · rw [if_pos cp] at axx
    have hsl := hm_slot S hss f1 f2 cp
    refine key (48 * cl + hm_ c (8 * s + ar_ q (4 * j + 1))) (Or.inr ⟨by rw [b2, hsg, b3]; exact cp, by rw [b2]; exact rc_self _ _ _, by rw [b2, hsg, b3]⟩) (by omega) (fun post h => ?_)
    refine xw_loc S R B (by omega) f1 hoa t1 t3' (rr_e W) b1 b3 (by rw [b2]; exact ac_self _ _) hfd z4 z1 (fun z => by omega) (fun _ => ?_) (fun z => by omega) (fun z => by omega)
    rw [b2, hsg]
    exact h
  · rw [if_neg cp] at axx
    have cp' : bt (cp_ c (sg (bi b))) (bm b) = true := by
      rw [b2, hsg, b3]
      cases hb : bt (cp_ c s) (ar_ q (4 * j + 1)) with
      | true => rfl
      | false => exact absurd hb cp
    obtain ⟨d1, d2, d3, d4, d5⟩ := ad_cap S R B b1 cp'
    rw [b2, hsg, b3] at d2 d3
    rw [b2] at d4 d5
    rw [hsg] at d5
    refine key (et cur + hm_ c (8 * s + ar_ q (4 * j + 1))) (Or.inl ⟨cp', by rw [b2, hsg, b3]⟩) (by omega) (fun post h => ?_)
    refine xw_loc S R B (by omega) f1 hoa t1 t3' (rr_e W) b1 b3 (by rw [b2]; exact ac_self _ _) hfd z4 z1 (fun z => by omega) (fun z => by omega) (fun _ => ?_) (fun z => by omega)
    rw [b2, hsg]
    exact h
end
end
section
section
variable {q : QT} {c : CT} {ip ss fa : Int32} {cu pc tk ou ev ht cl yp cur yb yi : Nat} {sv sw bi bm cx ci sg et oi wi kp ps : Nat → Nat} {ot io yx : Nat → Int32}
theorem ho_ (S : SR q c) {s yl : Nat} {cy cj : Nat → Nat} (hs : s < sn_ q) : ∀ (m j fc : Nat) (fs fe fl fi : Nat → Nat) (me li bv bl : Nat → Int32), j + m = nn_ q → (RR q c ev ht cl fc sv sw me fs fe li cur yb yi bi bm bv bl io fl fi cx ci sg et oi wi kp ps (pe_ q s cur j)) → sg cur = s → sl_ q s ≤ ps cl → fc + rf_ q s m j ≤ 250 →
    ∃ (fs' fe' fl' fi' : Nat → Nat) (me' li' bv' bl' : Nat → Int32), (∀ v, v ≤ fc → fl' v = fl v) ∧ (RR q c ev ht cl (fc + rf_ q s m j) sv sw me' fs' fe' li' cur yb yi bi bm bv' bl' io fl' fi' cx ci sg et oi wi kp ps (fun _ _ => False)) ∧
      (∀ (post : SX → Prop) (N : Nat), m + 2 ≤ N → post (XD q c ip ss cu pc tk ou ev ht cl (fc + rf_ q s m j) fa sv sw me' fs' fe' ot li') → wX_enter_101 post (nI s) N (nI j) 0 1 2 3 0 1 2 3 4 5 (-1) 48 512 (nI (mL_ q)) (nI (mT_ q)) (nI (mD_ q)) (nI (cm_ q)) (nI (nn_ q)) (nI (sp_ q)) (nI (sn_ q)) (nI (oc_ q)) ip ss (nI (cu)) (nI (pc)) (nI (tk)) (nI (ou)) (nI (ev)) (nI (ht)) (nI (cl)) (nI (fc)) fa (fun i => nI (kd_ q i)) (fun i => nI (ls_ q i)) (fun i => nI (oe_ q i)) (fun i => nI (od_ q i)) (fun i => nI (ar_ q i)) (fun i => nI (se_ q i)) (fun i => nI (ol_ q i)) (fun i => nI (pl_ q i)) (fun i => nI (sv i)) (fun i => nI (sw i)) (fun i => nI (pa_ q i)) (fun i => nI (ow_ q i)) (fun i => nI (sl_ q i)) (fun i => nI (lo_ q i)) (lx_ q) (an_ q) (vn_ q) (fun i => nI (lh_ q i)) (cp_ c) (fun i => nI (st_ c i)) (fun i => nI (nc_ c i)) (fun i => nI (cc_ c i)) (fun i => nI (hd_ c i)) (fun i => nI (lt_ q i)) (fun i => nI (hm_ c i)) (fun i => nI (rm_ c i)) (ri_ c) (fun i => nI (rh_ c i)) me (fun i => nI (fs i)) (fun i => nI (fe i)) ot li) ∧
      (∀ (post : Int32 → SY → Prop) (N : Nat), m < N → post 1 (YD q yp (nI cur) tk ou yb yi (fc + rf_ q s m j) yl ip ss fa bi bm bv' bl' io fl' fi' cy cj yx) → wY_enter_105 post (mo_ (sc_ (sl_ q) s)) N (nI j) (nI (mL_ q)) (nI (mT_ q)) (nI (mD_ q)) (nI (nn_ q)) (nI (yp)) (((nI cur))) (nI (tk)) (nI (ou)) (nI (yb)) (nI (yi)) (nI (fc)) (nI (yl)) ip ss fa (nI (cm_ q)) (fun i => nI (kd_ q i)) (fun i => nI (ar_ q (4 * i + 1))) (fun i => nI (ar_ q (4 * i + 2))) (fun i => nI (ar_ q (4 * i + 3))) (fun i => nI (bi i)) (fun i => nI (bm i)) bv bl io (fun i => nI (fl i)) (fun i => nI (fi i)) (fun i => nI (cy i)) (fun i => nI (cj i)) yx) := by
  have hn := sr_n S
  have lhs : lh_ q s = 0 ∨ lh_ q s < nn_ q := (sr_m S).2.2.2.2.2.2.1.2 s
  have kz : ∀ i, nn_ q ≤ i → kd_ q i = 0 := (sr_m S).2.2.2.2.2.2.2.2.2.2
  have vs : vp_in (nI s) 64 := vp_in_nI (by omega) (by omega)
  have elh : (fun i => nI (lh_ q i)) (nI s).toNatClampNeg = nI (lh_ q s) := ga_ rfl (by omega)
  intro m
  induction m with
  | zero =>
    intro j fc fs fe fl fi me li bv bl hj W hsg hps hf
    refine ⟨fs, fe, fl, fi, me, li, bv, bl, fun _ _ => rfl, ?_, fun post N hN h => ?_, fun post N hN h => ?_⟩
    · refine rr_px W (fun i x z => ?_)
      obtain ⟨-, j', g1, g2, -⟩ := z
      omega
    · cases N with
      | zero => omega
      | succ N =>
        rw [wX_enter_101]
        refine And.intro vs ?_
        by_cases z : lh_ q s < j
        · refine br_t ?_ h
          rw [nI_clamp (n := s) (by omega)]
          exact nI_lt z (by omega)
        · have j0 : j = 0 := by omega
          have l0 : lh_ q s = 0 := by omega
          have k0 := kz j (by omega)
          refine br_f ?_ ⟨vp_in_nI (by omega) (by omega), ?_⟩
          · rw [nI_clamp (n := s) (by omega)]
            exact nI_nlt (by omega) (by omega)
          · refine pk_eq (kd_ q j) 5 (fun z5 => by omega) (fun _ => nm_r (nI_1 j) ?_) (ga_ rfl (by omega)) rfl (by omega) (by omega)
            cases N with
            | zero => omega
            | succ N =>
              rw [wX_enter_101]
              refine And.intro vs (br_t ?_ h)
              rw [nI_clamp (n := s) (by omega)]
              exact nI_lt (by omega) (by omega)
    · cases N with
      | zero => omega
      | succ N =>
        rw [wY_enter_105]
        exact br_t (nI_le (by omega) (by omega)) h
  | succ m ih =>
    intro j fc fs fe fl fi me li bv bl hj W hsg hps hf
    have vj : vp_in (nI j) 48 := vp_in_nI (by omega) (by omega)
    have hkj := fs_k (sr_f S) j (by omega)
    have hL := ls_lt (sr_f S) (i := j) (by omega)
    by_cases fn : kd_ q j = 5 ∧ Lq_ q j = s
    · have jl : j ≤ lh_ q s := by
        have := (sr_m S).2.2.2.2.2.2.1.1 j (by omega) fn.1
        rw [fn.2] at this
        exact this
      rw [rf_, if_pos fn] at hf ⊢
      obtain ⟨me1, li1, bv1, bl1, W1, X1, bb, hb1, hb2, hb3, Y1⟩ := hs_ (yl := yl) (cy := cy) (cj := cj) (ip := ip) (ss := ss) (fa := fa) (cu := cu) (pc := pc) (tk := tk) (ou := ou) (ot := ot) (yp := yp) (yx := yx) S W (by omega) fn.1 fn.2 hsg hps (by omega)
      have ih1 := ih (j + 1) (fc + 1) _ _ _ _ _ _ _ _ (by omega) W1 hsg hps (by omega)
      rw [show fc + 1 + rf_ q s m (j + 1) = fc + (1 + rf_ q s m (j + 1)) by omega] at ih1
      obtain ⟨fs', fe', fl', fi', me', li', bv', bl', L2, W2, X2, Y2⟩ := ih1
      refine ⟨fs', fe', fl', fi', me', li', bv', bl', fun v hv => by rw [L2 v (by omega), up_n (by omega)], W2, fun post N hN h => ?_, fun post N hN h => ?_⟩
      · cases N with
        | zero => omega
        | succ N =>
          rw [wX_enter_101]
          refine And.intro vs (br_f ?_ ⟨vj, br_t ?_ ⟨vj, br_t ?_ (X1 _ (nm_r (nI_1 j) (X2 post N (by omega) h)))⟩⟩)
          · rw [nI_clamp (n := s) (by omega)]
            exact nI_nlt jl (by omega)
          · show nI (kd_ q (nI j).toNatClampNeg) = 5
            rw [nI_clamp (n := j) (by omega), fn.1]; rfl
          · show nI (ls_ q (nI j).toNatClampNeg) = nI s
            rw [nI_clamp (n := j) (by omega), ← hL.2, fn.2]
      · cases N with
        | zero => omega
        | succ N =>
          rw [wY_enter_105]
          refine br_f (nI_ge (by omega) (by omega)) ⟨vj, br_t ?_ ?_⟩
          · show nI (kd_ q (nI j).toNatClampNeg) = 5
            rw [nI_clamp (n := j) (by omega), fn.1]; rfl
          · refine yw_sc (q := q) (e := (yp, (nI cur), tk, ou, yb, yi, fc, yl, ip, ss, fa, bi, bm, bv, bl, io, fl, fi, cy, cj, yx)) (sr_f S) (by omega) ?_
            refine br_t (by rw [fn.2]) ⟨vj, ?_⟩
            show wpY_find _ _ _ (nI (ar_ q (4 * (nI j).toNatClampNeg + 1)))
            rw [nI_clamp (n := j) (by omega)]
            refine Y1 _ ?_
            subst hb2
            subst hb3
            exact yw_make (cur := cur) (by omega) rfl (yw_set (by omega) (nm_r (nI_1 j) (Y2 post N (by omega) h)))
    · rw [rf_, if_neg fn, Nat.zero_add] at hf ⊢
      have W1 : (RR q c ev ht cl fc sv sw me fs fe li cur yb yi bi bm bv bl io fl fi cx ci sg et oi wi kp ps (pe_ q s cur (j + 1))) := rr_px W (fun i x z => by
        obtain ⟨e1, j', g1, g2, g3, g4, g5⟩ := z
        have : j' ≠ j := fun e => fn (by subst e; exact ⟨g3, g4⟩)
        exact ⟨e1, j', by omega, g2, g3, g4, g5⟩)
      by_cases z : lh_ q s < j
      · have none : ∀ i, j ≤ i → i < nn_ q → ¬ (kd_ q i = 5 ∧ Lq_ q i = s) := by
          intro i i1 i2 hh
          have := (sr_m S).2.2.2.2.2.2.1.1 i i2 hh.1
          rw [hh.2] at this
          omega
        have rz : ∀ m j', j ≤ j' → j' + m ≤ nn_ q → rf_ q s m j' = 0 := by
          intro m
          induction m with
          | zero => intro j' _ _; rfl
          | succ m ihm =>
            intro j' h1 h2
            rw [rf_, if_neg (none j' h1 (by omega)), ihm (j' + 1) (by omega) (by omega)]
        rw [rz m (j + 1) (by omega) (by omega), Nat.add_zero]
        refine ⟨fs, fe, fl, fi, me, li, bv, bl, fun _ _ => rfl, ?_, fun post N hN h => ?_, fun post N hN h => ?_⟩
        · refine rr_px W (fun i x y => ?_)
          obtain ⟨-, j', g1, g2, g3, g4, -⟩ := y
          exact none j' g1 g2 ⟨g3, g4⟩
        · cases N with
          | zero => omega
          | succ N =>
            rw [wX_enter_101]
            refine And.intro vs (br_t ?_ h)
            rw [nI_clamp (n := s) (by omega)]
            exact nI_lt z (by omega)
        · have := yw_skip (yc := nI cur) (post := post) (yp := yp) (yu := tk) (yo := ou) (yb := yb) (yi := yi) (yf := fc) (yl := yl) (yn := ip) (yr := ss) (yt := fa) (bi := bi) (bm := bm) (fl := fl) (fi := fi) (cx := cy) (ci := cj) (bv := bv) (bl := bl) (io := io) (yx := yx) S hs (Nat.le_refl _) (m + 1) j (N - (m + 1)) hj none (by
            obtain ⟨N', hN'⟩ : ∃ N', N - (m + 1) = N' + 1 := ⟨N - (m + 1) - 1, by omega⟩
            rw [hN', wY_enter_105]
            exact br_t (nI_le (Nat.le_refl _) (by omega)) h)
          rw [show N - (m + 1) + (m + 1) = N by omega] at this
          exact this
      · obtain ⟨fs', fe', fl', fi', me', li', bv', bl', L2, W2, X2, Y2⟩ := ih (j + 1) fc fs fe fl fi me li bv bl (by omega) W1 hsg hps hf
        refine ⟨fs', fe', fl', fi', me', li', bv', bl', L2, W2, fun post N hN h => ?_, fun post N hN h => ?_⟩
        · cases N with
          | zero => omega
          | succ N =>
            rw [wX_enter_101]
            refine And.intro vs (br_f ?_ ⟨vj, ?_⟩)
            · rw [nI_clamp (n := s) (by omega)]
              exact nI_nlt (by omega) (by omega)
            · have go := X2 post N (by omega) h
              rw [nI_clamp (n := j) (by omega)]
              refine pk_eq (kd_ q j) 5 (fun k5 => ⟨vj, ?_⟩) (fun k5 => nm_r (nI_1 j) go) rfl rfl (by omega) (by omega)
              refine pk_eq (ls_ q j) s (fun e => absurd ⟨k5, by rw [hL.2, e]⟩ fn) (fun e => nm_r (nI_1 j) go) rfl rfl (by have := hL.1; omega) (by omega)
        · have := yw_skip (yc := nI cur) (post := post) (yp := yp) (yu := tk) (yo := ou) (yb := yb) (yi := yi) (yf := fc) (yl := yl) (yn := ip) (yr := ss) (yt := fa) (bi := bi) (bm := bm) (fl := fl) (fi := fi) (cx := cy) (ci := cj) (bv := bv) (bl := bl) (io := io) (yx := yx) (e := j + 1) S hs (by omega) 1 j (N - 1) (by omega) (fun i i1 i2 => by
            have : i = j := by omega
            subst this
            exact fn) (Y2 post (N - 1) (by omega) h)
          rw [show N - 1 + 1 = N by omega] at this
          exact this
end
end
section
section
variable {q : QT} {c : CT} {ip ss fa : Int32} {cu pc tk ou ev ht cl fc yp yb yi : Nat} {sv sw fs fe bi bm fl fi cx ci sg et oi wi kp ps sg' et' oi' wi' : Nat → Nat} {me li bv bl ot io yx io' : Nat → Int32}
theorem em_lo {s : Nat} {o : Int32} {j : Nat} (h5 : 512 ≤ j) (hj : j < ht) (hcl : cl ≤ 8) (h48 : st_ c s ≤ 48) : em_ q c me s cl ht o j = me j := by
  unfold em_ am_ cz_
  by_cases z : 0 < cc_ c s
  · rw [if_pos z]
    rw [if_neg (by omega), if_neg (by omega)]
    by_cases w : ow_ q s = s
    · rw [if_pos w, if_neg (by omega)]
    · rw [if_neg w]
  · rw [if_neg z]
    by_cases w : ow_ q s = s
    · rw [if_pos w, if_neg (by omega)]
    · rw [if_neg w]
theorem em_sl {s : Nat} {o : Int32} {j : Nat} (h5 : j < 512) (hht : 512 ≤ ht) (h48 : st_ c s ≤ 48) (hw : ow_ q s = s → j < 48 * cl ∨ 48 * cl + 48 ≤ j) : em_ q c me s cl ht o j = me j := by
  unfold em_ am_ cz_
  by_cases z : 0 < cc_ c s
  · rw [if_pos z, if_neg (by omega), if_neg (by omega)]
    by_cases w : ow_ q s = s
    · rw [if_pos w, if_neg (by have := hw w; omega)]
    · rw [if_neg w]
  · rw [if_neg z]
    by_cases w : ow_ q s = s
    · rw [if_pos w, if_neg (by have := hw w; omega)]
    · rw [if_neg w]
theorem em_cl {s : Nat} {o : Int32} {j : Nat} (hht : 512 ≤ ht) (h48 : st_ c s ≤ 48) (hcl : cl ≤ 8) (hw : ow_ q s = s) (hj : j < st_ c s) : em_ q c me s cl ht o (48 * cl + j) = 0 := by
  unfold em_ am_ cz_
  by_cases z : 0 < cc_ c s
  · rw [if_pos z, if_neg (by omega), if_neg (by omega), if_pos hw, if_pos (by omega)]
  · rw [if_neg z, if_pos hw, if_pos (by omega)]
theorem em_ht {s : Nat} {o : Int32} (z : 0 < cc_ c s) : em_ q c me s cl ht o ht = o := by
  unfold em_ am_
  rw [if_pos z, if_pos rfl]
theorem em_ce {s : Nat} {o : Int32} {k : Nat} (h1 : 1 ≤ k) (h2 : k ≤ cc_ c s) : em_ q c me s cl ht o (ht + k) = 0 ∧ el_ c li s ht (ht + k) = 0 := by
  have z : 0 < cc_ c s := by omega
  constructor
  · unfold em_ am_
    rw [if_pos z, if_neg (show ¬ ht + k = ht by omega), if_pos (show ht < ht + k ∧ ht + k ≤ ht + cc_ c s by omega), if_pos rfl]
  · unfold el_ al_
    rw [if_pos z, if_pos (show ht < ht + k ∧ ht + k ≤ ht + cc_ c s by omega), if_pos rfl]
theorem el_lo {s : Nat} {j : Nat} (hj : j < ht) : el_ c li s ht j = li j := by
  unfold el_ al_
  by_cases z : 0 < cc_ c s
  · rw [if_pos z, if_neg (by omega)]
  · rw [if_neg z]
theorem lv_01 (s x : Nat) : lv_ q s x = 0 ∨ lv_ q s x = 1 := by
  unfold lv_
  split
  · exact Or.inl rfl
  · exact Or.inr rfl
theorem ent_ (S : SR q c) {s o P' yl : Nat} {cy cj : Nat → Nat} {yc ov line ly : Int32} (R : RI q c yi ht io me sg et oi wi) (B : RB q c yi yb bi bm bv bl sg) (H : RH q c yb bi bm bv bl me li sg et) (Z : RS c yb bi bm bv me) (K : RK q yi yb bi bm bl sg oi wi)
    (N : RN q yi yb fc bi bm bl fs fe fl fi sg et oi wi (fun _ _ => False)) (T : ∀ k, k < cl → TF q c yi yb bi bm bv bl me sg oi wi (fun _ _ => False) k (kp k) (ps k))
    (hs : s < sn_ q) (hss : ss = -1) (ho : yi = 0 → s = 0 ∧ o = 0) (ho2 : 0 < yi → o < yi ∧ sg o = pa_ q s ∧ 0 < s) (hov : ov = if yi = 0 then -1 else nI o) (hev : ev = if yi = 0 then 0 else et o) (hf : ow_ q s = s → 0 < yi → 0 < cl) (h0 : yi = 0 → cl = 0 ∧ ht = 512)
    (hP : P' ≤ nn_ q) (hLP : s = Lq_ q P') (hP1 : s ≠ 0 → P' = sl_ q s + 1) (hP0 : s = 0 → P' = 0)
    (hk : ow_ q s = s → 0 < yi → ∀ b, b < yb → rc_ oi wi o (bi b) → lt_ q (8 * sg (bi b) + bm b) ≤ mk2_ q s → bl b = 1) (hold : ow_ q s ≠ s → TB q c yb bi bm bv bl me sg oi wi (fun _ _ => False) cl o P')
    (esg : sg' = up_ sg yi s) (eoi : oi' = up_ oi yi o) (ewi : wi' = up_ wi yi (if ow_ q s = s then yi else wi o)) (eet : et' = up_ et yi (if 0 < cc_ c s then ht else if yi = 0 then 0 else et o)) (eio : io' = upd io yi ov)
    (hV : RV cl (up_ kp cl yi) (up_ ps cl P') ci cx sv sw et' wi') (hcl : cl ≤ 8) (htk : tk ≤ 200) (hb : tk + nc_ c s ≤ mT_ q → yb + nc_ c s ≤ 248 ∧ fc + nc_ c s ≤ 248) (hyb : yb ≤ 240) (hyi : yi + 1 ≤ 450) (h512 : 512 ≤ ht) (hht : ht + cc_ c s + 1 ≤ 1000) (he0 : 0 < yi → 0 < cc_ c 0 → et 0 = 512) :
    (tk + nc_ c s ≤ mT_ q → ∃ (fc' : Nat) (fs' fe' fl' fi' bi' bm' : Nat → Nat) (me' li' bv' bl' : Nat → Int32), fc' ≤ fc + nc_ c s ∧ (∀ v, v ≤ fc → fl' v = fl v) ∧
      (RR q c (et' yi) (ht + (if 0 < cc_ c s then cc_ c s + 1 else 0)) cl fc' sv sw me' fs' fe' li' yi (yb + nc_ c s) (yi + 1) bi' bm' bv' bl' io' fl' fi' cx ci sg' et' oi' wi' (up_ kp cl yi) (up_ ps cl P') (fun _ _ => False)) ∧
      (∀ post : SX → Prop, post (XD q c ip ss cu (sl_ q s + 1) (tk + nc_ c s) ou (et' yi) (ht + (if 0 < cc_ c s then cc_ c s + 1 else 0)) cl fc' fa sv sw me' fs' fe' ot li') → wpX_enter post (XD q c ip ss cu pc tk ou ev ht cl fc fa sv sw me fs fe ot li) (nI s) line) ∧
      (∀ post : Int32 → SY → Prop, post 1 (YD q yp (nI yi) (tk + nc_ c s) ou (yb + nc_ c s) (yi + 1) fc' yl ip ss fa bi' bm' bv' bl' io' fl' fi' cy cj yx) → wpY_enter post (YD q yp yc tk ou yb yi fc yl ip ss fa bi bm bv bl io fl fi cy cj yx) (mo_ (sc_ (sl_ q) s)) ov ly)) ∧
    (mT_ q < tk + nc_ c s → (∀ post : SX → Prop, post (XD q c ip 5 cu pc tk ou ev ht cl fc line sv sw me fs fe ot li) → wpX_enter post (XD q c ip ss cu pc tk ou ev ht cl fc fa sv sw me fs fe ot li) (nI s) line) ∧ (∀ post : Int32 → SY → Prop, post 0 (YD q yp yc tk ou yb yi fc yl ip 5 ly bi bm bv bl io fl fi cy cj yx) → wpY_enter post (YD q yp yc tk ou yb yi fc yl ip ss fa bi bm bv bl io fl fi cy cj yx) (mo_ (sc_ (sl_ q) s)) ov ly)) := by
  have hn := sr_n S
  have cn := cc_nc S hs
  have h48 := st_48 S s hs
  have M := sr_m S
  have enc := (sr_l S hs).1
  refine ⟨fun hle => ?_, fun hgt => ⟨fun post h => ?_, fun post h => ?_⟩⟩
  · obtain ⟨hb1, hb2⟩ := hb hle
    have NBx : NB q c yi yb s 8 (dq2_ q s) (fun x => x) (fun _ => 0) (lv_ q s) bi bm (eN_ (dq2_ q s) yb bi (fun _ => yi) 8) (eN_ (dq2_ q s) yb bm (fun x => x) 8) bv bl (eI_ (dq2_ q s) yb bv (fun _ => 0) 8) (eI_ (dq2_ q s) yb bl (lv_ q s) 8) :=
      ⟨fun b h => ⟨eN_lo h 8, eN_lo h 8, eI_lo h 8, eI_lo h 8⟩, fun y h1 h2 => ⟨eN_at h2 8 h1, eN_at h2 8 h1, eI_at h2 8 h1, eI_at h2 8 h1⟩, fun y h1 h2 => ⟨h1, h2, lv_01 s y, fun _ => rfl⟩, fun y z _ _ _ _ e => e, fun x h1 h2 => ⟨x, h1, h2, rfl⟩, enc.symm⟩
    have R1 := gr_inst (me' := em_ q c me s cl ht (nI ev)) S R hs ho ho2 esg eoi ewi eet (eio.trans (by rw [hov])) h512 (fun j h1 h2 => em_lo h1 h2 hcl h48) (fun z => by rw [em_ht z, hev])
    have B1 := gr_bind B NBx esg
    have letP : ∀ x, x < 8 → bt (lx_ q s) x = true → ¬ pe_ q s yi (sl_ q s) yi x → P' < lt_ q (8 * s + x) := by
      intro x hx hb' hp
      obtain ⟨j, j1, j2, j3, j4⟩ := (M.1 s x hx).mp hb'
      have jl : P' ≤ j ∧ sl_ q s ≤ j := by
        by_cases z : s = 0
        · rw [hP0 z, z, (fs_r (sr_f S)).2.2.1]; omega
        · have := sl_lt (sr_f S) (i := j) (by omega) (by rw [j4]; exact z)
          rw [j4] at this
          rw [hP1 z]; omega
      rcases j2 with j2 | j2
      · have := (M.2.2.2.1 s x j hx).mpr ⟨j1, j2, j3, j4⟩
        omega
      · exact absurd ⟨rfl, j, jl.2, j1, j2, j4, j3⟩ hp
    have lt0 : ∀ x, x < 8 → bt (lx_ q s) x = false → lt_ q (8 * s + x) = 0 := by
      intro x hx hb'
      apply Classical.byContradiction
      intro z
      obtain ⟨j, hj⟩ : ∃ j, lt_ q (8 * s + x) = j + 1 := ⟨lt_ q (8 * s + x) - 1, by omega⟩
      obtain ⟨j1, j2, j3, j4⟩ := (M.2.2.2.1 s x j hx).mp hj
      have := (M.1 s x hx).mpr ⟨j, j1, Or.inl j2, j3, j4⟩
      rw [hb'] at this
      exact absurd this (by decide)
    have G := gr_rest (kp := kp) (ps := ps) (P' := P') (me' := em_ q c me s cl ht (nI ev)) (li' := el_ c li s ht) (px' := pe_ q s yi (sl_ q s)) S R B H Z K N NBx T ho ho2 hs esg eoi ewi eet hcl (fun j h1 h2 => ⟨em_lo h1 h2 hcl h48, el_lo h2⟩) (fun j h1 h2 => em_sl h1 h512 h48 h2) hf hP hLP
      (fun y h1 h2 h3 => by
        have := hm_cap S hs h1 h2 h3
        obtain ⟨e1, e2⟩ := em_ce (q := q) (c := c) (cl := cl) (me := me) (li := li) (ht := ht) (o := nI ev) (s := s) (k := hm_ c (8 * s + y)) (by omega) (by omega)
        refine ⟨e1, fun z => ?_⟩
        rw [e2]
        unfold lv_
        rw [if_pos]
        cases hb' : bt (lx_ q s) y with
        | true => rfl
        | false => exact absurd (lt0 y h1 hb') z)
      (fun z y h1 h2 h3 => by
        obtain ⟨s0, -⟩ := ho z
        obtain ⟨c0, -⟩ := h0 z
        have hu := hm_unc S hs h1 h2 (by rw [s0]; exact h3)
        have := em_cl (q := q) (c := c) (cl := cl) (me := me) (ht := ht) (o := nI ev) (s := s) (j := hm_ c (8 * s + y)) h512 h48 hcl (by rw [s0]; exact (sr_w S).2.1) hu.2
        rw [c0, s0, z48_] at this
        rw [s0, c0]
        exact this)
      hk (fun i x hi => ⟨fun z => by have := z.1; omega, fun z => z.elim⟩)
      (fun y h1 h2 => by
        refine ⟨fun h3 h4 => ?_, fun hp => ?_⟩
        · have hlf : bt (lx_ q s) y = false := by
            unfold lv_ at h4
            cases hb' : bt (lx_ q s) y with
            | false => rfl
            | true => rw [hb', if_pos rfl] at h4; exact absurd h4 (by decide)
          have how : ow_ q s = s := by
            apply Classical.byContradiction
            intro z
            have e : dq2_ q s y = bt (lx_ q s) y := if_neg z
            rw [e, hlf] at h2
            exact absurd h2 (by decide)
          exact em_cl h512 h48 hcl how (hm_unc S hs h1 h2 h3).2
        · cases hb' : bt (lx_ q s) y with
          | true =>
            have := letP y h1 hb' hp
            unfold lv_
            rw [hb', if_pos rfl]
            exact ⟨fun z => absurd z (by decide), fun z => by omega⟩
          | false =>
            have := lt0 y h1 hb'
            unfold lv_
            rw [hb', if_neg (by decide), this]
            exact ⟨fun _ => Nat.zero_le _, fun _ => rfl⟩)
      (fun z b h1 h2 => by
        obtain ⟨g1, g2⟩ := hold z b h1 h2
        exact ⟨g1, fun _ => g2 (fun v => v)⟩)
    rw [← enc] at B1 G
    obtain ⟨H1, Z1, K1, N1, T1, T2⟩ := G
    have eety : et' yi = if 0 < cc_ c s then ht else ev := by
      rw [eet, up_s, hev]
    have W1 : (RR q c (et' yi) (ht + (if 0 < cc_ c s then cc_ c s + 1 else 0)) cl fc sv sw (em_ q c me s cl ht (nI ev)) fs fe (el_ c li s ht) yi (yb + nc_ c s) (yi + 1) (eN_ (dq2_ q s) yb bi (fun _ => yi) 8) (eN_ (dq2_ q s) yb bm (fun x => x) 8) (eI_ (dq2_ q s) yb bv (fun _ => 0) 8) (eI_ (dq2_ q s) yb bl (lv_ q s) 8) io' fl fi cx ci sg' et' oi' wi' (up_ kp cl yi) (up_ ps cl P') (pe_ q s yi (sl_ q s))) := by
      refine ⟨R1, B1, H1, Z1, K1, N1, hV, fun k hk' => ?_, up_s, rfl, hcl, by omega, by omega, ?_, ?_, by omega, fun z => ?_⟩
      · by_cases e : k = cl
        · subst e
          rw [up_s, up_s]
          exact T2
        · rw [up_n e, up_n e]
          exact T1 k (by omega)
      · split <;> omega
      · split <;> omega
      · rw [eet]
        by_cases z2 : yi = 0
        · rw [z2, up_s]
          obtain ⟨s0, -⟩ := ho z2
          rw [s0, if_pos z, (h0 z2).2]
        · rw [up_n (by omega)]
          exact he0 (by omega) z
    have sln : sl_ q s ≤ nn_ q := by
      by_cases z : s = 0
      · rw [z, (fs_r (sr_f S)).2.2.1]; omega
      · have := (fs_c (sr_f S) s (by omega) hs).2.1; omega
    have slP : sl_ q s ≤ P' := by
      by_cases z : s = 0
      · rw [z, (fs_r (sr_f S)).2.2.1]; omega
      · rw [hP1 z]; omega
    have rfl1 : rf_ q s (nn_ q - sl_ q s) (sl_ q s) ≤ nc_ c s := by
      have h1 := rf_ct q s (nn_ q - sl_ q s) (sl_ q s)
      have h2 := rf_le S hs
      rw [show sl_ q s + (nn_ q - sl_ q s) = nn_ q by omega] at h1
      omega
    obtain ⟨fs', fe', fl', fi', me', li', bv', bl', L2, W2, X2, Y2⟩ := ho_ (yl := yl) (cy := cy) (cj := cj) (ip := ip) (ss := ss) (fa := fa) (cu := cu) (pc := sl_ q s + 1) (tk := tk + nc_ c s) (ou := ou) (ot := ot) (yp := yp) (yx := yx) S hs (nn_ q - sl_ q s) (sl_ q s) fc fs fe fl fi _ _ _ _ (by omega) W1 (by rw [esg, up_s]) (by rw [up_s]; exact slP) (by omega)
    refine ⟨fc + rf_ q s (nn_ q - sl_ q s) (sl_ q s), fs', fe', fl', fi', _, _, me', li', bv', bl', by omega, L2, W2, fun post h => ?_, fun post h => ?_⟩
    · refine xw_enter S hs hcl hss (by omega) hht (fun _ => ⟨nn_ q - sl_ q s + 2, ?_⟩) (fun z => by omega)
      rw [← eety]
      exact X2 post _ (Nat.le_refl _) h
    · refine yw_enter S hs (by omega) (by omega) hss (by omega) (fun _ => ⟨(nn_ q - sl_ q s + 1) + sl_ q s, ?_⟩) (fun z => by omega)
      rw [← enc]
      rw [eio] at Y2
      refine yw_skip S hs sln (sl_ q s) 0 (nn_ q - sl_ q s + 1) (by omega) (fun i i1 i2 hh => ?_) ?_
      · have z : s ≠ 0 := by
          intro z
          rw [z, (fs_r (sr_f S)).2.2.1] at i2
          omega
        have := sl_lt (sr_f S) (i := i) (by omega) (by rw [hh.2]; exact z)
        rw [hh.2] at this
        omega
      · rw [eio] at h
        exact Y2 post _ (Nat.lt_succ_self _) h
  · exact xw_enter S hs hcl hss (by omega) hht (fun z => by omega) (fun _ => h)
  · exact yw_enter S hs (by omega) (by omega) hss (by omega) (fun z => by omega) (fun _ => h)
end
end
section
section
variable {q : QT} {c : CT} {yp yu yo yb yi yf yl : Nat} {yc yn yr yt : Int32} {bi bm fl fi cx ci : Nat → Nat} {bv bl io yx : Nat → Int32}
theorem nar01 {v : Int32} (h : v = 0 ∨ v = 1) : vp_nar .boolean v = v := by rcases h with rfl | rfl <;> rfl
theorem yw_c70 {post : Int32 → SY → Prop} {old cur : Nat} (hold : old < 1000) (hyb : yb ≤ 256) (hb : yb + ct_ (fun b => decide (bi b = old)) yb ≤ 256) (hyc : yc = nI cur) (hbb : ∀ b, b < yb → bi b < 1000 ∧ bm b < 1000 ∧ (bl b = 0 ∨ bl b = 1))
    (h : post 1 (YD q yp yc yu yo (yb + ct_ (fun b => decide (bi b = old)) yb) yi yf yl yn yr yt (eN_ (fun b => decide (bi b = old)) yb bi (fun _ => cur) yb) (eN_ (fun b => decide (bi b = old)) yb bm bm yb) (eI_ (fun b => decide (bi b = old)) yb bv bv yb) (eI_ (fun b => decide (bi b = old)) yb bl bl yb) io fl fi cx ci yx)) :
    ∀ m x N, x + m = yb → m < N → wY_copy_70 post (nI old) (nI yb) N (nI x) (nI (mL_ q)) (nI (mT_ q)) (nI (mD_ q)) (nI (nn_ q)) (nI (yp)) yc (nI (yu)) (nI (yo)) (nI ((yb + ct_ (fun b => decide (bi b = old)) x))) (nI (yi)) (nI (yf)) (nI (yl)) yn yr yt (nI (cm_ q)) (fun i => nI (kd_ q i)) (fun i => nI (ar_ q (4 * i + 1))) (fun i => nI (ar_ q (4 * i + 2))) (fun i => nI (ar_ q (4 * i + 3))) (fun i => nI ((eN_ (fun b => decide (bi b = old)) yb bi (fun _ => cur) x) i)) (fun i => nI ((eN_ (fun b => decide (bi b = old)) yb bm bm x) i)) ((eI_ (fun b => decide (bi b = old)) yb bv bv x)) ((eI_ (fun b => decide (bi b = old)) yb bl bl x)) io (fun i => nI (fl i)) (fun i => nI (fi i)) (fun i => nI (cx i)) (fun i => nI (ci i)) yx := by
  intro m
  induction m with
  | zero =>
    intro x N hx hN
    cases N with
    | zero => omega
    | succ N =>
      have : x = yb := by omega
      subst this
      rw [wY_copy_70]
      exact br_t (nI_le (Nat.le_refl _) (by omega)) h
  | succ m ih =>
    intro x N hx hN
    cases N with
    | zero => omega
    | succ N =>
      rw [wY_copy_70]
      have ih := ih (x + 1) N (by omega) (by omega)
      have vx : vp_in (nI x) 256 := vp_in_nI (by omega) (by omega)
      obtain ⟨c1, c2, c3⟩ := hbb x (by omega)
      have e1 : (fun i => nI (eN_ (fun b => decide (bi b = old)) yb bi (fun _ => cur) x i)) (nI x).toNatClampNeg = nI (bi x) := by
        rw [ga_ (f := eN_ (fun b => decide (bi b = old)) yb bi (fun _ => cur) x) rfl (by omega), eN_lo (by omega)]
      have e2 : (fun i => nI (eN_ (fun b => decide (bi b = old)) yb bm bm x i)) (nI x).toNatClampNeg = nI (bm x) := by
        rw [ga_ (f := eN_ (fun b => decide (bi b = old)) yb bm bm x) rfl (by omega), eN_lo (by omega)]
      have e3 : eI_ (fun b => decide (bi b = old)) yb bv bv x (nI x).toNatClampNeg = bv x := by rw [nI_clamp (by omega), eI_lo (by omega)]
      have e4 : eI_ (fun b => decide (bi b = old)) yb bl bl x (nI x).toNatClampNeg = bl x := by rw [nI_clamp (by omega), eI_lo (by omega)]
      refine br_f (nI_ge (by omega) (by omega)) ⟨vx, ?_⟩
      refine pk_eq (bi x) old (fun e => ⟨vx, vx, vx, ?_⟩) (fun e => nm_r (nI_1 x) ?_) e1 rfl (by omega) (by omega)
      · have hd : decide (bi x = old) = true := decide_eq_true e
        have cl := ct_lt (P := fun b => decide (bi b = old)) (a := x) (b := yb) hd (by omega)
        rw [eN_, if_pos hd, eN_, if_pos hd, eI_, if_pos hd, eI_, if_pos hd, ct_, if_pos hd] at ih
        show wpY_bind _ _ ((fun i => nI (eN_ (fun b => decide (bi b = old)) yb bm bm x i)) (nI x).toNatClampNeg) _ _
        rw [e2, e3, e4]
        exact yw_bind (cur := cur) (by omega) hyc (nar01 c3) (nm_r (nI_1 x) ih)
      · have hd : ¬ decide (bi x = old) = true := by rw [decide_eq_true_iff]; exact e
        rw [eN_, if_neg hd, eN_, if_neg hd, eI_, if_neg hd, eI_, if_neg hd, ct_, if_neg hd, Nat.add_zero] at ih
        exact ih
theorem yw_c16 {post : Int32 → SY → Prop} {old o : Nat} {line : Int32} (hold : old < yi) (hyi : yi < 512) (hyb : yb ≤ 256) (hr : yr = -1) (hm : mT_ q ≤ 200) (hu : yu ≤ 200) (hio : io old = nI o) (hct : ct_ (fun b => decide (bi b = old)) yb ≤ 8) (hbb : ∀ b, b < yb → bi b < 1000 ∧ bm b < 1000 ∧ (bl b = 0 ∨ bl b = 1))
    (hb : yu + ct_ (fun b => decide (bi b = old)) yb ≤ mT_ q → yb + ct_ (fun b => decide (bi b = old)) yb ≤ 256)
    (h1 : yu + ct_ (fun b => decide (bi b = old)) yb ≤ mT_ q → post 1 (YD q yp (nI yi) (yu + ct_ (fun b => decide (bi b = old)) yb) yo (yb + ct_ (fun b => decide (bi b = old)) yb) (yi + 1) yf yl yn yr yt (eN_ (fun b => decide (bi b = old)) yb bi (fun _ => yi) yb) (eN_ (fun b => decide (bi b = old)) yb bm bm yb) (eI_ (fun b => decide (bi b = old)) yb bv bv yb) (eI_ (fun b => decide (bi b = old)) yb bl bl yb) (upd io yi (nI o)) fl fi cx ci yx))
    (h2 : mT_ q < yu + ct_ (fun b => decide (bi b = old)) yb → post 0 (YD q yp yc yu yo yb yi yf yl yn 5 line bi bm bv bl io fl fi cx ci yx)) :
    ∀ m x N, x + m = yb → m < N → wY_copy_16 post line (nI old) (nI yb) (nI (mL_ q)) (nI (mT_ q)) (nI (mD_ q)) (nI (nn_ q)) (nI (yp)) yc (nI (yu)) (nI (yo)) (nI (yb)) (nI (yi)) (nI (yf)) (nI (yl)) yn yr yt (nI (cm_ q)) (fun i => nI (kd_ q i)) (fun i => nI (ar_ q (4 * i + 1))) (fun i => nI (ar_ q (4 * i + 2))) (fun i => nI (ar_ q (4 * i + 3))) (fun i => nI (bi i)) (fun i => nI (bm i)) bv bl io (fun i => nI (fl i)) (fun i => nI (fi i)) (fun i => nI (cx i)) (fun i => nI (ci i)) yx N (nI (ct_ (fun b => decide (bi b = old)) x)) (nI x) := by
  intro m
  induction m with
  | zero =>
    intro x N hx hN
    cases N with
    | zero => omega
    | succ N =>
      have : x = yb := by omega
      subst this
      rw [wY_copy_16]
      refine br_t (nI_le (Nat.le_refl _) (by omega)) (yw_take hr hm (by omega) (fun hle => br_f (by decide) (yw_out hold (by omega) ?_)) (fun hgt => br_t rfl (h2 hgt)))
      rw [hio]
      refine yw_inst hyi ⟨x + 1, ?_⟩
      exact yw_c70 (cur := yi) (by omega) (by omega) (hb hle) rfl hbb (h1 hle) x 0 (x + 1) (by omega) (by omega)
  | succ m ih =>
    intro x N hx hN
    cases N with
    | zero => omega
    | succ N =>
      rw [wY_copy_16]
      have ih := ih (x + 1) N (by omega) (by omega)
      obtain ⟨c1, c2, c3⟩ := hbb x (by omega)
      refine br_f (nI_ge (by omega) (by omega)) ⟨vp_in_nI (by omega) (by omega), ?_⟩
      refine pk_eq (bi x) old (fun e => ?_) (fun e => ?_) (ga_ rfl (by omega)) rfl (by omega) (by omega)
      · rw [ct_, if_pos (decide_eq_true e)] at ih
        exact nm_r (nI_1 _) (nm_r (nI_1 x) ih)
      · rw [ct_, if_neg (by rw [decide_eq_true_iff]; exact e), Nat.add_zero] at ih
        exact nm_r (nI_1 x) ih
end
section
variable {q : QT} {c : CT} {ip ss fa : Int32} {cu pc tk ou ev ht cl fc yp yb yi : Nat} {sv sw fs fe bi bm fl fi cx ci sg et oi wi kp ps sg' et' oi' wi' : Nat → Nat} {me li bv bl ot io yx io' : Nat → Int32}
theorem xw_copy {post : SX → Prop} {s loop : Nat} (S : SR q c) (hl : loop < 48) (hod : od_ q loop = s) (hs : s < sn_ q) (hss : ss = -1) (htk : tk ≤ 200) (hht : ht + cc_ c s + 1 ≤ 1000) {o : Nat} (hev : 0 < cc_ c s → ev + cc_ c s < ht ∧ 512 ≤ ev ∧ me ev = nI o)
    (h1 : tk + nc_ c s ≤ mT_ q → post (XD q c ip ss cu pc (tk + nc_ c s) ou (if 0 < cc_ c s then ht else ev) (ht + (if 0 < cc_ c s then cc_ c s + 1 else 0)) cl fc fa sv sw (if 0 < cc_ c s then am_ me ht (cc_ c s) (nI o) ev else me) fs fe ot (if 0 < cc_ c s then al_ li ht (cc_ c s) ev else li)))
    (h2 : mT_ q < tk + nc_ c s → post (XD q c ip 5 cu pc tk ou ev ht cl fc (nI loop) sv sw me fs fe ot li)) : wpX_copyLoop post (XD q c ip ss cu pc tk ou ev ht cl fc fa sv sw me fs fe ot li) (nI loop) := by
  have hn := sr_n S
  have cn := cc_nc S hs
  have hm := S.2.2.2.2.2.1
  have vs : vp_in (nI s) 64 := vp_in_nI (by omega) (by omega)
  subst hss
  refine And.intro (vp_in_nI hl (by omega)) (nm_r (e' := nI s) (by rw [← hod]; exact ga_ rfl (by omega)) (And.intro vs ?_))
  refine xw_takeP (k := nc_ c s) (ga_ rfl (by omega)) hm (by omega) (fun hle => br_t rfl ⟨vs, ?_⟩) (fun hgt => br_f (by decide) (h2 hgt))
  have h := h1 hle
  refine pk_le (cc_ c s) 0 (fun z => ?_) (fun z => ⟨?_, ?_⟩) (ga_ rfl (by omega)) rfl (by omega) (by omega)
  · rw [if_neg (by omega), if_neg (by omega), if_neg (by omega), if_neg (by omega), Nat.add_zero] at h
    exact h
  · have := (hev z).1
    exact vp_in_nI (by omega) (by omega)
  · obtain ⟨e1, e2, e3⟩ := hev z
    rw [if_pos z, if_pos z, if_pos z, if_pos z] at h
    rw [nI_clamp (n := ev) (by omega), e3]
    exact xw_alloc (by omega) (by omega) hht (Or.inr e1) h
theorem cop_ (S : SR q c) {s old P P' loop : Nat} (R : RI q c yi ht io me sg et oi wi) (B : RB q c yi yb bi bm bv bl sg) (H : RH q c yb bi bm bv bl me li sg et) (Z : RS c yb bi bm bv me) (K : RK q yi yb bi bm bl sg oi wi)
    (N : RN q yi yb fc bi bm bl fs fe fl fi sg et oi wi (fun _ _ => False)) (T : ∀ k, k < cl → TF q c yi yb bi bm bv bl me sg oi wi (fun _ _ => False) k (kp k) (ps k)) (hTB : TB q c yb bi bm bv bl me sg oi wi (fun _ _ => False) cl old P)
    (hold : old < yi) (hsg : sg old = s) (h0 : 0 < s) (hw : ow_ q s ≠ s) (hloop : loop < nn_ q) (hod : od_ q loop = s) (hss : ss = -1) (hev : ev = et old) (hP : P' ≤ nn_ q) (hLP : s = Lq_ q P')
    (hPP : ∀ t x, rc_ (pa_ q) (ow_ q) s t → x < 8 → (lt_ q (8 * t + x) ≤ P ↔ lt_ q (8 * t + x) ≤ P'))
    (esg : sg' = up_ sg yi s) (eoi : oi' = up_ oi yi (oi old)) (ewi : wi' = up_ wi yi (wi (oi old))) (eet : et' = up_ et yi (if 0 < cc_ c s then ht else et (oi old))) (eio : io' = upd io yi (nI (oi old)))
    (hV : RV cl (up_ kp cl yi) (up_ ps cl P') ci cx sv sw et' wi') (hcl : cl ≤ 8) (htk : tk ≤ 200) (hb : tk + nc_ c s ≤ mT_ q → yb + nc_ c s ≤ 248) (hyb : yb ≤ 240) (hyi : yi + 1 ≤ 450) (h512 : 512 ≤ ht) (hht : ht + cc_ c s + 1 ≤ 1000) (he0 : 0 < cc_ c 0 → et 0 = 512) :
    (tk + nc_ c s ≤ mT_ q → ∃ (bi' bm' : Nat → Nat) (me' li' bv' bl' : Nat → Int32),
      (RR q c (et' yi) (ht + (if 0 < cc_ c s then cc_ c s + 1 else 0)) cl fc sv sw me' fs fe li' yi (yb + nc_ c s) (yi + 1) bi' bm' bv' bl' io' fl fi cx ci sg' et' oi' wi' (up_ kp cl yi) (up_ ps cl P') (fun _ _ => False)) ∧
      (∀ post : SX → Prop, post (XD q c ip ss cu pc (tk + nc_ c s) ou (et' yi) (ht + (if 0 < cc_ c s then cc_ c s + 1 else 0)) cl fc fa sv sw me' fs fe ot li') → wpX_copyLoop post (XD q c ip ss cu pc tk ou ev ht cl fc fa sv sw me fs fe ot li) (nI loop)) ∧
      (∀ post : Int32 → SY → Prop, post 1 (YD q yp (nI yi) (tk + nc_ c s) ou (yb + nc_ c s) (yi + 1) fc cl ip ss fa bi' bm' bv' bl' io' fl fi cx ci yx) → wpY_copy post (YD q yp (nI old) tk ou yb yi fc cl ip ss fa bi bm bv bl io fl fi cx ci yx) (nI loop))) ∧
    (mT_ q < tk + nc_ c s → (∀ post : SX → Prop, post (XD q c ip 5 cu pc tk ou ev ht cl fc (nI loop) sv sw me fs fe ot li) → wpX_copyLoop post (XD q c ip ss cu pc tk ou ev ht cl fc fa sv sw me fs fe ot li) (nI loop)) ∧ (∀ post : Int32 → SY → Prop, post 0 (YD q yp (nI old) tk ou yb yi fc cl ip 5 (nI loop) bi bm bv bl io fl fi cx ci yx) → wpY_copy post (YD q yp (nI old) tk ou yb yi fc cl ip ss fa bi bm bv bl io fl fi cx ci yx) (nI loop))) := by
  have hn := sr_n S
  have hm := S.2.2.2.2.2.1
  have hs := ri_s R hold
  rw [hsg] at hs
  have cn := cc_nc S hs
  obtain ⟨r1, r2, r3, r4, r5, r6, r7⟩ := R.2.2.2.1 old hold
  have old0 : 0 < old := by
    apply Nat.pos_of_ne_zero
    intro z
    rw [z, R.1] at hsg
    omega
  have g4 := r4 old0
  rw [hsg] at r2 r3 r6 r7 g4
  have hct : ct_ (fun b => decide (bi b = old)) yb = nc_ c s := by rw [B.2.2.2 old hold, hsg]
  have hbb : ∀ b, b < yb → bi b < 1000 ∧ bm b < 1000 ∧ (bl b = 0 ∨ bl b = 1) := fun b h => ⟨by have := (B.1 b h).1; omega, by have := (B.1 b h).2.1; omega, (B.1 b h).2.2.2.1⟩
  have evc : 0 < cc_ c s → ev + cc_ c s < ht ∧ 512 ≤ ev ∧ me ev = nI (et (oi old)) := by
    intro z
    obtain ⟨g1, g2, g3⟩ := r6 z
    rw [if_neg (by omega)] at g3
    rw [hev]
    exact ⟨g2, g1, g3⟩
  have YY : ∀ post : Int32 → SY → Prop, (tk + nc_ c s ≤ mT_ q → post 1 (YD q yp (nI yi) (tk + nc_ c s) ou (yb + nc_ c s) (yi + 1) fc cl ip ss fa (eN_ (fun b => decide (bi b = old)) yb bi (fun _ => yi) yb) (eN_ (fun b => decide (bi b = old)) yb bm bm yb) (eI_ (fun b => decide (bi b = old)) yb bv bv yb) (eI_ (fun b => decide (bi b = old)) yb bl bl yb) io' fl fi cx ci yx)) → (mT_ q < tk + nc_ c s → post 0 (YD q yp (nI old) tk ou yb yi fc cl ip 5 (nI loop) bi bm bv bl io fl fi cx ci yx)) → wpY_copy post (YD q yp (nI old) tk ou yb yi fc cl ip ss fa bi bm bv bl io fl fi cx ci yx) (nI loop) := by
    intro post h1 h2
    refine ⟨yb + 1, ?_⟩
    have := yw_c16 (post := post) (yc := nI old) (yp := yp) (yo := ou) (yf := fc) (yl := cl) (yn := ip) (yt := fa) (fl := fl) (fi := fi) (cx := cx) (ci := ci) (bv := bv) (yx := yx) (o := oi old) (line := nI loop) hold (by omega) (by omega) hss hm htk g4.2.2.2 (by omega) hbb (by rw [hct]; intro z; have := hb z; omega) (by rw [hct]; intro z; rw [eio] at h1; exact h1 z) (by rw [hct]; exact h2) yb 0 (yb + 1) (by omega) (by omega)
    exact this
  refine ⟨fun hle => ?_, fun hgt => ⟨fun post h => ?_, fun post h => YY post (fun z => by omega) (fun _ => h)⟩⟩
  · have NBx : NB q c yi yb s yb (fun b => decide (bi b = old)) bm bv bl bi bm (eN_ (fun b => decide (bi b = old)) yb bi (fun _ => yi) yb) (eN_ (fun b => decide (bi b = old)) yb bm bm yb) bv bl (eI_ (fun b => decide (bi b = old)) yb bv bv yb) (eI_ (fun b => decide (bi b = old)) yb bl bl yb) := by
      refine ⟨fun b h => ⟨eN_lo h yb, eN_lo h yb, eI_lo h yb, eI_lo h yb⟩, fun y h1 h2 => ⟨eN_at h2 yb h1, eN_at h2 yb h1, eI_at h2 yb h1, eI_at h2 yb h1⟩, fun y h1 h2 => ?_, fun y z h1 h2 h3 h4 e => ?_, fun x h1 h2 => ?_, hct⟩
      · have e := of_decide_eq_true h2
        obtain ⟨f1, f2, f3, f4, f5⟩ := B.1 y h1
        rw [e, hsg] at f3
        exact ⟨f2, f3, f4, f5⟩
      · have e1 := of_decide_eq_true h3
        have e2 := of_decide_eq_true h4
        exact B.2.2.1 y z h1 h2 (by rw [e1, e2]) e
      · obtain ⟨b, b1, b2, b3⟩ := B.2.1 old x hold h1 (by rw [hsg]; exact h2)
        exact ⟨b, b1, decide_eq_true b2, b3⟩
    have ho : yi = 0 → s = 0 ∧ oi old = 0 := fun z => by omega
    have ho2 : 0 < yi → oi old < yi ∧ sg (oi old) = pa_ q s ∧ 0 < s := fun _ => ⟨by have := g4.2.1; omega, r2, h0⟩
    have ewi' : wi' = up_ wi yi (if ow_ q s = s then yi else wi (oi old)) := by rw [ewi, if_neg hw]
    have eet' : et' = up_ et yi (if 0 < cc_ c s then ht else if yi = 0 then 0 else et (oi old)) := by rw [eet, if_neg (show ¬ yi = 0 by omega)]
    have eio' : io' = upd io yi (if yi = 0 then -1 else nI (oi old)) := by rw [eio, if_neg (by omega)]
    have mlo : ∀ j, j < ht → (if 0 < cc_ c s then am_ me ht (cc_ c s) (nI (et (oi old))) ev else me) j = me j ∧ (if 0 < cc_ c s then al_ li ht (cc_ c s) ev else li) j = li j := by
      intro j hj
      by_cases z : 0 < cc_ c s
      · rw [if_pos z, if_pos z]
        unfold am_ al_
        rw [if_neg (by omega), if_neg (by omega), if_neg (by omega)]
        exact ⟨rfl, rfl⟩
      · rw [if_neg z, if_neg z]
        exact ⟨rfl, rfl⟩
    have R1 := gr_inst (me' := if 0 < cc_ c s then am_ me ht (cc_ c s) (nI (et (oi old))) ev else me) S R hs ho ho2 esg eoi ewi' eet' eio' h512 (fun j _ h2 => (mlo j h2).1) (fun z => by
      rw [if_pos z, if_neg (by omega)]
      unfold am_
      rw [if_pos rfl])
    have B1 := gr_bind B NBx esg
    have rself : ∀ b, b < yb → bi b = old → (bt (cp_ c s) (bm b) = false → bl b = 1 → me (48 * cl + hm_ c (8 * s + bm b)) = bv b) ∧ (bl b = 1 ↔ lt_ q (8 * s + bm b) ≤ P) := by
      intro b h1 h2
      have := hTB b h1 (by rw [h2]; exact rc_self _ _ _)
      rw [h2, hsg] at this
      exact ⟨this.1, this.2 (fun z => z)⟩
    have G := gr_rest (kp := kp) (ps := ps) (P' := P') (me' := if 0 < cc_ c s then am_ me ht (cc_ c s) (nI (et (oi old))) ev else me) (li' := if 0 < cc_ c s then al_ li ht (cc_ c s) ev else li) (px' := fun _ _ => False) S R B H Z K N NBx T ho ho2 hs esg eoi ewi' eet' hcl (fun j _ h2 => mlo j h2) (fun j h1 _ => (mlo j (by omega)).1) (fun z => absurd z hw) hP hLP
      (fun y h1 h2 h3 => by
        have e := of_decide_eq_true h2
        obtain ⟨f1, f2, f3, f4, f5⟩ := B.1 y h1
        rw [e, hsg] at f3
        have hc := hm_cap S hs f2 f3 h3
        have hh := H y h1 (by rw [e, hsg]; exact h3)
        rw [e, hsg] at hh
        have ez : 0 < cc_ c s := by omega
        have e5 := (evc ez).2.1
        rw [if_pos ez, if_pos ez]
        unfold am_ al_
        rw [if_neg (by omega), if_pos (by omega), if_neg (by omega), if_pos (by omega), if_neg (by omega)]
        have e6 : ev + (ht + hm_ c (8 * s + bm y) - ht) = et old + hm_ c (8 * s + bm y) := by rw [hev]; omega
        rw [e6]
        refine ⟨hh.1, fun z => ?_⟩
        rw [hh.2 z]
        rcases f4 with z' | z'
        · rw [z', if_pos rfl]
        · rw [z', if_neg (by decide)])
      (fun z => by omega) (fun z => absurd z hw) (fun i x _ => Iff.rfl)
      (fun y h1 h2 => by
        have e := of_decide_eq_true h2
        obtain ⟨g1, g2⟩ := rself y h1 e
        obtain ⟨f1, f2, f3, f4, f5⟩ := B.1 y h1
        rw [e, hsg] at f3
        refine ⟨fun h3 h4 => ?_, fun _ => ?_⟩
        · have := hm_slot S hs f2 f3 h3
          rw [(mlo _ (by omega)).1]
          exact g1 h3 h4
        · rw [g2]
          exact hPP s (bm y) (rc_self _ _ _) f2)
      (fun _ b h1 h2 => by
        have hr : rc_ oi wi old (bi b) := rc_up1 (fun z => hw (r3.mp z)) h2
        obtain ⟨g1, g2⟩ := hTB b h1 hr
        obtain ⟨f1, f2, f3, f4, f5⟩ := B.1 b h1
        have sc := ri_rc R old hold hr
        rw [hsg] at sc
        refine ⟨g1, fun _ => ?_⟩
        rw [g2 (fun z => z)]
        exact hPP _ _ sc f2)
    rw [hct] at B1 G
    obtain ⟨H1, Z1, K1, N1, T1, T2⟩ := G
    have eety : et' yi = if 0 < cc_ c s then ht else ev := by
      rw [eet, up_s]
      by_cases z : 0 < cc_ c s
      · rw [if_pos z, if_pos z]
      · rw [if_neg z, if_neg z, hev, r7 (by omega), if_neg (by omega)]
    refine ⟨_, _, _, _, _, _, ⟨R1, B1, H1, Z1, K1, N1, hV, fun k hk' => ?_, up_s, rfl, hcl, by have := hb hle; omega, by omega, ?_, ?_, by omega, fun z => ?_⟩, fun post h => ?_, fun post h => YY post (fun _ => h) (fun z => by omega)⟩
    · by_cases e : k = cl
      · subst e
        rw [up_s, up_s]
        exact T2
      · rw [up_n e, up_n e]
        exact T1 k (by omega)
    · split <;> omega
    · split <;> omega
    · rw [eet, up_n (by omega)]
      exact he0 z
    · refine xw_copy S (by omega) hod hs hss htk hht evc (fun _ => ?_) (fun z => by omega)
      rw [← eety]
      exact h
  · exact xw_copy S (by omega) hod hs hss htk hht evc (fun z => by omega) (fun _ => h)
end
end
section
section
variable {q : QT} {c : CT} {ip ss fa : Int32} {cu pc tk ou ev ht cl fc yi : Nat} {sv sw fs fe sg et oi wi : Nat → Nat} {me ot li io : Nat → Int32}
theorem xw_u12 {post : SX → Prop} {j : Nat} (S : SR q c) (R : RI q c yi ht io me sg et oi wi) (hht : ht ≤ 1000) (hj : j < yi) (h : post (XD q c ip ss cu pc tk ou (et j) ht cl fc fa sv sw me fs fe ot li)) :
    ∀ i, i < yi → ac_ oi i j → ∀ N, hd_ c (sg i) - hd_ c (sg j) < N → wX_unwind_12 post (nI (sg j)) 0 1 2 3 0 1 2 3 4 5 (-1) 48 512 (nI (mL_ q)) (nI (mT_ q)) (nI (mD_ q)) (nI (cm_ q)) (nI (nn_ q)) (nI (sp_ q)) (nI (sn_ q)) (nI (oc_ q)) ip ss (nI (cu)) (nI (pc)) (nI (tk)) (nI (ou)) (nI (ht)) (nI (cl)) (nI (fc)) fa (fun i => nI (kd_ q i)) (fun i => nI (ls_ q i)) (fun i => nI (oe_ q i)) (fun i => nI (od_ q i)) (fun i => nI (ar_ q i)) (fun i => nI (se_ q i)) (fun i => nI (ol_ q i)) (fun i => nI (pl_ q i)) (fun i => nI (sv i)) (fun i => nI (sw i)) (fun i => nI (pa_ q i)) (fun i => nI (ow_ q i)) (fun i => nI (sl_ q i)) (fun i => nI (lo_ q i)) (lx_ q) (an_ q) (vn_ q) (fun i => nI (lh_ q i)) (cp_ c) (fun i => nI (st_ c i)) (fun i => nI (nc_ c i)) (fun i => nI (cc_ c i)) (fun i => nI (hd_ c i)) (fun i => nI (lt_ q i)) (fun i => nI (hm_ c i)) (fun i => nI (rm_ c i)) (ri_ c) (fun i => nI (rh_ c i)) me (fun i => nI (fs i)) (fun i => nI (fe i)) ot li N (nI (hd_ c (sg i))) (nI (et i)) := by
  have hn := sr_n S
  have w := ri_w R
  have sj := ri_s R hj
  have bb := ly_b (sr_f S) (Nat.le_refl _) (fun s hs => sr_l S hs)
  intro i
  induction i using Nat.strongRecOn with
  | _ i ih =>
    intro hi ha N hN
    have si := ri_s R hi
    have b1 := (bb _ si).2
    have b2 := (bb _ sj).2
    by_cases e : i = j
    · subst e
      cases N with
      | zero => omega
      | succ N =>
        rw [wX_unwind_12]
        refine And.intro (vp_in_nI (by omega) (by omega)) (br_t ?_ h)
        rw [nI_clamp (n := sg i) (by omega)]
        exact nI_le (Nat.le_refl _) (by omega)
    · have ha2 : ac_ oi (oi i) j := by
        rcases ac_it.mp ha with z | z
        · exact absurd z e
        · exact z
      have i0 : 0 < i := by
        apply Nat.pos_of_ne_zero
        intro z
        subst z
        have := ac_le w 0 hi ha
        omega
      obtain ⟨r1, r2, r3, r4, r5, r6, r7⟩ := R.2.2.2.1 i hi
      have lt := (r4 i0).2.1
      have LYi := (sr_l S r1).2.2.2.2
      rw [if_neg (by have := (r4 i0).1; omega)] at LYi
      have hdm := hd_ac (sr_f S) (fun s hs => sr_l S hs) _ (ri_s R (show oi i < yi by omega)) (ri_ac R _ (by omega) ha2)
      rw [r2] at hdm
      by_cases c0 : 0 < cc_ c (sg i)
      · rw [if_pos c0] at LYi
        obtain ⟨g1, g2, g3⟩ := r6 c0
        rw [if_neg (by omega)] at g3
        cases N with
        | zero => omega
        | succ N =>
          rw [wX_unwind_12]
          refine And.intro (vp_in_nI (by omega) (by omega)) (br_f ?_ ⟨vp_in_nI (by omega) (by omega), nm_r (e' := nI (et (oi i))) ?_ (nm_r (e' := nI (hd_ c (sg (oi i)))) ?_ (ih _ lt (by omega) ha2 N (by rw [r2]; omega)))⟩)
          · rw [nI_clamp (n := sg j) (by omega)]
            exact nI_ge (by omega) (by omega)
          · rw [nI_clamp (by omega)]; exact g3
          · rw [r2, LYi]
            exact pk_m1 _
      · rw [if_neg c0] at LYi
        have g := r7 (by omega)
        rw [if_neg (by omega)] at g
        have := ih _ lt (by omega) ha2 N (by rw [r2]; omega)
        rw [g, LYi, Nat.add_zero, ← r2]
        exact this
theorem xw_unw {post : SX → Prop} {j cur line t : Nat} (S : SR q c) (R : RI q c yi ht io me sg et oi wi) (hht : ht ≤ 1000) (hl : line < nn_ q) (hcur : cur < yi) (hsg : sg cur = ls_ q line) (hev : ev = et cur) (ha : ac_ oi cur j) (hj : sg j = t) (h : post (XD q c ip ss cu pc tk ou (et j) ht cl fc fa sv sw me fs fe ot li)) : wpX_unwind post (XD q c ip ss cu pc tk ou ev ht cl fc fa sv sw me fs fe ot li) (nI line) (nI t) := by
  have hn := sr_n S
  have sc := ri_s R hcur
  have jl := ac_le (ri_w R) cur hcur ha
  subst hev
  subst hj
  refine And.intro (vp_in_nI (by omega) (by omega)) (And.intro (pk_in (ls_ q line) 64 (by omega) (ga_ rfl (by omega)) (by omega)) (nm_r (e' := nI (hd_ c (sg cur))) (by rw [hsg]; exact ga_ (ga_ rfl (by omega)) (by omega)) ⟨hd_ c (sg cur) + 1, ?_⟩))
  exact xw_u12 S R hht (by omega) h cur hcur ha _ (by omega)
end
section
variable {q : QT} {c : CT} {yp yu yo yb yi yf yl ht : Nat} {yc yn yr yt : Int32} {bi bm fl fi cx ci sg et oi wi : Nat → Nat} {bv bl io yx me : Nat → Int32}
theorem yw_if17 {post : Int32 → Prop} {j : Nat} (S : SR q c) (R : RI q c yi ht io me sg et oi wi) (hy : yi ≤ 500) (hj : j < yi) (h : post (nI j)) :
    ∀ i, i < yi → ac_ oi i j → ∀ t N, sg i + t ≤ 48 → sg i < N → wY_instanceFor_17 post (mo_ (sc_ (sl_ q) (sg j))) (nI (mL_ q)) (nI (mT_ q)) (nI (mD_ q)) (nI (nn_ q)) (nI (yp)) yc (nI (yu)) (nI (yo)) (nI (yb)) (nI (yi)) (nI (yf)) (nI (yl)) yn yr yt (nI (cm_ q)) (fun i => nI (kd_ q i)) (fun i => nI (ar_ q (4 * i + 1))) (fun i => nI (ar_ q (4 * i + 2))) (fun i => nI (ar_ q (4 * i + 3))) (fun i => nI (bi i)) (fun i => nI (bm i)) bv bl io (fun i => nI (fl i)) (fun i => nI (fi i)) (fun i => nI (cx i)) (fun i => nI (ci i)) yx N (mo_ (sc_ (sl_ q) (sg i))) (nI i) (nI t) := by
  have hn := sr_n S
  have w := ri_w R
  intro i
  induction i using Nat.strongRecOn with
  | _ i ih =>
    intro hi ha t N ht1 hN
    cases N with
    | zero => omega
    | succ N =>
      rw [wY_instanceFor_17]
      by_cases e : i = j
      · subst e
        exact br_c (fun _ => h) (fun _ => br_t rfl h)
      · have lt := ri_lt S R i hi ha (fun z => e z.symm)
        have ha2 : ac_ oi (oi i) j := by
          rcases ac_it.mp ha with z | z
          · exact absurd z e
          · exact z
        have i0 : 0 < i := by
          apply Nat.pos_of_ne_zero
          intro z
          subst z
          have := ac_le w 0 hi ha
          omega
        obtain ⟨r1, r2, r3, r4, r5, r6, r7⟩ := R.2.2.2.1 i hi
        have g := r4 i0
        have cs := fs_c (sr_f S) (sg i) g.1 r1
        have ns : ¬ mo_ (sc_ (sl_ q) (sg i)) = mo_ (sc_ (sl_ q) (sg j)) := fun z => by
          have := (sc_eq (sr_f S) r1 (ri_s R hj)).mp z
          omega
        refine br_f (nI_ge (b := 48) (by omega) (by decide)) (br_f ns ?_)
        rw [sc_pos (sr_f S) g.1]
        refine br_f (nI_pos (by have := cs.2.1; omega)) (yw_out hi (by omega) ?_)
        refine yw_sc (q := q) (e := (yp, yc, yu, yo, yb, yi, yf, yl, yn, yr, yt, bi, bm, bv, bl, io, fl, fi, cx, ci, yx)) (sr_f S) (by have := cs.2.1; omega) (nm_r (nI_1 t) ?_)
        rw [← cs.2.2.2.1, ← r2, g.2.2.2]
        have p := ((sr_w S).2.2 (sg i) g.1 r1).1
        exact ih _ g.2.1 (by omega) ha2 (t + 1) N (by rw [r2]; omega) (by rw [r2]; omega)
theorem yw_ifor {post : Int32 → Prop} {j cur t : Nat} (S : SR q c) (R : RI q c yi ht io me sg et oi wi) (hy : yi ≤ 500) (hcur : cur < yi) (hyc : yc = nI cur) (hyp : yp ≤ nn_ q) (hsg : sg cur = Lq_ q yp) (ha : ac_ oi cur j) (hj : sg j = t) (h : post (nI j)) : wpY_instanceFor post (YD q yp yc yu yo yb yi yf yl yn yr yt bi bm bv bl io fl fi cx ci yx) (mo_ (sc_ (sl_ q) t)) := by
  have hn := sr_n S
  have jl := ac_le (ri_w R) cur hcur ha
  subst hj
  subst hyc
  refine yw_sc (q := q) (e := (yp, nI cur, yu, yo, yb, yi, yf, yl, yn, yr, yt, bi, bm, bv, bl, io, fl, fi, cx, ci, yx)) (sr_f S) hyp ⟨50, ?_⟩
  rw [← hsg]
  exact yw_if17 S R hy (by omega) h cur hcur ha 0 50 (by have := ri_s R hcur; omega) (by have := ri_s R hcur; omega)
end
end
section
theorem ifc_ {b c : Prop} [Decidable b] [Decidable c] {x y v : Nat} (h : b ↔ c) (e : y = v) : (if b then x else y) = (if c then x else v) := by
  by_cases z : b
  · rw [if_pos z, if_pos (h.mp z)]
  · rw [if_neg z, if_neg (fun w => z (h.mpr w)), e]
def uu_ (q : QT) (w1 w2 w3 w4 w5 t P : Nat) : Nat :=
  (if t = 0 then 0 else if kd_ q (sl_ q t) = 9 then w2 else if kd_ q (sl_ q t) = 8 then (if P ≤ se_ q (4 * sl_ q t + 1) then w3 else if se_ q (4 * sl_ q t + 2) < P ∧ P ≤ se_ q (4 * sl_ q t + 3) then w4 else 0) else w1) + w5 * rf_ q t (nn_ q - P) P
def pt_ (u pa ow : Nat → Nat) : Nat → Nat → Nat
  | 0, s => u s
  | f + 1, s => u s + (if ow s = s then 0 else pt_ u pa ow f (pa s))
def po_ (q : QT) (w1 w2 w3 w4 w5 s P : Nat) : Nat := pt_ (fun t => uu_ q w1 w2 w3 w4 w5 t P) (pa_ q) (ow_ q) s s
def UP (q : QT) (w1 w2 w3 w4 w5 P : Nat) : Nat := po_ q w1 w2 w3 w4 w5 (Lq_ q P) P
section
variable {q : QT} {c : CT} {w1 w2 w3 w4 w5 : Nat}
theorem pt_fuel {sn : Nat} {u pa ow : Nat → Nat} (w : ws_ sn pa ow) : ∀ s, s < sn → ∀ f, s ≤ f → pt_ u pa ow f s = pt_ u pa ow s s := by
  refine rc_ind w (fun s hs h f hf => ?_)
  cases s with
  | zero =>
    cases f with
    | zero => rfl
    | succ f => rw [pt_, pt_, if_pos w.2.1, Nat.add_zero]
  | succ s =>
    cases f with
    | zero => omega
    | succ f =>
      rw [pt_, pt_]
      by_cases o : ow (s + 1) = s + 1
      · rw [if_pos o, if_pos o]
      · obtain ⟨p1, p2, p3⟩ := h o
        rw [if_neg o, if_neg o, p3 f (by omega), p3 s (by omega)]
theorem po_it (S : SR q c) {s P : Nat} (hs : s < sn_ q) : po_ q w1 w2 w3 w4 w5 s P = uu_ q w1 w2 w3 w4 w5 s P + (if ow_ q s = s then 0 else po_ q w1 w2 w3 w4 w5 (pa_ q s) P) := by
  have w := sr_w S
  unfold po_
  cases s with
  | zero => rw [pt_, if_pos w.2.1, Nat.add_zero]
  | succ s =>
    rw [pt_]
    have p := (w.2.2 (s + 1) (by omega) hs).1
    rw [pt_fuel w (pa_ q (s + 1)) (by omega) s (by omega)]
theorem po_le (S : SR q c) {P P' : Nat} : ∀ s, s < sn_ q → (∀ t, rc_ (pa_ q) (ow_ q) s t → uu_ q w1 w2 w3 w4 w5 t P' ≤ uu_ q w1 w2 w3 w4 w5 t P) → po_ q w1 w2 w3 w4 w5 s P' ≤ po_ q w1 w2 w3 w4 w5 s P := by
  refine rc_ind (sr_w S) (fun s hs h hu => ?_)
  rw [po_it S hs, po_it S hs]
  have a := hu s (rc_self _ _ _)
  by_cases o : ow_ q s = s
  · rw [if_pos o, if_pos o]; omega
  · rw [if_neg o, if_neg o]
    have := (h o).2.2 (fun t ht => hu t (rc_up1 o ht))
    omega
theorem po_sub (S : SR q c) {P t : Nat} : ∀ s, s < sn_ q → rc_ (pa_ q) (ow_ q) s t → po_ q w1 w2 w3 w4 w5 t P ≤ po_ q w1 w2 w3 w4 w5 s P := by
  refine rc_ind (sr_w S) (fun s hs h hr => ?_)
  rcases rc_it.mp hr with e | ⟨h0, hr⟩
  · subst e; exact Nat.le_refl _
  · have := (h h0).2.2 hr
    rw [po_it S hs, if_neg h0]
    omega
theorem rf_mono {t : Nat} (q : QT) : ∀ d P, P + d ≤ nn_ q → rf_ q t (nn_ q - (P + d)) (P + d) ≤ rf_ q t (nn_ q - P) P := by
  intro d
  induction d with
  | zero => intro P _; exact Nat.le_refl _
  | succ d ih =>
    intro P h
    have := ih (P + 1) (by omega)
    rw [show P + 1 + d = P + (d + 1) by omega] at this
    obtain ⟨m, hm⟩ : ∃ m, nn_ q - P = m + 1 := ⟨nn_ q - P - 1, by omega⟩
    rw [hm, rf_]
    rw [show nn_ q - (P + 1) = m by omega] at this
    omega
theorem rf_skip {t : Nat} (q : QT) : ∀ d P, P + d ≤ nn_ q → (∀ j, P ≤ j → j < P + d → Lq_ q j ≠ t) → rf_ q t (nn_ q - P) P = rf_ q t (nn_ q - (P + d)) (P + d) := by
  intro d
  induction d with
  | zero => intro P _ _; rfl
  | succ d ih =>
    intro P h hno
    have := ih (P + 1) (by omega) (fun j h1 h2 => hno j (by omega) (by omega))
    rw [show P + 1 + d = P + (d + 1) by omega] at this
    obtain ⟨m, hm⟩ : ∃ m, nn_ q - P = m + 1 := ⟨nn_ q - P - 1, by omega⟩
    rw [hm, rf_, if_neg (fun z => hno P (Nat.le_refl _) (by omega) z.2), Nat.zero_add]
    rw [show nn_ q - (P + 1) = m by omega] at this
    exact this
theorem lp_facts (S : SR q c) {l : Nat} (hl : l < nn_ q) (h8 : kd_ q l = 8) :
    (l < se_ q (4 * l + 1) ∧ se_ q (4 * l + 1) < se_ q (4 * l + 2) ∧ se_ q (4 * l + 2) < se_ q (4 * l + 3) ∧ se_ q (4 * l + 3) < se_ q (4 * l) ∧ se_ q (4 * l) < nn_ q) ∧
    (kd_ q (se_ q (4 * l + 1)) = 9 ∧ kd_ q (se_ q (4 * l + 2)) = 10 ∧ kd_ q (se_ q (4 * l + 3)) = 9 ∧ kd_ q (se_ q (4 * l)) = 14) ∧
    (Lq_ q (se_ q (4 * l + 1)) = od_ q l ∧ Lq_ q (se_ q (4 * l + 1) + 1) = od_ q l ∧ Lq_ q (se_ q (4 * l + 2)) = od_ q l ∧ Lq_ q (se_ q (4 * l + 2) + 1) = od_ q l ∧ Lq_ q (se_ q (4 * l + 3)) = od_ q l) ∧
    (Lq_ q (se_ q (4 * l + 3) + 1) = od_ q (se_ q (4 * l + 3)) ∧ 0 < od_ q (se_ q (4 * l + 3)) ∧ pa_ q (od_ q (se_ q (4 * l + 3))) = od_ q l ∧ sl_ q (od_ q (se_ q (4 * l + 3))) = se_ q (4 * l + 3)) ∧
    (Lq_ q (se_ q (4 * l)) = od_ q (se_ q (4 * l + 3)) ∧ Lq_ q (se_ q (4 * l) + 1) = Lq_ q l) ∧
    (eo_ (kd_ q) (se_ q (4 * l + 1)) = l + 1 ∧ eo_ (kd_ q) (se_ q (4 * l + 2)) = l + 1 ∧ eo_ (kd_ q) (se_ q (4 * l + 3)) = l + 1 ∧ eo_ (kd_ q) (se_ q (4 * l)) = l + 1) := by
  have F := sr_f S
  have e0 := se_ok S hl (by omega) (by omega)
  obtain ⟨s0, s1, s2, s3⟩ := fs_e F l hl
  obtain ⟨a1, a2, a3, a4, a5⟩ := s0 e0
  obtain ⟨b1, b2⟩ := a5 h8
  obtain ⟨c1, c2, c3, c4, c5⟩ := s3 b1
  obtain ⟨d1, d2, d3, d4, d5⟩ := s2 c1
  obtain ⟨f1, f2, f3, f4, f5⟩ := s1 d1
  obtain ⟨g1, hg1, hg2, hg3, hg4⟩ := (fs_l F _ f3).2.2.1 f4
  obtain ⟨k1, hk1, hk2, hk3, hk4⟩ := (fs_l F _ c3).2.2.1 c4
  obtain ⟨m1, hm1, hm2, hm3, hm4, hm5⟩ := (fs_l F _ d3).2.2.2.1 d4
  obtain ⟨n1, hn1, hn2, hn3, hn4, hn5⟩ := (fs_l F _ a2).2.2.2.2 a3
  have eg : g1 = l := by omega
  have ek : k1 = l := by omega
  have em : m1 = l := by omega
  have en : n1 = l := by omega
  rw [eg] at hg3 hg4
  rw [ek] at hk3 hk4
  rw [em] at hm4 hm5
  rw [en] at hn3 hn4
  refine ⟨⟨f2, d2, c2, b2, a2⟩, ⟨f4, d4, c4, a3⟩, ⟨hg3, ?_, hm4, hm5, hk3⟩, ?_, ⟨hn4 h8, hn3⟩, f5, d5, c5, a4⟩
  · rcases hg4 with ⟨_, z⟩ | ⟨z, _⟩
    · exact z
    · omega
  · rcases hk4 with ⟨z, _⟩ | ⟨_, z1, z2, z3, z4⟩
    · omega
    · exact ⟨z1, z2, z3, z4⟩
theorem od_sl (S : SR q c) {t : Nat} (h0 : 0 < t) (ht : t < sn_ q) : od_ q (sl_ q t) = t ∧ sl_ q t < nn_ q := by
  have := fs_c (sr_f S) t h0 ht
  exact ⟨this.2.2.1, this.2.1⟩
theorem uu_same (S : SR q c) {t P P' : Nat} (ht : t < sn_ q) (h : P ≤ P') (hP : P' ≤ nn_ q) (hno : ∀ j, P ≤ j → j < P' → Lq_ q j ≠ t) : uu_ q w1 w2 w3 w4 w5 t P = uu_ q w1 w2 w3 w4 w5 t P' := by
  have er := rf_skip (t := t) q (P' - P) P (by omega) (fun j h1 h2 => hno j h1 (by omega))
  rw [show P + (P' - P) = P' by omega] at er
  unfold uu_
  rw [er]
  congr 1
  by_cases z : t = 0
  · rw [if_pos z, if_pos z]
  · rw [if_neg z, if_neg z]
    by_cases k9 : kd_ q (sl_ q t) = 9
    · rw [if_pos k9, if_pos k9]
    · rw [if_neg k9, if_neg k9]
      by_cases k8 : kd_ q (sl_ q t) = 8
      · rw [if_pos k8, if_pos k8]
        obtain ⟨o1, o2⟩ := od_sl S (by omega) ht
        obtain ⟨f1, f2, f3, -⟩ := lp_facts S o2 k8
        rw [o1] at f3
        have n1 : ¬ (P ≤ se_ q (4 * sl_ q t + 1) ∧ se_ q (4 * sl_ q t + 1) < P') := fun z => hno _ z.1 z.2 f3.1
        have n2 : ¬ (P ≤ se_ q (4 * sl_ q t + 2) ∧ se_ q (4 * sl_ q t + 2) < P') := fun z => hno _ z.1 z.2 f3.2.2.1
        have n3 : ¬ (P ≤ se_ q (4 * sl_ q t + 3) ∧ se_ q (4 * sl_ q t + 3) < P') := fun z => hno _ z.1 z.2 f3.2.2.2.2
        exact ifc_ (by omega) (ifc_ (by omega) rfl)
      · rw [if_neg k8, if_neg k8]
theorem uu_step (S : SR q c) {P : Nat} (hP : P < nn_ q) (h9 : kd_ q P ≠ 9) (h10 : kd_ q P ≠ 10) : uu_ q w1 w2 w3 w4 w5 (Lq_ q P) P = uu_ q w1 w2 w3 w4 w5 (Lq_ q P) (P + 1) + (if kd_ q P = 5 then w5 else 0) := by
  have hs := lq_s (sr_f S) (Nat.le_of_lt hP)
  obtain ⟨m, hm⟩ : ∃ m, nn_ q - P = m + 1 := ⟨nn_ q - P - 1, by omega⟩
  unfold uu_
  rw [hm, show nn_ q - (P + 1) = m by omega, rf_]
  have key : (if Lq_ q P = 0 then 0 else if kd_ q (sl_ q (Lq_ q P)) = 9 then w2 else if kd_ q (sl_ q (Lq_ q P)) = 8 then (if P ≤ se_ q (4 * sl_ q (Lq_ q P) + 1) then w3 else if se_ q (4 * sl_ q (Lq_ q P) + 2) < P ∧ P ≤ se_ q (4 * sl_ q (Lq_ q P) + 3) then w4 else 0) else w1)
      = (if Lq_ q P = 0 then 0 else if kd_ q (sl_ q (Lq_ q P)) = 9 then w2 else if kd_ q (sl_ q (Lq_ q P)) = 8 then (if P + 1 ≤ se_ q (4 * sl_ q (Lq_ q P) + 1) then w3 else if se_ q (4 * sl_ q (Lq_ q P) + 2) < P + 1 ∧ P + 1 ≤ se_ q (4 * sl_ q (Lq_ q P) + 3) then w4 else 0) else w1) := by
    by_cases z : Lq_ q P = 0
    · rw [if_pos z, if_pos z]
    · rw [if_neg z, if_neg z]
      by_cases k9 : kd_ q (sl_ q (Lq_ q P)) = 9
      · rw [if_pos k9, if_pos k9]
      · rw [if_neg k9, if_neg k9]
        by_cases k8 : kd_ q (sl_ q (Lq_ q P)) = 8
        · rw [if_pos k8, if_pos k8]
          obtain ⟨o1, o2⟩ := od_sl S (by omega) hs
          obtain ⟨f1, f2, f3, -⟩ := lp_facts S o2 k8
          have n1 : se_ q (4 * sl_ q (Lq_ q P) + 1) ≠ P := fun z => by rw [z] at f2; omega
          have n2 : se_ q (4 * sl_ q (Lq_ q P) + 2) ≠ P := fun z => by rw [z] at f2; omega
          have n3 : se_ q (4 * sl_ q (Lq_ q P) + 3) ≠ P := fun z => by rw [z] at f2; omega
          exact ifc_ (by omega) (ifc_ (by omega) rfl)
        · rw [if_neg k8, if_neg k8]
  rw [key]
  by_cases k5 : kd_ q P = 5
  · rw [if_pos (show kd_ q P = 5 ∧ Lq_ q P = Lq_ q P from ⟨k5, rfl⟩), if_pos (show kd_ q P = 5 from k5), Nat.mul_add, Nat.mul_one]
    omega
  · rw [if_neg (show ¬ (kd_ q P = 5 ∧ Lq_ q P = Lq_ q P) from fun z => k5 z.1), if_neg (show ¬ kd_ q P = 5 from k5), Nat.zero_add]
    omega
theorem rf_loop (S : SR q c) {t : Nat} (ht : t ≠ 0) (k8 : kd_ q (sl_ q t) = 8) : ∀ m P, P + m ≤ nn_ q → rf_ q t m P = 0 := by
  intro m
  induction m with
  | zero => intro P _; rfl
  | succ m ih =>
    intro P h
    rw [rf_, ih (P + 1) (by omega), if_neg (fun z => ?_)]
    have b := (fs_o (sr_f S) P (by omega)).1 (Or.inl z.1)
    rw [z.2] at b
    exact b ht k8
theorem po_in (S : SR q c) {l P P' : Nat} (hl : l < nn_ q) (h5 : 5 ≤ kd_ q l) (h8 : kd_ q l ≤ 8) (h1 : l < P) (h2 : P ≤ se_ q (4 * l) + 1) (h3 : l < P') (h4 : P' ≤ se_ q (4 * l) + 1) : po_ q w1 w2 w3 w4 w5 (Lq_ q l) P' ≤ po_ q w1 w2 w3 w4 w5 (Lq_ q l) P := by
  have hs := lq_s (sr_f S) (Nat.le_of_lt hl)
  have sn := ((fs_e (sr_f S) l hl).1 (se_ok S hl h5 h8)).2.1
  refine po_le S _ hs (fun t ht => ?_)
  have tl := (rc_le (sr_w S) _ hs ht).1
  have tn := rc_lt (sr_w S) hs ht
  rcases Nat.le_total P P' with z | z
  · exact Nat.le_of_eq (uu_same S tn z (by omega) (fun j j1 j2 => no_own S hl h5 h8 (by omega) (by omega) tl)).symm
  · exact Nat.le_of_eq (uu_same S tn z (by omega) (fun j j1 j2 => no_own S hl h5 h8 (by omega) (by omega) tl))
theorem po_line (S : SR q c) {P : Nat} (hP : P < nn_ q) (h9 : kd_ q P ≠ 9) (h10 : kd_ q P ≠ 10) : po_ q w1 w2 w3 w4 w5 (Lq_ q P) (P + 1) + (if kd_ q P = 5 then w5 else 0) ≤ po_ q w1 w2 w3 w4 w5 (Lq_ q P) P := by
  have hs := lq_s (sr_f S) (Nat.le_of_lt hP)
  rw [po_it S hs, po_it S hs, uu_step S hP h9 h10]
  by_cases o : ow_ q (Lq_ q P) = Lq_ q P
  · rw [if_pos o, if_pos o]; omega
  · rw [if_neg o, if_neg o]
    have s0 : 0 < Lq_ q P := by
      apply Nat.pos_of_ne_zero
      intro z
      rw [z] at o
      exact o (sr_w S).2.1
    have p := ((sr_w S).2.2 _ s0 hs).1
    have := po_le (w1 := w1) (w2 := w2) (w3 := w3) (w4 := w4) (w5 := w5) (P := P) (P' := P + 1) S (pa_ q (Lq_ q P)) (by omega) (fun t ht => by
      have tl := (rc_le (sr_w S) _ (by omega) ht).1
      exact Nat.le_of_eq (uu_same S (by omega) (by omega) (by omega) (fun j j1 j2 => by
        have : j = P := by omega
        subst this
        omega)).symm)
    omega
theorem UP_plain (S : SR q c) {P : Nat} (hP : P < nn_ q) (hk : kd_ q P ≤ 4 ∨ (11 ≤ kd_ q P ∧ kd_ q P ≤ 13)) : UP q w1 w2 w3 w4 w5 (P + 1) ≤ UP q w1 w2 w3 w4 w5 P := by
  have := po_line (w1 := w1) (w2 := w2) (w3 := w3) (w4 := w4) (w5 := w5) S hP (by omega) (by omega)
  unfold UP
  rw [(fs_l (sr_f S) P hP).1 hk]
  omega
theorem UP_skip (S : SR q c) {P : Nat} (hP : P < nn_ q) (h5 : 5 ≤ kd_ q P) (h7 : kd_ q P ≤ 7) : UP q w1 w2 w3 w4 w5 (se_ q (4 * P) + 1) + (if kd_ q P = 5 then w5 else 0) ≤ UP q w1 w2 w3 w4 w5 P := by
  obtain ⟨a1, a2, a3, a4, -⟩ := (fs_e (sr_f S) P hP).1 (se_ok S hP h5 (by omega))
  obtain ⟨l, b1, b2, b3, -⟩ := (fs_l (sr_f S) _ a2).2.2.2.2 a3
  have el : l = P := by omega
  subst el
  have h1 := po_line (w1 := w1) (w2 := w2) (w3 := w3) (w4 := w4) (w5 := w5) S hP (by omega) (by omega)
  have h2 := po_in (w1 := w1) (w2 := w2) (w3 := w3) (w4 := w4) (w5 := w5) S (P := l + 1) (P' := se_ q (4 * l) + 1) hP h5 (by omega) (by omega) (by omega) (by omega) (by omega)
  unfold UP
  rw [b3]
  omega
theorem rf_nc (S : SR q c) {s P : Nat} (hs : s < sn_ q) (hP : P ≤ nn_ q) : rf_ q s (nn_ q - P) P ≤ nc_ c s := by
  have h1 := rf_ct q s (nn_ q - P) P
  have h2 := rf_le S hs
  rw [show P + (nn_ q - P) = nn_ q by omega] at h1
  omega
theorem mul_nc {w m n : Nat} (h : m ≤ n) : w * m ≤ w * n := Nat.mul_le_mul_left w h
theorem UP_in (S : SR q c) {P : Nat} (hP : P < nn_ q) (h5 : kd_ q P = 7 ∨ kd_ q P = 8) : UP q w1 w2 w3 w4 w5 (P + 1) ≤ UP q w1 w2 w3 w4 w5 P + (if kd_ q P = 8 then w3 else w1) + w5 * nc_ c (od_ q P) := by
  obtain ⟨o1, o2, o3, o4, o5⟩ := fn_od S hP (by omega) (by omega)
  have h1 := po_line (w1 := w1) (w2 := w2) (w3 := w3) (w4 := w4) (w5 := w5) S hP (by omega) (by omega)
  have rn := mul_nc (w := w5) (rf_nc S o3 (show P + 1 ≤ nn_ q by omega))
  have nf : ow_ q (od_ q P) ≠ od_ q P := by
    intro z
    have := (ow_fun (sr_f S) o2 o3).mp z
    rw [o5] at this
    omega
  unfold UP
  rw [o1, po_it S o3, if_neg nf, o4]
  have hu : uu_ q w1 w2 w3 w4 w5 (od_ q P) (P + 1) ≤ (if kd_ q P = 8 then w3 else w1) + w5 * nc_ c (od_ q P) := by
    unfold uu_
    rw [if_neg (by omega), o5, if_neg (by omega)]
    by_cases k8 : kd_ q P = 8
    · obtain ⟨f1, -⟩ := lp_facts S hP k8
      rw [if_pos k8, if_pos k8, if_pos (by omega)]
      omega
    · rw [if_neg k8, if_neg k8]
      omega
  omega
end
end
section
section
variable {q : QT} {c : CT} {w1 w2 w3 w4 w5 : Nat}
theorem lp_sc (S : SR q c) {l : Nat} (hl : l < nn_ q) (h8 : kd_ q l = 8) : 0 < od_ q l ∧ od_ q l < sn_ q ∧ pa_ q (od_ q l) = Lq_ q l ∧ sl_ q (od_ q l) = l ∧ ow_ q (od_ q l) ≠ od_ q l ∧ ow_ q (od_ q (se_ q (4 * l + 3))) ≠ od_ q (se_ q (4 * l + 3)) ∧ od_ q (se_ q (4 * l + 3)) < sn_ q := by
  obtain ⟨o1, o2, o3, o4, o5⟩ := fn_od S hl (by omega) (by omega)
  obtain ⟨f1, f2, f3, f4, f5, f6⟩ := lp_facts S hl h8
  have tn : od_ q (se_ q (4 * l + 3)) < sn_ q := by
    rw [← f4.1]
    exact lq_s (sr_f S) (by omega)
  refine ⟨o2, o3, o4, o5, fun z => ?_, fun z => ?_, tn⟩
  · have := (ow_fun (sr_f S) o2 o3).mp z
    rw [o5] at this
    omega
  · have := (ow_fun (sr_f S) f4.2.1 tn).mp z
    rw [f4.2.2.2] at this
    omega
theorem uu_lp (S : SR q c) {l P : Nat} (hl : l < nn_ q) (h8 : kd_ q l = 8) (hP : P ≤ nn_ q) : uu_ q w1 w2 w3 w4 w5 (od_ q l) P = if P ≤ se_ q (4 * l + 1) then w3 else if se_ q (4 * l + 2) < P ∧ P ≤ se_ q (4 * l + 3) then w4 else 0 := by
  obtain ⟨s1, s2, s3, s4, s5, -⟩ := lp_sc S hl h8
  unfold uu_
  rw [s4, rf_loop S (by omega) (by rw [s4]; exact h8) _ _ (by omega), if_neg (by omega), if_neg (by omega), if_pos h8, Nat.mul_zero, Nat.add_zero]
theorem po_lp (S : SR q c) {l P : Nat} (hl : l < nn_ q) (h8 : kd_ q l = 8) : po_ q w1 w2 w3 w4 w5 (od_ q l) P = uu_ q w1 w2 w3 w4 w5 (od_ q l) P + po_ q w1 w2 w3 w4 w5 (Lq_ q l) P := by
  obtain ⟨s1, s2, s3, s4, s5, -⟩ := lp_sc S hl h8
  rw [po_it S s2, if_neg s5, s3]
theorem UP_part1 (S : SR q c) {l : Nat} (hl : l < nn_ q) (h8 : kd_ q l = 8) : UP q w1 w2 w3 w4 w5 (se_ q (4 * l + 1) + 1) + w3 ≤ UP q w1 w2 w3 w4 w5 (se_ q (4 * l + 1)) := by
  obtain ⟨f1, f2, f3, f4, f5, f6⟩ := lp_facts S hl h8
  have h := po_in (w1 := w1) (w2 := w2) (w3 := w3) (w4 := w4) (w5 := w5) S (P := se_ q (4 * l + 1)) (P' := se_ q (4 * l + 1) + 1) hl (by omega) (by omega) (by omega) (by omega) (by omega) (by omega)
  unfold UP
  rw [f3.1, f3.2.1, po_lp S hl h8, po_lp S hl h8, uu_lp S hl h8 (by omega), uu_lp S hl h8 (by omega), if_neg (show ¬ se_ q (4 * l + 1) + 1 ≤ se_ q (4 * l + 1) by omega), if_neg (by omega), if_pos (Nat.le_refl _)]
  omega
theorem UP_part2 (S : SR q c) {l : Nat} (hl : l < nn_ q) (h8 : kd_ q l = 8) : UP q w1 w2 w3 w4 w5 (se_ q (4 * l + 1) + 1) + w4 ≤ UP q w1 w2 w3 w4 w5 (se_ q (4 * l + 3)) := by
  obtain ⟨f1, f2, f3, f4, f5, f6⟩ := lp_facts S hl h8
  have h := po_in (w1 := w1) (w2 := w2) (w3 := w3) (w4 := w4) (w5 := w5) S (P := se_ q (4 * l + 3)) (P' := se_ q (4 * l + 1) + 1) hl (by omega) (by omega) (by omega) (by omega) (by omega) (by omega)
  unfold UP
  rw [f3.2.2.2.2, f3.2.1, po_lp S hl h8, po_lp S hl h8, uu_lp S hl h8 (by omega), uu_lp S hl h8 (by omega), if_neg (show ¬ se_ q (4 * l + 1) + 1 ≤ se_ q (4 * l + 1) by omega), if_neg (show ¬ (se_ q (4 * l + 2) < se_ q (4 * l + 1) + 1 ∧ se_ q (4 * l + 1) + 1 ≤ se_ q (4 * l + 3)) by omega), if_neg (show ¬ se_ q (4 * l + 3) ≤ se_ q (4 * l + 1) by omega), if_pos (show se_ q (4 * l + 2) < se_ q (4 * l + 3) ∧ se_ q (4 * l + 3) ≤ se_ q (4 * l + 3) by omega)]
  omega
theorem UP_body (S : SR q c) {l : Nat} (hl : l < nn_ q) (h8 : kd_ q l = 8) : UP q w1 w2 w3 w4 w5 (se_ q (4 * l + 3) + 1) ≤ UP q w1 w2 w3 w4 w5 (se_ q (4 * l + 2)) + w2 + w5 * nc_ c (od_ q (se_ q (4 * l + 3))) := by
  obtain ⟨f1, f2, f3, f4, f5, f6⟩ := lp_facts S hl h8
  obtain ⟨s1, s2, s3, s4, s5, s6, s7⟩ := lp_sc S hl h8
  have h := po_in (w1 := w1) (w2 := w2) (w3 := w3) (w4 := w4) (w5 := w5) S (P := se_ q (4 * l + 2)) (P' := se_ q (4 * l + 3) + 1) hl (by omega) (by omega) (by omega) (by omega) (by omega) (by omega)
  have rn := mul_nc (w := w5) (rf_nc S s7 (show se_ q (4 * l + 3) + 1 ≤ nn_ q by omega))
  have hu : uu_ q w1 w2 w3 w4 w5 (od_ q (se_ q (4 * l + 3))) (se_ q (4 * l + 3) + 1) ≤ w2 + w5 * nc_ c (od_ q (se_ q (4 * l + 3))) := by
    unfold uu_
    rw [if_neg (by omega), f4.2.2.2, if_pos f2.2.2.1]
    omega
  unfold UP
  rw [f4.1, f3.2.2.1, po_it S s7, if_neg s6, f4.2.2.1, po_lp S hl h8, po_lp S hl h8, uu_lp S hl h8 (by omega), if_neg (show ¬ se_ q (4 * l + 3) + 1 ≤ se_ q (4 * l + 1) by omega), if_neg (by omega)]
  omega
theorem UP_cont (S : SR q c) {l P : Nat} (hl : l < nn_ q) (h8 : kd_ q l = 8) (h1 : se_ q (4 * l + 3) < P) (h2 : P ≤ se_ q (4 * l)) (hr : rc_ (pa_ q) (ow_ q) (Lq_ q P) (od_ q (se_ q (4 * l + 3)))) : UP q w1 w2 w3 w4 w5 (se_ q (4 * l + 2) + 1) + w2 ≤ UP q w1 w2 w3 w4 w5 P + w4 := by
  obtain ⟨f1, f2, f3, f4, f5, f6⟩ := lp_facts S hl h8
  obtain ⟨s1, s2, s3, s4, s5, s6, s7⟩ := lp_sc S hl h8
  have hs := lq_s (sr_f S) (i := P) (by omega)
  have h := po_in (w1 := w1) (w2 := w2) (w3 := w3) (w4 := w4) (w5 := w5) S (P := P) (P' := se_ q (4 * l + 2) + 1) hl (by omega) (by omega) (by omega) (by omega) (by omega) (by omega)
  have hb := po_sub (w1 := w1) (w2 := w2) (w3 := w3) (w4 := w4) (w5 := w5) (P := P) S _ hs hr
  have hu : w2 ≤ uu_ q w1 w2 w3 w4 w5 (od_ q (se_ q (4 * l + 3))) P := by
    unfold uu_
    rw [if_neg (by omega), f4.2.2.2, if_pos f2.2.2.1]
    omega
  rw [po_it S s7, if_neg s6, f4.2.2.1, po_lp S hl h8] at hb
  unfold UP
  rw [f3.2.2.2.1, po_lp S hl h8, uu_lp S hl h8 (by omega), if_neg (by omega), if_pos (by omega)]
  omega
theorem UP_exit (S : SR q c) {l P : Nat} (hl : l < nn_ q) (h8 : kd_ q l = 8) (h1 : l < P) (h2 : P ≤ se_ q (4 * l)) (hr : rc_ (pa_ q) (ow_ q) (Lq_ q P) (od_ q l)) : UP q w1 w2 w3 w4 w5 (se_ q (4 * l) + 1) ≤ UP q w1 w2 w3 w4 w5 P := by
  obtain ⟨f1, f2, f3, f4, f5, f6⟩ := lp_facts S hl h8
  have hs := lq_s (sr_f S) (i := P) (by omega)
  have h := po_in (w1 := w1) (w2 := w2) (w3 := w3) (w4 := w4) (w5 := w5) S (P := P) (P' := se_ q (4 * l) + 1) hl (by omega) (by omega) (by omega) (by omega) (by omega) (by omega)
  have hb := po_sub (w1 := w1) (w2 := w2) (w3 := w3) (w4 := w4) (w5 := w5) (P := P) S _ hs hr
  rw [po_lp S hl h8] at hb
  unfold UP
  rw [f5.2]
  omega
theorem bl_facts (S : SR q c) {l : Nat} (hl : l < nn_ q) (h5 : 5 ≤ kd_ q l) (h7 : kd_ q l ≤ 7) : l < se_ q (4 * l) ∧ se_ q (4 * l) < nn_ q ∧ kd_ q (se_ q (4 * l)) = 14 ∧ eo_ (kd_ q) (se_ q (4 * l)) = l + 1 ∧ Lq_ q (se_ q (4 * l)) = od_ q l ∧ Lq_ q (se_ q (4 * l) + 1) = Lq_ q l := by
  obtain ⟨a1, a2, a3, a4, -⟩ := (fs_e (sr_f S) l hl).1 (se_ok S hl h5 (by omega))
  obtain ⟨l', b1, b2, b3, b4, b5⟩ := (fs_l (sr_f S) _ a2).2.2.2.2 a3
  have el : l' = l := by omega
  subst el
  exact ⟨a1, a2, a3, a4, b5 (by omega), b3⟩
theorem UP_endb (S : SR q c) {l : Nat} (hl : l < nn_ q) (h7 : kd_ q l = 7) : UP q w1 w2 w3 w4 w5 (se_ q (4 * l) + 1) + w1 ≤ UP q w1 w2 w3 w4 w5 (se_ q (4 * l)) := by
  obtain ⟨a1, a2, a3, a4, a5, a6⟩ := bl_facts S hl (by omega) (by omega)
  obtain ⟨o1, o2, o3, o4, o5⟩ := fn_od S hl (by omega) (by omega)
  have nf : ow_ q (od_ q l) ≠ od_ q l := by
    intro z
    have := (ow_fun (sr_f S) o2 o3).mp z
    rw [o5] at this
    omega
  have h := po_in (w1 := w1) (w2 := w2) (w3 := w3) (w4 := w4) (w5 := w5) S (P := se_ q (4 * l)) (P' := se_ q (4 * l) + 1) hl (by omega) (by omega) (by omega) (by omega) (by omega) (by omega)
  have hu : w1 ≤ uu_ q w1 w2 w3 w4 w5 (od_ q l) (se_ q (4 * l)) := by
    unfold uu_
    rw [if_neg (by omega), o5, if_neg (by omega), if_neg (by omega)]
    omega
  unfold UP
  rw [a5, a6, po_it S o3, if_neg nf, o4]
  omega
theorem UP_fun (S : SR q c) {f : Nat} (h0 : 0 < f) (hf : f < sn_ q) (ho : ow_ q f = f) : UP q w1 w2 w3 w4 w5 (sl_ q f + 1) ≤ w1 + w5 * nc_ c f := by
  obtain ⟨d1, d2⟩ := od_sl S h0 hf
  have k56 := (ow_fun (sr_f S) h0 hf).mp ho
  obtain ⟨o1, o2, o3, o4, o5⟩ := fn_od S d2 (by omega) (by omega)
  rw [d1] at o1
  have rn := mul_nc (w := w5) (rf_nc S hf (show sl_ q f + 1 ≤ nn_ q by omega))
  unfold UP
  rw [o1, po_it S hf, if_pos ho]
  unfold uu_
  rw [if_neg (by omega), if_neg (by omega), if_neg (by omega)]
  omega
theorem UP_ret (S : SR q c) {P : Nat} (hP : P ≤ nn_ q) (ho : ow_ q (Lq_ q P) ≠ 0) : w1 ≤ UP q w1 w2 w3 w4 w5 P := by
  have hs := lq_s (sr_f S) hP
  have o := rc_own (sr_w S) _ hs
  have on : ow_ q (Lq_ q P) < sn_ q := by omega
  have hb := po_sub (w1 := w1) (w2 := w2) (w3 := w3) (w4 := w4) (w5 := w5) (P := P) S _ hs o.1
  have k56 := (ow_fun (sr_f S) (show 0 < ow_ q (Lq_ q P) by omega) on).mp o.2.1
  rw [po_it S on] at hb
  have hu : w1 ≤ uu_ q w1 w2 w3 w4 w5 (ow_ q (Lq_ q P)) P := by
    unfold uu_
    rw [if_neg (by omega), if_neg (by omega), if_neg (by omega)]
    omega
  unfold UP
  omega
theorem lt_plain (S : SR q c) {P t x : Nat} (hx : x < 8) (hk : kd_ q P ≠ 0) : lt_ q (8 * t + x) ≤ P ↔ lt_ q (8 * t + x) ≤ P + 1 := by
  refine lt_same S hx (by omega) (fun j h1 h2 h3 h4 => ?_)
  have : j = P := by omega
  subst this
  exact hk
theorem lt_in (S : SR q c) {l P P' t x : Nat} (hl : l < nn_ q) (h5 : 5 ≤ kd_ q l) (h8 : kd_ q l ≤ 8) (h1 : l ≤ P) (h2 : P ≤ se_ q (4 * l) + 1) (h3 : l ≤ P') (h4 : P' ≤ se_ q (4 * l) + 1) (hx : x < 8) (ht : rc_ (pa_ q) (ow_ q) (Lq_ q l) t) : lt_ q (8 * t + x) ≤ P ↔ lt_ q (8 * t + x) ≤ P' := by
  have hs := lq_s (sr_f S) (Nat.le_of_lt hl)
  have tl := (rc_le (sr_w S) _ hs ht).1
  have no : ∀ a b, l ≤ a → b ≤ se_ q (4 * l) + 1 → ∀ j, a ≤ j → j < b → j < nn_ q → Lq_ q j = t → kd_ q j ≠ 0 := by
    intro a b ha hb j j1 j2 j3 j4
    by_cases e : j = l
    · subst e; omega
    · exact absurd j4 (no_own S hl h5 h8 (by omega) (by omega) tl)
  rcases Nat.le_total P P' with z | z
  · exact lt_same S hx z (no P P' h1 h4)
  · exact (lt_same S hx z (no P' P h3 h2)).symm
theorem lt_lp (S : SR q c) {l P P' t x : Nat} (hl : l < nn_ q) (h8 : kd_ q l = 8) (h1 : se_ q (4 * l + 1) ≤ P) (h2 : P ≤ se_ q (4 * l) + 1) (h3 : se_ q (4 * l + 1) ≤ P') (h4 : P' ≤ se_ q (4 * l) + 1) (hx : x < 8) (ht : rc_ (pa_ q) (ow_ q) (od_ q l) t) : lt_ q (8 * t + x) ≤ P ↔ lt_ q (8 * t + x) ≤ P' := by
  obtain ⟨f1, f2, f3, f4, f5, f6⟩ := lp_facts S hl h8
  obtain ⟨s1, s2, s3, s4, s5, s6, s7⟩ := lp_sc S hl h8
  rcases rc_it.mp ht with e | ⟨_, e⟩
  · subst e
    have no : ∀ a b, se_ q (4 * l + 1) ≤ a → ∀ j, a ≤ j → j < b → j < nn_ q → Lq_ q j = od_ q l → kd_ q j ≠ 0 := by
      intro a b ha j j1 j2 j3 j4 j5
      have := (fs_o (sr_f S) j j3).2.1 (by omega) (by rw [j4]; omega) (by rw [j4, s4]; exact h8)
      rw [j4, s4] at this
      omega
    rcases Nat.le_total P P' with z | z
    · exact lt_same S hx z (no P P' h1)
    · exact (lt_same S hx z (no P' P h3)).symm
  · rw [s3] at e
    exact lt_in S hl (by omega) (by omega) (by omega) h2 (by omega) h4 hx e
end
section
variable {q : QT} {c : CT} {ev ht cl fc cur yb yi : Nat} {sv sw fs fe bi bm fl fi cx ci sg et oi wi kp ps : Nat → Nat} {me li bv bl io : Nat → Int32} {px : Nat → Nat → Prop}
theorem rr_move {cur' P' : Nat} (W : (RR q c ev ht cl fc sv sw me fs fe li cur yb yi bi bm bv bl io fl fi cx ci sg et oi wi kp ps px)) (hr : rc_ oi wi cur cur') (hP : P' ≤ nn_ q) (hsg : sg cur' = Lq_ q P')
    (hlt : ∀ b, b < yb → rc_ oi wi cur' (bi b) → (¬ px (bi b) (bm b) → (lt_ q (8 * sg (bi b) + bm b) ≤ ps cl ↔ lt_ q (8 * sg (bi b) + bm b) ≤ P')) ∧ (px (bi b) (bm b) → (bl b = 1 ↔ lt_ q (8 * sg (bi b) + bm b) ≤ P')))
    (hp2 : ∀ k, k < cl → ∀ b, b < yb → rc_ oi wi (kp k) (bi b) → ¬ px (bi b) (bm b)) (hp3 : ∀ b, b < yb → px (bi b) (bm b) → bl b = 1) :
    (RR q c (et cur') ht cl fc sv sw me fs fe li cur' yb yi bi bm bv bl io fl fi cx ci sg et oi wi (up_ kp cl cur') (up_ ps cl P') (fun _ _ => False)) := by
  have t := rr_top W
  have R := rr_i W
  have w := ri_w R
  obtain ⟨_, B, H, Z, K, N, V, T, C, E, G⟩ := W
  have rl := rc_le w cur t.1 hr
  have wz : wi cur' = wi cur := rl.2
  refine ⟨R, B, H, Z, K, fun v v1 v2 => ?_, ⟨fun k hk => ?_, ?_⟩, fun k hk => ?_, up_s, rfl, G⟩
  · obtain ⟨n1, n2, n3, n4, n5, n6, n7⟩ := N v v1 v2
    refine ⟨n1, n2, n3, n4, n5, n6, fun b hb h1 _ h2 => ?_⟩
    rcases Classical.em (px (bi b) (bm b)) with z | z
    · exact hp3 b hb z
    · exact n7 b hb h1 z h2
  · obtain ⟨v1, v2, v3, v4, v5⟩ := V.1 k hk
    rw [up_n (by omega), up_n (by omega)]
    refine ⟨v1, v2, v3, v4, ?_⟩
    by_cases e : k + 1 = cl
    · rw [e, up_s, wz]
      rw [e, C] at v5
      exact v5
    · rw [up_n e]; exact v5
  · by_cases e : cl = 0
    · subst e
      rw [up_s, wz]
      have := V.2
      rw [C] at this
      exact this
    · rw [up_n (by omega)]; exact V.2
  · by_cases e : k = cl
    · subst e
      rw [up_s, up_s]
      refine ⟨by have := t.1; omega, hP, hsg, fun b hb h1 => ?_⟩
      have h2 := rc_tr w cur t.1 hr h1
      obtain ⟨g1, g2⟩ := t.2.2.2 b hb h2
      obtain ⟨l1, l2⟩ := hlt b hb h1
      refine ⟨g1, fun _ => ?_⟩
      rcases Classical.em (px (bi b) (bm b)) with z | z
      · exact l2 z
      · rw [g2 z]; exact l1 z
    · rw [up_n e, up_n e]
      obtain ⟨g1, g2, g3, g4⟩ := T k hk
      refine ⟨g1, g2, g3, fun b hb h1 => ⟨(g4 b hb h1).1, fun _ => (g4 b hb h1).2 (hp2 k (by omega) b hb h1)⟩⟩
theorem rr_move0 {cur' P' : Nat} (W : (RR q c ev ht cl fc sv sw me fs fe li cur yb yi bi bm bv bl io fl fi cx ci sg et oi wi kp ps px)) (hpx : ∀ i x, ¬ px i x) (hr : rc_ oi wi cur cur') (hP : P' ≤ nn_ q) (hsg : sg cur' = Lq_ q P') (hlt : ∀ t x, rc_ (pa_ q) (ow_ q) (Lq_ q P') t → x < 8 → (lt_ q (8 * t + x) ≤ ps cl ↔ lt_ q (8 * t + x) ≤ P')) :
    (RR q c (et cur') ht cl fc sv sw me fs fe li cur' yb yi bi bm bv bl io fl fi cx ci sg et oi wi (up_ kp cl cur') (up_ ps cl P') (fun _ _ => False)) := by
  have R := rr_i W
  have B := rr_b W
  have t := rr_top W
  have rl := rc_le (ri_w R) cur t.1 hr
  refine rr_move W hr hP hsg (fun b hb h1 => ⟨fun _ => ?_, fun z => absurd z (hpx _ _)⟩) (fun k _ b _ _ => hpx _ _) (fun b _ z => absurd z (hpx _ _))
  have h2 := ri_rc R cur' (by have := t.1; omega) h1
  rw [hsg] at h2
  exact hlt _ _ h2 (B.1 b hb).2.1
end
end
section
def NI (q : QT) (tk ou ht cl fc yb yi : Nat) (ps : Nat → Nat) : Prop :=
  yb ≤ tk ∧ fc ≤ tk ∧ ou ≤ tk ∧ ht ≤ 512 + 2 * tk ∧ tk ≤ mT_ q ∧ cl ≤ mD_ q ∧ yi + sm_ (fun k => UP q 0 1 1 0 0 (ps k)) (cl + 1) ≤ 1 + 2 * tk
def ST_ (q : QT) (n tk cl : Nat) (ps : Nat → Nat) : Prop := n + sm_ (fun k => UP q 1 2 1 1 1 (ps k)) (cl + 1) ≤ 4 * tk
def RUN (q : QT) (c : CT) (n : Nat) (d : DT) (e : ET) : Prop :=
  ∃ (cur yb yi : Nat) (bi bm : Nat → Nat) (bv bl io : Nat → Int32) (fl fi cx ci : Nat → Nat) (yx : Nat → Int32) (sg et oi wi kp ps : Nat → Nat),
    e = (pc_ d, nI cur, tk_ d, ou_ d, yb, yi, fc_ d, cl_ d, in_ d, ss_ d, fa_ d, bi, bm, bv, bl, io, fl, fi, cx, ci, yx) ∧
    RR q c (ev_ d) (ht_ d) (cl_ d) (fc_ d) (sv_ d) (sw_ d) (me_ d) (fs_ d) (fe_ d) (li_ d) cur yb yi bi bm bv bl io fl fi cx ci sg et oi wi kp ps (fun _ _ => False) ∧
    NI q (tk_ d) (ou_ d) (ht_ d) (cl_ d) (fc_ d) yb yi ps ∧ ST_ q n (tk_ d) (cl_ d) ps ∧ ps (cl_ d) = pc_ d ∧ ss_ d = -1 ∧ (∀ i, i < ou_ d → yx i = ot_ d i)
def FIN (q : QT) (c : CT) (d : DT) (e : ET) : Prop :=
  ss_ d ≠ -1 ∧ yr_ e = ss_ d ∧ yt_ e = fa_ d ∧ yo_ e = ou_ d ∧ ou_ d ≤ 200 ∧ (∀ i, i < ou_ d → yx_ e i = ot_ d i) ∧ yb_ e ≤ 250 ∧ (∀ b, b < yb_ e → bi_ e b < 1000 ∧ bm_ e b < 8) ∧ SV q c (yb_ e) (bi_ e) (bm_ e) (bv_ e) (bl_ e) (me_ d)
def OC (q : QT) (c : CT) (n : Nat) (WX : (SX → Prop) → Prop) (WY : (SY → Prop) → Prop) : Prop :=
  (∃ d e, RUN q c n d e ∧ (∀ post, post (XT q c d) → WX post) ∧ (∀ post, post (YT q e) → WY post)) ∨
  (∃ d e, FIN q c d e ∧ (∀ post, post (XT q c d) → WX post) ∧ (∀ post, post (YT q e) → WY post))
theorem sm_tp {f ps : Nat → Nat} {cl P : Nat} : sm_ (fun k => f (up_ ps cl P k)) (cl + 1) = sm_ (fun k => f (ps k)) cl + f P := by
  rw [sm_, up_s]
  congr 1
  exact sm_ext cl (fun k hk => by rw [up_n (by omega)])
section
variable {q : QT} {c : CT} {ip ss fa : Int32} {n cu pc tk ou ev ht cl fc yp cur yb yi : Nat} {sv sw fs fe bi bm fl fi cx ci sg et oi wi kp ps : Nat → Nat} {me ot li bv bl io yx : Nat → Int32}
variable {WX : (SX → Prop) → Prop} {WY : (SY → Prop) → Prop}
theorem oc_run (W : (RR q c ev ht cl fc sv sw me fs fe li cur yb yi bi bm bv bl io fl fi cx ci sg et oi wi kp ps (fun _ _ => False))) (I : NI q tk ou ht cl fc yb yi ps) (T : ST_ q n tk cl ps) (hp : ps cl = pc) (ho : ∀ i, i < ou → yx i = ot i) (hX : ∀ post, post (XD q c ip (-1) cu pc tk ou ev ht cl fc fa sv sw me fs fe ot li) → WX post) (hY : ∀ post, post (YD q pc (nI cur) tk ou yb yi fc cl ip (-1) fa bi bm bv bl io fl fi cx ci yx) → WY post) : OC q c n WX WY :=
  Or.inl ⟨(ip, -1, cu, pc, tk, ou, ev, ht, cl, fc, fa, sv, sw, me, fs, fe, ot, li), (pc, nI cur, tk, ou, yb, yi, fc, cl, ip, -1, fa, bi, bm, bv, bl, io, fl, fi, cx, ci, yx), ⟨cur, yb, yi, bi, bm, bv, bl, io, fl, fi, cx, ci, yx, sg, et, oi, wi, kp, ps, rfl, W, I, T, hp, rfl, ho⟩, hX, hY⟩
theorem oc_fin {ev' ht' cl' fc' yi' tk' yl' yf' : Nat} {sv' sw' fs' fe' fl' fi' cx' ci' : Nat → Nat} {li' io' : Nat → Int32} {yc' : Int32} (S : SR q c) (W : (RR q c ev ht cl fc sv sw me fs fe li cur yb yi bi bm bv bl io fl fi cx ci sg et oi wi kp ps (fun _ _ => False))) (h200 : ou ≤ 200) (ho : ∀ i, i < ou → yx i = ot i) (hss : ss ≠ -1)
    (hX : ∀ post, post (XD q c ip ss cu pc tk ou ev' ht' cl' fc' fa sv' sw' me fs' fe' ot li') → WX post) (hY : ∀ post, post (YD q yp yc' tk' ou yb yi' yf' yl' ip ss fa bi bm bv bl io' fl' fi' cx' ci' yx) → WY post) : OC q c n WX WY := by
  have B := rr_b W
  have z := rr_z W
  have hbb : ∀ b, b < yb → bi b < 1000 ∧ bm b < 8 := fun b hb => ⟨by have := (B.1 b hb).1; omega, by have := (B.1 b hb).2.1; omega⟩
  exact Or.inr ⟨(ip, ss, cu, pc, tk, ou, ev', ht', cl', fc', fa, sv', sw', me, fs', fe', ot, li'), (yp, yc', tk', ou, yb, yi', yf', yl', ip, ss, fa, bi, bm, bv, bl, io', fl', fi', cx', ci', yx), ⟨hss, rfl, rfl, rfl, h200, ho, z.2.1, hbb, rr_sv S W⟩, hX, hY⟩
theorem oc_fin0 (S : SR q c) (W : (RR q c ev ht cl fc sv sw me fs fe li cur yb yi bi bm bv bl io fl fi cx ci sg et oi wi kp ps (fun _ _ => False))) (h200 : ou ≤ 200) (ho : ∀ i, i < ou → yx i = ot i) (hss : ss ≠ -1) (hX : ∀ post, post (XD q c ip ss cu pc tk ou ev ht cl fc fa sv sw me fs fe ot li) → WX post) (hY : ∀ post, post (YD q yp (nI cur) tk ou yb yi fc cl ip ss fa bi bm bv bl io fl fi cx ci yx) → WY post) : OC q c n WX WY :=
  oc_fin S W h200 ho hss hX hY
theorem oc_map {WX' : (SX → Prop) → Prop} {WY' : (SY → Prop) → Prop} (h : OC q c n WX WY) (hX : ∀ post, WX post → WX' post) (hY : ∀ post, WY post → WY' post) : OC q c n WX' WY' := by
  rcases h with ⟨d, e, r, a, b⟩ | ⟨d, e, r, a, b⟩
  · exact Or.inl ⟨d, e, r, fun post h => hX post (a post h), fun post h => hY post (b post h)⟩
  · exact Or.inr ⟨d, e, r, fun post h => hX post (a post h), fun post h => hY post (b post h)⟩
def NJ (q : QT) (t tk ou ht cl fc yb yi : Nat) (ps : Nat → Nat) : Prop :=
  yb + t ≤ tk ∧ fc + t ≤ tk ∧ ou + t ≤ tk ∧ ht + 2 * t ≤ 512 + 2 * tk ∧ tk ≤ mT_ q ∧ cl ≤ mD_ q ∧ yi + sm_ (fun k => UP q 0 1 1 0 0 (ps k)) (cl + 1) + 2 * t ≤ 1 + 2 * tk
def SJ (q : QT) (n t tk cl : Nat) (ps : Nat → Nat) : Prop := n + sm_ (fun k => UP q 1 2 1 1 1 (ps k)) (cl + 1) + 4 * t ≤ 4 * tk
theorem nj_move {t P' : Nat} (I : NJ q t tk ou ht cl fc yb yi ps) (hU : UP q 0 1 1 0 0 P' ≤ UP q 0 1 1 0 0 (ps cl) + 2 * t) : NI q tk ou ht cl fc yb yi (up_ ps cl P') := by
  obtain ⟨a1, a2, a3, a4, a5, a6, a7⟩ := I
  refine ⟨by omega, by omega, by omega, by omega, a5, a6, ?_⟩
  rw [sm_tp (f := fun P => UP q 0 1 1 0 0 P)]
  rw [sm_] at a7
  omega
theorem sj_move {t P' : Nat} (I : SJ q n t tk cl ps) (hU : UP q 1 2 1 1 1 P' + 1 ≤ UP q 1 2 1 1 1 (ps cl) + 4 * t) : ST_ q (n + 1) tk cl (up_ ps cl P') := by
  unfold SJ at I
  unfold ST_
  rw [sm_tp (f := fun P => UP q 1 2 1 1 1 P)]
  rw [sm_] at I
  omega
theorem k5_ (S : SR q c) {P : Nat} (W : (RR q c ev ht cl fc sv sw me fs fe li cur yb yi bi bm bv bl io fl fi cx ci sg et oi wi kp ps (fun _ _ => False))) (I : NJ q 0 tk ou ht cl fc yb yi ps) (T : SJ q n 0 tk cl ps) (hp : ps cl = P) (hP : P < nn_ q) (hk : kd_ q P = 5) (ho : ∀ i, i < ou → yx i = ot i) (hss : ss = -1) (hpc : pc = P + 1) (hcu : cu = P) :
    OC q c (n + 1) (fun post => wX_execute_42 post (nI P) (nI (kd_ q P)) 0 1 2 3 0 1 2 3 4 5 (-1) 48 512 (nI (mL_ q)) (nI (mT_ q)) (nI (mD_ q)) (nI (cm_ q)) (nI (nn_ q)) (nI (sp_ q)) (nI (sn_ q)) (nI (oc_ q)) ip ss (nI (cu)) (nI (pc)) (nI (tk)) (nI (ou)) (nI (ev)) (nI (ht)) (nI (cl)) (nI (fc)) fa (fun i => nI (kd_ q i)) (fun i => nI (ls_ q i)) (fun i => nI (oe_ q i)) (fun i => nI (od_ q i)) (fun i => nI (ar_ q i)) (fun i => nI (se_ q i)) (fun i => nI (ol_ q i)) (fun i => nI (pl_ q i)) (fun i => nI (sv i)) (fun i => nI (sw i)) (fun i => nI (pa_ q i)) (fun i => nI (ow_ q i)) (fun i => nI (sl_ q i)) (fun i => nI (lo_ q i)) (lx_ q) (an_ q) (vn_ q) (fun i => nI (lh_ q i)) (cp_ c) (fun i => nI (st_ c i)) (fun i => nI (nc_ c i)) (fun i => nI (cc_ c i)) (fun i => nI (hd_ c i)) (fun i => nI (lt_ q i)) (fun i => nI (hm_ c i)) (fun i => nI (rm_ c i)) (ri_ c) (fun i => nI (rh_ c i)) me (fun i => nI (fs i)) (fun i => nI (fe i)) ot li) (fun post => wY_execute_30 post (nI (kd_ q P)) (nI (mL_ q)) (nI (mT_ q)) (nI (mD_ q)) (nI (nn_ q)) (nI (P)) (((nI cur))) (nI (tk)) (nI (ou)) (nI (yb)) (nI (yi)) (nI (fc)) (nI (cl)) ip ss fa (nI (cm_ q)) (fun i => nI (kd_ q i)) (fun i => nI (ar_ q (4 * i + 1))) (fun i => nI (ar_ q (4 * i + 2))) (fun i => nI (ar_ q (4 * i + 3))) (fun i => nI (bi i)) (fun i => nI (bm i)) bv bl io (fun i => nI (fl i)) (fun i => nI (fi i)) (fun i => nI (cx i)) (fun i => nI (ci i)) yx) := by
  have hn := sr_n S
  subst hss
  obtain ⟨a1, a2, a3, a4, a5, a6⟩ := bl_facts S hP (by omega) (by omega)
  have t := rr_top W
  have hL : sg cur = Lq_ q P := by rw [← hp]; exact t.2.2.1
  have W' := rr_move0 (P' := se_ q (4 * P) + 1) W (fun _ _ z => z) (rc_self _ _ _) (by omega) (by rw [a6]; exact hL) (fun t x ht hx => by
    rw [hp]
    rw [a6] at ht
    exact lt_in S hP (by omega) (by omega) (Nat.le_refl _) (by omega) (by omega) (Nat.le_refl _) hx ht)
  have u1 := UP_skip (w1 := 0) (w2 := 1) (w3 := 1) (w4 := 0) (w5 := 0) S hP (by omega) (by omega)
  have u2 := UP_skip (w1 := 1) (w2 := 2) (w3 := 1) (w4 := 1) (w5 := 1) S hP (by omega) (by omega)
  rw [if_pos hk] at u1 u2
  rw [← rr_e W] at W'
  refine oc_run (ip := ip) (fa := fa) (cu := cu) W' (nj_move I (by rw [hp]; omega)) (sj_move T (by rw [hp]; omega)) up_s ho (fun post h => ?_) (fun post h => ?_)
  · rw [hk]
    refine br_t rfl (br_f (by decide) (br_f (by decide) (br_f (by decide) ?_)))
    refine And.intro (vp_in_nI (by omega) (by omega)) (nm_e (br_f (by decide) (br_f (by decide) (br_f (by decide) (br_t rfl ?_)))))
    refine And.intro (pk_in (4 * P) 192 (by omega) (m40_ P) (by omega)) (nm_r (e' := nI (se_ q (4 * P) + 1)) ?_ h)
    rw [ga_ (f := se_ q) (m40_ P) (by omega), nI_1]
  · rw [hk]
    refine br_t (by decide) (br_f (by decide) (br_f (by decide) (br_t rfl ?_)))
    refine yw_o14 (e := (P, (nI cur), tk, ou, yb, yi, fc, cl, ip, (-1), fa, bi, bm, bv, bl, io, fl, fi, cx, ci, yx)) (sr_f S) hP ?_
    rw [oz_nI (by omega)]
    exact nm_r (nI_1 _) h
end
end
section
section
variable {q : QT} {c : CT} {ip ss fa : Int32} {n cu pc tk ou ev ht cl fc yp cur yb yi : Nat} {sv sw fs fe bi bm fl fi cx ci sg et oi wi kp ps : Nat → Nat} {me ot li bv bl io yx : Nat → Int32}
theorem l2_ (S : SR q c) {P o1 o2 : Nat} (W : (RR q c ev ht cl fc sv sw me fs fe li cur yb yi bi bm bv bl io fl fi cx ci sg et oi wi kp ps (fun _ _ => False))) (hp : ps cl = P) (hP : P < nn_ q) (hcu : cu = P) (hyp : yp = P) (h1 : oa_ (kd_ q) (ar_ q) (4 * P + 2) = o1 + 1) (h2 : oa_ (kd_ q) (ar_ q) (4 * P + 3) = o2 + 1) (b1 : o1 ≤ 72) (b2 : o2 ≤ 72) :
    ∃ v1 v2 x1 x2 ss1 fa1 ss2 fa2, (∀ post rr, rr = nI (4 * P + 2) → post v1 (XD q c ip ss1 cu pc tk ou ev ht cl fc fa1 sv sw me fs fe ot li) → wpX_load post (XD q c ip ss cu pc tk ou ev ht cl fc fa sv sw me fs fe ot li) rr) ∧ (∀ post rr, rr = nI (4 * P + 3) → post v2 (XD q c ip ss2 cu pc tk ou ev ht cl fc fa2 sv sw me fs fe ot li) → wpX_load post (XD q c ip ss1 cu pc tk ou ev ht cl fc fa1 sv sw me fs fe ot li) rr) ∧
      (∀ post rr, rr = nI o1 → post x1 (YD q yp (nI cur) tk ou yb yi fc cl ip ss1 fa1 bi bm bv bl io fl fi cx ci yx) → wpY_value post (YD q yp (nI cur) tk ou yb yi fc cl ip ss fa bi bm bv bl io fl fi cx ci yx) rr) ∧ (∀ post rr, rr = nI o2 → post x2 (YD q yp (nI cur) tk ou yb yi fc cl ip ss2 fa2 bi bm bv bl io fl fi cx ci yx) → wpY_value post (YD q yp (nI cur) tk ou yb yi fc cl ip ss1 fa1 bi bm bv bl io fl fi cx ci yx) rr) ∧ (ss2 = -1 → v1 = x1 ∧ v2 = x2 ∧ fa2 = fa) := by
  have e1 : (4 * P + 2) / 4 = P := by omega
  have e2 : (4 * P + 3) / 4 = P := by omega
  obtain ⟨v1, x1, ss1, fa1, A1, A2, A3⟩ := ld_ (ip := ip) (ss := ss) (fa := fa) (cu := cu) (yp := yp) (pc := pc) (tk := tk) (ou := ou) (ot := ot) (yx := yx) S W (r := 4 * P + 2) (by omega) (hp.trans e1.symm) (hcu.trans e1.symm) (hyp.trans e1.symm) b1 h1 (by omega) (fun _ _ z => z)
  obtain ⟨v2, x2, ss2, fa2, B1, B2, B3⟩ := ld_ (ip := ip) (ss := ss1) (fa := fa1) (cu := cu) (yp := yp) (pc := pc) (tk := tk) (ou := ou) (ot := ot) (yx := yx) S W (r := 4 * P + 3) (by omega) (hp.trans e2.symm) (hcu.trans e2.symm) (hyp.trans e2.symm) b2 h2 (by omega) (fun _ _ z => z)
  refine ⟨v1, v2, x1, x2, ss1, fa1, ss2, fa2, fun post rr e h => by subst e; exact A1 post h, fun post rr e h => by subst e; exact B1 post h, fun post rr e h => by subst e; exact A2 post h, fun post rr e h => by subst e; exact B2 post h, fun z => ?_⟩
  obtain ⟨c1, c2, c3⟩ := B3 z
  obtain ⟨d1, d2, d3⟩ := A3 c2
  exact ⟨d1, c1, by rw [c3, d3]⟩
theorem oa_pair {P : Nat} (hk : kd_ q P = 3 ∨ kd_ q P = 4 ∨ kd_ q P = 7 ∨ kd_ q P = 10) : oa_ (kd_ q) (ar_ q) (4 * P + 2) = ar_ q (4 * P + 1) + 1 ∧ oa_ (kd_ q) (ar_ q) (4 * P + 3) = ar_ q (4 * P + 2) + 1 := by
  have e1 : (4 * P + 2) / 4 = P := by omega
  have e2 : (4 * P + 3) / 4 = P := by omega
  have e3 : (4 * P + 2) % 4 = 2 := by omega
  have e4 : (4 * P + 3) % 4 = 3 := by omega
  constructor
  · unfold oa_
    rw [e1, e3, if_neg (by omega), if_neg (by omega), if_pos hk, if_neg (by omega)]
    rfl
  · unfold oa_
    rw [e2, e4, if_neg (by omega), if_neg (by omega), if_pos hk, if_neg (by omega)]
    rfl
theorem oa_three {P : Nat} (hk : kd_ q P ≤ 2) : oa_ (kd_ q) (ar_ q) (4 * P + 1) = ar_ q (4 * P + 1) + 1 ∧ oa_ (kd_ q) (ar_ q) (4 * P + 2) = ar_ q (4 * P + 2) + 1 ∧ oa_ (kd_ q) (ar_ q) (4 * P + 3) = ar_ q (4 * P + 3) + 1 := by
  have e0 : (4 * P + 1) / 4 = P := by omega
  have e1 : (4 * P + 2) / 4 = P := by omega
  have e2 : (4 * P + 3) / 4 = P := by omega
  refine ⟨?_, ?_, ?_⟩
  · unfold oa_
    rw [e0, if_pos hk, if_neg (by omega)]
  · unfold oa_
    rw [e1, if_pos hk, if_neg (by omega)]
  · unfold oa_
    rw [e2, if_pos hk, if_neg (by omega)]
theorem k3_ (S : SR q c) {P : Nat} (W : (RR q c ev ht cl fc sv sw me fs fe li cur yb yi bi bm bv bl io fl fi cx ci sg et oi wi kp ps (fun _ _ => False))) (I : NJ q 1 tk ou ht cl fc yb yi ps) (T : SJ q n 1 tk cl ps) (hp : ps cl = P) (hP : P < nn_ q) (hk : kd_ q P = 3) (ho : ∀ i, i < ou → yx i = ot i) (hss : ss = -1) (hpc : pc = P + 1) (hcu : cu = P) :
    OC q c (n + 1) (fun post => wX_execute_42 post (nI P) (nI (kd_ q P)) 0 1 2 3 0 1 2 3 4 5 (-1) 48 512 (nI (mL_ q)) (nI (mT_ q)) (nI (mD_ q)) (nI (cm_ q)) (nI (nn_ q)) (nI (sp_ q)) (nI (sn_ q)) (nI (oc_ q)) ip ss (nI (cu)) (nI (pc)) (nI (tk)) (nI (ou)) (nI (ev)) (nI (ht)) (nI (cl)) (nI (fc)) fa (fun i => nI (kd_ q i)) (fun i => nI (ls_ q i)) (fun i => nI (oe_ q i)) (fun i => nI (od_ q i)) (fun i => nI (ar_ q i)) (fun i => nI (se_ q i)) (fun i => nI (ol_ q i)) (fun i => nI (pl_ q i)) (fun i => nI (sv i)) (fun i => nI (sw i)) (fun i => nI (pa_ q i)) (fun i => nI (ow_ q i)) (fun i => nI (sl_ q i)) (fun i => nI (lo_ q i)) (lx_ q) (an_ q) (vn_ q) (fun i => nI (lh_ q i)) (cp_ c) (fun i => nI (st_ c i)) (fun i => nI (nc_ c i)) (fun i => nI (cc_ c i)) (fun i => nI (hd_ c i)) (fun i => nI (lt_ q i)) (fun i => nI (hm_ c i)) (fun i => nI (rm_ c i)) (ri_ c) (fun i => nI (rh_ c i)) me (fun i => nI (fs i)) (fun i => nI (fe i)) ot li) (fun post => wY_execute_30 post (nI (kd_ q P)) (nI (mL_ q)) (nI (mT_ q)) (nI (mD_ q)) (nI (nn_ q)) (nI (P)) (((nI cur))) (nI (tk)) (nI (ou)) (nI (yb)) (nI (yi)) (nI (fc)) (nI (cl)) ip ss fa (nI (cm_ q)) (fun i => nI (kd_ q i)) (fun i => nI (ar_ q (4 * i + 1))) (fun i => nI (ar_ q (4 * i + 2))) (fun i => nI (ar_ q (4 * i + 3))) (fun i => nI (bi i)) (fun i => nI (bm i)) bv bl io (fun i => nI (fl i)) (fun i => nI (fi i)) (fun i => nI (cx i)) (fun i => nI (ci i)) yx) := by
  have hn := sr_n S
  have hT := S.2.2.2.2.2.1
  subst hss
  have t := rr_top W
  have hL : sg cur = Lq_ q P := by rw [← hp]; exact t.2.2.1
  obtain ⟨oa1, oa2⟩ := oa_pair (q := q) (P := P) (Or.inl hk)
  have a72 := (sr_m S).2.2.2.2.2.2.2.2.1
  obtain ⟨v1, v2, x1, x2, ss1, fa1, ss2, fa2, X1, X2, Y1, Y2, hv⟩ := l2_ (ip := ip) (ss := -1) (fa := fa) (cu := P) (pc := pc) (tk := tk) (ou := ou) (ot := ot) (yx := yx) (yp := P) S W hp hP rfl rfl oa1 oa2 (a72 _) (a72 _)
  have vP : vp_in (nI P) 48 := vp_in_nI (by omega) (by omega)
  have hi := I
  obtain ⟨i1, i2, i3, i4, i5, i6, i7⟩ := I
  have XX : ∀ post : SX → Prop, (ss2 = -1 → post (XD q c ip ss2 P pc tk (ou + 1) ev ht cl fc fa2 sv sw me fs fe (upd ot ou (v1 + v2)) li)) → (ss2 ≠ -1 → post (XD q c ip ss2 P pc tk ou ev ht cl fc fa2 sv sw me fs fe ot li)) → wX_execute_42 post (nI P) 3 0 1 2 3 0 1 2 3 4 5 (-1) 48 512 (nI (mL_ q)) (nI (mT_ q)) (nI (mD_ q)) (nI (cm_ q)) (nI (nn_ q)) (nI (sp_ q)) (nI (sn_ q)) (nI (oc_ q)) ip (-1) (nI (P)) (nI (pc)) (nI (tk)) (nI (ou)) (nI (ev)) (nI (ht)) (nI (cl)) (nI (fc)) fa (fun i => nI (kd_ q i)) (fun i => nI (ls_ q i)) (fun i => nI (oe_ q i)) (fun i => nI (od_ q i)) (fun i => nI (ar_ q i)) (fun i => nI (se_ q i)) (fun i => nI (ol_ q i)) (fun i => nI (pl_ q i)) (fun i => nI (sv i)) (fun i => nI (sw i)) (fun i => nI (pa_ q i)) (fun i => nI (ow_ q i)) (fun i => nI (sl_ q i)) (fun i => nI (lo_ q i)) (lx_ q) (an_ q) (vn_ q) (fun i => nI (lh_ q i)) (cp_ c) (fun i => nI (st_ c i)) (fun i => nI (nc_ c i)) (fun i => nI (cc_ c i)) (fun i => nI (hd_ c i)) (fun i => nI (lt_ q i)) (fun i => nI (hm_ c i)) (fun i => nI (rm_ c i)) (ri_ c) (fun i => nI (rh_ c i)) me (fun i => nI (fs i)) (fun i => nI (fe i)) ot li := by
    intro post h1 h2
    refine br_t rfl (br_t (by decide) ?_)
    unfold wX_execute_68 wpX_compute
    refine X1 _ _ (m4_ P 2) ?_
    refine X2 _ _ (m4_ P 3) ?_
    refine br_c (fun z => br_t (by decide) (br_t rfl (nm_r (nI_1 ou) ⟨vp_in_nI (by omega) (by omega), nm_r (ub_ (by omega)) (h1 z)⟩))) (fun z => h2 z)
  have YY : ∀ post : SY → Prop, (ss2 = -1 → post (YD q (P + 1) (nI cur) tk (ou + 1) yb yi fc cl ip ss2 fa2 bi bm bv bl io fl fi cx ci (upd yx ou (x1 + x2)))) → (ss2 ≠ -1 → post (YD q P (nI cur) tk ou yb yi fc cl ip ss2 fa2 bi bm bv bl io fl fi cx ci yx)) → wY_execute_30 post 3 (nI (mL_ q)) (nI (mT_ q)) (nI (mD_ q)) (nI (nn_ q)) (nI (P)) (((nI cur))) (nI (tk)) (nI (ou)) (nI (yb)) (nI (yi)) (nI (fc)) (nI (cl)) ip (-1) fa (nI (cm_ q)) (fun i => nI (kd_ q i)) (fun i => nI (ar_ q (4 * i + 1))) (fun i => nI (ar_ q (4 * i + 2))) (fun i => nI (ar_ q (4 * i + 3))) (fun i => nI (bi i)) (fun i => nI (bm i)) bv bl io (fun i => nI (fl i)) (fun i => nI (fi i)) (fun i => nI (cx i)) (fun i => nI (ci i)) yx := by
    intro post h1 h2
    refine br_t (by decide) (br_t rfl ?_)
    refine And.intro vP (And.intro vP ?_)
    unfold wpY_sum
    refine Y1 _ _ (gf_1 (by omega)) ?_
    refine Y2 _ _ (gf_2 (by omega)) ?_
    refine br_c (fun z => br_t rfl (br_f (nI_ge (b := 256) (by omega) (by decide)) ⟨vp_in_nI (by omega) (by omega), nm_r (ub_ (by omega)) (nm_r (nI_1 ou) (nm_r (nI_1 P) (h1 z)))⟩)) (fun z => h2 z)
  rw [hk]
  subst hcu
  by_cases z : ss2 = -1
  · obtain ⟨e1, e2, e3⟩ := hv z
    subst e1 e2 e3 z
    have pl := (fs_l (sr_f S) _ hP).1 (by omega)
    have W' := rr_move0 (P' := cu + 1) W (fun _ _ z => z) (rc_self _ _ _) (by omega) (by rw [pl]; exact hL) (fun t x ht hx => by rw [hp]; exact lt_plain S hx (by omega))
    rw [← rr_e W] at W'
    have u1 := UP_plain (w1 := 0) (w2 := 1) (w3 := 1) (w4 := 0) (w5 := 0) S hP (by omega)
    have u2 := UP_plain (w1 := 1) (w2 := 2) (w3 := 1) (w4 := 1) (w5 := 1) S hP (by omega)
    obtain ⟨g1, g2, g3, g4, g5, g6, g7⟩ := nj_move (P' := cu + 1) hi (by rw [hp]; omega)
    refine oc_run (ip := ip) (fa := fa2) (cu := cu) (pc := pc) (ou := ou + 1) (ot := upd ot ou (v1 + v2)) (yx := upd yx ou (v1 + v2)) W' ⟨g1, g2, by omega, g4, g5, g6, g7⟩ (sj_move T (by rw [hp]; omega)) (by rw [up_s, hpc]) (fun i hi => ?_) (fun post h => XX post (fun _ => h) (fun z => absurd rfl z)) (fun post h => YY post (fun _ => by rw [hpc] at h; exact h) (fun z => absurd rfl z))
    by_cases e : i = ou
    · subst e; rw [pk_us, pk_us]
    · rw [pk_un e, pk_un e]; exact ho i (by omega)
  · exact oc_fin S W (by omega) ho z (fun post h => XX post (fun y => absurd y z) (fun _ => h)) (fun post h => YY post (fun y => absurd y z) (fun _ => h))
end
end
section
section
variable {q : QT} {c : CT} {ip ss fa : Int32} {n cu pc tk ou ev ht cl fc yp cur yb yi : Nat} {sv sw fs fe bi bm fl fi cx ci sg et oi wi kp ps : Nat → Nat} {me ot li bv bl io yx : Nat → Int32}
theorem fd_var (S : SR q c) {P x : Nat} (hP : P < nn_ q) (hk : kd_ q P = 1) (hx : ar_ q (4 * P + 1) = x) (h8 : x < 8) : ∀ t, t < sn_ q → rc_ (pa_ q) (ow_ q) (Lq_ q P) t → fd_ (dq2_ q) (pa_ q) t x = ow_ q (Lq_ q P) + 1 := by
  have w := sr_w S
  have M := sr_m S
  have hs := lq_s (sr_f S) (Nat.le_of_lt hP)
  have vb : ∀ t, rc_ (pa_ q) (ow_ q) (Lq_ q P) t → bt (vn_ q t) x = true := fun t ht => (M.2.1 t x h8).mpr ⟨P, hP, hk, hx, ht⟩
  have lb : ∀ t, rc_ (pa_ q) (ow_ q) (Lq_ q P) t → bt (lx_ q t) x = false := by
    intro t ht
    cases hb : bt (lx_ q t) x with
    | false => rfl
    | true =>
      have := M.2.2.2.2.2.1 t x h8 hb
      rw [vb t ht] at this
      exact absurd this (by decide)
  refine rc_ind w (fun t ht h hr => ?_)
  have ot := (rc_le w _ hs hr).2
  rw [fd_it w ht]
  have e : dq2_ q t x = if ow_ q t = t then (bt (lx_ q t) x || bt (vn_ q t) x) else bt (lx_ q t) x := rfl
  by_cases o : ow_ q t = t
  · rw [e, if_pos o, vb t hr, Bool.or_true, if_pos rfl]
    omega
  · obtain ⟨p1, p2, p3⟩ := h o
    rw [e, if_neg o, lb t hr, if_neg (by decide), if_neg (by omega)]
    exact p3 (rc_tr w _ hs hr (rc_up1 o (rc_self _ _ _)))
theorem k2_ (S : SR q c) {P : Nat} (W : (RR q c ev ht cl fc sv sw me fs fe li cur yb yi bi bm bv bl io fl fi cx ci sg et oi wi kp ps (fun _ _ => False))) (I : NJ q 1 tk ou ht cl fc yb yi ps) (T : SJ q n 1 tk cl ps) (hp : ps cl = P) (hP : P < nn_ q) (hk : kd_ q P ≤ 2) (ho : ∀ i, i < ou → yx i = ot i) (hss : ss = -1) (hpc : pc = P + 1) (hcu : cu = P) :
    OC q c (n + 1) (fun post => wX_execute_42 post (nI P) (nI (kd_ q P)) 0 1 2 3 0 1 2 3 4 5 (-1) 48 512 (nI (mL_ q)) (nI (mT_ q)) (nI (mD_ q)) (nI (cm_ q)) (nI (nn_ q)) (nI (sp_ q)) (nI (sn_ q)) (nI (oc_ q)) ip ss (nI (cu)) (nI (pc)) (nI (tk)) (nI (ou)) (nI (ev)) (nI (ht)) (nI (cl)) (nI (fc)) fa (fun i => nI (kd_ q i)) (fun i => nI (ls_ q i)) (fun i => nI (oe_ q i)) (fun i => nI (od_ q i)) (fun i => nI (ar_ q i)) (fun i => nI (se_ q i)) (fun i => nI (ol_ q i)) (fun i => nI (pl_ q i)) (fun i => nI (sv i)) (fun i => nI (sw i)) (fun i => nI (pa_ q i)) (fun i => nI (ow_ q i)) (fun i => nI (sl_ q i)) (fun i => nI (lo_ q i)) (lx_ q) (an_ q) (vn_ q) (fun i => nI (lh_ q i)) (cp_ c) (fun i => nI (st_ c i)) (fun i => nI (nc_ c i)) (fun i => nI (cc_ c i)) (fun i => nI (hd_ c i)) (fun i => nI (lt_ q i)) (fun i => nI (hm_ c i)) (fun i => nI (rm_ c i)) (ri_ c) (fun i => nI (rh_ c i)) me (fun i => nI (fs i)) (fun i => nI (fe i)) ot li) (fun post => wY_execute_30 post (nI (kd_ q P)) (nI (mL_ q)) (nI (mT_ q)) (nI (mD_ q)) (nI (nn_ q)) (nI (P)) (((nI cur))) (nI (tk)) (nI (ou)) (nI (yb)) (nI (yi)) (nI (fc)) (nI (cl)) ip ss fa (nI (cm_ q)) (fun i => nI (kd_ q i)) (fun i => nI (ar_ q (4 * i + 1))) (fun i => nI (ar_ q (4 * i + 2))) (fun i => nI (ar_ q (4 * i + 3))) (fun i => nI (bi i)) (fun i => nI (bm i)) bv bl io (fun i => nI (fl i)) (fun i => nI (fi i)) (fun i => nI (cx i)) (fun i => nI (ci i)) yx) := by
  have hn := sr_n S
  have hT := S.2.2.2.2.2.1
  subst hss
  subst hcu
  have M := sr_m S
  have R := rr_i W
  have B := rr_b W
  obtain ⟨z1, z2, z3, z4, z5⟩ := rr_z W
  have t := rr_top W
  have hL : sg cur = Lq_ q cu := by rw [← hp]; exact t.2.2.1
  obtain ⟨oa0, oa1, oa2⟩ := oa_three (q := q) hk
  have a72 := M.2.2.2.2.2.2.2.2.1
  have a8 := M.2.2.2.2.2.2.2.2.2.1 cu hP (Or.inl hk)
  have hs := lq_s (sr_f S) (Nat.le_of_lt hP)
  have hls := ls_lt (sr_f S) hP
  obtain ⟨v1, v2, x1, x2, ss1, fa1, ss2, fa2, X1, X2, Y1, Y2, hv⟩ := l2_ (ip := ip) (ss := -1) (fa := fa) (cu := cu) (pc := pc) (tk := tk) (ou := ou) (ot := ot) (yx := yx) (yp := cu) S W hp hP rfl rfl oa1 oa2 (a72 _) (a72 _)
  have vP : vp_in (nI cu) 48 := vp_in_nI (by omega) (by omega)
  have r4 : (4 * cu + 1) / 4 = cu := by omega
  have m4 : (4 * cu + 1) % 4 = 1 := by omega
  have k2 : ¬ (2 : Int32) < nI (kd_ q cu) := nI_nlt (a := 2) hk (by omega)
  have e41 : (4 : Int32) * nI cu + 1 = nI (4 * cu + 1) := m4_ cu 1
  have X0 : ∀ post : SX → Prop, (ss2 = -1 → wpX_store (fun u => post u) (XD q c ip ss2 cu pc tk ou ev ht cl fc fa2 sv sw me fs fe ot li) (nI (4 * cu + 1)) (v1 + v2)) → (ss2 ≠ -1 → post (XD q c ip ss2 cu pc tk ou ev ht cl fc fa2 sv sw me fs fe ot li)) → wX_execute_42 post (nI cu) (nI (kd_ q cu)) 0 1 2 3 0 1 2 3 4 5 (-1) 48 512 (nI (mL_ q)) (nI (mT_ q)) (nI (mD_ q)) (nI (cm_ q)) (nI (nn_ q)) (nI (sp_ q)) (nI (sn_ q)) (nI (oc_ q)) ip (-1) (nI (cu)) (nI (pc)) (nI (tk)) (nI (ou)) (nI (ev)) (nI (ht)) (nI (cl)) (nI (fc)) fa (fun i => nI (kd_ q i)) (fun i => nI (ls_ q i)) (fun i => nI (oe_ q i)) (fun i => nI (od_ q i)) (fun i => nI (ar_ q i)) (fun i => nI (se_ q i)) (fun i => nI (ol_ q i)) (fun i => nI (pl_ q i)) (fun i => nI (sv i)) (fun i => nI (sw i)) (fun i => nI (pa_ q i)) (fun i => nI (ow_ q i)) (fun i => nI (sl_ q i)) (fun i => nI (lo_ q i)) (lx_ q) (an_ q) (vn_ q) (fun i => nI (lh_ q i)) (cp_ c) (fun i => nI (st_ c i)) (fun i => nI (nc_ c i)) (fun i => nI (cc_ c i)) (fun i => nI (hd_ c i)) (fun i => nI (lt_ q i)) (fun i => nI (hm_ c i)) (fun i => nI (rm_ c i)) (ri_ c) (fun i => nI (rh_ c i)) me (fun i => nI (fs i)) (fun i => nI (fe i)) ot li := by
    intro post h1 h2
    refine br_t rfl (br_t (nI_le (b := 4) (by omega) (by decide)) ?_)
    unfold wX_execute_68 wpX_compute
    refine X1 _ _ (m4_ cu 2) ?_
    refine X2 _ _ (m4_ cu 3) ?_
    refine br_c (fun z => br_f k2 ?_) (fun z => h2 z)
    rw [e41]
    exact h1 z
  have Y0 : ∀ post : SY → Prop, (ss2 = -1 → ((nI (kd_ q cu) = 1 → wpY_functionScope (fun r => wY_assign_56 post (nI (kd_ q cu)) (x1 + x2) r (nI (mL_ q)) (nI (mT_ q)) (nI (mD_ q)) (nI (nn_ q)) (nI (cu)) (((nI cur))) (nI (tk)) (nI (ou)) (nI (yb)) (nI (yi)) (nI (fc)) (nI (cl)) ip ss2 fa2 (nI (cm_ q)) (fun i => nI (kd_ q i)) (fun i => nI (ar_ q (4 * i + 1))) (fun i => nI (ar_ q (4 * i + 2))) (fun i => nI (ar_ q (4 * i + 3))) (fun i => nI (bi i)) (fun i => nI (bm i)) bv bl io (fun i => nI (fl i)) (fun i => nI (fi i)) (fun i => nI (cx i)) (fun i => nI (ci i)) yx) (YD q cu (nI cur) tk ou yb yi fc cl ip ss2 fa2 bi bm bv bl io fl fi cx ci yx) (nI cu)) ∧ (¬ nI (kd_ q cu) = 1 → wpY_scopeOf (fun r => wY_assign_56 post (nI (kd_ q cu)) (x1 + x2) r (nI (mL_ q)) (nI (mT_ q)) (nI (mD_ q)) (nI (nn_ q)) (nI (cu)) (((nI cur))) (nI (tk)) (nI (ou)) (nI (yb)) (nI (yi)) (nI (fc)) (nI (cl)) ip ss2 fa2 (nI (cm_ q)) (fun i => nI (kd_ q i)) (fun i => nI (ar_ q (4 * i + 1))) (fun i => nI (ar_ q (4 * i + 2))) (fun i => nI (ar_ q (4 * i + 3))) (fun i => nI (bi i)) (fun i => nI (bm i)) bv bl io (fun i => nI (fl i)) (fun i => nI (fi i)) (fun i => nI (cx i)) (fun i => nI (ci i)) yx) (YD q cu (nI cur) tk ou yb yi fc cl ip ss2 fa2 bi bm bv bl io fl fi cx ci yx) (nI cu)))) → (ss2 ≠ -1 → post (YD q cu (nI cur) tk ou yb yi fc cl ip ss2 fa2 bi bm bv bl io fl fi cx ci yx)) → wY_execute_30 post (nI (kd_ q cu)) (nI (mL_ q)) (nI (mT_ q)) (nI (mD_ q)) (nI (nn_ q)) (nI (cu)) (((nI cur))) (nI (tk)) (nI (ou)) (nI (yb)) (nI (yi)) (nI (fc)) (nI (cl)) ip (-1) fa (nI (cm_ q)) (fun i => nI (kd_ q i)) (fun i => nI (ar_ q (4 * i + 1))) (fun i => nI (ar_ q (4 * i + 2))) (fun i => nI (ar_ q (4 * i + 3))) (fun i => nI (bi i)) (fun i => nI (bm i)) bv bl io (fun i => nI (fl i)) (fun i => nI (fi i)) (fun i => nI (cx i)) (fun i => nI (ci i)) yx := by
    intro post h1 h2
    refine br_f k2 (And.intro vP (And.intro vP ?_))
    unfold wpY_sum
    refine Y1 _ _ (gf_2 (by omega)) ?_
    refine Y2 _ _ (gf_3 (by omega)) ?_
    exact br_c (fun z => h1 z) (fun z => h2 z)
  by_cases z : ss2 = -1
  · obtain ⟨e1, e2, e3⟩ := hv z
    subst e1 e2 e3 z
    have pl := (fs_l (sr_f S) _ hP).1 (by omega)
    have u1 := UP_plain (w1 := 0) (w2 := 1) (w3 := 1) (w4 := 0) (w5 := 0) S hP (by omega)
    have u2 := UP_plain (w1 := 1) (w2 := 2) (w3 := 1) (w4 := 1) (w5 := 1) S hP (by omega)
    have NIx := nj_move (P' := cu + 1) I (by rw [hp]; omega)
    have STx := sj_move (P' := cu + 1) T (by rw [hp]; omega)
    have ou2 : ou ≤ 200 := by obtain ⟨i1, i2, i3, i4, i5, i6, i7⟩ := I; omega
    have fin : ∀ a b, b < yb → a < 1024 → (RR q c ev ht cl fc sv sw (upd me a (v1 + v2)) fs fe (upd li a 1) cur yb yi bi bm (upd bv b (v1 + v2)) (upd bl b 1) io fl fi cx ci sg et oi wi (up_ kp cl cur) (up_ ps cl (cu + 1)) (fun _ _ => False)) → (∀ post, post (nI a) (XD q c ip (-1) cu pc tk ou ev ht cl fc fa2 sv sw me fs fe ot li) → wpX_locate post (XD q c ip (-1) cu pc tk ou ev ht cl fc fa2 sv sw me fs fe ot li) (nI (4 * cu + 1))) →
        (∀ post : SY → Prop, wY_assign_100 post (v1 + v2) (nI b) (nI (mL_ q)) (nI (mT_ q)) (nI (mD_ q)) (nI (nn_ q)) (nI (cu)) (((nI cur))) (nI (tk)) (nI (ou)) (nI (yb)) (nI (yi)) (nI (fc)) (nI (cl)) ip (-1) fa2 (nI (cm_ q)) (fun i => nI (kd_ q i)) (fun i => nI (ar_ q (4 * i + 1))) (fun i => nI (ar_ q (4 * i + 2))) (fun i => nI (ar_ q (4 * i + 3))) (fun i => nI (bi i)) (fun i => nI (bm i)) bv bl io (fun i => nI (fl i)) (fun i => nI (fi i)) (fun i => nI (cx i)) (fun i => nI (ci i)) yx → wY_execute_30 post (nI (kd_ q cu)) (nI (mL_ q)) (nI (mT_ q)) (nI (mD_ q)) (nI (nn_ q)) (nI (cu)) (((nI cur))) (nI (tk)) (nI (ou)) (nI (yb)) (nI (yi)) (nI (fc)) (nI (cl)) ip (-1) fa2 (nI (cm_ q)) (fun i => nI (kd_ q i)) (fun i => nI (ar_ q (4 * i + 1))) (fun i => nI (ar_ q (4 * i + 2))) (fun i => nI (ar_ q (4 * i + 3))) (fun i => nI (bi i)) (fun i => nI (bm i)) bv bl io (fun i => nI (fl i)) (fun i => nI (fi i)) (fun i => nI (cx i)) (fun i => nI (ci i)) yx) → OC q c (n + 1) (fun post => wX_execute_42 post (nI cu) (nI (kd_ q cu)) 0 1 2 3 0 1 2 3 4 5 (-1) 48 512 (nI (mL_ q)) (nI (mT_ q)) (nI (mD_ q)) (nI (cm_ q)) (nI (nn_ q)) (nI (sp_ q)) (nI (sn_ q)) (nI (oc_ q)) ip (-1) (nI (cu)) (nI (pc)) (nI (tk)) (nI (ou)) (nI (ev)) (nI (ht)) (nI (cl)) (nI (fc)) fa2 (fun i => nI (kd_ q i)) (fun i => nI (ls_ q i)) (fun i => nI (oe_ q i)) (fun i => nI (od_ q i)) (fun i => nI (ar_ q i)) (fun i => nI (se_ q i)) (fun i => nI (ol_ q i)) (fun i => nI (pl_ q i)) (fun i => nI (sv i)) (fun i => nI (sw i)) (fun i => nI (pa_ q i)) (fun i => nI (ow_ q i)) (fun i => nI (sl_ q i)) (fun i => nI (lo_ q i)) (lx_ q) (an_ q) (vn_ q) (fun i => nI (lh_ q i)) (cp_ c) (fun i => nI (st_ c i)) (fun i => nI (nc_ c i)) (fun i => nI (cc_ c i)) (fun i => nI (hd_ c i)) (fun i => nI (lt_ q i)) (fun i => nI (hm_ c i)) (fun i => nI (rm_ c i)) (ri_ c) (fun i => nI (rh_ c i)) me (fun i => nI (fs i)) (fun i => nI (fe i)) ot li) (fun post => wY_execute_30 post (nI (kd_ q cu)) (nI (mL_ q)) (nI (mT_ q)) (nI (mD_ q)) (nI (nn_ q)) (nI (cu)) (((nI cur))) (nI (tk)) (nI (ou)) (nI (yb)) (nI (yi)) (nI (fc)) (nI (cl)) ip (-1) fa2 (nI (cm_ q)) (fun i => nI (kd_ q i)) (fun i => nI (ar_ q (4 * i + 1))) (fun i => nI (ar_ q (4 * i + 2))) (fun i => nI (ar_ q (4 * i + 3))) (fun i => nI (bi i)) (fun i => nI (bm i)) bv bl io (fun i => nI (fl i)) (fun i => nI (fi i)) (fun i => nI (cx i)) (fun i => nI (ci i)) yx) := by
      intro a b hb ha W' hX hY
      refine oc_run (ip := ip) (fa := fa2) (cu := cu) (pc := pc) W' NIx STx (by rw [up_s, hpc]) ho (fun post h => X0 post (fun _ => xw_sto ha hX h) (fun z => absurd rfl z)) (fun post h => hY post ?_)
      refine yw_set (by omega) (br_t rfl (nm_r (nI_1 cu) ?_))
      rw [hpc] at h
      exact h
    by_cases k1 : kd_ q cu = 2
    ·
      have hnd : ¬ (kd_ q ((4 * cu + 1) / 4) = 0 ∧ (4 * cu + 1) % 4 = 1) := by rw [r4]; omega
      have Y56 : ∀ post : SY → Prop, (∀ K : Int32 → SY → Prop, (∀ r ss' fa', wY_assign_100 post (v1 + v2) r (nI (mL_ q)) (nI (mT_ q)) (nI (mD_ q)) (nI (nn_ q)) (nI (cu)) (((nI cur))) (nI (tk)) (nI (ou)) (nI (yb)) (nI (yi)) (nI (fc)) (nI (cl)) ip ss' fa' (nI (cm_ q)) (fun i => nI (kd_ q i)) (fun i => nI (ar_ q (4 * i + 1))) (fun i => nI (ar_ q (4 * i + 2))) (fun i => nI (ar_ q (4 * i + 3))) (fun i => nI (bi i)) (fun i => nI (bm i)) bv bl io (fun i => nI (fl i)) (fun i => nI (fi i)) (fun i => nI (cx i)) (fun i => nI (ci i)) yx → K r (YD q cu (nI cur) tk ou yb yi fc cl ip ss' fa' bi bm bv bl io fl fi cx ci yx)) → wpY_lookup K (YD q cu (nI cur) tk ou yb yi fc cl ip (-1) fa2 bi bm bv bl io fl fi cx ci yx) (nI (ar_ q (4 * cu + 1)))) → wY_execute_30 post (nI (kd_ q cu)) (nI (mL_ q)) (nI (mT_ q)) (nI (mD_ q)) (nI (nn_ q)) (nI (cu)) (((nI cur))) (nI (tk)) (nI (ou)) (nI (yb)) (nI (yi)) (nI (fc)) (nI (cl)) ip (-1) fa2 (nI (cm_ q)) (fun i => nI (kd_ q i)) (fun i => nI (ar_ q (4 * i + 1))) (fun i => nI (ar_ q (4 * i + 2))) (fun i => nI (ar_ q (4 * i + 3))) (fun i => nI (bi i)) (fun i => nI (bm i)) bv bl io (fun i => nI (fl i)) (fun i => nI (fi i)) (fun i => nI (cx i)) (fun i => nI (ci i)) yx := by
        intro post hh
        refine Y0 post (fun _ => br_f (by rw [k1]; decide) ?_) (fun z => absurd rfl z)
        refine yw_sc (q := q) (e := (cu, (nI cur), tk, ou, yb, yi, fc, cl, ip, (-1), fa2, bi, bm, bv, bl, io, fl, fi, cx, ci, yx)) (sr_f S) (Nat.le_of_lt hP) ?_
        unfold wY_assign_56
        refine yw_ifor (j := cur) S R (by omega) t.1 rfl (by omega) hL (ac_self _ _) hL ?_
        refine br_t (by rw [k1]; rfl) ⟨vP, ?_⟩
        show wpY_lookup _ _ ((fun i => nI (ar_ q (4 * i + 1))) (nI cu).toNatClampNeg)
        rw [gf_1 (by omega)]
        exact hh _ (fun r ss' fa' h => h)
      rcases lk_ (ip := ip) (ss := -1) (fa := fa2) (cu := cu) (pc := pc) (tk := tk) (ou := ou) (ot := ot) (yx := yx) (yp := cu) S W (r := 4 * cu + 1) (by omega) (hp.trans r4.symm) r4.symm r4.symm a8 oa0 hnd (fun _ _ z => z) with ⟨code, hc, hX, hY⟩ | ⟨a, b, b1, b2, b3, b4, a1, a2, hX, hY⟩
      · have ne : sa_ (-1) code ≠ -1 := sa_ne (by rcases hc with rfl | rfl <;> decide)
        refine oc_fin0 (yp := cu) S W ou2 ho ne (fun post h => X0 post (fun _ => xw_sto0 hX h) (fun z => absurd rfl z)) (fun post h => Y56 post (fun K hK => hY K (hK _ _ _ ?_)))
        refine br_t (by decide) (br_f ne h)
      · have W1 := rr_set (v := v1 + v2) S W (fun _ _ z => z) b1 b2 b4 a1
        have W2 := rr_move0 (P' := cu + 1) W1 (fun _ _ z => z) (rc_self _ _ _) (by omega) (by rw [pl]; exact hL) (fun t x ht hx => by rw [hp]; exact lt_plain S hx (by omega))
        rw [← rr_e W] at W2
        exact fin a b b1 a1 W2 hX (fun post h => Y56 post (fun K hK => hY K (hK _ _ _ h)))
    · by_cases k0 : kd_ q cu = 0
      ·
        have lxb := (M.1 (Lq_ q cu) (ar_ q (4 * cu + 1)) a8).mpr ⟨cu, hP, Or.inl k0, rfl, rfl⟩
        have hdb : dq2_ q (Lq_ q cu) (ar_ q (4 * cu + 1)) = true := by
          show (if ow_ q (Lq_ q cu) = Lq_ q cu then (bt (lx_ q (Lq_ q cu)) (ar_ q (4 * cu + 1)) || bt (vn_ q (Lq_ q cu)) (ar_ q (4 * cu + 1))) else bt (lx_ q (Lq_ q cu)) (ar_ q (4 * cu + 1))) = true
          rw [lxb]
          split <;> rfl
        have hlt := (M.2.2.2.1 (Lq_ q cu) (ar_ q (4 * cu + 1)) cu a8).mpr ⟨hP, k0, rfl, rfl⟩
        obtain ⟨b, b1, b2, b3⟩ := B.2.1 cur _ t.1 a8 (by rw [hL]; exact hdb)
        have hfd : fd_ (dq2_ q) (pa_ q) (ls_ q ((4 * cu + 1) / 4)) (ar_ q (4 * cu + 1)) = sg (bi b) + 1 := by
          rw [r4, ← hls.2, fd_it (sr_w S) hs, if_pos hdb, b2, hL]
        have axx : ax_ q (cp_ c) (4 * cu + 1) (sg (bi b)) (ar_ q (4 * cu + 1)) = if bt (cp_ c (Lq_ q cu)) (ar_ q (4 * cu + 1)) = false then 2 else 3 := by
          unfold ax_
          rw [r4, m4, b2, hL, ← hls.2, if_neg (fun z => z.2.2 ⟨k0, rfl⟩), if_pos rfl]
        have t3' : sg cur = ls_ q ((4 * cu + 1) / 4) := by rw [r4, ← hls.2, hL]
        have key : ∀ a, AD c cl cur bi bm sg et oi wi a b → a < 1024 → (∀ post, post (nI a) (XD q c ip (-1) cu pc tk ou ev ht cl fc fa2 sv sw me fs fe ot li) → wpX_locate post (XD q c ip (-1) cu pc tk ou ev ht cl fc fa2 sv sw me fs fe ot li) (nI (4 * cu + 1))) → OC q c (n + 1) (fun post => wX_execute_42 post (nI cu) (nI (kd_ q cu)) 0 1 2 3 0 1 2 3 4 5 (-1) 48 512 (nI (mL_ q)) (nI (mT_ q)) (nI (mD_ q)) (nI (cm_ q)) (nI (nn_ q)) (nI (sp_ q)) (nI (sn_ q)) (nI (oc_ q)) ip (-1) (nI (cu)) (nI (pc)) (nI (tk)) (nI (ou)) (nI (ev)) (nI (ht)) (nI (cl)) (nI (fc)) fa2 (fun i => nI (kd_ q i)) (fun i => nI (ls_ q i)) (fun i => nI (oe_ q i)) (fun i => nI (od_ q i)) (fun i => nI (ar_ q i)) (fun i => nI (se_ q i)) (fun i => nI (ol_ q i)) (fun i => nI (pl_ q i)) (fun i => nI (sv i)) (fun i => nI (sw i)) (fun i => nI (pa_ q i)) (fun i => nI (ow_ q i)) (fun i => nI (sl_ q i)) (fun i => nI (lo_ q i)) (lx_ q) (an_ q) (vn_ q) (fun i => nI (lh_ q i)) (cp_ c) (fun i => nI (st_ c i)) (fun i => nI (nc_ c i)) (fun i => nI (cc_ c i)) (fun i => nI (hd_ c i)) (fun i => nI (lt_ q i)) (fun i => nI (hm_ c i)) (fun i => nI (rm_ c i)) (ri_ c) (fun i => nI (rh_ c i)) me (fun i => nI (fs i)) (fun i => nI (fe i)) ot li) (fun post => wY_execute_30 post (nI (kd_ q cu)) (nI (mL_ q)) (nI (mT_ q)) (nI (mD_ q)) (nI (nn_ q)) (nI (cu)) (((nI cur))) (nI (tk)) (nI (ou)) (nI (yb)) (nI (yi)) (nI (fc)) (nI (cl)) ip (-1) fa2 (nI (cm_ q)) (fun i => nI (kd_ q i)) (fun i => nI (ar_ q (4 * i + 1))) (fun i => nI (ar_ q (4 * i + 2))) (fun i => nI (ar_ q (4 * i + 3))) (fun i => nI (bi i)) (fun i => nI (bm i)) bv bl io (fun i => nI (fl i)) (fun i => nI (fi i)) (fun i => nI (cx i)) (fun i => nI (ci i)) yx) := by
          intro a hA ha hX
          have W1 := rr_store (v := v1 + v2) (px' := fun i x => i = cur ∧ x = ar_ q (4 * cu + 1)) S W b1 hA ha (fun i x z => z.elim) (fun k hk' hr hp' => absurd ⟨b2, b3⟩ hp')
          have W2 := rr_move (P' := cu + 1) W1 (rc_self _ _ _) (by omega) (by rw [pl]; exact hL) (fun b' c1 c2 => by
            have bx := (B.1 b' c1).2.1
            refine ⟨fun np => ?_, fun hp' => ?_⟩
            · rw [hp]
              refine ⟨fun z => by omega, fun z => ?_⟩
              apply Classical.byContradiction
              intro y
              obtain ⟨g1, g2, g3, g4⟩ := (M.2.2.2.1 _ _ cu bx).mp (show lt_ q (8 * sg (bi b') + bm b') = cu + 1 by omega)
              exact np ⟨ri_inj S R t.1 (rc_ac c2) (ac_self _ _) (by rw [← g4, hL]), g3.symm⟩
            · obtain ⟨p1, p2⟩ := hp'
              have eb : b' = b := B.2.2.1 b' b c1 b1 (by rw [p1, b2]) (by rw [p2, b3])
              subst eb
              rw [pk_us, b2, hL, b3, hlt]
              exact ⟨fun _ => Nat.le_refl _, fun _ => rfl⟩) (fun k hk' b' c1 c2 hp' => by
            obtain ⟨p1, p2⟩ := hp'
            have := rv_apart R (rr_v W) (fun k hk => (rr_t W k hk).1) (Nat.le_of_lt hk') (Nat.le_refl cl) c2 (by rw [rr_c W, p1]; exact rc_self _ _ _)
            omega) (fun b' c1 hp' => by
            obtain ⟨p1, p2⟩ := hp'
            have eb : b' = b := B.2.2.1 b' b c1 b1 (by rw [p1, b2]) (by rw [p2, b3])
            subst eb
            exact pk_us)
          rw [← rr_e W] at W2
          refine fin a b b1 ha W2 hX (fun post h => ?_)
          refine Y0 post (fun _ => br_f (by rw [k0]; decide) ?_) (fun z => absurd rfl z)
          refine yw_sc (q := q) (e := (cu, (nI cur), tk, ou, yb, yi, fc, cl, ip, (-1), fa2, bi, bm, bv, bl, io, fl, fi, cx, ci, yx)) (sr_f S) (Nat.le_of_lt hP) ?_
          unfold wY_assign_56
          refine yw_ifor (j := cur) S R (by omega) t.1 rfl (by omega) hL (ac_self _ _) hL ?_
          refine br_f (by rw [k0]; decide) ⟨vP, ?_⟩
          show wpY_find _ _ _ ((fun i => nI (ar_ q (4 * i + 1))) (nI cu).toNatClampNeg)
          rw [gf_1 (by omega)]
          refine yw_find (by have := t.1; omega) (by omega) (by omega) (fun b' h' => ⟨by have := (B.1 b' h').1; omega, by have := (B.1 b' h').2.1; omega⟩) (fun b' c1 c2 c3 _ => ?_) (fun hno => absurd ⟨b2, b3⟩ (hno b b1))
          have eb : b' = b := B.2.2.1 b' b c1 b1 (by rw [c2, b2]) (by rw [c3, b3])
          subst eb
          exact h
        by_cases cp : bt (cp_ c (Lq_ q cu)) (ar_ q (4 * cu + 1)) = false
        · rw [if_pos cp] at axx
          have hsl := hm_slot S hs a8 hdb cp
          refine key (48 * cl + hm_ c (8 * Lq_ q cu + ar_ q (4 * cu + 1))) (Or.inr ⟨by rw [b2, hL, b3]; exact cp, by rw [b2]; exact rc_self _ _ _, by rw [b2, hL, b3]⟩) (by omega) (fun post h => ?_)
          refine xw_loc S R B (by omega) a8 oa0 t.1 t3' (rr_e W) b1 b3 (by rw [b2]; exact ac_self _ _) hfd z4 z1 (fun z => by omega) (fun _ => ?_) (fun z => by omega) (fun z => by omega)
          rw [b2, hL]
          exact h
        · rw [if_neg cp] at axx
          have cp' : bt (cp_ c (sg (bi b))) (bm b) = true := by
            rw [b2, hL, b3]
            cases hb : bt (cp_ c (Lq_ q cu)) (ar_ q (4 * cu + 1)) with
            | true => rfl
            | false => exact absurd hb cp
          obtain ⟨d1, d2, d3, d4, d5⟩ := ad_cap S R B b1 cp'
          rw [b2, hL, b3] at d2 d3
          rw [b2] at d4 d5
          rw [hL] at d5
          refine key (et cur + hm_ c (8 * Lq_ q cu + ar_ q (4 * cu + 1))) (Or.inl ⟨cp', by rw [b2, hL, b3]⟩) (by omega) (fun post h => ?_)
          refine xw_loc S R B (by omega) a8 oa0 t.1 t3' (rr_e W) b1 b3 (by rw [b2]; exact ac_self _ _) hfd z4 z1 (fun z => by omega) (fun z => by omega) (fun _ => ?_) (fun z => by omega)
          rw [b2, hL]
          exact h
      ·
        have k1' : kd_ q cu = 1 := by omega
        have hf := fd_var S hP k1' rfl a8 _ hs (rc_self _ _ _)
        have hdb := ((fd_le (db := dq2_ q) (sr_w S) (x := ar_ q (4 * cu + 1)) _ hs).2 _ hf).1
        have o := rc_own (sr_w S) _ hs
        have oi1 := rc_own (ri_w R) cur t.1
        have swi := ri_wi S R cur t.1
        rw [hL] at swi
        have wl : wi cur < yi := by have := t.1; omega
        obtain ⟨b, b1, b2, b3⟩ := B.2.1 (wi cur) _ wl a8 (by rw [swi]; exact hdb)
        have hlt : lt_ q (8 * ow_ q (Lq_ q cu) + ar_ q (4 * cu + 1)) = 0 := by
          apply Classical.byContradiction
          intro z
          obtain ⟨j, hj⟩ : ∃ j, lt_ q (8 * ow_ q (Lq_ q cu) + ar_ q (4 * cu + 1)) = j + 1 := ⟨lt_ q (8 * ow_ q (Lq_ q cu) + ar_ q (4 * cu + 1)) - 1, by omega⟩
          obtain ⟨j1, j2, j3, j4⟩ := (M.2.2.2.1 _ _ j a8).mp hj
          have h1 := (M.1 _ _ a8).mpr ⟨j, j1, Or.inl j2, j3, j4⟩
          have h2 := M.2.2.2.2.2.1 _ _ a8 h1
          rw [(M.2.1 _ _ a8).mpr ⟨cu, hP, k1', rfl, o.1⟩] at h2
          exact absurd h2 (by decide)
        have rcb : rc_ oi wi cur (bi b) := by rw [b2]; exact oi1.1
        have bl1 : bl b = 1 := by
          refine ((t.2.2.2 b b1 rcb).2 (fun z => z)).mpr ?_
          rw [b2, swi, b3, hlt]
          exact Nat.zero_le _
        have hfd : fd_ (dq2_ q) (pa_ q) (ls_ q ((4 * cu + 1) / 4)) (ar_ q (4 * cu + 1)) = sg (bi b) + 1 := by
          rw [r4, ← hls.2, hf, b2, swi]
        have axx : ax_ q (cp_ c) (4 * cu + 1) (sg (bi b)) (ar_ q (4 * cu + 1)) = if bt (cp_ c (ow_ q (Lq_ q cu))) (ar_ q (4 * cu + 1)) = false then 2 else 3 := by
          unfold ax_
          rw [r4, m4, b2, swi, ← hls.2, hlt, if_neg (fun z => by have := z.2.1; omega), o.2.1, if_pos rfl]
        have t3' : sg cur = ls_ q ((4 * cu + 1) / 4) := by rw [r4, ← hls.2, hL]
        have key : ∀ a, AD c cl cur bi bm sg et oi wi a b → a < 1024 → (∀ post, post (nI a) (XD q c ip (-1) cu pc tk ou ev ht cl fc fa2 sv sw me fs fe ot li) → wpX_locate post (XD q c ip (-1) cu pc tk ou ev ht cl fc fa2 sv sw me fs fe ot li) (nI (4 * cu + 1))) → OC q c (n + 1) (fun post => wX_execute_42 post (nI cu) (nI (kd_ q cu)) 0 1 2 3 0 1 2 3 4 5 (-1) 48 512 (nI (mL_ q)) (nI (mT_ q)) (nI (mD_ q)) (nI (cm_ q)) (nI (nn_ q)) (nI (sp_ q)) (nI (sn_ q)) (nI (oc_ q)) ip (-1) (nI (cu)) (nI (pc)) (nI (tk)) (nI (ou)) (nI (ev)) (nI (ht)) (nI (cl)) (nI (fc)) fa2 (fun i => nI (kd_ q i)) (fun i => nI (ls_ q i)) (fun i => nI (oe_ q i)) (fun i => nI (od_ q i)) (fun i => nI (ar_ q i)) (fun i => nI (se_ q i)) (fun i => nI (ol_ q i)) (fun i => nI (pl_ q i)) (fun i => nI (sv i)) (fun i => nI (sw i)) (fun i => nI (pa_ q i)) (fun i => nI (ow_ q i)) (fun i => nI (sl_ q i)) (fun i => nI (lo_ q i)) (lx_ q) (an_ q) (vn_ q) (fun i => nI (lh_ q i)) (cp_ c) (fun i => nI (st_ c i)) (fun i => nI (nc_ c i)) (fun i => nI (cc_ c i)) (fun i => nI (hd_ c i)) (fun i => nI (lt_ q i)) (fun i => nI (hm_ c i)) (fun i => nI (rm_ c i)) (ri_ c) (fun i => nI (rh_ c i)) me (fun i => nI (fs i)) (fun i => nI (fe i)) ot li) (fun post => wY_execute_30 post (nI (kd_ q cu)) (nI (mL_ q)) (nI (mT_ q)) (nI (mD_ q)) (nI (nn_ q)) (nI (cu)) (((nI cur))) (nI (tk)) (nI (ou)) (nI (yb)) (nI (yi)) (nI (fc)) (nI (cl)) ip (-1) fa2 (nI (cm_ q)) (fun i => nI (kd_ q i)) (fun i => nI (ar_ q (4 * i + 1))) (fun i => nI (ar_ q (4 * i + 2))) (fun i => nI (ar_ q (4 * i + 3))) (fun i => nI (bi i)) (fun i => nI (bm i)) bv bl io (fun i => nI (fl i)) (fun i => nI (fi i)) (fun i => nI (cx i)) (fun i => nI (ci i)) yx) := by
          intro a hA ha hX
          have W1 := rr_set (v := v1 + v2) S W (fun _ _ z => z) b1 bl1 hA ha
          have W2 := rr_move0 (P' := cu + 1) W1 (fun _ _ z => z) (rc_self _ _ _) (by omega) (by rw [pl]; exact hL) (fun t x ht hx => by rw [hp]; exact lt_plain S hx (by omega))
          rw [← rr_e W] at W2
          refine fin a b b1 ha W2 hX (fun post h => ?_)
          refine Y0 post (fun _ => br_t (by rw [k1']; rfl) ?_) (fun z => absurd rfl z)
          refine yw_fs (q := q) (e := (cu, (nI cur), tk, ou, yb, yi, fc, cl, ip, (-1), fa2, bi, bm, bv, bl, io, fl, fi, cx, ci, yx)) (sr_f S) (Nat.le_of_lt hP) ?_
          unfold wY_assign_56
          refine yw_ifor (j := wi cur) S R (by omega) t.1 rfl (by omega) hL (rc_ac oi1.1) swi ?_
          refine br_f (by rw [k1']; decide) ⟨vP, ?_⟩
          show wpY_find _ _ _ ((fun i => nI (ar_ q (4 * i + 1))) (nI cu).toNatClampNeg)
          rw [gf_1 (by omega)]
          refine yw_find (by have := t.1; omega) (by omega) (by omega) (fun b' h' => ⟨by have := (B.1 b' h').1; omega, by have := (B.1 b' h').2.1; omega⟩) (fun b' c1 c2 c3 _ => ?_) (fun hno => absurd ⟨b2, b3⟩ (hno b b1))
          have eb : b' = b := B.2.2.1 b' b c1 b1 (by rw [c2, b2]) (by rw [c3, b3])
          subst eb
          exact h
        have os : ow_ q (Lq_ q cu) < sn_ q := by omega
        by_cases cp : bt (cp_ c (ow_ q (Lq_ q cu))) (ar_ q (4 * cu + 1)) = false
        · rw [if_pos cp] at axx
          have hsl := hm_slot S os a8 hdb cp
          refine key (48 * cl + hm_ c (8 * ow_ q (Lq_ q cu) + ar_ q (4 * cu + 1))) (Or.inr ⟨by rw [b2, swi, b3]; exact cp, rcb, by rw [b2, swi, b3]⟩) (by omega) (fun post h => ?_)
          refine xw_loc S R B (by omega) a8 oa0 t.1 t3' (rr_e W) b1 b3 (by rw [b2]; exact rc_ac oi1.1) hfd z4 z1 (fun z => by omega) (fun _ => ?_) (fun z => by omega) (fun z => by omega)
          rw [b2, swi]
          exact h
        · rw [if_neg cp] at axx
          have cp' : bt (cp_ c (sg (bi b))) (bm b) = true := by
            rw [b2, swi, b3]
            cases hb : bt (cp_ c (ow_ q (Lq_ q cu))) (ar_ q (4 * cu + 1)) with
            | true => rfl
            | false => exact absurd hb cp
          obtain ⟨d1, d2, d3, d4, d5⟩ := ad_cap S R B b1 cp'
          rw [b2, swi, b3] at d2 d3
          rw [b2] at d4 d5
          rw [swi] at d5
          refine key (et (wi cur) + hm_ c (8 * ow_ q (Lq_ q cu) + ar_ q (4 * cu + 1))) (Or.inl ⟨cp', by rw [b2, swi, b3]⟩) (by omega) (fun post h => ?_)
          refine xw_loc S R B (by omega) a8 oa0 t.1 t3' (rr_e W) b1 b3 (by rw [b2]; exact rc_ac oi1.1) hfd z4 z1 (fun z => by omega) (fun z => by omega) (fun _ => ?_) (fun z => by omega)
          rw [b2, swi]
          exact h
  · exact oc_fin0 (yp := cu) S W (by obtain ⟨i1, i2, i3, i4, i5, i6, i7⟩ := I; omega) ho z (fun post h => X0 post (fun y => absurd y z) (fun _ => h)) (fun post h => Y0 post (fun y => absurd y z) (fun _ => h))
end
end
section
section
variable {q : QT} {c : CT} {ip ss fa : Int32} {n cu pc tk ou ev ht cl fc yp cur yb yi : Nat} {sv sw fs fe bi bm fl fi cx ci sg et oi wi kp ps : Nat → Nat} {me ot li bv bl io yx : Nat → Int32}
theorem k6_ (S : SR q c) {P : Nat} (W : (RR q c ev ht cl fc sv sw me fs fe li cur yb yi bi bm bv bl io fl fi cx ci sg et oi wi kp ps (fun _ _ => False))) (I : NJ q 1 tk ou ht cl fc yb yi ps) (T : SJ q n 1 tk cl ps) (hp : ps cl = P) (hP : P < nn_ q) (hk : kd_ q P = 6) (ho : ∀ i, i < ou → yx i = ot i) (hss : ss = -1) (hpc : pc = P + 1) (hcu : cu = P) :
    OC q c (n + 1) (fun post => wX_execute_42 post (nI P) (nI (kd_ q P)) 0 1 2 3 0 1 2 3 4 5 (-1) 48 512 (nI (mL_ q)) (nI (mT_ q)) (nI (mD_ q)) (nI (cm_ q)) (nI (nn_ q)) (nI (sp_ q)) (nI (sn_ q)) (nI (oc_ q)) ip ss (nI (cu)) (nI (pc)) (nI (tk)) (nI (ou)) (nI (ev)) (nI (ht)) (nI (cl)) (nI (fc)) fa (fun i => nI (kd_ q i)) (fun i => nI (ls_ q i)) (fun i => nI (oe_ q i)) (fun i => nI (od_ q i)) (fun i => nI (ar_ q i)) (fun i => nI (se_ q i)) (fun i => nI (ol_ q i)) (fun i => nI (pl_ q i)) (fun i => nI (sv i)) (fun i => nI (sw i)) (fun i => nI (pa_ q i)) (fun i => nI (ow_ q i)) (fun i => nI (sl_ q i)) (fun i => nI (lo_ q i)) (lx_ q) (an_ q) (vn_ q) (fun i => nI (lh_ q i)) (cp_ c) (fun i => nI (st_ c i)) (fun i => nI (nc_ c i)) (fun i => nI (cc_ c i)) (fun i => nI (hd_ c i)) (fun i => nI (lt_ q i)) (fun i => nI (hm_ c i)) (fun i => nI (rm_ c i)) (ri_ c) (fun i => nI (rh_ c i)) me (fun i => nI (fs i)) (fun i => nI (fe i)) ot li) (fun post => wY_execute_30 post (nI (kd_ q P)) (nI (mL_ q)) (nI (mT_ q)) (nI (mD_ q)) (nI (nn_ q)) (nI (P)) (((nI cur))) (nI (tk)) (nI (ou)) (nI (yb)) (nI (yi)) (nI (fc)) (nI (cl)) ip ss fa (nI (cm_ q)) (fun i => nI (kd_ q i)) (fun i => nI (ar_ q (4 * i + 1))) (fun i => nI (ar_ q (4 * i + 2))) (fun i => nI (ar_ q (4 * i + 3))) (fun i => nI (bi i)) (fun i => nI (bm i)) bv bl io (fun i => nI (fl i)) (fun i => nI (fi i)) (fun i => nI (cx i)) (fun i => nI (ci i)) yx) := by
  have hn := sr_n S
  have hT := S.2.2.2.2.2.1
  subst hss
  subst hcu
  have M := sr_m S
  obtain ⟨z1, z2, z3, z4, z5⟩ := rr_z W
  have t := rr_top W
  have hL : sg cur = Lq_ q cu := by rw [← hp]; exact t.2.2.1
  have a8 := M.2.2.2.2.2.2.2.2.2.1 cu hP (Or.inr (Or.inr hk))
  have vP : vp_in (nI cu) 48 := vp_in_nI (by omega) (by omega)
  have r4 : (4 * cu + 1) / 4 = cu := by omega
  have m4 : (4 * cu + 1) % 4 = 1 := by omega
  have oa0 : oa_ (kd_ q) (ar_ q) (4 * cu + 1) = ar_ q (4 * cu + 1) + 1 := by
    unfold oa_
    rw [r4, m4, if_neg (by omega), if_pos (Or.inr hk), if_pos rfl]
  obtain ⟨a1, a2, a3, a4, a5, a6⟩ := bl_facts S hP (by omega) (by omega)
  obtain ⟨o1, o2, o3, o4, o5⟩ := fn_od S hP (by omega) (by omega)
  have mk : mk2_ q (od_ q cu) = cu := by
    unfold mk2_
    rw [o5, if_pos hk]
  have hI := I
  obtain ⟨i1, i2, i3, i4, i5, i6, i7⟩ := I
  have W1 := rr_make W hP (Or.inr hk) hL (fun b' h1 h2 h3 h4 => ((t.2.2.2 b' h1 h2).2 h3).mpr (by rw [mk] at h4; rw [hp]; exact h4))
  have X64 : ∀ post : SX → Prop, ∀ (me' li' : Nat → Int32) (ss' fa' : Int32), post (XD q c ip ss' cu (se_ q (4 * cu) + 1) tk ou ev ht cl (fc + 1) fa' sv sw me' (up_ fs (fc + 1) (od_ q cu)) (up_ fe (fc + 1) ev) ot li') → ∀ of : Int32, wX_flow_64 post (nI cu) of 6 0 1 2 3 0 1 2 3 4 5 (-1) 48 512 (nI (mL_ q)) (nI (mT_ q)) (nI (mD_ q)) (nI (cm_ q)) (nI (nn_ q)) (nI (sp_ q)) (nI (sn_ q)) (nI (oc_ q)) ip ss' (nI (cu)) (nI (pc)) (nI (tk)) (nI (ou)) (nI (ev)) (nI (ht)) (nI (cl)) (nI ((fc + 1))) fa' (fun i => nI (kd_ q i)) (fun i => nI (ls_ q i)) (fun i => nI (oe_ q i)) (fun i => nI (od_ q i)) (fun i => nI (ar_ q i)) (fun i => nI (se_ q i)) (fun i => nI (ol_ q i)) (fun i => nI (pl_ q i)) (fun i => nI (sv i)) (fun i => nI (sw i)) (fun i => nI (pa_ q i)) (fun i => nI (ow_ q i)) (fun i => nI (sl_ q i)) (fun i => nI (lo_ q i)) (lx_ q) (an_ q) (vn_ q) (fun i => nI (lh_ q i)) (cp_ c) (fun i => nI (st_ c i)) (fun i => nI (nc_ c i)) (fun i => nI (cc_ c i)) (fun i => nI (hd_ c i)) (fun i => nI (lt_ q i)) (fun i => nI (hm_ c i)) (fun i => nI (rm_ c i)) (ri_ c) (fun i => nI (rh_ c i)) me' (fun i => nI ((up_ fs (fc + 1) (od_ q cu)) i)) (fun i => nI ((up_ fe (fc + 1) ev) i)) ot li' := by
    intro post me' li' ss' fa' h of
    refine br_t rfl ?_
    refine And.intro (pk_in (4 * cu) 192 (by omega) (m40_ cu) (by omega)) (nm_r (e' := nI (se_ q (4 * cu) + 1)) ?_ h)
    rw [ga_ (f := se_ q) (m40_ cu) (by omega), nI_1]
  have X0 : ∀ post : SX → Prop, (∀ K : SX → Prop, (∀ (me' li' : Nat → Int32) (ss' fa' : Int32), post (XD q c ip ss' cu (se_ q (4 * cu) + 1) tk ou ev ht cl (fc + 1) fa' sv sw me' (up_ fs (fc + 1) (od_ q cu)) (up_ fe (fc + 1) ev) ot li') → K (XD q c ip ss' cu pc tk ou ev ht cl (fc + 1) fa' sv sw me' (up_ fs (fc + 1) (od_ q cu)) (up_ fe (fc + 1) ev) ot li')) → wpX_store K (XD q c ip (-1) cu pc tk ou ev ht cl (fc + 1) fa sv sw me (up_ fs (fc + 1) (od_ q cu)) (up_ fe (fc + 1) ev) ot li) (nI (4 * cu + 1)) (nI (fc + 1))) → wX_execute_42 post (nI cu) (nI (kd_ q cu)) 0 1 2 3 0 1 2 3 4 5 (-1) 48 512 (nI (mL_ q)) (nI (mT_ q)) (nI (mD_ q)) (nI (cm_ q)) (nI (nn_ q)) (nI (sp_ q)) (nI (sn_ q)) (nI (oc_ q)) ip (-1) (nI (cu)) (nI (pc)) (nI (tk)) (nI (ou)) (nI (ev)) (nI (ht)) (nI (cl)) (nI (fc)) fa (fun i => nI (kd_ q i)) (fun i => nI (ls_ q i)) (fun i => nI (oe_ q i)) (fun i => nI (od_ q i)) (fun i => nI (ar_ q i)) (fun i => nI (se_ q i)) (fun i => nI (ol_ q i)) (fun i => nI (pl_ q i)) (fun i => nI (sv i)) (fun i => nI (sw i)) (fun i => nI (pa_ q i)) (fun i => nI (ow_ q i)) (fun i => nI (sl_ q i)) (fun i => nI (lo_ q i)) (lx_ q) (an_ q) (vn_ q) (fun i => nI (lh_ q i)) (cp_ c) (fun i => nI (st_ c i)) (fun i => nI (nc_ c i)) (fun i => nI (cc_ c i)) (fun i => nI (hd_ c i)) (fun i => nI (lt_ q i)) (fun i => nI (hm_ c i)) (fun i => nI (rm_ c i)) (ri_ c) (fun i => nI (rh_ c i)) me (fun i => nI (fs i)) (fun i => nI (fe i)) ot li := by
    intro post hh
    rw [hk]
    refine br_t rfl (br_f (by decide) (br_f (by decide) (br_f (by decide) ?_)))
    refine And.intro vP (nm_e (br_f (by decide) (br_t rfl ?_)))
    exact xw_make (by omega) (by omega) (hh _ (fun me' li' ss' fa' h => X64 post me' li' ss' fa' h _))
  have hnd : ¬ (kd_ q ((4 * cu + 1) / 4) = 0 ∧ (4 * cu + 1) % 4 = 1) := by rw [r4]; omega
  rcases lk_ (ip := ip) (ss := -1) (fa := fa) (cu := cu) (pc := pc) (tk := tk) (ou := ou) (ot := ot) (yx := yx) (yp := cu) S W1 (r := 4 * cu + 1) (by omega) (hp.trans r4.symm) r4.symm r4.symm a8 oa0 hnd (fun _ _ z => z) with ⟨code, hc, hX, hY⟩ | ⟨a, b, b1, b2, b3, b4, ha, a2', hX, hY⟩
  · have ne : sa_ (-1) code ≠ -1 := sa_ne (by rcases hc with rfl | rfl <;> decide)
    refine oc_fin0 (yp := cu) (pc := se_ q (4 * cu) + 1) S W1 (by omega) ho ne (fun post h => X0 post (fun K hK => xw_sto0 hX (hK _ _ _ _ h))) (fun post h => ?_)
    rw [hk]
    refine br_t (by decide) (br_f (by decide) (br_f (by decide) (br_f (by decide) (br_t rfl ?_))))
    refine yw_make (cur := cur) (by omega) rfl ?_
    refine And.intro vP ?_
    show wpY_lookup _ _ ((fun i => nI (ar_ q (4 * i + 1))) (nI cu).toNatClampNeg)
    rw [gf_1 (by omega)]
    refine hY _ ?_
    exact br_t (by decide) (br_t (by decide) h)
  · have W2 := rr_set (v := nI (fc + 1)) S W1 (fun _ _ z => z) b1 b2 b4 ha
    have W3 := rr_move0 (P' := se_ q (4 * cu) + 1) W2 (fun _ _ z => z) (rc_self _ _ _) (by omega) (by rw [a6]; exact hL) (fun t x ht hx => by
      rw [hp]
      rw [a6] at ht
      exact lt_in S hP (by omega) (by omega) (Nat.le_refl _) (by omega) (by omega) (Nat.le_refl _) hx ht)
    rw [← rr_e W] at W3
    have u1 := UP_skip (w1 := 0) (w2 := 1) (w3 := 1) (w4 := 0) (w5 := 0) S hP (by omega) (by omega)
    have u2 := UP_skip (w1 := 1) (w2 := 2) (w3 := 1) (w4 := 1) (w5 := 1) S hP (by omega) (by omega)
    obtain ⟨g1, g2, g3, g4, g5, g6, g7⟩ := nj_move (P' := se_ q (4 * cu) + 1) hI (by rw [hp]; omega)
    refine oc_run (ip := ip) (fa := fa) (cu := cu) (pc := se_ q (4 * cu) + 1) W3 ⟨g1, by omega, g3, g4, g5, g6, g7⟩ (sj_move T (by rw [hp]; omega)) up_s ho (fun post h => X0 post (fun K hK => xw_sto ha hX (hK _ _ _ _ h))) (fun post h => ?_)
    rw [hk]
    refine br_t (by decide) (br_f (by decide) (br_f (by decide) (br_f (by decide) (br_t rfl ?_))))
    refine yw_make (cur := cur) (by omega) rfl ?_
    refine And.intro vP ?_
    show wpY_lookup _ _ ((fun i => nI (ar_ q (4 * i + 1))) (nI cu).toNatClampNeg)
    rw [gf_1 (by omega)]
    refine hY _ ?_
    refine yw_set (by omega) (br_f (nI_pos (by omega)) ?_)
    refine yw_o14 (e := (cu, (nI cur), tk, ou, yb, yi, (fc + 1), cl, ip, (-1), fa, bi, bm, (upd bv b (nI (fc + 1))), (upd bl b 1), io, (up_ fl (fc + 1) cu), (up_ fi (fc + 1) cur), cx, ci, yx)) (sr_f S) hP ?_
    rw [oz_nI (by omega)]
    exact nm_r (nI_1 _) h
end
end
section
section
variable {q : QT} {c : CT} {ip ss fa : Int32} {n cu pc tk ou ev ht cl fc yp cur yb yi : Nat} {sv sw fs fe bi bm fl fi cx ci sg et oi wi kp ps : Nat → Nat} {me ot li bv bl io yx : Nat → Int32}
theorem cc_2 (S : SR q c) {s : Nat} (hs : s < sn_ q) : (if 0 < cc_ c s then cc_ c s + 1 else 0) ≤ 2 * nc_ c s := by
  have := cc_nc S hs
  split <;> omega
theorem ni_ent {t fc' P' s : Nat} (S : SR q c) (hs : s < sn_ q) (I : NJ q t tk ou ht cl fc yb yi ps) (hle : tk + nc_ c s ≤ mT_ q) (hf : fc' ≤ fc + nc_ c s) (hU : UP q 0 1 1 0 0 P' + 1 ≤ UP q 0 1 1 0 0 (ps cl) + 2 * t + 2 * nc_ c s) :
    NI q (tk + nc_ c s) ou (ht + (if 0 < cc_ c s then cc_ c s + 1 else 0)) cl fc' (yb + nc_ c s) (yi + 1) (up_ ps cl P') := by
  obtain ⟨a1, a2, a3, a4, a5, a6, a7⟩ := I
  have c2 := cc_2 S hs
  refine ⟨by omega, by omega, by omega, by omega, hle, a6, ?_⟩
  rw [sm_tp (f := fun P => UP q 0 1 1 0 0 P)]
  rw [sm_] at a7
  omega
theorem st_ent {t P' s : Nat} (I : SJ q n t tk cl ps) (hU : UP q 1 2 1 1 1 P' + 1 ≤ UP q 1 2 1 1 1 (ps cl) + 4 * t + 4 * nc_ c s) : ST_ q (n + 1) (tk + nc_ c s) cl (up_ ps cl P') := by
  unfold SJ at I
  unfold ST_
  rw [sm_tp (f := fun P => UP q 1 2 1 1 1 P)]
  rw [sm_] at I
  omega
theorem rv_in {P' e' w' : Nat} (W : (RR q c ev ht cl fc sv sw me fs fe li cur yb yi bi bm bv bl io fl fi cx ci sg et oi wi kp ps (fun _ _ => False))) (hw : w' = wi cur) : RV cl (up_ kp cl yi) (up_ ps cl P') ci cx sv sw (up_ et yi e') (up_ wi yi w') := by
  have V := rr_v W
  have C := rr_c W
  have T := rr_t W
  refine ⟨fun k hk => ?_, ?_⟩
  · obtain ⟨v1, v2, v3, v4, v5⟩ := V.1 k hk
    have tk := (T k (by omega)).1
    have e1 : up_ kp cl yi k = kp k := up_n (by omega)
    have e2 : up_ ps cl P' k = ps k := up_n (by omega)
    have e3 : up_ et yi e' (kp k) = et (kp k) := up_n (by omega)
    rw [e1, e2, e3]
    refine ⟨v1, v2, v3, v4, ?_⟩
    by_cases e : k + 1 = cl
    · have e4 : up_ kp cl yi (k + 1) = yi := by rw [e, up_s]
      rw [e4, up_s, hw]
      rw [e, C] at v5
      exact v5
    · have tk1 := (T (k + 1) (by omega)).1
      have e4 : up_ kp cl yi (k + 1) = kp (k + 1) := up_n e
      have e5 : up_ wi yi w' (kp (k + 1)) = wi (kp (k + 1)) := up_n (by omega)
      rw [e4, e5]
      exact v5
  · by_cases e : cl = 0
    · have e4 : up_ kp cl yi 0 = yi := by rw [e, up_s]
      have v2 := V.2
      rw [← e, C] at v2
      rw [e4, up_s, hw]
      exact v2.trans e
    · have t0 := (T 0 (by omega)).1
      have e4 : up_ kp cl yi 0 = kp 0 := up_n (by omega)
      have e5 : up_ wi yi w' (kp 0) = wi (kp 0) := up_n (by omega)
      rw [e4, e5]
      exact V.2
theorem ent_n (S : SR q c) {s t P' : Nat} {line : Int32} (W : (RR q c ev ht cl fc sv sw me fs fe li cur yb yi bi bm bv bl io fl fi cx ci sg et oi wi kp ps (fun _ _ => False))) (I : NJ q t tk ou ht cl fc yb yi ps) (hss : ss = -1) (hs : s < sn_ q) (h0 : 0 < s) (hw : ow_ q s ≠ s) (hsg : sg cur = pa_ q s) (hP : P' ≤ nn_ q) (hLP : s = Lq_ q P') (hP1 : P' = sl_ q s + 1)
    (hPP : ∀ t x, rc_ (pa_ q) (ow_ q) (pa_ q s) t → x < 8 → (lt_ q (8 * t + x) ≤ ps cl ↔ lt_ q (8 * t + x) ≤ P')) :
    (tk + nc_ c s ≤ mT_ q → ∃ (fc' : Nat) (fs' fe' fl' fi' bi' bm' sg' et' oi' wi' : Nat → Nat) (me' li' bv' bl' io' : Nat → Int32), fc' ≤ fc + nc_ c s ∧
      (RR q c (et' yi) (ht + (if 0 < cc_ c s then cc_ c s + 1 else 0)) cl fc' sv sw me' fs' fe' li' yi (yb + nc_ c s) (yi + 1) bi' bm' bv' bl' io' fl' fi' cx ci sg' et' oi' wi' (up_ kp cl yi) (up_ ps cl P') (fun _ _ => False)) ∧
      (∀ post : SX → Prop, post (XD q c ip ss cu (sl_ q s + 1) (tk + nc_ c s) ou (et' yi) (ht + (if 0 < cc_ c s then cc_ c s + 1 else 0)) cl fc' fa sv sw me' fs' fe' ot li') → wpX_enter post (XD q c ip ss cu pc tk ou ev ht cl fc fa sv sw me fs fe ot li) (nI s) line) ∧
      (∀ post : Int32 → SY → Prop, post 1 (YD q yp (nI yi) (tk + nc_ c s) ou (yb + nc_ c s) (yi + 1) fc' cl ip ss fa bi' bm' bv' bl' io' fl' fi' cx ci yx) → wpY_enter post (YD q yp (nI cur) tk ou yb yi fc cl ip ss fa bi bm bv bl io fl fi cx ci yx) (mo_ (sc_ (sl_ q) s)) (nI cur) line)) ∧
    (mT_ q < tk + nc_ c s → (∀ post : SX → Prop, post (XD q c ip 5 cu pc tk ou ev ht cl fc line sv sw me fs fe ot li) → wpX_enter post (XD q c ip ss cu pc tk ou ev ht cl fc fa sv sw me fs fe ot li) (nI s) line) ∧ (∀ post : Int32 → SY → Prop, post 0 (YD q yp (nI cur) tk ou yb yi fc cl ip 5 line bi bm bv bl io fl fi cx ci yx) → wpY_enter post (YD q yp (nI cur) tk ou yb yi fc cl ip ss fa bi bm bv bl io fl fi cx ci yx) (mo_ (sc_ (sl_ q) s)) (nI cur) line)) := by
  have tp := rr_top W
  obtain ⟨R, B, H, Z, K, N, V, T, C, E, G⟩ := W
  have W0 : (RR q c ev ht cl fc sv sw me fs fe li cur yb yi bi bm bv bl io fl fi cx ci sg et oi wi kp ps (fun _ _ => False)) := ⟨R, B, H, Z, K, N, V, T, C, E, G⟩
  obtain ⟨g1, g2, g3, g4, g5, g6, g7⟩ := G
  obtain ⟨a1, a2, a3, a4, a5, a6, a7⟩ := I
  have hm := S.2.2.2.2.2.1
  have cn := cc_nc S hs
  have r := ent_ (yl := cl) (cy := cx) (cj := ci) (ly := line) (ip := ip) (ss := ss) (fa := fa) (cu := cu) (pc := pc) (tk := tk) (ou := ou) (ev := ev) (ot := ot) (yp := yp) (yx := yx) (kp := kp) (ps := ps) (ci := ci) (cx := cx) (sv := sv) (sw := sw) (yc := nI cur) (ov := nI cur) (line := line) (o := cur) (P' := P') S R B H Z K N (fun k hk => T k (by omega)) hs hss (fun z => by omega) (fun _ => ⟨tp.1, hsg, h0⟩) (by rw [if_neg (by omega)]) (by rw [if_neg (by omega)]; exact E) (fun z => absurd z hw) (fun z => by omega) hP hLP (fun _ => hP1) (fun z => by omega) (fun z => absurd z hw)
    (fun _ b hb hr => by
      obtain ⟨t5, t6⟩ := tp.2.2.2 b hb hr
      have sc := ri_rc R cur tp.1 hr
      rw [hsg] at sc
      refine ⟨t5, fun hp => ?_⟩
      rw [t6 hp]
      exact hPP _ _ sc (B.1 b hb).2.1)
    rfl rfl rfl rfl rfl (rv_in W0 (by rw [if_neg hw])) g1 (by omega) (fun _ => by omega) (by omega) (by
      have : sm_ (fun k => UP q 0 1 1 0 0 (ps k)) (cl + 1) ≥ 0 := Nat.zero_le _
      omega) g5 (by omega) (fun _ => g7)
  refine ⟨fun hle => ?_, r.2⟩
  obtain ⟨fc', fs', fe', fl', fi', bi', bm', me', li', bv', bl', hf, -, W', X', Y'⟩ := r.1 hle
  exact ⟨fc', fs', fe', fl', fi', bi', bm', _, _, _, _, me', li', bv', bl', _, hf, W', X', Y'⟩
theorem k8_ (S : SR q c) {P : Nat} (W : (RR q c ev ht cl fc sv sw me fs fe li cur yb yi bi bm bv bl io fl fi cx ci sg et oi wi kp ps (fun _ _ => False))) (I : NJ q 1 tk ou ht cl fc yb yi ps) (T : SJ q n 1 tk cl ps) (hp : ps cl = P) (hP : P < nn_ q) (hk : kd_ q P = 8) (ho : ∀ i, i < ou → yx i = ot i) (hss : ss = -1) (hpc : pc = P + 1) (hcu : cu = P) :
    OC q c (n + 1) (fun post => wX_execute_42 post (nI P) (nI (kd_ q P)) 0 1 2 3 0 1 2 3 4 5 (-1) 48 512 (nI (mL_ q)) (nI (mT_ q)) (nI (mD_ q)) (nI (cm_ q)) (nI (nn_ q)) (nI (sp_ q)) (nI (sn_ q)) (nI (oc_ q)) ip ss (nI (cu)) (nI (pc)) (nI (tk)) (nI (ou)) (nI (ev)) (nI (ht)) (nI (cl)) (nI (fc)) fa (fun i => nI (kd_ q i)) (fun i => nI (ls_ q i)) (fun i => nI (oe_ q i)) (fun i => nI (od_ q i)) (fun i => nI (ar_ q i)) (fun i => nI (se_ q i)) (fun i => nI (ol_ q i)) (fun i => nI (pl_ q i)) (fun i => nI (sv i)) (fun i => nI (sw i)) (fun i => nI (pa_ q i)) (fun i => nI (ow_ q i)) (fun i => nI (sl_ q i)) (fun i => nI (lo_ q i)) (lx_ q) (an_ q) (vn_ q) (fun i => nI (lh_ q i)) (cp_ c) (fun i => nI (st_ c i)) (fun i => nI (nc_ c i)) (fun i => nI (cc_ c i)) (fun i => nI (hd_ c i)) (fun i => nI (lt_ q i)) (fun i => nI (hm_ c i)) (fun i => nI (rm_ c i)) (ri_ c) (fun i => nI (rh_ c i)) me (fun i => nI (fs i)) (fun i => nI (fe i)) ot li) (fun post => wY_execute_30 post (nI (kd_ q P)) (nI (mL_ q)) (nI (mT_ q)) (nI (mD_ q)) (nI (nn_ q)) (nI (P)) (((nI cur))) (nI (tk)) (nI (ou)) (nI (yb)) (nI (yi)) (nI (fc)) (nI (cl)) ip ss fa (nI (cm_ q)) (fun i => nI (kd_ q i)) (fun i => nI (ar_ q (4 * i + 1))) (fun i => nI (ar_ q (4 * i + 2))) (fun i => nI (ar_ q (4 * i + 3))) (fun i => nI (bi i)) (fun i => nI (bm i)) bv bl io (fun i => nI (fl i)) (fun i => nI (fi i)) (fun i => nI (cx i)) (fun i => nI (ci i)) yx) := by
  have hn := sr_n S
  have hT := S.2.2.2.2.2.1
  subst hss
  subst hcu
  have t := rr_top W
  have hL : sg cur = Lq_ q cu := by rw [← hp]; exact t.2.2.1
  have vP : vp_in (nI cu) 48 := vp_in_nI (by omega) (by omega)
  obtain ⟨o1, o2, o3, o4, o5⟩ := fn_od S hP (by omega) (by omega)
  have nf : ow_ q (od_ q cu) ≠ od_ q cu := by
    intro z
    have := (ow_fun (sr_f S) o2 o3).mp z
    rw [o5] at this
    omega
  have scc : mo_ (sc_ (sl_ q) (od_ q cu)) = nI cu := by rw [sc_pos (sr_f S) o2, o5]
  obtain ⟨r1, r2⟩ := ent_n (ip := ip) (ss := -1) (fa := fa) (cu := cu) (pc := pc) (ou := ou) (ot := ot) (yx := yx) (yp := cu) (line := nI cu) (P' := cu + 1) S W I rfl o3 o2 nf (by rw [hL, o4]) (by omega) o1.symm (by rw [o5]) (fun t x ht hx => by rw [hp]; exact lt_plain S hx (by omega))
  rw [scc] at r1 r2
  have od1 : (fun i => nI (od_ q i)) (nI cu).toNatClampNeg = nI (od_ q cu) := ga_ rfl (by omega)
  have XX : ∀ post : SX → Prop, (∀ K : SX → Prop, (∀ d, post (XT q c d) → K (XT q c d)) → wpX_enter K (XD q c ip (-1) cu pc tk ou ev ht cl fc fa sv sw me fs fe ot li) (nI (od_ q cu)) (nI cu)) → wX_execute_42 post (nI cu) (nI (kd_ q cu)) 0 1 2 3 0 1 2 3 4 5 (-1) 48 512 (nI (mL_ q)) (nI (mT_ q)) (nI (mD_ q)) (nI (cm_ q)) (nI (nn_ q)) (nI (sp_ q)) (nI (sn_ q)) (nI (oc_ q)) ip (-1) (nI (cu)) (nI (pc)) (nI (tk)) (nI (ou)) (nI (ev)) (nI (ht)) (nI (cl)) (nI (fc)) fa (fun i => nI (kd_ q i)) (fun i => nI (ls_ q i)) (fun i => nI (oe_ q i)) (fun i => nI (od_ q i)) (fun i => nI (ar_ q i)) (fun i => nI (se_ q i)) (fun i => nI (ol_ q i)) (fun i => nI (pl_ q i)) (fun i => nI (sv i)) (fun i => nI (sw i)) (fun i => nI (pa_ q i)) (fun i => nI (ow_ q i)) (fun i => nI (sl_ q i)) (fun i => nI (lo_ q i)) (lx_ q) (an_ q) (vn_ q) (fun i => nI (lh_ q i)) (cp_ c) (fun i => nI (st_ c i)) (fun i => nI (nc_ c i)) (fun i => nI (cc_ c i)) (fun i => nI (hd_ c i)) (fun i => nI (lt_ q i)) (fun i => nI (hm_ c i)) (fun i => nI (rm_ c i)) (ri_ c) (fun i => nI (rh_ c i)) me (fun i => nI (fs i)) (fun i => nI (fe i)) ot li := by
    intro post hh
    rw [hk]
    refine br_t rfl (br_f (by decide) (br_f (by decide) (br_f (by decide) ?_)))
    refine And.intro vP (nm_e (br_f (by decide) (br_f (by decide) (br_f (by decide) (br_f (by decide) (br_t rfl ⟨vP, ?_⟩))))))
    rw [od1]
    exact hh _ (fun d h => h)
  have I' := I
  obtain ⟨i1, i2, i3, i4, i5, i6, i7⟩ := I
  by_cases hle : tk + nc_ c (od_ q cu) ≤ mT_ q
  · obtain ⟨fc', fs', fe', fl', fi', bi', bm', sg', et', oi', wi', me', li', bv', bl', io', hf, W', X', Y'⟩ := r1 hle
    have u1 := UP_in (w1 := 0) (w2 := 1) (w3 := 1) (w4 := 0) (w5 := 0) S hP (Or.inr hk)
    have u2 := UP_in (w1 := 1) (w2 := 2) (w3 := 1) (w4 := 1) (w5 := 1) S hP (Or.inr hk)
    rw [if_pos hk] at u1 u2
    rw [o5] at X'
    refine oc_run (ip := ip) (fa := fa) (cu := cu) (pc := cu + 1) W' (ni_ent S o3 I' hle hf (by rw [hp]; omega)) (st_ent (c := c) T (by rw [hp]; omega)) up_s ho (fun post h => XX post (fun K hK => X' K (hK (ip, -1, cu, cu + 1, tk + nc_ c (od_ q cu), ou, et' yi, ht + (if 0 < cc_ c (od_ q cu) then cc_ c (od_ q cu) + 1 else 0), cl, fc', fa, sv, sw, me', fs', fe', ot, li') h))) (fun post h => ?_)
    rw [hk]
    refine br_t (by decide) (br_f (by decide) (br_f (by decide) (br_f (by decide) (br_f (by decide) (br_f (by decide) (br_t rfl ?_))))))
    refine Y' _ ?_
    exact br_f (by decide) (nm_r (nI_1 cu) h)
  · obtain ⟨X', Y'⟩ := r2 (by omega)
    refine oc_fin0 (ss := 5) (fa := nI cu) (yp := cu) S W (by omega) ho (by decide) (fun post h => XX post (fun K hK => X' K (hK (ip, 5, cu, pc, tk, ou, ev, ht, cl, fc, nI cu, sv, sw, me, fs, fe, ot, li) h))) (fun post h => ?_)
    rw [hk]
    refine br_t (by decide) (br_f (by decide) (br_f (by decide) (br_f (by decide) (br_f (by decide) (br_f (by decide) (br_t rfl ?_))))))
    refine Y' _ ?_
    exact br_t rfl h
end
end
section
section
variable {q : QT} {c : CT} {ip ss fa : Int32} {n cu pc tk ou ev ht cl fc yp cur yb yi : Nat} {sv sw fs fe bi bm fl fi cx ci sg et oi wi kp ps : Nat → Nat} {me ot li bv bl io yx : Nat → Int32}
theorem k7_ (S : SR q c) {P : Nat} (W : (RR q c ev ht cl fc sv sw me fs fe li cur yb yi bi bm bv bl io fl fi cx ci sg et oi wi kp ps (fun _ _ => False))) (I : NJ q 1 tk ou ht cl fc yb yi ps) (T : SJ q n 1 tk cl ps) (hp : ps cl = P) (hP : P < nn_ q) (hk : kd_ q P = 7) (ho : ∀ i, i < ou → yx i = ot i) (hss : ss = -1) (hpc : pc = P + 1) (hcu : cu = P) :
    OC q c (n + 1) (fun post => wX_execute_42 post (nI P) (nI (kd_ q P)) 0 1 2 3 0 1 2 3 4 5 (-1) 48 512 (nI (mL_ q)) (nI (mT_ q)) (nI (mD_ q)) (nI (cm_ q)) (nI (nn_ q)) (nI (sp_ q)) (nI (sn_ q)) (nI (oc_ q)) ip ss (nI (cu)) (nI (pc)) (nI (tk)) (nI (ou)) (nI (ev)) (nI (ht)) (nI (cl)) (nI (fc)) fa (fun i => nI (kd_ q i)) (fun i => nI (ls_ q i)) (fun i => nI (oe_ q i)) (fun i => nI (od_ q i)) (fun i => nI (ar_ q i)) (fun i => nI (se_ q i)) (fun i => nI (ol_ q i)) (fun i => nI (pl_ q i)) (fun i => nI (sv i)) (fun i => nI (sw i)) (fun i => nI (pa_ q i)) (fun i => nI (ow_ q i)) (fun i => nI (sl_ q i)) (fun i => nI (lo_ q i)) (lx_ q) (an_ q) (vn_ q) (fun i => nI (lh_ q i)) (cp_ c) (fun i => nI (st_ c i)) (fun i => nI (nc_ c i)) (fun i => nI (cc_ c i)) (fun i => nI (hd_ c i)) (fun i => nI (lt_ q i)) (fun i => nI (hm_ c i)) (fun i => nI (rm_ c i)) (ri_ c) (fun i => nI (rh_ c i)) me (fun i => nI (fs i)) (fun i => nI (fe i)) ot li) (fun post => wY_execute_30 post (nI (kd_ q P)) (nI (mL_ q)) (nI (mT_ q)) (nI (mD_ q)) (nI (nn_ q)) (nI (P)) (((nI cur))) (nI (tk)) (nI (ou)) (nI (yb)) (nI (yi)) (nI (fc)) (nI (cl)) ip ss fa (nI (cm_ q)) (fun i => nI (kd_ q i)) (fun i => nI (ar_ q (4 * i + 1))) (fun i => nI (ar_ q (4 * i + 2))) (fun i => nI (ar_ q (4 * i + 3))) (fun i => nI (bi i)) (fun i => nI (bm i)) bv bl io (fun i => nI (fl i)) (fun i => nI (fi i)) (fun i => nI (cx i)) (fun i => nI (ci i)) yx) := by
  have hn := sr_n S
  have hT := S.2.2.2.2.2.1
  subst hss
  subst hcu
  have M := sr_m S
  have t := rr_top W
  have hL : sg cur = Lq_ q cu := by rw [← hp]; exact t.2.2.1
  have vP : vp_in (nI cu) 48 := vp_in_nI (by omega) (by omega)
  obtain ⟨oa1, oa2⟩ := oa_pair (q := q) (P := cu) (by omega)
  have a72 := M.2.2.2.2.2.2.2.2.1
  obtain ⟨v1, v2, x1, x2, ss1, fa1, ss2, fa2, X1, X2, Y1, Y2, hv⟩ := l2_ (ip := ip) (ss := -1) (fa := fa) (cu := cu) (pc := pc) (tk := tk) (ou := ou) (ot := ot) (yx := yx) (yp := cu) S W hp hP rfl rfl oa1 oa2 (a72 _) (a72 _)
  obtain ⟨a1, a2, a3, a4, a5, a6⟩ := bl_facts S hP (by omega) (by omega)
  obtain ⟨o1, o2, o3, o4, o5⟩ := fn_od S hP (by omega) (by omega)
  have od1 : (fun i => nI (od_ q i)) (nI cu).toNatClampNeg = nI (od_ q cu) := ga_ rfl (by omega)
  have X0 : ∀ post : SX → Prop, (ss2 = -1 → v2 ≤ v1 → post (XD q c ip ss2 cu (se_ q (4 * cu) + 1) tk ou ev ht cl fc fa2 sv sw me fs fe ot li)) → (ss2 = -1 → ¬ v2 ≤ v1 → (∀ K : SX → Prop, (∀ d, post (XT q c d) → K (XT q c d)) → wpX_enter K (XD q c ip ss2 cu pc tk ou ev ht cl fc fa2 sv sw me fs fe ot li) (nI (od_ q cu)) (nI cu))) → (ss2 ≠ -1 → post (XD q c ip ss2 cu pc tk ou ev ht cl fc fa2 sv sw me fs fe ot li)) → wX_execute_42 post (nI cu) (nI (kd_ q cu)) 0 1 2 3 0 1 2 3 4 5 (-1) 48 512 (nI (mL_ q)) (nI (mT_ q)) (nI (mD_ q)) (nI (cm_ q)) (nI (nn_ q)) (nI (sp_ q)) (nI (sn_ q)) (nI (oc_ q)) ip (-1) (nI (cu)) (nI (pc)) (nI (tk)) (nI (ou)) (nI (ev)) (nI (ht)) (nI (cl)) (nI (fc)) fa (fun i => nI (kd_ q i)) (fun i => nI (ls_ q i)) (fun i => nI (oe_ q i)) (fun i => nI (od_ q i)) (fun i => nI (ar_ q i)) (fun i => nI (se_ q i)) (fun i => nI (ol_ q i)) (fun i => nI (pl_ q i)) (fun i => nI (sv i)) (fun i => nI (sw i)) (fun i => nI (pa_ q i)) (fun i => nI (ow_ q i)) (fun i => nI (sl_ q i)) (fun i => nI (lo_ q i)) (lx_ q) (an_ q) (vn_ q) (fun i => nI (lh_ q i)) (cp_ c) (fun i => nI (st_ c i)) (fun i => nI (nc_ c i)) (fun i => nI (cc_ c i)) (fun i => nI (hd_ c i)) (fun i => nI (lt_ q i)) (fun i => nI (hm_ c i)) (fun i => nI (rm_ c i)) (ri_ c) (fun i => nI (rh_ c i)) me (fun i => nI (fs i)) (fun i => nI (fe i)) ot li := by
    intro post h1 h2 h3
    rw [hk]
    refine br_t rfl (br_f (by decide) (br_t rfl ?_))
    unfold wX_execute_68 wpX_compute
    refine X1 _ _ (m4_ cu 2) ?_
    refine X2 _ _ (m4_ cu 3) ?_
    refine br_c (fun z => br_t (by decide) (br_f (by decide) (br_f (by decide) (br_t rfl ?_)))) (fun z => h3 z)
    refine br_c (fun y => ?_) (fun y => ⟨vP, ?_⟩)
    · refine br_t rfl ⟨pk_in (4 * cu) 192 (by omega) (m40_ cu) (by omega), nm_r (e' := nI (se_ q (4 * cu) + 1)) ?_ (h1 z y)⟩
      rw [ga_ (f := se_ q) (m40_ cu) (by omega), nI_1]
    · show wpX_enter _ _ ((fun i => nI (od_ q i)) (nI cu).toNatClampNeg) _
      rw [od1]
      exact h2 z y _ (fun d h => h)
  have Y0 : ∀ post : SY → Prop, (ss2 = -1 → x2 ≤ x1 → post (YD q (se_ q (4 * cu) + 1) (nI cur) tk ou yb yi fc cl ip ss2 fa2 bi bm bv bl io fl fi cx ci yx)) → (ss2 = -1 → ¬ x2 ≤ x1 → (∀ K : Int32 → SY → Prop, (∀ e, yp_ e = cu → post (YT q (cu + 1, e.2)) → K 1 (YT q e)) → (∀ e, post (YT q e) → K 0 (YT q e)) → wpY_enter K (YD q cu (nI cur) tk ou yb yi fc cl ip ss2 fa2 bi bm bv bl io fl fi cx ci yx) (nI cu) (nI cur) (nI cu))) → (ss2 ≠ -1 → post (YD q cu (nI cur) tk ou yb yi fc cl ip ss2 fa2 bi bm bv bl io fl fi cx ci yx)) → wY_execute_30 post (nI (kd_ q cu)) (nI (mL_ q)) (nI (mT_ q)) (nI (mD_ q)) (nI (nn_ q)) (nI (cu)) (((nI cur))) (nI (tk)) (nI (ou)) (nI (yb)) (nI (yi)) (nI (fc)) (nI (cl)) ip (-1) fa (nI (cm_ q)) (fun i => nI (kd_ q i)) (fun i => nI (ar_ q (4 * i + 1))) (fun i => nI (ar_ q (4 * i + 2))) (fun i => nI (ar_ q (4 * i + 3))) (fun i => nI (bi i)) (fun i => nI (bm i)) bv bl io (fun i => nI (fl i)) (fun i => nI (fi i)) (fun i => nI (cx i)) (fun i => nI (ci i)) yx := by
    intro post h1 h2 h3
    rw [hk]
    refine br_t (by decide) (br_f (by decide) (br_f (by decide) (br_f (by decide) (br_f (by decide) (br_t rfl ⟨vP, vP, ?_⟩)))))
    unfold wpY_less
    refine Y1 _ _ (gf_1 (by omega)) ?_
    refine Y2 _ _ (gf_2 (by omega)) ?_
    refine br_c (fun y => br_c (fun z => br_t rfl ?_) (fun z => h3 z)) (fun y => br_c (fun z => br_f (by decide) ?_) (fun z => h3 z))
    · refine yw_o14 (e := (cu, (nI cur), tk, ou, yb, yi, fc, cl, ip, ss2, fa2, bi, bm, bv, bl, io, fl, fi, cx, ci, yx)) (sr_f S) hP ?_
      rw [oz_nI (by omega)]
      exact nm_r (nI_1 _) (h1 z y)
    · refine h2 z y _ (fun e he h => br_f (by decide) (nm_r (e' := nI (cu + 1)) ?_ h)) (fun e h => br_t rfl h)
      show nI (yp_ e) + 1 = _
      rw [he, nI_1]
  have I' := I
  obtain ⟨i1, i2, i3, i4, i5, i6, i7⟩ := I
  by_cases z : ss2 = -1
  · obtain ⟨e1, e2, e3⟩ := hv z
    subst e1 e2 e3 z
    by_cases y : v2 ≤ v1
    · have W' := rr_move0 (P' := se_ q (4 * cu) + 1) W (fun _ _ z => z) (rc_self _ _ _) (by omega) (by rw [a6]; exact hL) (fun t x ht hx => by
        rw [hp]
        rw [a6] at ht
        exact lt_in S hP (by omega) (by omega) (Nat.le_refl _) (by omega) (by omega) (Nat.le_refl _) hx ht)
      rw [← rr_e W] at W'
      have u1 := UP_skip (w1 := 0) (w2 := 1) (w3 := 1) (w4 := 0) (w5 := 0) S hP (by omega) (by omega)
      have u2 := UP_skip (w1 := 1) (w2 := 2) (w3 := 1) (w4 := 1) (w5 := 1) S hP (by omega) (by omega)
      exact oc_run (ip := ip) (fa := fa2) (cu := cu) W' (nj_move I' (by rw [hp]; omega)) (sj_move T (by rw [hp]; omega)) up_s ho (fun post h => X0 post (fun _ _ => h) (fun _ w => absurd y w) (fun z => absurd rfl z)) (fun post h => Y0 post (fun _ _ => h) (fun _ w => absurd y w) (fun z => absurd rfl z))
    · have nf : ow_ q (od_ q cu) ≠ od_ q cu := by
        intro z
        have := (ow_fun (sr_f S) o2 o3).mp z
        rw [o5] at this
        omega
      have scc : mo_ (sc_ (sl_ q) (od_ q cu)) = nI cu := by rw [sc_pos (sr_f S) o2, o5]
      obtain ⟨r1, r2⟩ := ent_n (ip := ip) (ss := -1) (fa := fa2) (cu := cu) (pc := pc) (ou := ou) (ot := ot) (yx := yx) (yp := cu) (line := nI cu) (P' := cu + 1) S W I' rfl o3 o2 nf (by rw [hL, o4]) (by omega) o1.symm (by rw [o5]) (fun t x ht hx => by rw [hp]; exact lt_plain S hx (by omega))
      rw [scc] at r1 r2
      by_cases hle : tk + nc_ c (od_ q cu) ≤ mT_ q
      · obtain ⟨fc', fs', fe', fl', fi', bi', bm', sg', et', oi', wi', me', li', bv', bl', io', hf, W', X', Y'⟩ := r1 hle
        have u1 := UP_in (w1 := 0) (w2 := 1) (w3 := 1) (w4 := 0) (w5 := 0) S hP (Or.inl hk)
        have u2 := UP_in (w1 := 1) (w2 := 2) (w3 := 1) (w4 := 1) (w5 := 1) S hP (Or.inl hk)
        rw [if_neg (by omega)] at u1 u2
        rw [o5] at X'
        exact oc_run (ip := ip) (fa := fa2) (cu := cu) (pc := cu + 1) W' (ni_ent S o3 I' hle hf (by rw [hp]; omega)) (st_ent (c := c) T (by rw [hp]; omega)) up_s ho (fun post h => X0 post (fun _ w => absurd w y) (fun _ _ K hK => X' K (hK (ip, -1, cu, cu + 1, tk + nc_ c (od_ q cu), ou, et' yi, ht + (if 0 < cc_ c (od_ q cu) then cc_ c (od_ q cu) + 1 else 0), cl, fc', fa2, sv, sw, me', fs', fe', ot, li') h)) (fun z => absurd rfl z)) (fun post h => Y0 post (fun _ w => absurd w y) (fun _ _ K hK _ => Y' K (hK (cu, (nI yi), (tk + nc_ c (od_ q cu)), ou, (yb + nc_ c (od_ q cu)), (yi + 1), fc', cl, ip, (-1), fa2, bi', bm', bv', bl', io', fl', fi', cx, ci, yx) rfl h)) (fun z => absurd rfl z))
      · obtain ⟨X', Y'⟩ := r2 (by omega)
        exact oc_fin0 (ss := 5) (fa := nI cu) (yp := cu) S W (by omega) ho (by decide) (fun post h => X0 post (fun _ w => absurd w y) (fun _ _ K hK => X' K (hK (ip, 5, cu, pc, tk, ou, ev, ht, cl, fc, nI cu, sv, sw, me, fs, fe, ot, li) h)) (fun z => absurd rfl z)) (fun post h => Y0 post (fun _ w => absurd w y) (fun _ _ K _ hK => Y' K (hK (cu, (nI cur), tk, ou, yb, yi, fc, cl, ip, 5, (nI cu), bi, bm, bv, bl, io, fl, fi, cx, ci, yx) h)) (fun z => absurd rfl z))
  · exact oc_fin0 (yp := cu) S W (by omega) ho z (fun post h => X0 post (fun w => absurd w z) (fun w => absurd w z) (fun _ => h)) (fun post h => Y0 post (fun w => absurd w z) (fun w => absurd w z) (fun _ => h))
theorem lp_inst (S : SR q c) {P l : Nat} (W : (RR q c ev ht cl fc sv sw me fs fe li cur yb yi bi bm bv bl io fl fi cx ci sg et oi wi kp ps (fun _ _ => False))) (hL : sg cur = Lq_ q P) (hP : P ≤ nn_ q) (hl : l < nn_ q) (h8 : kd_ q l = 8) (hr : rc_ (pa_ q) (ow_ q) (Lq_ q P) (od_ q l)) : ∃ i, rc_ oi wi cur i ∧ i < yi ∧ 0 < i ∧ sg i = od_ q l ∧ sg (oi i) = Lq_ q l ∧ rc_ oi wi cur (oi i) ∧ io i = nI (oi i) ∧ oi i < yi := by
  have R := rr_i W
  have t := (rr_top W).1
  obtain ⟨s1, s2, s3, s4, s5, s6, s7⟩ := lp_sc S hl h8
  obtain ⟨i, i1, i2⟩ := ri_ex R cur t (by rw [hL]; exact rc_ac hr)
  have il := ac_le (ri_w R) cur t i1
  have i0 : 0 < i := by
    apply Nat.pos_of_ne_zero
    intro z
    rw [z, R.1] at i2
    omega
  have hs := lq_s (sr_f S) hP
  have rc := ri_rcj S R t i1 (by rw [i2, hL]; exact (rc_le (sr_w S) _ hs hr).2)
  obtain ⟨r1, r2, r3, r4, -⟩ := R.2.2.2.1 i (by omega)
  have g := r4 i0
  refine ⟨i, rc, by omega, i0, i2, by rw [r2, i2, s3], rc_tr (ri_w R) cur t rc (rc_up1 (fun z => s5 (by rw [← i2]; exact r3.mp z)) (rc_self _ _ _)), g.2.2.2, by have := g.2.1; omega⟩
theorem xw_leave {post : SX → Prop} (S : SR q c) {P l j : Nat} (R : RI q c yi ht io me sg et oi wi) (hht : ht ≤ 1000) (hP : P < nn_ q) (hl : l < nn_ q) (hoe : oe_ q P = l) (hcur : cur < yi) (hsg : sg cur = Lq_ q P) (hev : ev = et cur) (ha : ac_ oi cur j) (hj : sg j = Lq_ q l) (hse : se_ q (4 * l) < 48) (h : post (XD q c ip ss cu (se_ q (4 * l) + 1) tk ou (et j) ht cl fc fa sv sw me fs fe ot li)) : wpX_leave post (XD q c ip ss cu pc tk ou ev ht cl fc fa sv sw me fs fe ot li) (nI P) := by
  have hn := sr_n S
  have e1 : (fun i => nI (oe_ q i)) (nI P).toNatClampNeg = nI l := by rw [ga_ (f := oe_ q) rfl (by omega), hoe]
  have l1 := ls_lt (sr_f S) hl
  have l2 := ls_lt (sr_f S) hP
  have e2 : (fun i => nI (ls_ q i)) ((fun i => nI (oe_ q i)) (nI P).toNatClampNeg).toNatClampNeg = nI (Lq_ q l) := by rw [e1, ga_ (f := ls_ q) rfl (by omega), l1.2]
  refine And.intro (vp_in_nI (by omega) (by omega)) (And.intro (pk_in l 48 (by omega) e1 (by omega)) ?_)
  show wpX_unwind _ _ _ ((fun i => nI (ls_ q i)) ((fun i => nI (oe_ q i)) (nI P).toNatClampNeg).toNatClampNeg)
  rw [e2]
  refine xw_unw S R hht hP hcur (by rw [hsg, l2.2]) hev ha hj ?_
  have e3 : (4 : Int32) * ((fun i => nI (oe_ q i)) (nI P).toNatClampNeg) = nI (4 * l) := by rw [e1, m40_]
  refine And.intro (vp_in_nI (by omega) (by omega)) (And.intro (pk_in (4 * l) 192 (by omega) e3 (by omega)) (nm_r (e' := nI (se_ q (4 * l) + 1)) ?_ h))
  rw [ga_ (f := se_ q) e3 (by omega), nI_1]
end
end
section
section
variable {q : QT} {c : CT}
theorem eo_out {K : Nat → Nat} {l e : Nat} (he : K e = 14) (hel : eo_ K e = l + 1) : ∀ j, e < j → eo_ K j ≤ l ∨ e + 1 < eo_ K j := by
  have le := eo_le K e
  intro j
  induction j using Nat.strongRecOn with
  | _ j ih =>
    intro hj
    obtain ⟨m, rfl⟩ : ∃ m, j = m + 1 := ⟨j - 1, by omega⟩
    by_cases e1 : m = e
    · subst e1
      rw [eo_end he, hel, if_neg (by omega), Nat.add_sub_cancel]
      have := eo_le K l
      omega
    · have i1 := ih m (by omega) (by omega)
      by_cases k14 : K m = 14
      · rw [eo_end k14]
        by_cases z : eo_ K m = 0
        · rw [if_pos z]; omega
        · rw [if_neg z]
          have l1 := eo_le K m
          have l2 := eo_le K (eo_ K m - 1)
          rcases i1 with y | y
          · omega
          · exact ih (eo_ K m - 1) (by omega) (by omega)
      · by_cases k5 : 5 ≤ K m ∧ K m ≤ 8
        · rw [eo_opn k5.1 k5.2]; omega
        · rw [eo_els k14 k5]; exact i1
theorem eo_end2 (S : SR q c) {l : Nat} (hl : l < nn_ q) (h5 : 5 ≤ kd_ q l) (h8 : kd_ q l ≤ 8) : kd_ q (se_ q (4 * l)) = 14 ∧ eo_ (kd_ q) (se_ q (4 * l)) = l + 1 ∧ l < se_ q (4 * l) ∧ se_ q (4 * l) < nn_ q := by
  obtain ⟨a1, a2, a3, a4, -⟩ := (fs_e (sr_f S) l hl).1 (se_ok S hl h5 h8)
  exact ⟨a3, a4, a1, a2⟩
theorem in_body (S : SR q c) {l : Nat} (hl : l < nn_ q) (h8 : kd_ q l = 8) : ∀ P, P ≤ nn_ q → ac_ (pa_ q) (Lq_ q P) (od_ q (se_ q (4 * l + 3))) → P ≤ se_ q (4 * l) := by
  have F := sr_f S
  obtain ⟨f1, f2, f3, f4, f5, f6⟩ := lp_facts S hl h8
  obtain ⟨s1, s2, s3, s4, s5, s6, s7⟩ := lp_sc S hl h8
  intro P
  induction P using Nat.strongRecOn with
  | _ P ih =>
    intro hP ha
    have hs := lq_s F hP
    have u0 : Lq_ q P ≠ 0 := by
      intro z
      rw [z] at ha
      have := ac_le (sr_w S) 0 (by omega) ha
      omega
    have y := fs_y F P hP
    have le := eo_le (kd_ q) P
    unfold sc_ sy_ at y
    rw [if_neg u0] at y
    have e0 : eo_ (kd_ q) P ≠ 0 := by
      intro z
      rw [if_pos z] at y
      omega
    rw [if_neg e0] at y
    obtain ⟨m, hm⟩ : ∃ m, eo_ (kd_ q) P = m + 1 := ⟨eo_ (kd_ q) P - 1, by omega⟩
    have op := eo_op e0
    rw [hm, Nat.add_sub_cancel] at y op
    have hmn : m < nn_ q := by omega
    obtain ⟨g1, g2, g3, g4⟩ := eo_end2 S hmn op.1 op.2
    have Pm : P ≤ se_ q (4 * m) := by
      apply Classical.byContradiction
      intro z
      have := eo_out g1 g2 P (by omega)
      omega
    obtain ⟨o1, o2, o3, o4, o5⟩ := fn_od S hmn op.1 op.2
    have fin : ac_ (pa_ q) (Lq_ q m) (od_ q (se_ q (4 * l + 3))) → P ≤ se_ q (4 * l) := by
      intro h
      have me := ih m (by omega) (by omega) h
      have mne : m ≠ se_ q (4 * l) := by
        intro z
        rw [← z] at f2
        omega
      apply Classical.byContradiction
      intro z
      have := eo_out f2.2.2.2 f6.2.2.2 (se_ q (4 * m)) (by omega)
      rw [g2] at this
      have lm : l ≤ m := by
        have a1 := ac_le (sr_w S) _ (lq_s F (Nat.le_of_lt hmn)) h
        have a2 : Lq_ q m ≠ 0 := by omega
        have a3 := sl_lt F (Nat.le_of_lt hmn) a2
        have a4 : sl_ q (od_ q (se_ q (4 * l + 3))) ≤ sl_ q (Lq_ q m) := by
          rcases Nat.eq_or_lt_of_le a1 with y | y
          · rw [y]; exact Nat.le_refl _
          · exact Nat.le_of_lt (fs_m F _ _ f4.2.1 y (lq_s F (Nat.le_of_lt hmn)))
        rw [f4.2.2.2] at a4
        omega
      omega
    by_cases w : kd_ q m = 8 ∧ se_ q (4 * m + 3) ≠ 0 ∧ se_ q (4 * m + 3) < P
    · rw [if_pos w] at y
      obtain ⟨h1, h2, h3, h4, h5, h6⟩ := lp_facts S hmn w.1
      obtain ⟨t1, t2, t3, t4, t5, t6, t7⟩ := lp_sc S hmn w.1
      have eL : Lq_ q P = od_ q (se_ q (4 * m + 3)) := by
        have := (fs_c F (Lq_ q P) (by omega) hs).2.2.1
        rw [← this]
        congr 1
        omega
      rcases ac_it.mp ha with z | z
      ·
        have : se_ q (4 * m + 3) = se_ q (4 * l + 3) := by
          rw [eL] at z
          rw [← h4.2.2.2, z, f4.2.2.2]
        have lm : m = l := by
          have h63 := h6.2.2.1
          rw [this, f6.2.2.1] at h63
          omega
        rw [← lm]; exact Pm
      · rw [eL, h4.2.2.1] at z
        rcases ac_it.mp z with z | z
        · exfalso
          have := congrArg (sl_ q) z
          rw [t4, f4.2.2.2] at this
          rw [this] at w
          omega
        · rw [t3] at z
          exact fin z
    · rw [if_neg w] at y
      have eL : Lq_ q P = od_ q m := by
        have := (fs_c F (Lq_ q P) (by omega) hs).2.2.1
        rw [← this]
        congr 1
        omega
      rcases ac_it.mp ha with z | z
      · exfalso
        have e9 := congrArg (sl_ q) z
        rw [eL, o5, f4.2.2.2] at e9
        rw [e9] at op
        omega
      · rw [eL, o4] at z
        exact fin z
theorem lo_body (S : SR q c) {l : Nat} : ∀ s, s < sn_ q → lo_ q s = l + 1 → l < nn_ q ∧ kd_ q l = 8 ∧ rc_ (pa_ q) (ow_ q) s (od_ q (se_ q (4 * l + 3))) := by
  refine rc_ind (sr_w S) (fun s hs h hl => ?_)
  have s0 : 0 < s := by
    apply Nat.pos_of_ne_zero
    intro z
    rw [z, (fs_r (sr_f S)).2.2.2] at hl
    omega
  obtain ⟨a1, a2, a3, a4, a5, a6, a7⟩ := fs_c (sr_f S) s s0 hs
  rw [a7] at hl
  by_cases k9 : kd_ q (sl_ q s) = 9
  · rw [if_pos k9] at hl
    rcases a5 with z | ⟨_, l', b1, b2, b3, b4⟩
    · omega
    · have el : l' = l := by omega
      subst el
      have le := eo_le (kd_ q) (sl_ q s)
      refine ⟨by omega, b3, ?_⟩
      rw [← b2, a3]
      exact rc_self _ _ _
  · rw [if_neg k9] at hl
    by_cases k5 : kd_ q (sl_ q s) = 5 ∨ kd_ q (sl_ q s) = 6
    · rw [if_pos k5] at hl; omega
    · rw [if_neg k5] at hl
      have nf : ow_ q s ≠ s := fun z => k5 ((ow_fun (sr_f S) s0 hs).mp z)
      obtain ⟨g1, g2, g3⟩ := (h nf).2.2 hl
      exact ⟨g1, g2, rc_up1 nf g3⟩
theorem br_facts (S : SR q c) {P : Nat} (hP : P < nn_ q) (hk : kd_ q P = 11 ∨ kd_ q P = 12) : kd_ q (oe_ q P) = 8 ∧ oe_ q P < nn_ q ∧ rc_ (pa_ q) (ow_ q) (Lq_ q P) (od_ q (se_ q (4 * oe_ q P + 3))) ∧ rc_ (pa_ q) (ow_ q) (Lq_ q P) (od_ q (oe_ q P)) ∧ se_ q (4 * oe_ q P + 3) < P ∧ P ≤ se_ q (4 * oe_ q P) ∧ la_ (kd_ q) (sl_ q) (lo_ q) (Lq_ q P) = oe_ q P + 1 := by
  have F := sr_f S
  have hs := lq_s F (Nat.le_of_lt hP)
  have b := fs_o F P hP
  have h1 := b.2.2.2.1 hk
  obtain ⟨g1, g2, g3⟩ := lo_body S _ hs h1.symm
  obtain ⟨f1, f2, f3, f4, f5, f6⟩ := lp_facts S g1 g2
  obtain ⟨s1, s2, s3, s4, s5, s6, s7⟩ := lp_sc S g1 g2
  have r2 : rc_ (pa_ q) (ow_ q) (Lq_ q P) (od_ q (oe_ q P)) := rc_tr (sr_w S) _ hs g3 (rc_up1 s6 (by rw [f4.2.2.1]; exact rc_self _ _ _))
  have tl := (rc_le (sr_w S) _ hs g3).1
  have u0 : Lq_ q P ≠ 0 := by omega
  have p2 : se_ q (4 * oe_ q P + 3) < P := by
    have a3 := sl_lt F (Nat.le_of_lt hP) u0
    rcases Nat.eq_or_lt_of_le tl with y | y
    · rw [← y, f4.2.2.2] at a3; exact a3
    · have := fs_m F _ _ f4.2.1 y hs
      rw [f4.2.2.2] at this
      omega
  refine ⟨g2, g1, g3, r2, p2, in_body S g1 g2 P (Nat.le_of_lt hP) (rc_ac g3), ?_⟩
  have nl := b.1 (by omega) u0
  unfold la_
  rw [if_neg (fun z => nl z.2), h1]
end
section
variable {q : QT} {c : CT} {ip ss fa : Int32} {n cu pc tk ou ev ht cl fc yp cur yb yi : Nat} {sv sw fs fe bi bm fl fi cx ci sg et oi wi kp ps : Nat → Nat} {me ot li bv bl io yx : Nat → Int32}
theorem cop_n (S : SR q c) {P' l old t : Nat} (W : (RR q c ev ht cl fc sv sw me fs fe li cur yb yi bi bm bv bl io fl fi cx ci sg et oi wi kp ps (fun _ _ => False))) (I : NJ q t tk ou ht cl fc yb yi ps) (hss : ss = -1) (hl : l < nn_ q) (h8 : kd_ q l = 8) (hr : rc_ oi wi cur old) (hsg : sg old = od_ q l) (hP : P' ≤ nn_ q) (hLP : od_ q l = Lq_ q P')
    (hPP : ∀ t x, rc_ (pa_ q) (ow_ q) (od_ q l) t → x < 8 → (lt_ q (8 * t + x) ≤ ps cl ↔ lt_ q (8 * t + x) ≤ P')) :
    (tk + nc_ c (od_ q l) ≤ mT_ q → ∃ (bi' bm' sg' et' oi' wi' : Nat → Nat) (me' li' bv' bl' io' : Nat → Int32),
      (RR q c (et' yi) (ht + (if 0 < cc_ c (od_ q l) then cc_ c (od_ q l) + 1 else 0)) cl fc sv sw me' fs fe li' yi (yb + nc_ c (od_ q l)) (yi + 1) bi' bm' bv' bl' io' fl fi cx ci sg' et' oi' wi' (up_ kp cl yi) (up_ ps cl P') (fun _ _ => False)) ∧
      (∀ post : SX → Prop, post (XD q c ip ss cu pc (tk + nc_ c (od_ q l)) ou (et' yi) (ht + (if 0 < cc_ c (od_ q l) then cc_ c (od_ q l) + 1 else 0)) cl fc fa sv sw me' fs fe ot li') → wpX_copyLoop post (XD q c ip ss cu pc tk ou (et old) ht cl fc fa sv sw me fs fe ot li) (nI l)) ∧
      (∀ post : Int32 → SY → Prop, post 1 (YD q yp (nI yi) (tk + nc_ c (od_ q l)) ou (yb + nc_ c (od_ q l)) (yi + 1) fc cl ip ss fa bi' bm' bv' bl' io' fl fi cx ci yx) → wpY_copy post (YD q yp (nI old) tk ou yb yi fc cl ip ss fa bi bm bv bl io fl fi cx ci yx) (nI l))) ∧
    (mT_ q < tk + nc_ c (od_ q l) → (∀ post : SX → Prop, post (XD q c ip 5 cu pc tk ou (et old) ht cl fc (nI l) sv sw me fs fe ot li) → wpX_copyLoop post (XD q c ip ss cu pc tk ou (et old) ht cl fc fa sv sw me fs fe ot li) (nI l)) ∧ (∀ post : Int32 → SY → Prop, post 0 (YD q yp (nI old) tk ou yb yi fc cl ip 5 (nI l) bi bm bv bl io fl fi cx ci yx) → wpY_copy post (YD q yp (nI old) tk ou yb yi fc cl ip ss fa bi bm bv bl io fl fi cx ci yx) (nI l))) := by
  have tp := rr_top W
  obtain ⟨R, B, H, Z, K, N, V, T, C, E, G⟩ := W
  have W0 : (RR q c ev ht cl fc sv sw me fs fe li cur yb yi bi bm bv bl io fl fi cx ci sg et oi wi kp ps (fun _ _ => False)) := ⟨R, B, H, Z, K, N, V, T, C, E, G⟩
  obtain ⟨g1, g2, g3, g4, g5, g6, g7⟩ := G
  obtain ⟨a1, a2, a3, a4, a5, a6, a7⟩ := I
  have hm := S.2.2.2.2.2.1
  obtain ⟨s1, s2, s3, s4, s5, s6, s7⟩ := lp_sc S hl h8
  have cn := cc_nc S s2
  have ol := (rc_le (ri_w R) cur tp.1 hr)
  have hold : old < yi := by have := tp.1; omega
  obtain ⟨r1, r2, r3, r4, -⟩ := R.2.2.2.1 old hold
  have old0 : 0 < old := by
    apply Nat.pos_of_ne_zero
    intro z
    rw [z, R.1] at hsg
    omega
  have ww : wi (oi old) = wi cur := by
    rcases (r4 old0).2.2.1 with z | z
    · exact absurd (by rw [← hsg]; exact r3.mp z) s5
    · rw [← z]; exact ol.2
  have r := cop_ (ip := ip) (ss := ss) (fa := fa) (cu := cu) (pc := pc) (tk := tk) (ou := ou) (ev := et old) (ot := ot) (yp := yp) (yx := yx) (kp := kp) (ps := ps) (ci := ci) (cx := cx) (sv := sv) (sw := sw) (P := ps cl) (P' := P') (loop := l) S R B H Z K N (fun k hk => T k (by omega)) (fun b hb h1 => tp.2.2.2 b hb (rc_tr (ri_w R) cur tp.1 hr h1)) hold hsg s1 s5 hl rfl hss rfl hP hLP hPP rfl rfl rfl rfl rfl (rv_in W0 ww) g1 (by omega) (fun _ => by omega) (by omega) (by
      have : sm_ (fun k => UP q 0 1 1 0 0 (ps k)) (cl + 1) ≥ 0 := Nat.zero_le _
      omega) g5 (by omega) g7
  refine ⟨fun hle => ?_, r.2⟩
  obtain ⟨bi', bm', me', li', bv', bl', W', X', Y'⟩ := r.1 hle
  exact ⟨bi', bm', _, _, _, _, me', li', bv', bl', _, W', X', Y'⟩
theorem go_ {WX : (SX → Prop) → Prop} {WY : (SY → Prop) → Prop} (S : SR q c) {P l t : Nat} (W : (RR q c ev ht cl fc sv sw me fs fe li cur yb yi bi bm bv bl io fl fi cx ci sg et oi wi kp ps (fun _ _ => False))) (I : NJ q t tk ou ht cl fc yb yi ps) (T : SJ q n t tk cl ps) (hp : ps cl = P) (hP : P < nn_ q) (ho : ∀ i, i < ou → yx i = ot i) (hss : ss = -1)
    (hl : l < nn_ q) (h8 : kd_ q l = 8) (h1 : se_ q (4 * l + 3) < P) (h2 : P ≤ se_ q (4 * l)) (hr1 : rc_ (pa_ q) (ow_ q) (Lq_ q P) (od_ q (se_ q (4 * l + 3))))
    (hX : ∀ post : SX → Prop, (∀ K : SX → Prop, (∀ d, post (XT q c d) → K (XT q c d)) → wpX_iterate K (XD q c ip ss cu pc tk ou ev ht cl fc fa sv sw me fs fe ot li) (nI P) (nI l)) → WX post)
    (hY : ∀ post : SY → Prop, (∀ K : SY → Prop, (∀ e, post (YT q e) → K (YT q e)) → wpY_goOn K (YD q P (nI cur) tk ou yb yi fc cl ip ss fa bi bm bv bl io fl fi cx ci yx) (nI l)) → WY post) : OC q c (n + 1) WX WY := by
  have hn := sr_n S
  have hT := S.2.2.2.2.2.1
  subst hss
  have R := rr_i W
  obtain ⟨z1, z2, z3, z4, z5⟩ := rr_z W
  have t0 := rr_top W
  have hL : sg cur = Lq_ q P := by rw [← hp]; exact t0.2.2.1
  obtain ⟨f1, f2, f3, f4, f5, f6⟩ := lp_facts S hl h8
  obtain ⟨s1, s2, s3, s4, s5, s6, s7⟩ := lp_sc S hl h8
  have hs := lq_s (sr_f S) (Nat.le_of_lt hP)
  have hr : rc_ (pa_ q) (ow_ q) (Lq_ q P) (od_ q l) := rc_tr (sr_w S) _ hs hr1 (rc_up1 s6 (by rw [f4.2.2.1]; exact rc_self _ _ _))
  obtain ⟨i, i1, i2, i3, i4, i5, i6, i7, i8⟩ := lp_inst S W hL (Nat.le_of_lt hP) hl h8 hr
  obtain ⟨r1, r2⟩ := cop_n (ip := ip) (ss := -1) (fa := fa) (cu := cu) (pc := pc) (ou := ou) (ot := ot) (yx := yx) (yp := P) (P' := se_ q (4 * l + 2) + 1) S W I rfl hl h8 i1 i4 (by omega) f3.2.2.2.1.symm (fun t x ht hx => by rw [hp]; exact lt_lp S hl h8 (by omega) (by omega) (by omega) (by omega) hx ht)
  have l2 := ls_lt (sr_f S) hP
  have vl : vp_in (nI l) 48 := vp_in_nI (by omega) (by omega)
  have e42 : (4 : Int32) * nI l + 2 = nI (4 * l + 2) := m4_ l 2
  have XX : ∀ K : SX → Prop, (∀ K2 : SX → Prop, (∀ d : DT, K (XT q c (d.1, d.2.1, d.2.2.1, se_ q (4 * l + 2) + 1, d.2.2.2.2)) → K2 (XT q c d)) → wpX_copyLoop K2 (XD q c ip (-1) cu pc tk ou (et i) ht cl fc fa sv sw me fs fe ot li) (nI l)) → wpX_iterate K (XD q c ip (-1) cu pc tk ou ev ht cl fc fa sv sw me fs fe ot li) (nI P) (nI l) := by
    intro K hh
    refine And.intro vl ?_
    show wpX_unwind _ _ _ ((fun i => nI (od_ q i)) (nI l).toNatClampNeg)
    rw [ga_ (f := od_ q) rfl (by omega)]
    refine xw_unw S R z4 hP t0.1 (by rw [hL, l2.2]) (rr_e W) (rc_ac i1) i4 ?_
    refine hh _ (fun d h => ⟨pk_in (4 * l + 2) 192 (by omega) e42 (by omega), nm_r (e' := nI (se_ q (4 * l + 2) + 1)) ?_ h⟩)
    show nI (se_ q ((4 : Int32) * nI l + 2).toNatClampNeg) + 1 = _
    rw [e42, nI_clamp (by omega), nI_1]
  have YY : ∀ K : SY → Prop, (∀ K2 : Int32 → SY → Prop, (∀ e : ET, K (YT q (se_ q (4 * l + 2) + 1, e.2)) → K2 1 (YT q e)) → (∀ e, K (YT q e) → K2 0 (YT q e)) → wpY_copy K2 (YD q P (nI i) tk ou yb yi fc cl ip (-1) fa bi bm bv bl io fl fi cx ci yx) (nI l)) → wpY_goOn K (YD q P (nI cur) tk ou yb yi fc cl ip (-1) fa bi bm bv bl io fl fi cx ci yx) (nI l) := by
    intro K hh
    have scc : mo_ (sc_ (sl_ q) (od_ q l)) = nI l := by rw [sc_pos (sr_f S) s1, s4]
    unfold wpY_goOn
    rw [← scc]
    refine yw_ifor (j := i) S R (by omega) t0.1 rfl (by omega) hL (rc_ac i1) i4 ?_
    rw [scc]
    refine hh _ (fun e h => br_f (by decide) ?_) (fun e h => br_t rfl h)
    refine yw_o10 (e := e) (sr_f S) hl ?_
    rw [oz_nI (by omega)]
    exact nm_r (nI_1 _) h
  have I' := I
  obtain ⟨j1, j2, j3, j4, j5, j6, j7⟩ := I
  by_cases hle : tk + nc_ c (od_ q l) ≤ mT_ q
  · obtain ⟨bi', bm', sg', et', oi', wi', me', li', bv', bl', io', W', X', Y'⟩ := r1 hle
    have u1 := UP_cont (w1 := 0) (w2 := 1) (w3 := 1) (w4 := 0) (w5 := 0) S hl h8 h1 h2 hr1
    have u2 := UP_cont (w1 := 1) (w2 := 2) (w3 := 1) (w4 := 1) (w5 := 1) S hl h8 h1 h2 hr1
    refine oc_run (ip := ip) (fa := fa) (cu := cu) (pc := se_ q (4 * l + 2) + 1) W' (ni_ent S s2 I' hle (by omega) (by rw [hp]; omega)) (st_ent (c := c) T (by rw [hp]; omega)) up_s ho (fun post h => hX post (fun K hK => XX K (fun K2 hK2 => X' K2 (hK2 (ip, -1, cu, pc, tk + nc_ c (od_ q l), ou, et' yi, ht + (if 0 < cc_ c (od_ q l) then cc_ c (od_ q l) + 1 else 0), cl, fc, fa, sv, sw, me', fs, fe, ot, li') (hK _ h))))) (fun post h => hY post (fun K hK => YY K (fun K2 hK2 _ => Y' K2 (hK2 (P, (nI yi), (tk + nc_ c (od_ q l)), ou, (yb + nc_ c (od_ q l)), (yi + 1), fc, cl, ip, (-1), fa, bi', bm', bv', bl', io', fl, fi, cx, ci, yx) (hK _ h)))))
  · obtain ⟨X', Y'⟩ := r2 (by omega)
    exact oc_fin (ss := 5) (fa := nI l) (cu := cu) (pc := se_ q (4 * l + 2) + 1) (yp := P) S W (by omega) ho (by decide) (fun post h => hX post (fun K hK => XX K (fun K2 hK2 => X' K2 (hK2 (ip, 5, cu, pc, tk, ou, et i, ht, cl, fc, nI l, sv, sw, me, fs, fe, ot, li) (hK (ip, 5, cu, se_ q (4 * l + 2) + 1, tk, ou, et i, ht, cl, fc, nI l, sv, sw, me, fs, fe, ot, li) h))))) (fun post h => hY post (fun K hK => YY K (fun K2 _ hK2 => Y' K2 (hK2 (P, (nI i), tk, ou, yb, yi, fc, cl, ip, 5, (nI l), bi, bm, bv, bl, io, fl, fi, cx, ci, yx) (hK (P, (nI i), tk, ou, yb, yi, fc, cl, ip, 5, (nI l), bi, bm, bv, bl, io, fl, fi, cx, ci, yx) h)))))
end
end
section
section
variable {q : QT} {c : CT} {ip ss fa : Int32} {n cu pc tk ou ev ht cl fc yp cur yb yi : Nat} {sv sw fs fe bi bm fl fi cx ci sg et oi wi kp ps : Nat → Nat} {me ot li bv bl io yx : Nat → Int32}
theorem ex_ {WX : (SX → Prop) → Prop} {WY : (SY → Prop) → Prop} (S : SR q c) {P l : Nat} {x4 : Int32} (W : (RR q c ev ht cl fc sv sw me fs fe li cur yb yi bi bm bv bl io fl fi cx ci sg et oi wi kp ps (fun _ _ => False))) (I : NJ q 1 tk ou ht cl fc yb yi ps) (T : SJ q n 1 tk cl ps) (hp : ps cl = P) (hP : P < nn_ q) (ho : ∀ i, i < ou → yx i = ot i) (hss : ss = -1)
    (hl : l < nn_ q) (h8 : kd_ q l = 8) (hoe : oe_ q P = l) (h1 : l < P) (h2 : P ≤ se_ q (4 * l)) (hr : rc_ (pa_ q) (ow_ q) (Lq_ q P) (od_ q l))
    (hX : ∀ post : SX → Prop, (∀ K : SX → Prop, (∀ d, post (XT q c d) → K (XT q c d)) → wpX_leave K (XD q c ip ss cu pc tk ou ev ht cl fc fa sv sw me fs fe ot li) (nI P)) → WX post)
    (hY : ∀ post : SY → Prop, (∀ K : SY → Prop, (∀ e, post (YT q e) → K (YT q e)) → wY_loopLine_129 K (nI l) x4 0 (nI (mL_ q)) (nI (mT_ q)) (nI (mD_ q)) (nI (nn_ q)) (nI (P)) (((nI cur))) (nI (tk)) (nI (ou)) (nI (yb)) (nI (yi)) (nI (fc)) (nI (cl)) ip ss fa (nI (cm_ q)) (fun i => nI (kd_ q i)) (fun i => nI (ar_ q (4 * i + 1))) (fun i => nI (ar_ q (4 * i + 2))) (fun i => nI (ar_ q (4 * i + 3))) (fun i => nI (bi i)) (fun i => nI (bm i)) bv bl io (fun i => nI (fl i)) (fun i => nI (fi i)) (fun i => nI (cx i)) (fun i => nI (ci i)) yx) → WY post) : OC q c (n + 1) WX WY := by
  have hn := sr_n S
  subst hss
  have R := rr_i W
  obtain ⟨z1, z2, z3, z4, z5⟩ := rr_z W
  have t0 := rr_top W
  have hL : sg cur = Lq_ q P := by rw [← hp]; exact t0.2.2.1
  obtain ⟨f1, f2, f3, f4, f5, f6⟩ := lp_facts S hl h8
  obtain ⟨s1, s2, s3, s4, s5, s6, s7⟩ := lp_sc S hl h8
  obtain ⟨i, i1, i2, i3, i4, i5, i6, i7, i8⟩ := lp_inst S W hL (Nat.le_of_lt hP) hl h8 hr
  have W' := rr_move0 (P' := se_ q (4 * l) + 1) W (fun _ _ z => z) i6 (by omega) (by rw [i5, f5.2]) (fun t x ht hx => by
    rw [hp]
    rw [f5.2] at ht
    exact lt_in S hl (by omega) (by omega) (by omega) (by omega) (by omega) (Nat.le_refl _) hx ht)
  have u1 := UP_exit (w1 := 0) (w2 := 1) (w3 := 1) (w4 := 0) (w5 := 0) S hl h8 h1 h2 hr
  have u2 := UP_exit (w1 := 1) (w2 := 2) (w3 := 1) (w4 := 1) (w5 := 1) S hl h8 h1 h2 hr
  have scc : mo_ (sc_ (sl_ q) (od_ q l)) = nI l := by rw [sc_pos (sr_f S) s1, s4]
  refine oc_run (ip := ip) (fa := fa) (cu := cu) W' (nj_move I (by rw [hp]; omega)) (sj_move T (by rw [hp]; omega)) up_s ho (fun post h => hX post (fun K hK => ?_)) (fun post h => hY post (fun K hK => ?_))
  · exact xw_leave S R z4 hP hl hoe t0.1 hL (rr_e W) (rc_ac i6) i5 (by omega) (hK (ip, -1, cu, se_ q (4 * l) + 1, tk, ou, et (oi i), ht, cl, fc, fa, sv, sw, me, fs, fe, ot, li) h)
  · refine br_t rfl (br_t rfl ?_)
    rw [← scc]
    refine yw_ifor (j := i) S R (by omega) t0.1 rfl (by omega) hL (rc_ac i1) i4 ?_
    rw [scc]
    refine yw_out i2 (by omega) ?_
    rw [i7]
    refine yw_o14 (e := (P, (nI (oi i)), tk, ou, yb, yi, fc, cl, ip, (-1), fa, bi, bm, bv, bl, io, fl, fi, cx, ci, yx)) (sr_f S) hl ?_
    rw [oz_nI (by omega)]
    exact nm_r (nI_1 _) (hK ((se_ q (4 * l) + 1), (nI (oi i)), tk, ou, yb, yi, fc, cl, ip, (-1), fa, bi, bm, bv, bl, io, fl, fi, cx, ci, yx) h)
theorem yll_ {post : SY → Prop} (S : SR q c) {P l k : Nat} (hP : P < nn_ q) (hk : 9 ≤ k) (hk2 : k ≤ 12) (hl : l < nn_ q) (h8 : kd_ q l = 8) (hla : la_ (kd_ q) (sl_ q) (lo_ q) (Lq_ q P) = l + 1)
    (h12 : k = 12 → ∀ K : SY → Prop, (∀ e, post (YT q e) → K (YT q e)) → wpY_goOn K (YD q P (nI cur) tk ou yb yi fc cl ip ss fa bi bm bv bl io fl fi cx ci yx) (nI l))
    (h91 : k = 9 → P = se_ q (4 * l + 1) → ∀ K : SY → Prop, (∀ e, post (YT q e) → K (YT q e)) → wY_loopLine_66 K (nI k) (nI l) (nI (se_ q (4 * l + 3))) (nI (mL_ q)) (nI (mT_ q)) (nI (mD_ q)) (nI (nn_ q)) (nI (P)) (((nI cur))) (nI (tk)) (nI (ou)) (nI (yb)) (nI (yi)) (nI (fc)) (nI (cl)) ip ss fa (nI (cm_ q)) (fun i => nI (kd_ q i)) (fun i => nI (ar_ q (4 * i + 1))) (fun i => nI (ar_ q (4 * i + 2))) (fun i => nI (ar_ q (4 * i + 3))) (fun i => nI (bi i)) (fun i => nI (bm i)) bv bl io (fun i => nI (fl i)) (fun i => nI (fi i)) (fun i => nI (cx i)) (fun i => nI (ci i)) yx)
    (h92 : k = 9 → P ≠ se_ q (4 * l + 1) → post (YD q (se_ q (4 * l + 1) + 1) (nI cur) tk ou yb yi fc cl ip ss fa bi bm bv bl io fl fi cx ci yx))
    (h1 : k ≠ 9 → k ≠ 12 → ∀ K : SY → Prop, (∀ e, post (YT q e) → K (YT q e)) → wY_loopLine_66 K (nI k) (nI l) (nI (se_ q (4 * l + 3))) (nI (mL_ q)) (nI (mT_ q)) (nI (mD_ q)) (nI (nn_ q)) (nI (P)) (((nI cur))) (nI (tk)) (nI (ou)) (nI (yb)) (nI (yi)) (nI (fc)) (nI (cl)) ip ss fa (nI (cm_ q)) (fun i => nI (kd_ q i)) (fun i => nI (ar_ q (4 * i + 1))) (fun i => nI (ar_ q (4 * i + 2))) (fun i => nI (ar_ q (4 * i + 3))) (fun i => nI (bi i)) (fun i => nI (bm i)) bv bl io (fun i => nI (fl i)) (fun i => nI (fi i)) (fun i => nI (cx i)) (fun i => nI (ci i)) yx) : wY_execute_30 post (nI k) (nI (mL_ q)) (nI (mT_ q)) (nI (mD_ q)) (nI (nn_ q)) (nI (P)) (((nI cur))) (nI (tk)) (nI (ou)) (nI (yb)) (nI (yi)) (nI (fc)) (nI (cl)) ip ss fa (nI (cm_ q)) (fun i => nI (kd_ q i)) (fun i => nI (ar_ q (4 * i + 1))) (fun i => nI (ar_ q (4 * i + 2))) (fun i => nI (ar_ q (4 * i + 3))) (fun i => nI (bi i)) (fun i => nI (bm i)) bv bl io (fun i => nI (fl i)) (fun i => nI (fi i)) (fun i => nI (cx i)) (fun i => nI (ci i)) yx := by
  have hn := sr_n S
  obtain ⟨f1, f2, f3, f4, f5, f6⟩ := lp_facts S hl h8
  have ne : ∀ m, m < 100 → k ≠ m → ¬ nI k = nI m := fun m h1 h2 h3 => h2 ((nI_eq (by omega) (by omega)).mp h3)
  refine br_t (nI_lt (a := 2) (by omega) (by omega)) (br_f (ne 3 (by omega) (by omega)) (br_f (ne 4 (by omega) (by omega)) (br_f (ne 5 (by omega) (by omega)) (br_f (ne 6 (by omega) (by omega)) (br_f (ne 7 (by omega) (by omega)) (br_f (ne 8 (by omega) (by omega)) (br_f (ne 13 (by omega) (by omega)) (br_f (ne 14 (by omega) (by omega)) ?_))))))))
  unfold wpY_loopLine
  refine yw_la (e := (P, (nI cur), tk, ou, yb, yi, fc, cl, ip, ss, fa, bi, bm, bv, bl, io, fl, fi, cx, ci, yx)) (sr_f S) (Nat.le_of_lt hP) ?_
  rw [hla, mo_s]
  refine yw_o91 (e := (P, (nI cur), tk, ou, yb, yi, fc, cl, ip, ss, fa, bi, bm, bv, bl, io, fl, fi, cx, ci, yx)) (sr_f S) hl ?_
  refine yw_o92 (e := (P, (nI cur), tk, ou, yb, yi, fc, cl, ip, ss, fa, bi, bm, bv, bl, io, fl, fi, cx, ci, yx)) (sr_f S) hl ?_
  rw [oz_nI (by omega), oz_nI (by omega)]
  by_cases k12 : k = 12
  · refine br_t (by rw [k12]; rfl) ?_
    exact h12 k12 _ (fun e h => h)
  · refine br_f (ne 12 (by omega) k12) ?_
    by_cases k9 : k = 9
    · refine br_t (by rw [k9]; rfl) ?_
      by_cases p1 : P = se_ q (4 * l + 1)
      · refine br_t (by rw [p1]) ?_
        exact h91 k9 p1 _ (fun e h => h)
      · refine br_f (fun z => p1 ((nI_eq (by omega) (by omega)).mp z)) ?_
        exact nm_r (nI_1 _) (h92 k9 p1)
    · refine br_f (ne 9 (by omega) k9) ?_
      exact h1 k9 k12 _ (fun e h => h)
theorem k12_ (S : SR q c) {P : Nat} (W : (RR q c ev ht cl fc sv sw me fs fe li cur yb yi bi bm bv bl io fl fi cx ci sg et oi wi kp ps (fun _ _ => False))) (I : NJ q 1 tk ou ht cl fc yb yi ps) (T : SJ q n 1 tk cl ps) (hp : ps cl = P) (hP : P < nn_ q) (hk : kd_ q P = 12) (ho : ∀ i, i < ou → yx i = ot i) (hss : ss = -1) (hpc : pc = P + 1) (hcu : cu = P) :
    OC q c (n + 1) (fun post => wX_execute_42 post (nI P) (nI (kd_ q P)) 0 1 2 3 0 1 2 3 4 5 (-1) 48 512 (nI (mL_ q)) (nI (mT_ q)) (nI (mD_ q)) (nI (cm_ q)) (nI (nn_ q)) (nI (sp_ q)) (nI (sn_ q)) (nI (oc_ q)) ip ss (nI (cu)) (nI (pc)) (nI (tk)) (nI (ou)) (nI (ev)) (nI (ht)) (nI (cl)) (nI (fc)) fa (fun i => nI (kd_ q i)) (fun i => nI (ls_ q i)) (fun i => nI (oe_ q i)) (fun i => nI (od_ q i)) (fun i => nI (ar_ q i)) (fun i => nI (se_ q i)) (fun i => nI (ol_ q i)) (fun i => nI (pl_ q i)) (fun i => nI (sv i)) (fun i => nI (sw i)) (fun i => nI (pa_ q i)) (fun i => nI (ow_ q i)) (fun i => nI (sl_ q i)) (fun i => nI (lo_ q i)) (lx_ q) (an_ q) (vn_ q) (fun i => nI (lh_ q i)) (cp_ c) (fun i => nI (st_ c i)) (fun i => nI (nc_ c i)) (fun i => nI (cc_ c i)) (fun i => nI (hd_ c i)) (fun i => nI (lt_ q i)) (fun i => nI (hm_ c i)) (fun i => nI (rm_ c i)) (ri_ c) (fun i => nI (rh_ c i)) me (fun i => nI (fs i)) (fun i => nI (fe i)) ot li) (fun post => wY_execute_30 post (nI (kd_ q P)) (nI (mL_ q)) (nI (mT_ q)) (nI (mD_ q)) (nI (nn_ q)) (nI (P)) (((nI cur))) (nI (tk)) (nI (ou)) (nI (yb)) (nI (yi)) (nI (fc)) (nI (cl)) ip ss fa (nI (cm_ q)) (fun i => nI (kd_ q i)) (fun i => nI (ar_ q (4 * i + 1))) (fun i => nI (ar_ q (4 * i + 2))) (fun i => nI (ar_ q (4 * i + 3))) (fun i => nI (bi i)) (fun i => nI (bm i)) bv bl io (fun i => nI (fl i)) (fun i => nI (fi i)) (fun i => nI (cx i)) (fun i => nI (ci i)) yx) := by
  have hn := sr_n S
  obtain ⟨b1, b2, b3, b4, b5, b6, b7⟩ := br_facts S hP (Or.inr hk)
  have vP : vp_in (nI P) 48 := vp_in_nI (by omega) (by omega)
  refine go_ (ip := ip) (fa := fa) (cu := cu) (pc := pc) S W I T hp hP ho hss b2 b1 b5 b6 b3 (fun post h => ?_) (fun post h => ?_)
  · subst hss
    rw [hk]
    refine br_t rfl (br_f (by decide) (br_f (by decide) (br_f (by decide) ?_)))
    refine And.intro vP (nm_r (e' := nI (oe_ q P)) (ga_ rfl (by omega)) (br_f (by decide) (br_f (by decide) (br_f (by decide) (br_f (by decide) (br_f (by decide) (br_f (by decide) (br_t rfl ?_))))))))
    exact h _ (fun d h => h)
  · rw [hk]
    exact yll_ S hP (by omega) (by omega) b2 b1 b7 (fun _ => h) (fun z => by omega) (fun z => by omega) (fun _ z => absurd rfl z)
theorem k11_ (S : SR q c) {P : Nat} (W : (RR q c ev ht cl fc sv sw me fs fe li cur yb yi bi bm bv bl io fl fi cx ci sg et oi wi kp ps (fun _ _ => False))) (I : NJ q 1 tk ou ht cl fc yb yi ps) (T : SJ q n 1 tk cl ps) (hp : ps cl = P) (hP : P < nn_ q) (hk : kd_ q P = 11) (ho : ∀ i, i < ou → yx i = ot i) (hss : ss = -1) (hpc : pc = P + 1) (hcu : cu = P) :
    OC q c (n + 1) (fun post => wX_execute_42 post (nI P) (nI (kd_ q P)) 0 1 2 3 0 1 2 3 4 5 (-1) 48 512 (nI (mL_ q)) (nI (mT_ q)) (nI (mD_ q)) (nI (cm_ q)) (nI (nn_ q)) (nI (sp_ q)) (nI (sn_ q)) (nI (oc_ q)) ip ss (nI (cu)) (nI (pc)) (nI (tk)) (nI (ou)) (nI (ev)) (nI (ht)) (nI (cl)) (nI (fc)) fa (fun i => nI (kd_ q i)) (fun i => nI (ls_ q i)) (fun i => nI (oe_ q i)) (fun i => nI (od_ q i)) (fun i => nI (ar_ q i)) (fun i => nI (se_ q i)) (fun i => nI (ol_ q i)) (fun i => nI (pl_ q i)) (fun i => nI (sv i)) (fun i => nI (sw i)) (fun i => nI (pa_ q i)) (fun i => nI (ow_ q i)) (fun i => nI (sl_ q i)) (fun i => nI (lo_ q i)) (lx_ q) (an_ q) (vn_ q) (fun i => nI (lh_ q i)) (cp_ c) (fun i => nI (st_ c i)) (fun i => nI (nc_ c i)) (fun i => nI (cc_ c i)) (fun i => nI (hd_ c i)) (fun i => nI (lt_ q i)) (fun i => nI (hm_ c i)) (fun i => nI (rm_ c i)) (ri_ c) (fun i => nI (rh_ c i)) me (fun i => nI (fs i)) (fun i => nI (fe i)) ot li) (fun post => wY_execute_30 post (nI (kd_ q P)) (nI (mL_ q)) (nI (mT_ q)) (nI (mD_ q)) (nI (nn_ q)) (nI (P)) (((nI cur))) (nI (tk)) (nI (ou)) (nI (yb)) (nI (yi)) (nI (fc)) (nI (cl)) ip ss fa (nI (cm_ q)) (fun i => nI (kd_ q i)) (fun i => nI (ar_ q (4 * i + 1))) (fun i => nI (ar_ q (4 * i + 2))) (fun i => nI (ar_ q (4 * i + 3))) (fun i => nI (bi i)) (fun i => nI (bm i)) bv bl io (fun i => nI (fl i)) (fun i => nI (fi i)) (fun i => nI (cx i)) (fun i => nI (ci i)) yx) := by
  have hn := sr_n S
  obtain ⟨b1, b2, b3, b4, b5, b6, b7⟩ := br_facts S hP (Or.inl hk)
  obtain ⟨f1, f2, f3, f4, f5, f6⟩ := lp_facts S b2 b1
  have vP : vp_in (nI P) 48 := vp_in_nI (by omega) (by omega)
  refine ex_ (ip := ip) (fa := fa) (cu := cu) (pc := pc) (x4 := nI (se_ q (4 * oe_ q P + 3))) S W I T hp hP ho hss b2 b1 rfl (by omega) b6 b4 (fun post h => ?_) (fun post h => ?_)
  · subst hss
    rw [hk]
    refine br_t rfl (br_f (by decide) (br_f (by decide) (br_f (by decide) ?_)))
    refine And.intro vP (nm_e (br_f (by decide) (br_f (by decide) (br_f (by decide) (br_f (by decide) (br_f (by decide) (br_t rfl ?_)))))))
    exact h _ (fun d h => h)
  · rw [hk]
    refine yll_ S hP (by omega) (by omega) b2 b1 b7 (fun z => by omega) (fun z => by omega) (fun z => by omega) (fun _ _ K hK => ?_)
    exact br_f (by decide) (br_f (by decide) (h K hK))
end
end
section
section
variable {q : QT} {c : CT} {ip ss fa : Int32} {n cu pc tk ou ev ht cl fc yp cur yb yi : Nat} {sv sw fs fe bi bm fl fi cx ci sg et oi wi kp ps : Nat → Nat} {me ot li bv bl io yx : Nat → Int32}
theorem la_od (S : SR q c) {l : Nat} (hl : l < nn_ q) (h8 : kd_ q l = 8) : la_ (kd_ q) (sl_ q) (lo_ q) (od_ q l) = l + 1 := by
  obtain ⟨s1, s2, s3, s4, s5, s6, s7⟩ := lp_sc S hl h8
  unfold la_
  rw [s4, if_pos ⟨by omega, h8⟩]
theorem k9_ (S : SR q c) {P : Nat} (W : (RR q c ev ht cl fc sv sw me fs fe li cur yb yi bi bm bv bl io fl fi cx ci sg et oi wi kp ps (fun _ _ => False))) (I : NJ q 0 tk ou ht cl fc yb yi ps) (T : SJ q n 0 tk cl ps) (hp : ps cl = P) (hP : P < nn_ q) (hk : kd_ q P = 9) (ho : ∀ i, i < ou → yx i = ot i) (hss : ss = -1) (hpc : pc = P + 1) (hcu : cu = P) :
    OC q c (n + 1) (fun post => wX_execute_42 post (nI P) (nI (kd_ q P)) 0 1 2 3 0 1 2 3 4 5 (-1) 48 512 (nI (mL_ q)) (nI (mT_ q)) (nI (mD_ q)) (nI (cm_ q)) (nI (nn_ q)) (nI (sp_ q)) (nI (sn_ q)) (nI (oc_ q)) ip ss (nI (cu)) (nI (pc)) (nI (tk)) (nI (ou)) (nI (ev)) (nI (ht)) (nI (cl)) (nI (fc)) fa (fun i => nI (kd_ q i)) (fun i => nI (ls_ q i)) (fun i => nI (oe_ q i)) (fun i => nI (od_ q i)) (fun i => nI (ar_ q i)) (fun i => nI (se_ q i)) (fun i => nI (ol_ q i)) (fun i => nI (pl_ q i)) (fun i => nI (sv i)) (fun i => nI (sw i)) (fun i => nI (pa_ q i)) (fun i => nI (ow_ q i)) (fun i => nI (sl_ q i)) (fun i => nI (lo_ q i)) (lx_ q) (an_ q) (vn_ q) (fun i => nI (lh_ q i)) (cp_ c) (fun i => nI (st_ c i)) (fun i => nI (nc_ c i)) (fun i => nI (cc_ c i)) (fun i => nI (hd_ c i)) (fun i => nI (lt_ q i)) (fun i => nI (hm_ c i)) (fun i => nI (rm_ c i)) (ri_ c) (fun i => nI (rh_ c i)) me (fun i => nI (fs i)) (fun i => nI (fe i)) ot li) (fun post => wY_execute_30 post (nI (kd_ q P)) (nI (mL_ q)) (nI (mT_ q)) (nI (mD_ q)) (nI (nn_ q)) (nI (P)) (((nI cur))) (nI (tk)) (nI (ou)) (nI (yb)) (nI (yi)) (nI (fc)) (nI (cl)) ip ss fa (nI (cm_ q)) (fun i => nI (kd_ q i)) (fun i => nI (ar_ q (4 * i + 1))) (fun i => nI (ar_ q (4 * i + 2))) (fun i => nI (ar_ q (4 * i + 3))) (fun i => nI (bi i)) (fun i => nI (bm i)) bv bl io (fun i => nI (fl i)) (fun i => nI (fi i)) (fun i => nI (cx i)) (fun i => nI (ci i)) yx) := by
  have hn := sr_n S
  have hT := S.2.2.2.2.2.1
  subst hss
  subst hpc
  have t0 := rr_top W
  have hL : sg cur = Lq_ q P := by rw [← hp]; exact t0.2.2.1
  obtain ⟨l, g1, g2, g3, g4⟩ := (fs_l (sr_f S) P hP).2.2.1 hk
  have le := eo_le (kd_ q) P
  have hl : l < nn_ q := by omega
  have oe : oe_ q P = l := by
    have := (fs_o (sr_f S) P hP).2.2.2.2 (by omega)
    omega
  obtain ⟨f1, f2, f3, f4, f5, f6⟩ := lp_facts S hl g2
  obtain ⟨s1, s2, s3, s4, s5, s6, s7⟩ := lp_sc S hl g2
  have hla : la_ (kd_ q) (sl_ q) (lo_ q) (Lq_ q P) = l + 1 := by rw [g3]; exact la_od S hl g2
  have vP : vp_in (nI P) 48 := vp_in_nI (by omega) (by omega)
  have e43 : (4 : Int32) * nI l + 3 = nI (4 * l + 3) := m4_ l 3
  have e41 : (4 : Int32) * nI l + 1 = nI (4 * l + 1) := m4_ l 1
  have X0 : ∀ post : SX → Prop, (P = se_ q (4 * l + 3) → post (XD q c ip (-1) cu (se_ q (4 * l + 1) + 1) tk ou ev ht cl fc fa sv sw me fs fe ot li)) → (P ≠ se_ q (4 * l + 3) → ∀ K : SX → Prop, (∀ d, post (XT q c d) → K (XT q c d)) → wpX_copyLoop K (XD q c ip (-1) cu (P + 1) tk ou ev ht cl fc fa sv sw me fs fe ot li) (nI l)) → wX_execute_42 post (nI P) (nI (kd_ q P)) 0 1 2 3 0 1 2 3 4 5 (-1) 48 512 (nI (mL_ q)) (nI (mT_ q)) (nI (mD_ q)) (nI (cm_ q)) (nI (nn_ q)) (nI (sp_ q)) (nI (sn_ q)) (nI (oc_ q)) ip (-1) (nI (cu)) (nI ((P + 1))) (nI (tk)) (nI (ou)) (nI (ev)) (nI (ht)) (nI (cl)) (nI (fc)) fa (fun i => nI (kd_ q i)) (fun i => nI (ls_ q i)) (fun i => nI (oe_ q i)) (fun i => nI (od_ q i)) (fun i => nI (ar_ q i)) (fun i => nI (se_ q i)) (fun i => nI (ol_ q i)) (fun i => nI (pl_ q i)) (fun i => nI (sv i)) (fun i => nI (sw i)) (fun i => nI (pa_ q i)) (fun i => nI (ow_ q i)) (fun i => nI (sl_ q i)) (fun i => nI (lo_ q i)) (lx_ q) (an_ q) (vn_ q) (fun i => nI (lh_ q i)) (cp_ c) (fun i => nI (st_ c i)) (fun i => nI (nc_ c i)) (fun i => nI (cc_ c i)) (fun i => nI (hd_ c i)) (fun i => nI (lt_ q i)) (fun i => nI (hm_ c i)) (fun i => nI (rm_ c i)) (ri_ c) (fun i => nI (rh_ c i)) me (fun i => nI (fs i)) (fun i => nI (fe i)) ot li := by
    intro post h1 h2
    rw [hk]
    refine br_t rfl (br_f (by decide) (br_f (by decide) (br_f (by decide) ?_)))
    refine And.intro vP (nm_r (e' := nI l) (by rw [ga_ (f := oe_ q) rfl (by omega), oe]) (br_f (by decide) (br_f (by decide) (br_f (by decide) (br_f (by decide) (br_f (by decide) (br_f (by decide) (br_f (by decide) (br_f (by decide) ?_)))))))))
    refine And.intro (pk_in (4 * l + 3) 192 (by omega) e43 (by omega)) ?_
    refine pk_eq P (se_ q (4 * l + 3)) (fun z => ?_) (fun z => ?_) rfl (ga_ (f := se_ q) e43 (by omega))
    · refine And.intro (pk_in (4 * l + 1) 192 (by omega) e41 (by omega)) (nm_r (e' := nI (se_ q (4 * l + 1) + 1)) ?_ (h1 z))
      rw [ga_ (f := se_ q) e41 (by omega), nI_1]
    · exact h2 z _ (fun d h => h)
  have I' := I
  obtain ⟨j1, j2, j3, j4, j5, j6, j7⟩ := I
  by_cases w : P = se_ q (4 * l + 1)
  · have he := rr_e W
    subst he
    have pn : P ≠ se_ q (4 * l + 3) := by omega
    have hk' : kd_ q P ≠ 0 := by omega
    obtain ⟨r1, r2⟩ := cop_n (ip := ip) (ss := -1) (fa := fa) (cu := cu) (pc := P + 1) (ou := ou) (ot := ot) (yx := yx) (yp := P) (P' := P + 1) S W I' rfl hl g2 (rc_self _ _ _) (by rw [hL, g3]) (by omega) (by rw [w]; exact f3.2.1.symm) (fun t x ht hx => by rw [hp]; exact lt_plain S hx hk')
    have Y0 : ∀ post : SY → Prop, (∀ K : Int32 → SY → Prop, (∀ e : ET, yp_ e = P → post (YT q (P + 1, e.2)) → K 1 (YT q e)) → (∀ e, post (YT q e) → K 0 (YT q e)) → wpY_copy K (YD q P (nI cur) tk ou yb yi fc cl ip (-1) fa bi bm bv bl io fl fi cx ci yx) (nI l)) → wY_execute_30 post (nI (kd_ q P)) (nI (mL_ q)) (nI (mT_ q)) (nI (mD_ q)) (nI (nn_ q)) (nI (P)) (((nI cur))) (nI (tk)) (nI (ou)) (nI (yb)) (nI (yi)) (nI (fc)) (nI (cl)) ip (-1) fa (nI (cm_ q)) (fun i => nI (kd_ q i)) (fun i => nI (ar_ q (4 * i + 1))) (fun i => nI (ar_ q (4 * i + 2))) (fun i => nI (ar_ q (4 * i + 3))) (fun i => nI (bi i)) (fun i => nI (bm i)) bv bl io (fun i => nI (fl i)) (fun i => nI (fi i)) (fun i => nI (cx i)) (fun i => nI (ci i)) yx := by
      intro post h1
      rw [hk]
      refine yll_ S hP (by omega) (by omega) hl g2 hla (fun z => by omega) (fun _ _ K hK => ?_) (fun _ z => absurd w z) (fun z => absurd rfl z)
      refine br_t rfl ?_
      refine h1 _ (fun e he h => br_f (by decide) (nm_r (e' := nI (P + 1)) ?_ (hK _ h))) (fun e h => br_t rfl (hK _ h))
      show nI (yp_ e) + 1 = _
      rw [he, nI_1]
    by_cases hle : tk + nc_ c (od_ q l) ≤ mT_ q
    · obtain ⟨bi', bm', sg', et', oi', wi', me', li', bv', bl', io', W', X', Y'⟩ := r1 hle
      have u1 := UP_part1 (w1 := 0) (w2 := 1) (w3 := 1) (w4 := 0) (w5 := 0) S hl g2
      have u2 := UP_part1 (w1 := 1) (w2 := 2) (w3 := 1) (w4 := 1) (w5 := 1) S hl g2
      rw [← w] at u1 u2
      exact oc_run (ip := ip) (fa := fa) (cu := cu) (pc := P + 1) W' (ni_ent S s2 I' hle (by omega) (by rw [hp]; omega)) (st_ent (c := c) T (by rw [hp]; omega)) up_s ho (fun post h => X0 post (fun z => absurd z pn) (fun _ K hK => X' K (hK (ip, -1, cu, P + 1, tk + nc_ c (od_ q l), ou, et' yi, ht + (if 0 < cc_ c (od_ q l) then cc_ c (od_ q l) + 1 else 0), cl, fc, fa, sv, sw, me', fs, fe, ot, li') h))) (fun post h => Y0 post (fun K hK _ => Y' K (hK (P, (nI yi), (tk + nc_ c (od_ q l)), ou, (yb + nc_ c (od_ q l)), (yi + 1), fc, cl, ip, (-1), fa, bi', bm', bv', bl', io', fl, fi, cx, ci, yx) rfl h)))
    · obtain ⟨X', Y'⟩ := r2 (by omega)
      exact oc_fin0 (ss := 5) (fa := nI l) (cu := cu) (pc := P + 1) (yp := P) S W (by omega) ho (by decide) (fun post h => X0 post (fun z => absurd z pn) (fun _ K hK => X' K (hK (ip, 5, cu, P + 1, tk, ou, et cur, ht, cl, fc, nI l, sv, sw, me, fs, fe, ot, li) h))) (fun post h => Y0 post (fun K _ hK => Y' K (hK (P, (nI cur), tk, ou, yb, yi, fc, cl, ip, 5, (nI l), bi, bm, bv, bl, io, fl, fi, cx, ci, yx) h)))
  · have pn : P = se_ q (4 * l + 3) := by
      rcases g4 with y | y
      · exact absurd y.1 w
      · exact y.1
    have W' := rr_move0 (P' := se_ q (4 * l + 1) + 1) W (fun _ _ z => z) (rc_self _ _ _) (by omega) (by rw [hL, g3, f3.2.1]) (fun t x ht hx => by
      rw [hp]
      rw [f3.2.1] at ht
      exact lt_lp S hl g2 (by omega) (by omega) (by omega) (by omega) hx ht)
    rw [← rr_e W] at W'
    have u1 := UP_part2 (w1 := 0) (w2 := 1) (w3 := 1) (w4 := 0) (w5 := 0) S hl g2
    have u2 := UP_part2 (w1 := 1) (w2 := 2) (w3 := 1) (w4 := 1) (w5 := 1) S hl g2
    rw [← pn] at u1 u2
    refine oc_run (ip := ip) (fa := fa) (cu := cu) W' (nj_move I' (by rw [hp]; omega)) (sj_move T (by rw [hp]; omega)) up_s ho (fun post h => X0 post (fun _ => h) (fun z => absurd pn z)) (fun post h => ?_)
    rw [hk]
    exact yll_ S hP (by omega) (by omega) hl g2 hla (fun z => by omega) (fun _ z => absurd z w) (fun _ _ => h) (fun z => absurd rfl z)
theorem k10_ (S : SR q c) {P : Nat} (W : (RR q c ev ht cl fc sv sw me fs fe li cur yb yi bi bm bv bl io fl fi cx ci sg et oi wi kp ps (fun _ _ => False))) (I : NJ q 1 tk ou ht cl fc yb yi ps) (T : SJ q n 1 tk cl ps) (hp : ps cl = P) (hP : P < nn_ q) (hk : kd_ q P = 10) (ho : ∀ i, i < ou → yx i = ot i) (hss : ss = -1) (hpc : pc = P + 1) (hcu : cu = P) :
    OC q c (n + 1) (fun post => wX_execute_42 post (nI P) (nI (kd_ q P)) 0 1 2 3 0 1 2 3 4 5 (-1) 48 512 (nI (mL_ q)) (nI (mT_ q)) (nI (mD_ q)) (nI (cm_ q)) (nI (nn_ q)) (nI (sp_ q)) (nI (sn_ q)) (nI (oc_ q)) ip ss (nI (cu)) (nI (pc)) (nI (tk)) (nI (ou)) (nI (ev)) (nI (ht)) (nI (cl)) (nI (fc)) fa (fun i => nI (kd_ q i)) (fun i => nI (ls_ q i)) (fun i => nI (oe_ q i)) (fun i => nI (od_ q i)) (fun i => nI (ar_ q i)) (fun i => nI (se_ q i)) (fun i => nI (ol_ q i)) (fun i => nI (pl_ q i)) (fun i => nI (sv i)) (fun i => nI (sw i)) (fun i => nI (pa_ q i)) (fun i => nI (ow_ q i)) (fun i => nI (sl_ q i)) (fun i => nI (lo_ q i)) (lx_ q) (an_ q) (vn_ q) (fun i => nI (lh_ q i)) (cp_ c) (fun i => nI (st_ c i)) (fun i => nI (nc_ c i)) (fun i => nI (cc_ c i)) (fun i => nI (hd_ c i)) (fun i => nI (lt_ q i)) (fun i => nI (hm_ c i)) (fun i => nI (rm_ c i)) (ri_ c) (fun i => nI (rh_ c i)) me (fun i => nI (fs i)) (fun i => nI (fe i)) ot li) (fun post => wY_execute_30 post (nI (kd_ q P)) (nI (mL_ q)) (nI (mT_ q)) (nI (mD_ q)) (nI (nn_ q)) (nI (P)) (((nI cur))) (nI (tk)) (nI (ou)) (nI (yb)) (nI (yi)) (nI (fc)) (nI (cl)) ip ss fa (nI (cm_ q)) (fun i => nI (kd_ q i)) (fun i => nI (ar_ q (4 * i + 1))) (fun i => nI (ar_ q (4 * i + 2))) (fun i => nI (ar_ q (4 * i + 3))) (fun i => nI (bi i)) (fun i => nI (bm i)) bv bl io (fun i => nI (fl i)) (fun i => nI (fi i)) (fun i => nI (cx i)) (fun i => nI (ci i)) yx) := by
  have hn := sr_n S
  have hT := S.2.2.2.2.2.1
  subst hss
  subst hcu
  have M := sr_m S
  have t0 := rr_top W
  have hL : sg cur = Lq_ q cu := by rw [← hp]; exact t0.2.2.1
  obtain ⟨l, g1, g2, g3, g4, g5⟩ := (fs_l (sr_f S) cu hP).2.2.2.1 hk
  have le := eo_le (kd_ q) cu
  have hl : l < nn_ q := by omega
  have oe : oe_ q cu = l := by
    have := (fs_o (sr_f S) cu hP).2.2.2.2 (by omega)
    omega
  obtain ⟨f1, f2, f3, f4, f5, f6⟩ := lp_facts S hl g2
  obtain ⟨s1, s2, s3, s4, s5, s6, s7⟩ := lp_sc S hl g2
  have hla : la_ (kd_ q) (sl_ q) (lo_ q) (Lq_ q cu) = l + 1 := by rw [g4]; exact la_od S hl g2
  have vP : vp_in (nI cu) 48 := vp_in_nI (by omega) (by omega)
  obtain ⟨oa1, oa2⟩ := oa_pair (q := q) (P := cu) (by omega)
  have a72 := M.2.2.2.2.2.2.2.2.1
  obtain ⟨v1, v2, x1, x2, ss1, fa1, ss2, fa2, X1, X2, Y1, Y2, hv⟩ := l2_ (ip := ip) (ss := -1) (fa := fa) (cu := cu) (pc := pc) (tk := tk) (ou := ou) (ot := ot) (yx := yx) (yp := cu) S W hp hP rfl rfl oa1 oa2 (a72 _) (a72 _)
  have eo1 : (fun i => nI (oe_ q i)) (nI cu).toNatClampNeg = nI l := by rw [ga_ (f := oe_ q) rfl (by omega), oe]
  have e43 : (4 : Int32) * ((fun i => nI (oe_ q i)) (nI cu).toNatClampNeg) + 3 = nI (4 * l + 3) := by rw [eo1]; exact m4_ l 3
  have e5 : (fun i => nI (se_ q i)) ((4 : Int32) * ((fun i => nI (oe_ q i)) (nI cu).toNatClampNeg) + 3).toNatClampNeg = nI (se_ q (4 * l + 3)) := ga_ (f := se_ q) e43 (by omega)
  have e6 : (fun i => nI (od_ q i)) ((fun i => nI (se_ q i)) ((4 : Int32) * ((fun i => nI (oe_ q i)) (nI cu).toNatClampNeg) + 3).toNatClampNeg).toNatClampNeg = nI (od_ q (se_ q (4 * l + 3))) := ga_ (f := od_ q) e5 (by omega)
  have X0 : ∀ post : SX → Prop, (ss2 = -1 → v2 ≤ v1 → ∀ K : SX → Prop, (∀ d, post (XT q c d) → K (XT q c d)) → wpX_leave K (XD q c ip ss2 cu pc tk ou ev ht cl fc fa2 sv sw me fs fe ot li) (nI cu)) → (ss2 = -1 → ¬ v2 ≤ v1 → (∀ K : SX → Prop, (∀ d, post (XT q c d) → K (XT q c d)) → wpX_enter K (XD q c ip ss2 cu pc tk ou ev ht cl fc fa2 sv sw me fs fe ot li) (nI (od_ q (se_ q (4 * l + 3)))) (nI l))) → (ss2 ≠ -1 → post (XD q c ip ss2 cu pc tk ou ev ht cl fc fa2 sv sw me fs fe ot li)) → wX_execute_42 post (nI cu) (nI (kd_ q cu)) 0 1 2 3 0 1 2 3 4 5 (-1) 48 512 (nI (mL_ q)) (nI (mT_ q)) (nI (mD_ q)) (nI (cm_ q)) (nI (nn_ q)) (nI (sp_ q)) (nI (sn_ q)) (nI (oc_ q)) ip (-1) (nI (cu)) (nI (pc)) (nI (tk)) (nI (ou)) (nI (ev)) (nI (ht)) (nI (cl)) (nI (fc)) fa (fun i => nI (kd_ q i)) (fun i => nI (ls_ q i)) (fun i => nI (oe_ q i)) (fun i => nI (od_ q i)) (fun i => nI (ar_ q i)) (fun i => nI (se_ q i)) (fun i => nI (ol_ q i)) (fun i => nI (pl_ q i)) (fun i => nI (sv i)) (fun i => nI (sw i)) (fun i => nI (pa_ q i)) (fun i => nI (ow_ q i)) (fun i => nI (sl_ q i)) (fun i => nI (lo_ q i)) (lx_ q) (an_ q) (vn_ q) (fun i => nI (lh_ q i)) (cp_ c) (fun i => nI (st_ c i)) (fun i => nI (nc_ c i)) (fun i => nI (cc_ c i)) (fun i => nI (hd_ c i)) (fun i => nI (lt_ q i)) (fun i => nI (hm_ c i)) (fun i => nI (rm_ c i)) (ri_ c) (fun i => nI (rh_ c i)) me (fun i => nI (fs i)) (fun i => nI (fe i)) ot li := by
    intro post h1 h2 h3
    rw [hk]
    refine br_t rfl (br_f (by decide) (br_f (by decide) (br_t rfl ?_)))
    unfold wX_execute_68 wpX_compute
    refine X1 _ _ (m4_ cu 2) ?_
    refine X2 _ _ (m4_ cu 3) ?_
    refine br_c (fun z => br_t (by decide) (br_f (by decide) (br_f (by decide) (br_f (by decide) (br_f (by decide) ?_))))) (fun z => h3 z)
    refine br_c (fun y => ?_) (fun y => ⟨vP, pk_in (4 * l + 3) 192 (by omega) e43 (by omega), pk_in (se_ q (4 * l + 3)) 48 (by omega) e5 (by omega), vP, ?_⟩)
    · exact h1 z y _ (fun d h => h)
    · show wpX_enter _ _ ((fun i => nI (od_ q i)) ((fun i => nI (se_ q i)) ((4 : Int32) * ((fun i => nI (oe_ q i)) (nI cu).toNatClampNeg) + 3).toNatClampNeg).toNatClampNeg) ((fun i => nI (oe_ q i)) (nI cu).toNatClampNeg)
      rw [e6, eo1]
      exact h2 z y _ (fun d h => h)
  have Y0 : ∀ post : SY → Prop, (x2 ≤ x1 → ∀ K : SY → Prop, (∀ e, post (YT q e) → K (YT q e)) → wY_loopLine_129 K (nI l) (nI (se_ q (4 * l + 3))) 0 (nI (mL_ q)) (nI (mT_ q)) (nI (mD_ q)) (nI (nn_ q)) (nI (cu)) (((nI cur))) (nI (tk)) (nI (ou)) (nI (yb)) (nI (yi)) (nI (fc)) (nI (cl)) ip ss2 fa2 (nI (cm_ q)) (fun i => nI (kd_ q i)) (fun i => nI (ar_ q (4 * i + 1))) (fun i => nI (ar_ q (4 * i + 2))) (fun i => nI (ar_ q (4 * i + 3))) (fun i => nI (bi i)) (fun i => nI (bm i)) bv bl io (fun i => nI (fl i)) (fun i => nI (fi i)) (fun i => nI (cx i)) (fun i => nI (ci i)) yx) → (¬ x2 ≤ x1 → ∀ K : SY → Prop, (∀ e, post (YT q e) → K (YT q e)) → wY_loopLine_129 K (nI l) (nI (se_ q (4 * l + 3))) 1 (nI (mL_ q)) (nI (mT_ q)) (nI (mD_ q)) (nI (nn_ q)) (nI (cu)) (((nI cur))) (nI (tk)) (nI (ou)) (nI (yb)) (nI (yi)) (nI (fc)) (nI (cl)) ip ss2 fa2 (nI (cm_ q)) (fun i => nI (kd_ q i)) (fun i => nI (ar_ q (4 * i + 1))) (fun i => nI (ar_ q (4 * i + 2))) (fun i => nI (ar_ q (4 * i + 3))) (fun i => nI (bi i)) (fun i => nI (bm i)) bv bl io (fun i => nI (fl i)) (fun i => nI (fi i)) (fun i => nI (cx i)) (fun i => nI (ci i)) yx) → wY_execute_30 post (nI (kd_ q cu)) (nI (mL_ q)) (nI (mT_ q)) (nI (mD_ q)) (nI (nn_ q)) (nI (cu)) (((nI cur))) (nI (tk)) (nI (ou)) (nI (yb)) (nI (yi)) (nI (fc)) (nI (cl)) ip (-1) fa (nI (cm_ q)) (fun i => nI (kd_ q i)) (fun i => nI (ar_ q (4 * i + 1))) (fun i => nI (ar_ q (4 * i + 2))) (fun i => nI (ar_ q (4 * i + 3))) (fun i => nI (bi i)) (fun i => nI (bm i)) bv bl io (fun i => nI (fl i)) (fun i => nI (fi i)) (fun i => nI (cx i)) (fun i => nI (ci i)) yx := by
    intro post h1 h2
    rw [hk]
    refine yll_ S hP (by omega) (by omega) hl g2 hla (fun z => by omega) (fun z => by omega) (fun z => by omega) (fun _ _ K hK => ?_)
    refine br_f (by decide) (br_t rfl ⟨vP, vP, ?_⟩)
    unfold wpY_less
    refine Y1 _ _ (gf_1 (by omega)) ?_
    refine Y2 _ _ (gf_2 (by omega)) ?_
    exact br_c (fun y => br_t rfl (h1 y K hK)) (fun y => br_f (by decide) (h2 y K hK))
  have I' := I
  obtain ⟨i1, i2, i3, i4, i5, i6, i7⟩ := I
  by_cases z : ss2 = -1
  · obtain ⟨e1, e2, e3⟩ := hv z
    subst e1 e2 e3 z
    by_cases y : v2 ≤ v1
    · exact ex_ (ip := ip) (fa := fa2) (cu := cu) (pc := pc) (x4 := nI (se_ q (4 * l + 3))) S W I' T hp hP ho rfl hl g2 oe (by omega) (by omega) (by rw [g4]; exact rc_self _ _ _) (fun post h => X0 post (fun _ _ => h) (fun _ w => absurd y w) (fun w => absurd rfl w)) (fun post h => Y0 post (fun _ => h) (fun w => absurd y w))
    · have scc : mo_ (sc_ (sl_ q) (od_ q (se_ q (4 * l + 3)))) = nI (se_ q (4 * l + 3)) := by rw [sc_pos (sr_f S) f4.2.1, f4.2.2.2]
      obtain ⟨r1, r2⟩ := ent_n (ip := ip) (ss := -1) (fa := fa2) (cu := cu) (pc := pc) (ou := ou) (ot := ot) (yx := yx) (yp := cu) (line := nI l) (P' := se_ q (4 * l + 3) + 1) S W I' rfl s7 f4.2.1 s6 (by rw [hL, g4, f4.2.2.1]) (by omega) f4.1.symm (by rw [f4.2.2.2]) (fun t x ht hx => by
        rw [hp]
        rw [f4.2.2.1] at ht
        exact lt_lp S hl g2 (by omega) (by omega) (by omega) (by omega) hx ht)
      rw [scc] at r1 r2
      have YY : ∀ post : SY → Prop, (∀ K : Int32 → SY → Prop, (∀ e : ET, post (YT q (se_ q (4 * l + 3) + 1, e.2)) → K 1 (YT q e)) → (∀ e, post (YT q e) → K 0 (YT q e)) → wpY_enter K (YD q cu (nI cur) tk ou yb yi fc cl ip (-1) fa2 bi bm bv bl io fl fi cx ci yx) (nI (se_ q (4 * l + 3))) (nI cur) (nI l)) → wY_execute_30 post (nI (kd_ q cu)) (nI (mL_ q)) (nI (mT_ q)) (nI (mD_ q)) (nI (nn_ q)) (nI (cu)) (((nI cur))) (nI (tk)) (nI (ou)) (nI (yb)) (nI (yi)) (nI (fc)) (nI (cl)) ip (-1) fa2 (nI (cm_ q)) (fun i => nI (kd_ q i)) (fun i => nI (ar_ q (4 * i + 1))) (fun i => nI (ar_ q (4 * i + 2))) (fun i => nI (ar_ q (4 * i + 3))) (fun i => nI (bi i)) (fun i => nI (bm i)) bv bl io (fun i => nI (fl i)) (fun i => nI (fi i)) (fun i => nI (cx i)) (fun i => nI (ci i)) yx := by
        intro post h1
        refine Y0 post (fun w => absurd w y) (fun _ K hK => br_t rfl (br_f (by decide) ?_))
        exact h1 _ (fun e h => br_f (by decide) (nm_r (e' := nI (se_ q (4 * l + 3) + 1)) (nI_1 _) (hK _ h))) (fun e h => br_t rfl (hK _ h))
      by_cases hle : tk + nc_ c (od_ q (se_ q (4 * l + 3))) ≤ mT_ q
      · obtain ⟨fc', fs', fe', fl', fi', bi', bm', sg', et', oi', wi', me', li', bv', bl', io', hf, W', X', Y'⟩ := r1 hle
        have u1 := UP_body (w1 := 0) (w2 := 1) (w3 := 1) (w4 := 0) (w5 := 0) S hl g2
        have u2 := UP_body (w1 := 1) (w2 := 2) (w3 := 1) (w4 := 1) (w5 := 1) S hl g2
        rw [← g3] at u1 u2
        rw [f4.2.2.2] at X'
        exact oc_run (ip := ip) (fa := fa2) (cu := cu) (pc := se_ q (4 * l + 3) + 1) W' (ni_ent S s7 I' hle hf (by rw [hp]; omega)) (st_ent (c := c) T (by rw [hp]; omega)) up_s ho (fun post h => X0 post (fun _ w => absurd w y) (fun _ _ K hK => X' K (hK (ip, -1, cu, se_ q (4 * l + 3) + 1, tk + nc_ c (od_ q (se_ q (4 * l + 3))), ou, et' yi, ht + (if 0 < cc_ c (od_ q (se_ q (4 * l + 3))) then cc_ c (od_ q (se_ q (4 * l + 3))) + 1 else 0), cl, fc', fa2, sv, sw, me', fs', fe', ot, li') h)) (fun z => absurd rfl z)) (fun post h => YY post (fun K hK _ => Y' K (hK (cu, (nI yi), (tk + nc_ c (od_ q (se_ q (4 * l + 3)))), ou, (yb + nc_ c (od_ q (se_ q (4 * l + 3)))), (yi + 1), fc', cl, ip, (-1), fa2, bi', bm', bv', bl', io', fl', fi', cx, ci, yx) h)))
      · obtain ⟨X', Y'⟩ := r2 (by omega)
        exact oc_fin0 (ss := 5) (fa := nI l) (yp := cu) S W (by omega) ho (by decide) (fun post h => X0 post (fun _ w => absurd w y) (fun _ _ K hK => X' K (hK (ip, 5, cu, pc, tk, ou, ev, ht, cl, fc, nI l, sv, sw, me, fs, fe, ot, li) h)) (fun z => absurd rfl z)) (fun post h => YY post (fun K _ hK => Y' K (hK (cu, (nI cur), tk, ou, yb, yi, fc, cl, ip, 5, (nI l), bi, bm, bv, bl, io, fl, fi, cx, ci, yx) h)))
  · exact oc_fin0 (yp := cu) S W (by omega) ho z (fun post h => X0 post (fun w => absurd w z) (fun w => absurd w z) (fun _ => h)) (fun post h => Y0 post (fun _ K hK => br_f z (hK (cu, (nI cur), tk, ou, yb, yi, fc, cl, ip, ss2, fa2, bi, bm, bv, bl, io, fl, fi, cx, ci, yx) h)) (fun _ K hK => br_f z (hK (cu, (nI cur), tk, ou, yb, yi, fc, cl, ip, ss2, fa2, bi, bm, bv, bl, io, fl, fi, cx, ci, yx) h)))
end
end
section
section
variable {q : QT} {c : CT} {ip ss fa : Int32} {n cu pc tk ou ev ht cl fc yp cur yb yi : Nat} {sv sw fs fe bi bm fl fi cx ci sg et oi wi kp ps : Nat → Nat} {me ot li bv bl io yx : Nat → Int32}
theorem rt_ {WX : (SX → Prop) → Prop} {WY : (SY → Prop) → Prop} (S : SR q c) {P t : Nat} (W : (RR q c ev ht cl fc sv sw me fs fe li cur yb yi bi bm bv bl io fl fi cx ci sg et oi wi kp ps (fun _ _ => False))) (I : NJ q t tk ou ht cl fc yb yi ps) (T : SJ q n t tk cl ps) (hp : ps cl = P) (hP : P < nn_ q) (ho : ∀ i, i < ou → yx i = ot i) (hss : ss = -1) (how : ow_ q (Lq_ q P) ≠ 0)
    (hX : ∀ post : SX → Prop, (∀ K : SX → Prop, (∀ d, post (XT q c d) → K (XT q c d)) → wpX_finishCall K (XD q c ip ss cu pc tk ou ev ht cl fc fa sv sw me fs fe ot li)) → WX post)
    (hY : ∀ post : SY → Prop, (∀ K : SY → Prop, (∀ e, post (YT q e) → K (YT q e)) → wpY_giveBack K (YD q P (nI cur) tk ou yb yi fc cl ip ss fa bi bm bv bl io fl fi cx ci yx)) → WY post) : OC q c (n + 1) WX WY := by
  subst hss
  have R := rr_i W
  have t0 := rr_top W
  have hL : sg cur = Lq_ q P := by rw [← hp]; exact t0.2.2.1
  obtain ⟨-, B, H, Z, K, N, V, TT, C, E, G⟩ := W
  have c0 : 0 < cl := by
    apply Nat.pos_of_ne_zero
    intro z
    apply how
    have v2 := V.2
    have kc : kp 0 = cur := by rw [← C, z]
    rw [kc] at v2
    have h1 := ri_wi S R cur t0.1
    rw [v2, R.1, hL] at h1
    exact h1.symm
  obtain ⟨k, rfl⟩ : ∃ k, cl = k + 1 := ⟨cl - 1, by omega⟩
  obtain ⟨v1, v2, v3, v4, v5⟩ := V.1 k (by omega)
  obtain ⟨g1, g2, g3, g4, g5, g6, g7⟩ := G
  have W' : (RR q c (et (kp k)) ht k fc sv sw me fs fe li (kp k) yb yi bi bm bv bl io fl fi cx ci sg et oi wi kp ps (fun _ _ => False)) := ⟨R, B, H, Z, K, N, ⟨fun j hj => V.1 j (by omega), V.2⟩, fun j hj => TT j (by omega), rfl, rfl, by omega, g2, g3, g4, g5, g6, g7⟩
  obtain ⟨a1, a2, a3, a4, a5, a6, a7⟩ := I
  have u2 := UP_ret (w1 := 1) (w2 := 2) (w3 := 1) (w4 := 1) (w5 := 1) S (Nat.le_of_lt hP) how
  rw [sm_] at a7
  unfold SJ at T
  rw [sm_, hp] at T
  have mk : nI (k + 1) - 1 = nI k := nI_pred k
  have vk : vp_in (nI k) 8 := vp_in_nI (by omega) (by omega)
  refine oc_run (ip := ip) (fa := fa) (cu := cu) (pc := ps k) W' ⟨by omega, by omega, by omega, by omega, a5, by omega, by omega⟩ (show _ ≤ _ by omega) rfl ho (fun post h => hX post (fun K hK => ?_)) (fun post h => hY post (fun K hK => ?_))
  · refine br_f (nI_nle (by omega) (by omega)) (nm_r mk ⟨vk, nm_r (e' := nI (et (kp k))) (by rw [ga_ (f := sw) rfl (by omega), v4]) ⟨vk, nm_r (e' := nI (ps k)) (by rw [ga_ (f := sv) rfl (by omega), nI_1, v3, v2]) ?_⟩⟩)
    exact hK (ip, -1, cu, ps k, tk, ou, et (kp k), ht, k, fc, fa, sv, sw, me, fs, fe, ot, li) h
  · refine br_t (nI_lt (a := 0) (by omega) (by omega)) (nm_r mk ⟨vk, nm_r (e' := nI (kp k)) (by rw [ga_ (f := ci) rfl (by omega), v1]) ⟨vk, nm_r (e' := nI (ps k)) (by rw [ga_ (f := cx) rfl (by omega), nI_1, v2]) ?_⟩⟩)
    exact hK ((ps k), (nI (kp k)), tk, ou, yb, yi, fc, k, ip, (-1), fa, bi, bm, bv, bl, io, fl, fi, cx, ci, yx) h
theorem k13_ (S : SR q c) {P : Nat} (W : (RR q c ev ht cl fc sv sw me fs fe li cur yb yi bi bm bv bl io fl fi cx ci sg et oi wi kp ps (fun _ _ => False))) (I : NJ q 1 tk ou ht cl fc yb yi ps) (T : SJ q n 1 tk cl ps) (hp : ps cl = P) (hP : P < nn_ q) (hk : kd_ q P = 13) (ho : ∀ i, i < ou → yx i = ot i) (hss : ss = -1) (hpc : pc = P + 1) (hcu : cu = P) :
    OC q c (n + 1) (fun post => wX_execute_42 post (nI P) (nI (kd_ q P)) 0 1 2 3 0 1 2 3 4 5 (-1) 48 512 (nI (mL_ q)) (nI (mT_ q)) (nI (mD_ q)) (nI (cm_ q)) (nI (nn_ q)) (nI (sp_ q)) (nI (sn_ q)) (nI (oc_ q)) ip ss (nI (cu)) (nI (pc)) (nI (tk)) (nI (ou)) (nI (ev)) (nI (ht)) (nI (cl)) (nI (fc)) fa (fun i => nI (kd_ q i)) (fun i => nI (ls_ q i)) (fun i => nI (oe_ q i)) (fun i => nI (od_ q i)) (fun i => nI (ar_ q i)) (fun i => nI (se_ q i)) (fun i => nI (ol_ q i)) (fun i => nI (pl_ q i)) (fun i => nI (sv i)) (fun i => nI (sw i)) (fun i => nI (pa_ q i)) (fun i => nI (ow_ q i)) (fun i => nI (sl_ q i)) (fun i => nI (lo_ q i)) (lx_ q) (an_ q) (vn_ q) (fun i => nI (lh_ q i)) (cp_ c) (fun i => nI (st_ c i)) (fun i => nI (nc_ c i)) (fun i => nI (cc_ c i)) (fun i => nI (hd_ c i)) (fun i => nI (lt_ q i)) (fun i => nI (hm_ c i)) (fun i => nI (rm_ c i)) (ri_ c) (fun i => nI (rh_ c i)) me (fun i => nI (fs i)) (fun i => nI (fe i)) ot li) (fun post => wY_execute_30 post (nI (kd_ q P)) (nI (mL_ q)) (nI (mT_ q)) (nI (mD_ q)) (nI (nn_ q)) (nI (P)) (((nI cur))) (nI (tk)) (nI (ou)) (nI (yb)) (nI (yi)) (nI (fc)) (nI (cl)) ip ss fa (nI (cm_ q)) (fun i => nI (kd_ q i)) (fun i => nI (ar_ q (4 * i + 1))) (fun i => nI (ar_ q (4 * i + 2))) (fun i => nI (ar_ q (4 * i + 3))) (fun i => nI (bi i)) (fun i => nI (bm i)) bv bl io (fun i => nI (fl i)) (fun i => nI (fi i)) (fun i => nI (cx i)) (fun i => nI (ci i)) yx) := by
  have hn := sr_n S
  have vP : vp_in (nI P) 48 := vp_in_nI (by omega) (by omega)
  refine rt_ (ip := ip) (fa := fa) (cu := cu) (pc := pc) S W I T hp hP ho hss ((fs_o (sr_f S) P hP).2.2.1 hk) (fun post h => ?_) (fun post h => ?_)
  · subst hss
    rw [hk]
    refine br_t rfl (br_f (by decide) (br_f (by decide) (br_f (by decide) ?_)))
    refine And.intro vP (nm_e (br_f (by decide) (br_f (by decide) (br_f (by decide) (br_f (by decide) (br_f (by decide) (br_f (by decide) (br_f (by decide) (br_t rfl ?_)))))))))
    exact h _ (fun d h => h)
  · rw [hk]
    refine br_t (by decide) (br_f (by decide) (br_f (by decide) (br_f (by decide) (br_f (by decide) (br_f (by decide) (br_f (by decide) (br_t rfl ?_)))))))
    exact h _ (fun d h => h)
theorem k14_ (S : SR q c) {P : Nat} (W : (RR q c ev ht cl fc sv sw me fs fe li cur yb yi bi bm bv bl io fl fi cx ci sg et oi wi kp ps (fun _ _ => False))) (I : NJ q 0 tk ou ht cl fc yb yi ps) (T : SJ q n 0 tk cl ps) (hp : ps cl = P) (hP : P < nn_ q) (hk : kd_ q P = 14) (ho : ∀ i, i < ou → yx i = ot i) (hss : ss = -1) (hpc : pc = P + 1) (hcu : cu = P) :
    OC q c (n + 1) (fun post => wX_execute_42 post (nI P) (nI (kd_ q P)) 0 1 2 3 0 1 2 3 4 5 (-1) 48 512 (nI (mL_ q)) (nI (mT_ q)) (nI (mD_ q)) (nI (cm_ q)) (nI (nn_ q)) (nI (sp_ q)) (nI (sn_ q)) (nI (oc_ q)) ip ss (nI (cu)) (nI (pc)) (nI (tk)) (nI (ou)) (nI (ev)) (nI (ht)) (nI (cl)) (nI (fc)) fa (fun i => nI (kd_ q i)) (fun i => nI (ls_ q i)) (fun i => nI (oe_ q i)) (fun i => nI (od_ q i)) (fun i => nI (ar_ q i)) (fun i => nI (se_ q i)) (fun i => nI (ol_ q i)) (fun i => nI (pl_ q i)) (fun i => nI (sv i)) (fun i => nI (sw i)) (fun i => nI (pa_ q i)) (fun i => nI (ow_ q i)) (fun i => nI (sl_ q i)) (fun i => nI (lo_ q i)) (lx_ q) (an_ q) (vn_ q) (fun i => nI (lh_ q i)) (cp_ c) (fun i => nI (st_ c i)) (fun i => nI (nc_ c i)) (fun i => nI (cc_ c i)) (fun i => nI (hd_ c i)) (fun i => nI (lt_ q i)) (fun i => nI (hm_ c i)) (fun i => nI (rm_ c i)) (ri_ c) (fun i => nI (rh_ c i)) me (fun i => nI (fs i)) (fun i => nI (fe i)) ot li) (fun post => wY_execute_30 post (nI (kd_ q P)) (nI (mL_ q)) (nI (mT_ q)) (nI (mD_ q)) (nI (nn_ q)) (nI (P)) (((nI cur))) (nI (tk)) (nI (ou)) (nI (yb)) (nI (yi)) (nI (fc)) (nI (cl)) ip ss fa (nI (cm_ q)) (fun i => nI (kd_ q i)) (fun i => nI (ar_ q (4 * i + 1))) (fun i => nI (ar_ q (4 * i + 2))) (fun i => nI (ar_ q (4 * i + 3))) (fun i => nI (bi i)) (fun i => nI (bm i)) bv bl io (fun i => nI (fl i)) (fun i => nI (fi i)) (fun i => nI (cx i)) (fun i => nI (ci i)) yx) := by
  have hn := sr_n S
  subst hss
  have vP : vp_in (nI P) 48 := vp_in_nI (by omega) (by omega)
  obtain ⟨l, g1, g2, g3, g4, g5⟩ := (fs_l (sr_f S) P hP).2.2.2.2 hk
  have le := eo_le (kd_ q) P
  have hl : l < nn_ q := by omega
  have oe : oe_ q P = l := by
    have := (fs_o (sr_f S) P hP).2.2.2.2 (by omega)
    omega
  have op := eo_op (K := kd_ q) (i := P) (by omega)
  rw [g1, Nat.add_sub_cancel] at op
  have vl : vp_in (nI l) 48 := vp_in_nI (by omega) (by omega)
  have kl : (fun i => nI (kd_ q i)) (nI l).toNatClampNeg = nI (kd_ q l) := ga_ rfl (by omega)
  have nz : ∀ a b, a < 100 → b < 100 → a ≠ b → ¬ nI a = nI b := fun a b h1 h2 h3 h4 => h3 ((nI_eq (by omega) (by omega)).mp h4)
  have X0 : ∀ post : SX → Prop, (kd_ q l = 8 → ∀ K : SX → Prop, (∀ d, post (XT q c d) → K (XT q c d)) → wpX_iterate K (XD q c ip (-1) cu pc tk ou ev ht cl fc fa sv sw me fs fe ot li) (nI P) (nI l)) → (kd_ q l = 7 → ∀ K : SX → Prop, (∀ d, post (XT q c d) → K (XT q c d)) → wpX_leave K (XD q c ip (-1) cu pc tk ou ev ht cl fc fa sv sw me fs fe ot li) (nI P)) → (kd_ q l ≠ 8 → kd_ q l ≠ 7 → ∀ K : SX → Prop, (∀ d, post (XT q c d) → K (XT q c d)) → wpX_finishCall K (XD q c ip (-1) cu pc tk ou ev ht cl fc fa sv sw me fs fe ot li)) → wX_execute_42 post (nI P) (nI (kd_ q P)) 0 1 2 3 0 1 2 3 4 5 (-1) 48 512 (nI (mL_ q)) (nI (mT_ q)) (nI (mD_ q)) (nI (cm_ q)) (nI (nn_ q)) (nI (sp_ q)) (nI (sn_ q)) (nI (oc_ q)) ip (-1) (nI (cu)) (nI (pc)) (nI (tk)) (nI (ou)) (nI (ev)) (nI (ht)) (nI (cl)) (nI (fc)) fa (fun i => nI (kd_ q i)) (fun i => nI (ls_ q i)) (fun i => nI (oe_ q i)) (fun i => nI (od_ q i)) (fun i => nI (ar_ q i)) (fun i => nI (se_ q i)) (fun i => nI (ol_ q i)) (fun i => nI (pl_ q i)) (fun i => nI (sv i)) (fun i => nI (sw i)) (fun i => nI (pa_ q i)) (fun i => nI (ow_ q i)) (fun i => nI (sl_ q i)) (fun i => nI (lo_ q i)) (lx_ q) (an_ q) (vn_ q) (fun i => nI (lh_ q i)) (cp_ c) (fun i => nI (st_ c i)) (fun i => nI (nc_ c i)) (fun i => nI (cc_ c i)) (fun i => nI (hd_ c i)) (fun i => nI (lt_ q i)) (fun i => nI (hm_ c i)) (fun i => nI (rm_ c i)) (ri_ c) (fun i => nI (rh_ c i)) me (fun i => nI (fs i)) (fun i => nI (fe i)) ot li := by
    intro post h1 h2 h3
    rw [hk]
    refine br_t rfl (br_f (by decide) (br_f (by decide) (br_f (by decide) ?_)))
    refine And.intro vP (nm_r (e' := nI l) (by rw [ga_ (f := oe_ q) rfl (by omega), oe]) (br_t rfl ⟨vl, ?_⟩))
    refine pk_eq (kd_ q l) 8 (fun k8 => ?_) (fun k8 => ⟨vl, pk_eq (kd_ q l) 7 (fun k7 => ?_) (fun k7 => ?_) kl rfl (by omega) (by omega)⟩) kl rfl (by omega) (by omega)
    · refine br_f (by decide) (br_f (by decide) (br_f (by decide) (br_f (by decide) (br_f (by decide) (br_t rfl ?_)))))
      exact h1 k8 _ (fun d h => h)
    · refine br_f (by decide) (br_f (by decide) (br_f (by decide) (br_f (by decide) (br_t rfl ?_))))
      exact h2 k7 _ (fun d h => h)
    · refine br_f (by decide) (br_f (by decide) (br_f (by decide) (br_f (by decide) (br_f (by decide) (br_f (by decide) (br_t rfl ?_))))))
      exact h3 k8 k7 _ (fun d h => h)
  have Y0 : ∀ post : SY → Prop, (kd_ q l = 8 → ∀ K : SY → Prop, (∀ e, post (YT q e) → K (YT q e)) → wpY_goOn K (YD q P (nI cur) tk ou yb yi fc cl ip (-1) fa bi bm bv bl io fl fi cx ci yx) (nI l)) → (kd_ q l = 7 → ∀ K : Int32 → Prop, (∀ j, post (YD q (P + 1) (nI j) tk ou yb yi fc cl ip (-1) fa bi bm bv bl io fl fi cx ci yx) → K (nI j)) → wpY_outerOf K (YD q P (nI cur) tk ou yb yi fc cl ip (-1) fa bi bm bv bl io fl fi cx ci yx) (nI cur)) → (kd_ q l ≠ 8 → kd_ q l ≠ 7 → ∀ K : SY → Prop, (∀ e, post (YT q e) → K (YT q e)) → wpY_giveBack K (YD q P (nI cur) tk ou yb yi fc cl ip (-1) fa bi bm bv bl io fl fi cx ci yx)) → wY_execute_30 post (nI (kd_ q P)) (nI (mL_ q)) (nI (mT_ q)) (nI (mD_ q)) (nI (nn_ q)) (nI (P)) (((nI cur))) (nI (tk)) (nI (ou)) (nI (yb)) (nI (yi)) (nI (fc)) (nI (cl)) ip (-1) fa (nI (cm_ q)) (fun i => nI (kd_ q i)) (fun i => nI (ar_ q (4 * i + 1))) (fun i => nI (ar_ q (4 * i + 2))) (fun i => nI (ar_ q (4 * i + 3))) (fun i => nI (bi i)) (fun i => nI (bm i)) bv bl io (fun i => nI (fl i)) (fun i => nI (fi i)) (fun i => nI (cx i)) (fun i => nI (ci i)) yx := by
    intro post h1 h2 h3
    rw [hk]
    refine br_t (by decide) (br_f (by decide) (br_f (by decide) (br_f (by decide) (br_f (by decide) (br_f (by decide) (br_f (by decide) (br_f (by decide) (br_t rfl ?_))))))))
    unfold wpY_openerAtEnd
    refine yw_en (q := q) (e := (P, (nI cur), tk, ou, yb, yi, fc, cl, ip, (-1), fa, bi, bm, bv, bl, io, fl, fi, cx, ci, yx)) (by omega) (fun j hj => fs_k (sr_f S) j (by omega)) ?_
    rw [g1, mo_s]
    refine br_t (nI_pos' (by omega)) ⟨vl, ?_⟩
    refine pk_eq (kd_ q l) 8 (fun k8 => ?_) (fun k8 => ⟨vl, pk_eq (kd_ q l) 7 (fun k7 => ?_) (fun k7 => ?_) kl rfl (by omega) (by omega)⟩) kl rfl (by omega) (by omega)
    · exact h1 k8 _ (fun d h => h)
    · exact h2 k7 _ (fun j h => nm_r (nI_1 P) h)
    · exact h3 k8 k7 _ (fun d h => h)
  by_cases k8 : kd_ q l = 8
  · obtain ⟨f1, f2, f3, f4, f5, f6⟩ := lp_facts S hl k8
    exact go_ (ip := ip) (fa := fa) (cu := cu) (pc := pc) S W I T hp hP ho rfl hl k8 (by omega) (by omega) (by rw [g4 k8]; exact rc_self _ _ _) (fun post h => X0 post (fun _ => h) (fun z => by omega) (fun z => absurd k8 z)) (fun post h => Y0 post (fun _ => h) (fun z => by omega) (fun z => absurd k8 z))
  · by_cases k7 : kd_ q l = 7
    · have R := rr_i W
      have t0 := rr_top W
      obtain ⟨z1, z2, z3, z4, z5⟩ := rr_z W
      have hL : sg cur = Lq_ q P := by rw [← hp]; exact t0.2.2.1
      obtain ⟨a1, a2, a3, a4, a5, a6⟩ := bl_facts S hl (by omega) (by omega)
      obtain ⟨o1, o2, o3, o4, o5⟩ := fn_od S hl (by omega) (by omega)
      have nf : ow_ q (od_ q l) ≠ od_ q l := by
        intro z
        have := (ow_fun (sr_f S) o2 o3).mp z
        rw [o5] at this
        omega
      have sgc : sg cur = od_ q l := by rw [hL, g5 k8]
      have i0 : 0 < cur := by
        apply Nat.pos_of_ne_zero
        intro z
        rw [z, R.1] at sgc
        omega
      obtain ⟨r1, r2, r3, r4, -⟩ := R.2.2.2.1 cur t0.1
      obtain ⟨q1, q2, q3, q4⟩ := r4 i0
      have so : sg (oi cur) = Lq_ q l := by rw [r2, sgc, o4]
      have W' := rr_move0 (P' := P + 1) W (fun _ _ z => z) (rc_up1 (fun z => nf (by rw [← sgc]; exact r3.mp z)) (rc_self _ _ _)) (by omega) (by rw [so, g3]) (fun t x ht hx => by
        rw [hp]
        rw [g3] at ht
        exact lt_in S hl (by omega) (by omega) (by omega) (by omega) (by omega) (by omega) hx ht)
      have u1 := UP_endb (w1 := 0) (w2 := 1) (w3 := 1) (w4 := 0) (w5 := 0) S hl k7
      have u2 := UP_endb (w1 := 1) (w2 := 2) (w3 := 1) (w4 := 1) (w5 := 1) S hl k7
      rw [← g2] at u1 u2
      refine oc_run (ip := ip) (fa := fa) (cu := cu) W' (nj_move I (by rw [hp]; omega)) (sj_move T (by rw [hp]; omega)) up_s ho (fun post h => X0 post (fun z => absurd z k8) (fun _ K hK => ?_) (fun _ z => absurd k7 z)) (fun post h => Y0 post (fun z => absurd z k8) (fun _ K hK => ?_) (fun _ z => absurd k7 z))
      · refine xw_leave S R z4 hP hl oe t0.1 hL (rr_e W) (ac_it.mpr (Or.inr (ac_self _ _))) so (by omega) ?_
        rw [← g2]
        exact hK (ip, -1, cu, P + 1, tk, ou, et (oi cur), ht, cl, fc, fa, sv, sw, me, fs, fe, ot, li) h
      · refine yw_out t0.1 (by omega) ?_
        rw [q4]
        exact hK _ h
    · obtain ⟨o1, o2, o3, o4, o5⟩ := fn_od S hl (by omega) (by omega)
      have how : ow_ q (Lq_ q P) ≠ 0 := by
        rw [g5 k8, (ow_fun (sr_f S) o2 o3).mpr (by rw [o5]; omega)]
        omega
      exact rt_ (ip := ip) (fa := fa) (cu := cu) (pc := pc) S W I T hp hP ho rfl how (fun post h => X0 post (fun z => absurd z k8) (fun z => absurd z k7) (fun _ _ => h)) (fun post h => Y0 post (fun z => absurd z k8) (fun z => absurd z k7) (fun _ _ => h))
end
end
section
section
variable {q : QT} {c : CT} {ip ss fa : Int32} {n cu pc tk ou ev ht cl fc yp cur yb yi : Nat} {sv sw fs fe bi bm fl fi cx ci sg et oi wi kp ps : Nat → Nat} {me ot li bv bl io yx : Nat → Int32}
theorem rv_call {P P' e' : Nat} (V : RV cl kp ps ci cx sv sw et wi) (T : ∀ k, k ≤ cl → kp k < yi) (hc : kp cl = cur) (hp : ps cl = P + 1) (he : ev = et cur) :
    RV (cl + 1) (up_ kp (cl + 1) yi) (up_ ps (cl + 1) P') (up_ ci cl cur) (up_ cx cl P) (up_ sv cl P) (up_ sw cl ev) (up_ et yi e') (up_ wi yi yi) := by
  refine ⟨fun k hk => ?_, ?_⟩
  · have tk := T k (by omega)
    have e1 : up_ kp (cl + 1) yi k = kp k := up_n (by omega)
    have e2 : up_ ps (cl + 1) P' k = ps k := up_n (by omega)
    have e3 : up_ et yi e' (kp k) = et (kp k) := up_n (by omega)
    rw [e1, e2, e3]
    by_cases e : k = cl
    · have f4 : up_ kp (cl + 1) yi (cl + 1) = yi := up_s
      subst e
      rw [up_s, up_s, up_s, up_s, f4, up_s, hc, hp, he]
      exact ⟨rfl, rfl, rfl, rfl, by rw [← hc]; exact tk⟩
    · obtain ⟨v1, v2, v3, v4, v5⟩ := V.1 k (by omega)
      have tk1 := T (k + 1) (by omega)
      have e4 : up_ kp (cl + 1) yi (k + 1) = kp (k + 1) := up_n (by omega)
      have e5 : up_ wi yi yi (kp (k + 1)) = wi (kp (k + 1)) := up_n (by omega)
      rw [e4, e5, up_n e, up_n e, up_n e, up_n e]
      exact ⟨v1, v2, v3, v4, v5⟩
  · have t0 := T 0 (by omega)
    have e4 : up_ kp (cl + 1) yi 0 = kp 0 := up_n (by omega)
    have e5 : up_ wi yi yi (kp 0) = wi (kp 0) := up_n (by omega)
    rw [e4, e5]
    exact V.2
theorem xc_bad {post : SX → Prop} {v : Int32} {P : Nat} (hv : v < 1 ∨ ¬ v ≤ nI fc) (h : post (XD q c ip 3 cu pc tk ou ev ht cl fc (nI P) sv sw me fs fe ot li)) : wpX_call post (XD q c ip (-1) cu pc tk ou ev ht cl fc fa sv sw me fs fe ot li) (nI P) v := by
  have h38 : ∀ post : SX → Prop, post (XD q c ip 3 cu pc tk ou ev ht cl fc (nI P) sv sw me fs fe ot li) → wX_call_38 post (nI P) v 0 1 2 3 0 1 2 3 4 5 (-1) 48 512 (nI (mL_ q)) (nI (mT_ q)) (nI (mD_ q)) (nI (cm_ q)) (nI (nn_ q)) (nI (sp_ q)) (nI (sn_ q)) (nI (oc_ q)) ip 3 (nI (cu)) (nI (pc)) (nI (tk)) (nI (ou)) (nI (ev)) (nI (ht)) (nI (cl)) (nI (fc)) ((nI P)) (fun i => nI (kd_ q i)) (fun i => nI (ls_ q i)) (fun i => nI (oe_ q i)) (fun i => nI (od_ q i)) (fun i => nI (ar_ q i)) (fun i => nI (se_ q i)) (fun i => nI (ol_ q i)) (fun i => nI (pl_ q i)) (fun i => nI (sv i)) (fun i => nI (sw i)) (fun i => nI (pa_ q i)) (fun i => nI (ow_ q i)) (fun i => nI (sl_ q i)) (fun i => nI (lo_ q i)) (lx_ q) (an_ q) (vn_ q) (fun i => nI (lh_ q i)) (cp_ c) (fun i => nI (st_ c i)) (fun i => nI (nc_ c i)) (fun i => nI (cc_ c i)) (fun i => nI (hd_ c i)) (fun i => nI (lt_ q i)) (fun i => nI (hm_ c i)) (fun i => nI (rm_ c i)) (ri_ c) (fun i => nI (rh_ c i)) me (fun i => nI (fs i)) (fun i => nI (fe i)) ot li := fun post h => br_f (by decide) h
  have h20 : ∀ post : SX → Prop, post (XD q c ip 3 cu pc tk ou ev ht cl fc (nI P) sv sw me fs fe ot li) → wX_call_20 post (nI P) v 0 1 2 3 0 1 2 3 4 5 (-1) 48 512 (nI (mL_ q)) (nI (mT_ q)) (nI (mD_ q)) (nI (cm_ q)) (nI (nn_ q)) (nI (sp_ q)) (nI (sn_ q)) (nI (oc_ q)) ip 3 (nI (cu)) (nI (pc)) (nI (tk)) (nI (ou)) (nI (ev)) (nI (ht)) (nI (cl)) (nI (fc)) ((nI P)) (fun i => nI (kd_ q i)) (fun i => nI (ls_ q i)) (fun i => nI (oe_ q i)) (fun i => nI (od_ q i)) (fun i => nI (ar_ q i)) (fun i => nI (se_ q i)) (fun i => nI (ol_ q i)) (fun i => nI (pl_ q i)) (fun i => nI (sv i)) (fun i => nI (sw i)) (fun i => nI (pa_ q i)) (fun i => nI (ow_ q i)) (fun i => nI (sl_ q i)) (fun i => nI (lo_ q i)) (lx_ q) (an_ q) (vn_ q) (fun i => nI (lh_ q i)) (cp_ c) (fun i => nI (st_ c i)) (fun i => nI (nc_ c i)) (fun i => nI (cc_ c i)) (fun i => nI (hd_ c i)) (fun i => nI (lt_ q i)) (fun i => nI (hm_ c i)) (fun i => nI (rm_ c i)) (ri_ c) (fun i => nI (rh_ c i)) me (fun i => nI (fs i)) (fun i => nI (fe i)) ot li := by
    intro post h
    refine br_c (fun _ => h38 post h) (fun _ => ?_)
    refine xw_fail ?_
    exact h38 post h
  have h13 : wX_call_13 post (nI P) v 0 1 2 3 0 1 2 3 4 5 (-1) 48 512 (nI (mL_ q)) (nI (mT_ q)) (nI (mD_ q)) (nI (cm_ q)) (nI (nn_ q)) (nI (sp_ q)) (nI (sn_ q)) (nI (oc_ q)) ip (-1) (nI (cu)) (nI (pc)) (nI (tk)) (nI (ou)) (nI (ev)) (nI (ht)) (nI (cl)) (nI (fc)) fa (fun i => nI (kd_ q i)) (fun i => nI (ls_ q i)) (fun i => nI (oe_ q i)) (fun i => nI (od_ q i)) (fun i => nI (ar_ q i)) (fun i => nI (se_ q i)) (fun i => nI (ol_ q i)) (fun i => nI (pl_ q i)) (fun i => nI (sv i)) (fun i => nI (sw i)) (fun i => nI (pa_ q i)) (fun i => nI (ow_ q i)) (fun i => nI (sl_ q i)) (fun i => nI (lo_ q i)) (lx_ q) (an_ q) (vn_ q) (fun i => nI (lh_ q i)) (cp_ c) (fun i => nI (st_ c i)) (fun i => nI (nc_ c i)) (fun i => nI (cc_ c i)) (fun i => nI (hd_ c i)) (fun i => nI (lt_ q i)) (fun i => nI (hm_ c i)) (fun i => nI (rm_ c i)) (ri_ c) (fun i => nI (rh_ c i)) me (fun i => nI (fs i)) (fun i => nI (fe i)) ot li := by
    unfold wX_call_13
    refine xw_fail ?_
    exact h20 post h
  exact br_c (fun _ => h13) (fun z => br_c (fun y => absurd y (hv.resolve_left z)) (fun _ => h13))
theorem xc_deep {post : SX → Prop} {v : Int32} {P : Nat} (h1 : ¬ v < 1) (h2 : v ≤ nI fc) (hd : mD_ q ≤ cl) (hc : cl ≤ 8) (h : post (XD q c ip 4 cu pc tk ou ev ht cl fc (nI P) sv sw me fs fe ot li)) : wpX_call post (XD q c ip (-1) cu pc tk ou ev ht cl fc fa sv sw me fs fe ot li) (nI P) v := by
  have h38 : ∀ post : SX → Prop, post (XD q c ip 4 cu pc tk ou ev ht cl fc (nI P) sv sw me fs fe ot li) → wX_call_38 post (nI P) v 0 1 2 3 0 1 2 3 4 5 (-1) 48 512 (nI (mL_ q)) (nI (mT_ q)) (nI (mD_ q)) (nI (cm_ q)) (nI (nn_ q)) (nI (sp_ q)) (nI (sn_ q)) (nI (oc_ q)) ip 4 (nI (cu)) (nI (pc)) (nI (tk)) (nI (ou)) (nI (ev)) (nI (ht)) (nI (cl)) (nI (fc)) ((nI P)) (fun i => nI (kd_ q i)) (fun i => nI (ls_ q i)) (fun i => nI (oe_ q i)) (fun i => nI (od_ q i)) (fun i => nI (ar_ q i)) (fun i => nI (se_ q i)) (fun i => nI (ol_ q i)) (fun i => nI (pl_ q i)) (fun i => nI (sv i)) (fun i => nI (sw i)) (fun i => nI (pa_ q i)) (fun i => nI (ow_ q i)) (fun i => nI (sl_ q i)) (fun i => nI (lo_ q i)) (lx_ q) (an_ q) (vn_ q) (fun i => nI (lh_ q i)) (cp_ c) (fun i => nI (st_ c i)) (fun i => nI (nc_ c i)) (fun i => nI (cc_ c i)) (fun i => nI (hd_ c i)) (fun i => nI (lt_ q i)) (fun i => nI (hm_ c i)) (fun i => nI (rm_ c i)) (ri_ c) (fun i => nI (rh_ c i)) me (fun i => nI (fs i)) (fun i => nI (fe i)) ot li := fun post h => br_f (by decide) h
  refine br_f h1 (br_t h2 (br_f (nI_nlt hd (by omega)) ?_))
  refine xw_fail ?_
  exact h38 post h
theorem xc_go {post : SX → Prop} {v P : Nat} (h1 : 1 ≤ v) (h2 : v ≤ fc) (hf : fc < 256) (hd : cl < mD_ q) (hm : mD_ q ≤ 8) (h : ∀ K : SX → Prop, (∀ d, post (XT q c d) → K (XT q c d)) → wpX_enter K (XD q c ip (-1) cu pc tk ou (fe v) ht (cl + 1) fc fa (up_ sv cl P) (up_ sw cl ev) me fs fe ot li) (nI (fs v)) (nI P)) : wpX_call post (XD q c ip (-1) cu pc tk ou ev ht cl fc fa sv sw me fs fe ot li) (nI P) (nI v) := by
  have vc : vp_in (nI cl) 8 := vp_in_nI (by omega) (by omega)
  have vv : vp_in (nI v) 256 := vp_in_nI (by omega) (by omega)
  refine br_f (nI_nlt (b := 1) h1 (by omega)) (br_t (nI_le h2 (by omega)) (br_t (nI_lt hd (by omega)) (br_t rfl ?_)))
  refine And.intro vc (nm_r (ug_ P (by omega)) (And.intro vc (nm_r (ug_ ev (by omega)) (nm_r (nI_1 cl) (And.intro vv (nm_r (e' := nI (fe v)) (ga_ rfl (by omega)) (And.intro vv ?_)))))))
  show wpX_enter _ _ ((fun i => nI (fs i)) (nI v).toNatClampNeg) _
  rw [ga_ (f := fs) rfl (by omega)]
  exact h _ (fun d h => h)
theorem k4_ (S : SR q c) {P : Nat} (W : (RR q c ev ht cl fc sv sw me fs fe li cur yb yi bi bm bv bl io fl fi cx ci sg et oi wi kp ps (fun _ _ => False))) (I : NJ q 1 tk ou ht cl fc yb yi ps) (T : SJ q n 1 tk cl ps) (hp : ps cl = P) (hP : P < nn_ q) (hk : kd_ q P = 4) (ho : ∀ i, i < ou → yx i = ot i) (hss : ss = -1) (hpc : pc = P + 1) (hcu : cu = P) :
    OC q c (n + 1) (fun post => wX_execute_42 post (nI P) (nI (kd_ q P)) 0 1 2 3 0 1 2 3 4 5 (-1) 48 512 (nI (mL_ q)) (nI (mT_ q)) (nI (mD_ q)) (nI (cm_ q)) (nI (nn_ q)) (nI (sp_ q)) (nI (sn_ q)) (nI (oc_ q)) ip ss (nI (cu)) (nI (pc)) (nI (tk)) (nI (ou)) (nI (ev)) (nI (ht)) (nI (cl)) (nI (fc)) fa (fun i => nI (kd_ q i)) (fun i => nI (ls_ q i)) (fun i => nI (oe_ q i)) (fun i => nI (od_ q i)) (fun i => nI (ar_ q i)) (fun i => nI (se_ q i)) (fun i => nI (ol_ q i)) (fun i => nI (pl_ q i)) (fun i => nI (sv i)) (fun i => nI (sw i)) (fun i => nI (pa_ q i)) (fun i => nI (ow_ q i)) (fun i => nI (sl_ q i)) (fun i => nI (lo_ q i)) (lx_ q) (an_ q) (vn_ q) (fun i => nI (lh_ q i)) (cp_ c) (fun i => nI (st_ c i)) (fun i => nI (nc_ c i)) (fun i => nI (cc_ c i)) (fun i => nI (hd_ c i)) (fun i => nI (lt_ q i)) (fun i => nI (hm_ c i)) (fun i => nI (rm_ c i)) (ri_ c) (fun i => nI (rh_ c i)) me (fun i => nI (fs i)) (fun i => nI (fe i)) ot li) (fun post => wY_execute_30 post (nI (kd_ q P)) (nI (mL_ q)) (nI (mT_ q)) (nI (mD_ q)) (nI (nn_ q)) (nI (P)) (((nI cur))) (nI (tk)) (nI (ou)) (nI (yb)) (nI (yi)) (nI (fc)) (nI (cl)) ip ss fa (nI (cm_ q)) (fun i => nI (kd_ q i)) (fun i => nI (ar_ q (4 * i + 1))) (fun i => nI (ar_ q (4 * i + 2))) (fun i => nI (ar_ q (4 * i + 3))) (fun i => nI (bi i)) (fun i => nI (bm i)) bv bl io (fun i => nI (fl i)) (fun i => nI (fi i)) (fun i => nI (cx i)) (fun i => nI (ci i)) yx) := by
  have hn := sr_n S
  have hT := S.2.2.2.2.2.1
  have hD := S.2.2.2.2.2.2
  subst hss
  subst hcu
  have M := sr_m S
  have t0 := rr_top W
  have hL : sg cur = Lq_ q cu := by rw [← hp]; exact t0.2.2.1
  have vP : vp_in (nI cu) 48 := vp_in_nI (by omega) (by omega)
  obtain ⟨oa1, oa2⟩ := oa_pair (q := q) (P := cu) (by omega)
  have a72 := M.2.2.2.2.2.2.2.2.1
  obtain ⟨v1, v2, x1, x2, ss1, fa1, ss2, fa2, X1, X2, Y1, Y2, hv⟩ := l2_ (ip := ip) (ss := -1) (fa := fa) (cu := cu) (pc := pc) (tk := tk) (ou := ou) (ot := ot) (yx := yx) (yp := cu) S W hp hP rfl rfl oa1 oa2 (a72 _) (a72 _)
  have I' := I
  obtain ⟨i1, i2, i3, i4, i5, i6, i7⟩ := I
  have X0 : ∀ post : SX → Prop, (ss2 = -1 → ∀ K : SX → Prop, (∀ d, post (XT q c d) → K (XT q c d)) → wpX_call K (XD q c ip ss2 cu pc tk ou ev ht cl fc fa2 sv sw me fs fe ot li) (nI cu) (v1 + v2)) → (ss2 ≠ -1 → post (XD q c ip ss2 cu pc tk ou ev ht cl fc fa2 sv sw me fs fe ot li)) → wX_execute_42 post (nI cu) (nI (kd_ q cu)) 0 1 2 3 0 1 2 3 4 5 (-1) 48 512 (nI (mL_ q)) (nI (mT_ q)) (nI (mD_ q)) (nI (cm_ q)) (nI (nn_ q)) (nI (sp_ q)) (nI (sn_ q)) (nI (oc_ q)) ip (-1) (nI (cu)) (nI (pc)) (nI (tk)) (nI (ou)) (nI (ev)) (nI (ht)) (nI (cl)) (nI (fc)) fa (fun i => nI (kd_ q i)) (fun i => nI (ls_ q i)) (fun i => nI (oe_ q i)) (fun i => nI (od_ q i)) (fun i => nI (ar_ q i)) (fun i => nI (se_ q i)) (fun i => nI (ol_ q i)) (fun i => nI (pl_ q i)) (fun i => nI (sv i)) (fun i => nI (sw i)) (fun i => nI (pa_ q i)) (fun i => nI (ow_ q i)) (fun i => nI (sl_ q i)) (fun i => nI (lo_ q i)) (lx_ q) (an_ q) (vn_ q) (fun i => nI (lh_ q i)) (cp_ c) (fun i => nI (st_ c i)) (fun i => nI (nc_ c i)) (fun i => nI (cc_ c i)) (fun i => nI (hd_ c i)) (fun i => nI (lt_ q i)) (fun i => nI (hm_ c i)) (fun i => nI (rm_ c i)) (ri_ c) (fun i => nI (rh_ c i)) me (fun i => nI (fs i)) (fun i => nI (fe i)) ot li := by
    intro post h1 h3
    rw [hk]
    refine br_t rfl (br_t (by decide) ?_)
    unfold wX_execute_68 wpX_compute
    refine X1 _ _ (m4_ cu 2) ?_
    refine X2 _ _ (m4_ cu 3) ?_
    refine br_c (fun z => br_t (by decide) (br_f (by decide) (br_t rfl ?_))) (fun z => h3 z)
    exact h1 z _ (fun d h => h)
  have Y0 : ∀ post : SY → Prop, (ss2 = -1 → (x1 + x2 < 1 ∨ ¬ x1 + x2 ≤ nI fc) → post (YD q cu (nI cur) tk ou yb yi fc cl ip 3 (nI cu) bi bm bv bl io fl fi cx ci yx)) → (ss2 = -1 → ¬ x1 + x2 < 1 → x1 + x2 ≤ nI fc → mD_ q ≤ cl → post (YD q cu (nI cur) tk ou yb yi fc cl ip 4 (nI cu) bi bm bv bl io fl fi cx ci yx)) →
      (ss2 = -1 → ¬ x1 + x2 < 1 → x1 + x2 ≤ nI fc → cl < mD_ q → ∀ v, x1 + x2 = nI v → v ≤ fc → ∀ K : Int32 → SY → Prop, (∀ (cur' tk' yb' yi' fc' : Nat) (fl' fi' bi' bm' : Nat → Nat) (bv' bl' io' : Nat → Int32), fl' v = fl v → post (YD q (fl v + 1) (nI cur') tk' ou yb' yi' fc' (cl + 1) ip (-1) fa2 bi' bm' bv' bl' io' fl' fi' (up_ cx cl cu) (up_ ci cl cur) yx) → K 1 (YD q cu (nI cur') tk' ou yb' yi' fc' cl ip (-1) fa2 bi' bm' bv' bl' io' fl' fi' cx ci yx)) → (∀ e, post (YT q e) → K 0 (YT q e)) → wpY_enter K (YD q cu (nI cur) tk ou yb yi fc cl ip (-1) fa2 bi bm bv bl io fl fi cx ci yx) (nI (fl v)) (nI (fi v)) (nI cu)) →
      (ss2 ≠ -1 → post (YD q cu (nI cur) tk ou yb yi fc cl ip ss2 fa2 bi bm bv bl io fl fi cx ci yx)) → wY_execute_30 post (nI (kd_ q cu)) (nI (mL_ q)) (nI (mT_ q)) (nI (mD_ q)) (nI (nn_ q)) (nI (cu)) (((nI cur))) (nI (tk)) (nI (ou)) (nI (yb)) (nI (yi)) (nI (fc)) (nI (cl)) ip (-1) fa (nI (cm_ q)) (fun i => nI (kd_ q i)) (fun i => nI (ar_ q (4 * i + 1))) (fun i => nI (ar_ q (4 * i + 2))) (fun i => nI (ar_ q (4 * i + 3))) (fun i => nI (bi i)) (fun i => nI (bm i)) bv bl io (fun i => nI (fl i)) (fun i => nI (fi i)) (fun i => nI (cx i)) (fun i => nI (ci i)) yx := by
    intro post h1 h2 h3 h4
    rw [hk]
    refine br_t (by decide) (br_f (by decide) (br_t rfl ?_))
    refine And.intro vP (And.intro vP ?_)
    unfold wpY_sum
    refine Y1 _ _ (gf_1 (by omega)) ?_
    refine Y2 _ _ (gf_2 (by omega)) ?_
    refine br_c (fun z => br_f (by decide) ?_) (fun z => h4 z)
    subst z
    have h93 : (x1 + x2 < 1 ∨ ¬ x1 + x2 ≤ nI fc) → wY_outOrCall_93 post (nI (mL_ q)) (nI (mT_ q)) (nI (mD_ q)) (nI (nn_ q)) (nI (cu)) (((nI cur))) (nI (tk)) (nI (ou)) (nI (yb)) (nI (yi)) (nI (fc)) (nI (cl)) ip (-1) fa2 (nI (cm_ q)) (fun i => nI (kd_ q i)) (fun i => nI (ar_ q (4 * i + 1))) (fun i => nI (ar_ q (4 * i + 2))) (fun i => nI (ar_ q (4 * i + 3))) (fun i => nI (bi i)) (fun i => nI (bm i)) bv bl io (fun i => nI (fl i)) (fun i => nI (fi i)) (fun i => nI (cx i)) (fun i => nI (ci i)) yx := by
      intro hb
      unfold wY_outOrCall_93
      refine yw_stop ?_
      exact h1 rfl hb
    refine br_c (fun y => h93 (Or.inl y)) (fun y => br_c (fun w => ?_) (fun w => h93 (Or.inr w)))
    obtain ⟨v, vl, hvv⟩ := nI_of2 (n := fc) (nI_toInt (by omega)) (fun z => y (by
      rw [Int32.lt_iff_toInt_lt] at z ⊢
      have e0 : (0 : Int32).toInt = 0 := by decide
      have e1 : (1 : Int32).toInt = 1 := by decide
      omega)) w
    have vc : vp_in (nI cl) 8 → True := fun _ => trivial
    refine pk_lt cl (mD_ q) (fun hd => ?_) (fun hd => ?_) rfl rfl (by omega) (by omega)
    · have vv : vp_in (x1 + x2) 512 := by rw [hvv]; exact vp_in_nI (by omega) (by omega)
      have vc : vp_in (nI cl) 8 := vp_in_nI (by omega) (by omega)
      refine And.intro vv (And.intro vv ?_)
      show wpY_enter _ _ ((fun i => nI (fl i)) (x1 + x2).toNatClampNeg) ((fun i => nI (fi i)) (x1 + x2).toNatClampNeg) _
      rw [ga_ (f := fl) hvv (by omega), ga_ (f := fi) hvv (by omega)]
      refine h3 rfl y w hd v hvv vl _ (fun cur' tk' yb' yi' fc' fl' fi' bi' bm' bv' bl' io' hfl h => br_f (by decide) ?_) (fun e h => br_t rfl h)
      refine And.intro vc (nm_r (ug_ cu (by omega)) (And.intro vc (nm_r (ug_ cur (by omega)) (nm_r (nI_1 cl) (And.intro vv (nm_r (e' := nI (fl v + 1)) ?_ h))))))
      rw [ga_ (f := fl') hvv (by omega), hfl, nI_1]
    · refine yw_stop ?_
      exact h2 rfl y w hd
  by_cases z : ss2 = -1
  · obtain ⟨e1, e2, e3⟩ := hv z
    subst e1 e2 e3 z
    by_cases hb : v1 + v2 < 1 ∨ ¬ v1 + v2 ≤ nI fc
    · exact oc_fin0 (ss := 3) (fa := nI cu) (yp := cu) S W (by omega) ho (by decide) (fun post h => X0 post (fun _ K hK => xc_bad hb (hK (ip, 3, cu, pc, tk, ou, ev, ht, cl, fc, nI cu, sv, sw, me, fs, fe, ot, li) h)) (fun z => absurd rfl z)) (fun post h => Y0 post (fun _ _ => h) (fun _ y w => absurd w (hb.resolve_left y)) (fun _ y w => absurd w (hb.resolve_left y)) (fun z => absurd rfl z))
    · have b1 : ¬ v1 + v2 < 1 := fun y => hb (Or.inl y)
      have b2 : v1 + v2 ≤ nI fc := Classical.byContradiction (fun y => hb (Or.inr y))
      by_cases hd : mD_ q ≤ cl
      · exact oc_fin0 (ss := 4) (fa := nI cu) (yp := cu) S W (by omega) ho (by decide) (fun post h => X0 post (fun _ K hK => xc_deep b1 b2 hd (by omega) (hK (ip, 4, cu, pc, tk, ou, ev, ht, cl, fc, nI cu, sv, sw, me, fs, fe, ot, li) h)) (fun z => absurd rfl z)) (fun post h => Y0 post (fun _ y => absurd y hb) (fun _ _ _ _ => h) (fun _ _ _ y => by omega) (fun z => absurd rfl z))
      · obtain ⟨v, vl, hvv⟩ := nI_of2 (n := fc) (nI_toInt (by omega)) (fun z => b1 (by
          rw [Int32.lt_iff_toInt_lt] at z ⊢
          have e0 : (0 : Int32).toInt = 0 := by decide
          have e1 : (1 : Int32).toInt = 1 := by decide
          omega)) b2
        have hv1 : 1 ≤ v := by
          apply Nat.pos_of_ne_zero
          intro y
          rw [hvv, y] at b1
          exact b1 (by decide)
        have pl := (fs_l (sr_f S) _ hP).1 (by omega)
        have W1 := rr_move0 (P' := cu + 1) W (fun _ _ z => z) (rc_self _ _ _) (by omega) (by rw [pl]; exact hL) (fun t x ht hx => by rw [hp]; exact lt_plain S hx (by omega))
        rw [← rr_e W] at W1
        obtain ⟨R, B, H, Z, K, N, V, T1, C, E, G⟩ := W1
        obtain ⟨g1, g2, g3, g4, g5, g6, g7⟩ := G
        obtain ⟨n1, n2, n3, n4, n5, n6, n7⟩ := N v hv1 vl
        obtain ⟨o1, o2, o3, o4, o5⟩ := fn_od S n1 (by omega) (by omega)
        have how : ow_ q (od_ q (fl v)) = od_ q (fl v) := (ow_fun (sr_f S) o2 o3).mpr (by rw [o5]; exact n2)
        have cn := cc_nc S o3
        have scc : mo_ (sc_ (sl_ q) (od_ q (fl v))) = nI (fl v) := by rw [sc_pos (sr_f S) o2, o5]
        obtain ⟨r1, r2⟩ := ent_ (yl := cl) (cy := cx) (cj := ci) (ly := nI cu) (line := nI cu) (cl := cl + 1) (ip := ip) (ss := -1) (fa := fa2) (cu := cu) (pc := pc) (tk := tk) (ou := ou) (ev := fe v) (ot := ot) (yp := cu) (yx := yx) (kp := up_ kp cl cur) (ps := up_ ps cl (cu + 1)) (ci := up_ ci cl cur) (cx := up_ cx cl cu) (sv := up_ sv cl cu) (sw := up_ sw cl ev) (yc := nI cur) (ov := nI (fi v)) (o := fi v) (s := od_ q (fl v)) (P' := fl v + 1) S R B H Z K N (fun k hk => T1 k (by omega)) o3 rfl (fun z => by omega) (fun _ => ⟨n3, by rw [n4, o4], o2⟩) (by rw [if_neg (by omega)]) (by rw [if_neg (by omega)]; exact n6) (fun _ _ => by omega) (fun z => by omega) (by omega) o1.symm (fun _ => by rw [o5]) (fun z => by omega)
          (fun _ _ b hb hr hlt => n7 b hb hr (fun z => z) hlt) (fun z => absurd how z) rfl rfl rfl rfl rfl (by rw [if_pos how]; exact rv_call V (fun k hk => (T1 k hk).1) C up_s E) (by omega) (by omega) (fun _ => by omega) (by omega) (by
            have : sm_ (fun k => UP q 0 1 1 0 0 (ps k)) (cl + 1) ≥ 0 := Nat.zero_le _
            omega) g5 (by omega) (fun _ => g7)
        rw [scc] at r1 r2
        have XX : ∀ post : SX → Prop, (∀ K : SX → Prop, (∀ d, post (XT q c d) → K (XT q c d)) → wpX_enter K (XD q c ip (-1) cu pc tk ou (fe v) ht (cl + 1) fc fa2 (up_ sv cl cu) (up_ sw cl ev) me fs fe ot li) (nI (od_ q (fl v))) (nI cu)) → wX_execute_42 post (nI cu) (nI (kd_ q cu)) 0 1 2 3 0 1 2 3 4 5 (-1) 48 512 (nI (mL_ q)) (nI (mT_ q)) (nI (mD_ q)) (nI (cm_ q)) (nI (nn_ q)) (nI (sp_ q)) (nI (sn_ q)) (nI (oc_ q)) ip (-1) (nI (cu)) (nI (pc)) (nI (tk)) (nI (ou)) (nI (ev)) (nI (ht)) (nI (cl)) (nI (fc)) fa2 (fun i => nI (kd_ q i)) (fun i => nI (ls_ q i)) (fun i => nI (oe_ q i)) (fun i => nI (od_ q i)) (fun i => nI (ar_ q i)) (fun i => nI (se_ q i)) (fun i => nI (ol_ q i)) (fun i => nI (pl_ q i)) (fun i => nI (sv i)) (fun i => nI (sw i)) (fun i => nI (pa_ q i)) (fun i => nI (ow_ q i)) (fun i => nI (sl_ q i)) (fun i => nI (lo_ q i)) (lx_ q) (an_ q) (vn_ q) (fun i => nI (lh_ q i)) (cp_ c) (fun i => nI (st_ c i)) (fun i => nI (nc_ c i)) (fun i => nI (cc_ c i)) (fun i => nI (hd_ c i)) (fun i => nI (lt_ q i)) (fun i => nI (hm_ c i)) (fun i => nI (rm_ c i)) (ri_ c) (fun i => nI (rh_ c i)) me (fun i => nI (fs i)) (fun i => nI (fe i)) ot li := by
          intro post h
          refine X0 post (fun _ K hK => ?_) (fun z => absurd rfl z)
          rw [hvv]
          refine xc_go hv1 vl (by omega) (by omega) (by omega) (fun K2 hK2 => ?_)
          rw [n5]
          exact h K2 (fun d hd => hK2 d (hK d hd))
        by_cases hle : tk + nc_ c (od_ q (fl v)) ≤ mT_ q
        · obtain ⟨fc', fs', fe', fl', fi', bi', bm', me', li', bv', bl', hf, hfl, W', X', Y'⟩ := r1 hle
          have u1 := UP_fun (w1 := 0) (w2 := 1) (w3 := 1) (w4 := 0) (w5 := 0) S o2 o3 how
          have u2 := UP_fun (w1 := 1) (w2 := 2) (w3 := 1) (w4 := 1) (w5 := 1) S o2 o3 how
          have p1 := UP_plain (w1 := 0) (w2 := 1) (w3 := 1) (w4 := 0) (w5 := 0) S hP (by omega)
          have p2 := UP_plain (w1 := 1) (w2 := 2) (w3 := 1) (w4 := 1) (w5 := 1) S hP (by omega)
          rw [o5] at u1 u2 X'
          have c2 := cc_2 S o3
          refine oc_run (ip := ip) (fa := fa2) (cu := cu) (pc := fl v + 1) W' ⟨by omega, by omega, by omega, by omega, hle, by omega, ?_⟩ ?_ up_s ho (fun post h => XX post (fun K hK => X' K (hK (ip, -1, cu, fl v + 1, tk + nc_ c (od_ q (fl v)), ou, up_ et yi (if 0 < cc_ c (od_ q (fl v)) then ht else if yi = 0 then 0 else et (fi v)) yi, ht + (if 0 < cc_ c (od_ q (fl v)) then cc_ c (od_ q (fl v)) + 1 else 0), cl + 1, fc', fa2, up_ sv cl cu, up_ sw cl ev, me', fs', fe', ot, li') h))) (fun post h => Y0 post (fun _ y => absurd y hb) (fun _ _ _ y => by omega) (fun _ _ _ _ v' hv' vl' K hK _ => ?_) (fun z => absurd rfl z))
          · rw [sm_tp (f := fun P => UP q 0 1 1 0 0 P), sm_tp (f := fun P => UP q 0 1 1 0 0 P)]
            rw [sm_, hp] at i7
            omega
          · unfold ST_
            unfold SJ at T
            rw [sm_tp (f := fun P => UP q 1 2 1 1 1 P), sm_tp (f := fun P => UP q 1 2 1 1 1 P)]
            rw [sm_, hp] at T
            omega
          · have ev : v' = v := by
              rw [hvv] at hv'
              exact ((nI_eq (by omega) (by omega)).mp hv').symm
            subst ev
            exact Y' K (hK _ _ _ _ _ _ _ _ _ _ _ _ (hfl _ vl) h)
        · obtain ⟨X', Y'⟩ := r2 (by omega)
          refine oc_fin (ss := 5) (fa := nI cu) (cu := cu) (yp := cu) (ip := ip) (pc := pc) (tk' := tk) (yi' := yi) (yf' := fc) (yl' := cl) (yc' := nI cur) (io' := io) (fl' := fl) (fi' := fi) (cx' := cx) (ci' := ci) S W (by omega) ho (by decide) (fun post h => XX post (fun K hK => X' K (hK (ip, 5, cu, pc, tk, ou, fe v, ht, cl + 1, fc, nI cu, up_ sv cl cu, up_ sw cl ev, me, fs, fe, ot, li) h))) (fun post h => Y0 post (fun _ y => absurd y hb) (fun _ _ _ y => by omega) (fun _ _ _ _ v' hv' vl' K _ hK => ?_) (fun z => absurd rfl z))
          have ev : v' = v := by
            rw [hvv] at hv'
            exact ((nI_eq (by omega) (by omega)).mp hv').symm
          subst ev
          exact Y' K (hK (cu, (nI cur), tk, ou, yb, yi, fc, cl, ip, 5, (nI cu), bi, bm, bv, bl, io, fl, fi, cx, ci, yx) h)
  · exact oc_fin0 (yp := cu) S W (by omega) ho z (fun post h => X0 post (fun w => absurd w z) (fun _ => h)) (fun post h => Y0 post (fun w => absurd w z) (fun w => absurd w z) (fun w => absurd w z) (fun _ => h))
end
end
section
section
variable {q : QT} {c : CT} {ip ss fa : Int32} {n cu pc tk ou ev ht cl fc yp cur yb yi : Nat} {sv sw fs fe bi bm fl fi cx ci sg et oi wi kp ps : Nat → Nat} {me ot li bv bl io yx : Nat → Int32}
theorem exe1_ (S : SR q c) (W : (RR q c ev ht cl fc sv sw me fs fe li cur yb yi bi bm bv bl io fl fi cx ci sg et oi wi kp ps (fun _ _ => False))) (I : NI q tk ou ht cl fc yb yi ps) (T : ST_ q n tk cl ps) (hp : ps cl = pc) (hP : pc < nn_ q) (ho : ∀ i, i < ou → yx i = ot i) :
    OC q c (n + 1) (fun post => wpX_execute post (XD q c ip (-1) cu pc tk ou ev ht cl fc fa sv sw me fs fe ot li) (nI pc)) (fun post => wpY_execute post (YD q pc (nI cur) tk ou yb yi fc cl ip (-1) fa bi bm bv bl io fl fi cx ci yx) (nI (kd_ q pc))) := by
  have hn := sr_n S
  have hT := S.2.2.2.2.2.1
  have vP : vp_in (nI pc) 48 := vp_in_nI (by omega) (by omega)
  have k14 := fs_k (sr_f S) pc hP
  have ek : (fun i => nI (kd_ q i)) (nI pc).toNatClampNeg = nI (kd_ q pc) := ga_ rfl (by omega)
  obtain ⟨i1, i2, i3, i4, i5, i6, i7⟩ := I
  have ne : ∀ m, m < 100 → kd_ q pc ≠ m → ¬ nI (kd_ q pc) = nI m := fun m h1 h2 h3 => h2 ((nI_eq (by omega) (by omega)).mp h3)
  by_cases u : kd_ q pc = 5 ∨ kd_ q pc = 9 ∨ kd_ q pc = 14
  · have I0 : NJ q 0 tk ou ht cl fc yb yi ps := ⟨by omega, by omega, by omega, by omega, i5, i6, by omega⟩
    have T0 : SJ q n 0 tk cl ps := by
      unfold SJ
      unfold ST_ at T
      omega
    have base : OC q c (n + 1) (fun post => wX_execute_42 post (nI pc) (nI (kd_ q pc)) 0 1 2 3 0 1 2 3 4 5 (-1) 48 512 (nI (mL_ q)) (nI (mT_ q)) (nI (mD_ q)) (nI (cm_ q)) (nI (nn_ q)) (nI (sp_ q)) (nI (sn_ q)) (nI (oc_ q)) ip (-1) (nI (pc)) (nI ((pc + 1))) (nI (tk)) (nI (ou)) (nI (ev)) (nI (ht)) (nI (cl)) (nI (fc)) fa (fun i => nI (kd_ q i)) (fun i => nI (ls_ q i)) (fun i => nI (oe_ q i)) (fun i => nI (od_ q i)) (fun i => nI (ar_ q i)) (fun i => nI (se_ q i)) (fun i => nI (ol_ q i)) (fun i => nI (pl_ q i)) (fun i => nI (sv i)) (fun i => nI (sw i)) (fun i => nI (pa_ q i)) (fun i => nI (ow_ q i)) (fun i => nI (sl_ q i)) (fun i => nI (lo_ q i)) (lx_ q) (an_ q) (vn_ q) (fun i => nI (lh_ q i)) (cp_ c) (fun i => nI (st_ c i)) (fun i => nI (nc_ c i)) (fun i => nI (cc_ c i)) (fun i => nI (hd_ c i)) (fun i => nI (lt_ q i)) (fun i => nI (hm_ c i)) (fun i => nI (rm_ c i)) (ri_ c) (fun i => nI (rh_ c i)) me (fun i => nI (fs i)) (fun i => nI (fe i)) ot li) (fun post => wY_execute_30 post (nI (kd_ q pc)) (nI (mL_ q)) (nI (mT_ q)) (nI (mD_ q)) (nI (nn_ q)) (nI (pc)) (((nI cur))) (nI (tk)) (nI (ou)) (nI (yb)) (nI (yi)) (nI (fc)) (nI (cl)) ip (-1) fa (nI (cm_ q)) (fun i => nI (kd_ q i)) (fun i => nI (ar_ q (4 * i + 1))) (fun i => nI (ar_ q (4 * i + 2))) (fun i => nI (ar_ q (4 * i + 3))) (fun i => nI (bi i)) (fun i => nI (bm i)) bv bl io (fun i => nI (fl i)) (fun i => nI (fi i)) (fun i => nI (cx i)) (fun i => nI (ci i)) yx) := by
      rcases u with h | h | h
      · exact k5_ S W I0 T0 hp hP h ho rfl rfl rfl
      · exact k9_ S W I0 T0 hp hP h ho rfl rfl rfl
      · exact k14_ S W I0 T0 hp hP h ho rfl rfl rfl
    refine oc_map base (fun post h => ?_) (fun post h => ?_)
    · refine And.intro vP (nm_r ek (nm_r (nI_1 pc) ?_))
      rcases u with h5 | h5 | h5
      · exact br_t (by rw [h5]; rfl) h
      · exact br_f (ne 5 (by omega) (by omega)) (br_t (by rw [h5]; rfl) h)
      · exact br_f (ne 5 (by omega) (by omega)) (br_f (ne 9 (by omega) (by omega)) (br_t (by rw [h5]; rfl) h))
    · rcases u with h5 | h5 | h5
      · exact br_t (by rw [h5]; rfl) h
      · exact br_f (ne 5 (by omega) (by omega)) (br_t (by rw [h5]; rfl) h)
      · exact br_f (ne 5 (by omega) (by omega)) (br_f (ne 9 (by omega) (by omega)) (br_t (by rw [h5]; rfl) h))
  · have X0 : ∀ post : SX → Prop, (tk + 1 ≤ mT_ q → wX_execute_42 post (nI pc) (nI (kd_ q pc)) 0 1 2 3 0 1 2 3 4 5 (-1) 48 512 (nI (mL_ q)) (nI (mT_ q)) (nI (mD_ q)) (nI (cm_ q)) (nI (nn_ q)) (nI (sp_ q)) (nI (sn_ q)) (nI (oc_ q)) ip (-1) (nI (pc)) (nI ((pc + 1))) (nI ((tk + 1))) (nI (ou)) (nI (ev)) (nI (ht)) (nI (cl)) (nI (fc)) fa (fun i => nI (kd_ q i)) (fun i => nI (ls_ q i)) (fun i => nI (oe_ q i)) (fun i => nI (od_ q i)) (fun i => nI (ar_ q i)) (fun i => nI (se_ q i)) (fun i => nI (ol_ q i)) (fun i => nI (pl_ q i)) (fun i => nI (sv i)) (fun i => nI (sw i)) (fun i => nI (pa_ q i)) (fun i => nI (ow_ q i)) (fun i => nI (sl_ q i)) (fun i => nI (lo_ q i)) (lx_ q) (an_ q) (vn_ q) (fun i => nI (lh_ q i)) (cp_ c) (fun i => nI (st_ c i)) (fun i => nI (nc_ c i)) (fun i => nI (cc_ c i)) (fun i => nI (hd_ c i)) (fun i => nI (lt_ q i)) (fun i => nI (hm_ c i)) (fun i => nI (rm_ c i)) (ri_ c) (fun i => nI (rh_ c i)) me (fun i => nI (fs i)) (fun i => nI (fe i)) ot li) → (mT_ q < tk + 1 → post (XD q c ip 5 pc (pc + 1) tk ou ev ht cl fc (nI pc) sv sw me fs fe ot li)) → wpX_execute post (XD q c ip (-1) cu pc tk ou ev ht cl fc fa sv sw me fs fe ot li) (nI pc) := by
      intro post h1 h2
      refine And.intro vP (nm_r ek (nm_r (nI_1 pc) (br_f (ne 5 (by omega) (by omega)) (br_f (ne 9 (by omega) (by omega)) (br_f (ne 14 (by omega) (by omega)) ?_)))))
      refine xw_takeP (k := 1) rfl hT (by omega) (fun z => ?_) (fun z => ?_)
      · exact h1 z
      · exact br_f (by decide) (h2 z)
    have Y0 : ∀ post : SY → Prop, (tk + 1 ≤ mT_ q → wY_execute_30 post (nI (kd_ q pc)) (nI (mL_ q)) (nI (mT_ q)) (nI (mD_ q)) (nI (nn_ q)) (nI (pc)) (((nI cur))) (nI (((tk + 1)))) (nI (ou)) (nI (yb)) (nI (yi)) (nI (fc)) (nI (cl)) ip (-1) fa (nI (cm_ q)) (fun i => nI (kd_ q i)) (fun i => nI (ar_ q (4 * i + 1))) (fun i => nI (ar_ q (4 * i + 2))) (fun i => nI (ar_ q (4 * i + 3))) (fun i => nI (bi i)) (fun i => nI (bm i)) bv bl io (fun i => nI (fl i)) (fun i => nI (fi i)) (fun i => nI (cx i)) (fun i => nI (ci i)) yx) → (mT_ q < tk + 1 → post (YD q pc (nI cur) tk ou yb yi fc cl ip 5 (nI pc) bi bm bv bl io fl fi cx ci yx)) → wpY_execute post (YD q pc (nI cur) tk ou yb yi fc cl ip (-1) fa bi bm bv bl io fl fi cx ci yx) (nI (kd_ q pc)) := by
      intro post h1 h2
      refine br_f (ne 5 (by omega) (by omega)) (br_f (ne 9 (by omega) (by omega)) (br_f (ne 14 (by omega) (by omega)) ?_))
      refine yw_take (k := 1) rfl hT (by omega) (fun z => ?_) (fun z => ?_)
      · exact br_f (by decide) (h1 z)
      · exact br_t rfl (h2 z)
    by_cases hle : tk + 1 ≤ mT_ q
    · have I0 : NJ q 1 (tk + 1) ou ht cl fc yb yi ps := ⟨by omega, by omega, by omega, by omega, hle, i6, by omega⟩
      have T0 : SJ q n 1 (tk + 1) cl ps := by
        unfold SJ
        unfold ST_ at T
        omega
      have base : OC q c (n + 1) (fun post => wX_execute_42 post (nI pc) (nI (kd_ q pc)) 0 1 2 3 0 1 2 3 4 5 (-1) 48 512 (nI (mL_ q)) (nI (mT_ q)) (nI (mD_ q)) (nI (cm_ q)) (nI (nn_ q)) (nI (sp_ q)) (nI (sn_ q)) (nI (oc_ q)) ip (-1) (nI (pc)) (nI ((pc + 1))) (nI ((tk + 1))) (nI (ou)) (nI (ev)) (nI (ht)) (nI (cl)) (nI (fc)) fa (fun i => nI (kd_ q i)) (fun i => nI (ls_ q i)) (fun i => nI (oe_ q i)) (fun i => nI (od_ q i)) (fun i => nI (ar_ q i)) (fun i => nI (se_ q i)) (fun i => nI (ol_ q i)) (fun i => nI (pl_ q i)) (fun i => nI (sv i)) (fun i => nI (sw i)) (fun i => nI (pa_ q i)) (fun i => nI (ow_ q i)) (fun i => nI (sl_ q i)) (fun i => nI (lo_ q i)) (lx_ q) (an_ q) (vn_ q) (fun i => nI (lh_ q i)) (cp_ c) (fun i => nI (st_ c i)) (fun i => nI (nc_ c i)) (fun i => nI (cc_ c i)) (fun i => nI (hd_ c i)) (fun i => nI (lt_ q i)) (fun i => nI (hm_ c i)) (fun i => nI (rm_ c i)) (ri_ c) (fun i => nI (rh_ c i)) me (fun i => nI (fs i)) (fun i => nI (fe i)) ot li) (fun post => wY_execute_30 post (nI (kd_ q pc)) (nI (mL_ q)) (nI (mT_ q)) (nI (mD_ q)) (nI (nn_ q)) (nI (pc)) (((nI cur))) (nI (((tk + 1)))) (nI (ou)) (nI (yb)) (nI (yi)) (nI (fc)) (nI (cl)) ip (-1) fa (nI (cm_ q)) (fun i => nI (kd_ q i)) (fun i => nI (ar_ q (4 * i + 1))) (fun i => nI (ar_ q (4 * i + 2))) (fun i => nI (ar_ q (4 * i + 3))) (fun i => nI (bi i)) (fun i => nI (bm i)) bv bl io (fun i => nI (fl i)) (fun i => nI (fi i)) (fun i => nI (cx i)) (fun i => nI (ci i)) yx) := by
        by_cases h2 : kd_ q pc ≤ 2
        · exact k2_ S W I0 T0 hp hP h2 ho rfl rfl rfl
        by_cases h3 : kd_ q pc = 3
        · exact k3_ S W I0 T0 hp hP h3 ho rfl rfl rfl
        by_cases h4 : kd_ q pc = 4
        · exact k4_ S W I0 T0 hp hP h4 ho rfl rfl rfl
        by_cases h6 : kd_ q pc = 6
        · exact k6_ S W I0 T0 hp hP h6 ho rfl rfl rfl
        by_cases h7 : kd_ q pc = 7
        · exact k7_ S W I0 T0 hp hP h7 ho rfl rfl rfl
        by_cases h8 : kd_ q pc = 8
        · exact k8_ S W I0 T0 hp hP h8 ho rfl rfl rfl
        by_cases h10 : kd_ q pc = 10
        · exact k10_ S W I0 T0 hp hP h10 ho rfl rfl rfl
        by_cases h11 : kd_ q pc = 11
        · exact k11_ S W I0 T0 hp hP h11 ho rfl rfl rfl
        by_cases h12 : kd_ q pc = 12
        · exact k12_ S W I0 T0 hp hP h12 ho rfl rfl rfl
        · exact k13_ S W I0 T0 hp hP (by omega) ho rfl rfl rfl
      exact oc_map base (fun post h => X0 post (fun _ => h) (fun z => by omega)) (fun post h => Y0 post (fun _ => h) (fun z => by omega))
    · exact oc_fin0 (ss := 5) (fa := nI pc) (cu := pc) (pc := pc + 1) (yp := pc) S W (by omega) ho (by decide) (fun post h => X0 post (fun z => absurd z hle) (fun _ => h)) (fun post h => Y0 post (fun z => absurd z hle) (fun _ => h))
end
section
variable {q : QT} {c : CT}
theorem exe_ (S : SR q c) {n : Nat} {d : DT} {e : ET} (h : RUN q c n d e) (hP : pc_ d < nn_ q) : OC q c (n + 1) (fun post => wpX_execute post (XT q c d) (nI (pc_ d))) (fun post => wpY_execute post (YT q e) (nI (kd_ q (pc_ d)))) := by
  obtain ⟨ip, ss, cu, pc, tk, ou, ev, ht, cl, fc, fa, sv, sw, me, fs, fe, ot, li⟩ := d
  obtain ⟨cur, yb, yi, bi, bm, bv, bl, io, fl, fi, cx, ci, yx, sg, et, oi, wi, kp, ps, rfl, W, I, T, hp, hss, ho⟩ := h
  have hss' : ss = -1 := hss
  subst hss'
  exact exe1_ S W I T hp hP ho
end
end
section
section
variable {q : QT} {c : CT}
theorem run_n (S : SR q c) {n : Nat} {d : DT} {e : ET} (h : RUN q c n d e) : n ≤ 800 := by
  obtain ⟨cur, yb, yi, bi, bm, bv, bl, io, fl, fi, cx, ci, yx, sg, et, oi, wi, kp, ps, rfl, W, I, T, hp, hss, ho⟩ := h
  have hT := S.2.2.2.2.2.1
  obtain ⟨i1, i2, i3, i4, i5, i6, i7⟩ := I
  unfold ST_ at T
  omega
theorem xr_fin {d : DT} {post : Int32 → SX → Prop} {n N : Nat} (hn : n ≤ 900) (hs : ss_ d ≠ -1) (hN : 1 ≤ N) (h : post (ss_ d) (XT q c d)) : wX_run_70 post N (nI n) 0 1 2 3 0 1 2 3 4 5 (-1) 48 512 (nI (mL_ q)) (nI (mT_ q)) (nI (mD_ q)) (nI (cm_ q)) (nI (nn_ q)) (nI (sp_ q)) (nI (sn_ q)) (nI (oc_ q)) (in_ d) (ss_ d) (nI (cu_ d)) (nI (pc_ d)) (nI (tk_ d)) (nI (ou_ d)) (nI (ev_ d)) (nI (ht_ d)) (nI (cl_ d)) (nI (fc_ d)) (fa_ d) (fun i => nI (kd_ q i)) (fun i => nI (ls_ q i)) (fun i => nI (oe_ q i)) (fun i => nI (od_ q i)) (fun i => nI (ar_ q i)) (fun i => nI (se_ q i)) (fun i => nI (ol_ q i)) (fun i => nI (pl_ q i)) (fun i => nI (sv_ d i)) (fun i => nI (sw_ d i)) (fun i => nI (pa_ q i)) (fun i => nI (ow_ q i)) (fun i => nI (sl_ q i)) (fun i => nI (lo_ q i)) (lx_ q) (an_ q) (vn_ q) (fun i => nI (lh_ q i)) (cp_ c) (fun i => nI (st_ c i)) (fun i => nI (nc_ c i)) (fun i => nI (cc_ c i)) (fun i => nI (hd_ c i)) (fun i => nI (lt_ q i)) (fun i => nI (hm_ c i)) (fun i => nI (rm_ c i)) (ri_ c) (fun i => nI (rh_ c i)) (me_ d) (fun i => nI (fs_ d i)) (fun i => nI (fe_ d i)) (ot_ d) (li_ d) := by
  cases N with
  | zero => omega
  | succ N =>
    rw [wX_run_70]
    exact br_f (nI_ge (b := 4096) (by omega) (by omega)) (br_f hs (br_f hs h))
theorem yr_fin {e : ET} {post : Int32 → SY → Prop} {n N : Nat} (hn : n ≤ 900) (hs : yr_ e ≠ -1) (hN : 1 ≤ N) (h : post (yr_ e) (YT q e)) : wY_run_75 post N (nI n) (nI (mL_ q)) (nI (mT_ q)) (nI (mD_ q)) (nI (nn_ q)) (nI (yp_ e)) (yc_ e) (nI (yu_ e)) (nI (yo_ e)) (nI (yb_ e)) (nI (yi_ e)) (nI (yf_ e)) (nI (yl_ e)) (yn_ e) (yr_ e) (yt_ e) (nI (cm_ q)) (fun i => nI (kd_ q i)) (fun i => nI (ar_ q (4 * i + 1))) (fun i => nI (ar_ q (4 * i + 2))) (fun i => nI (ar_ q (4 * i + 3))) (fun i => nI (bi_ e i)) (fun i => nI (bm_ e i)) (bv_ e) (bl_ e) (io_ e) (fun i => nI (fl_ e i)) (fun i => nI (fi_ e i)) (fun i => nI (cx_ e i)) (fun i => nI (ci_ e i)) (yx_ e) := by
  cases N with
  | zero => omega
  | succ N =>
    rw [wY_run_75]
    exact br_f (nI_ge (b := 1000000) (by omega) (by omega)) (br_f hs h)
theorem lop_ (S : SR q c) : ∀ (m n : Nat) (d : DT) (e : ET), n + m = 801 → RUN q c n d e → ∃ d' e', FIN q c d' e' ∧ (∀ (post : Int32 → SX → Prop) (N : Nat), m + 3 ≤ N → post (ss_ d') (XT q c d') → wX_run_70 post N (nI n) 0 1 2 3 0 1 2 3 4 5 (-1) 48 512 (nI (mL_ q)) (nI (mT_ q)) (nI (mD_ q)) (nI (cm_ q)) (nI (nn_ q)) (nI (sp_ q)) (nI (sn_ q)) (nI (oc_ q)) (in_ d) (ss_ d) (nI (cu_ d)) (nI (pc_ d)) (nI (tk_ d)) (nI (ou_ d)) (nI (ev_ d)) (nI (ht_ d)) (nI (cl_ d)) (nI (fc_ d)) (fa_ d) (fun i => nI (kd_ q i)) (fun i => nI (ls_ q i)) (fun i => nI (oe_ q i)) (fun i => nI (od_ q i)) (fun i => nI (ar_ q i)) (fun i => nI (se_ q i)) (fun i => nI (ol_ q i)) (fun i => nI (pl_ q i)) (fun i => nI (sv_ d i)) (fun i => nI (sw_ d i)) (fun i => nI (pa_ q i)) (fun i => nI (ow_ q i)) (fun i => nI (sl_ q i)) (fun i => nI (lo_ q i)) (lx_ q) (an_ q) (vn_ q) (fun i => nI (lh_ q i)) (cp_ c) (fun i => nI (st_ c i)) (fun i => nI (nc_ c i)) (fun i => nI (cc_ c i)) (fun i => nI (hd_ c i)) (fun i => nI (lt_ q i)) (fun i => nI (hm_ c i)) (fun i => nI (rm_ c i)) (ri_ c) (fun i => nI (rh_ c i)) (me_ d) (fun i => nI (fs_ d i)) (fun i => nI (fe_ d i)) (ot_ d) (li_ d)) ∧ (∀ (post : Int32 → SY → Prop) (N : Nat), m + 3 ≤ N → post (ss_ d') (YT q e') → wY_run_75 post N (nI n) (nI (mL_ q)) (nI (mT_ q)) (nI (mD_ q)) (nI (nn_ q)) (nI (yp_ e)) (yc_ e) (nI (yu_ e)) (nI (yo_ e)) (nI (yb_ e)) (nI (yi_ e)) (nI (yf_ e)) (nI (yl_ e)) (yn_ e) (yr_ e) (yt_ e) (nI (cm_ q)) (fun i => nI (kd_ q i)) (fun i => nI (ar_ q (4 * i + 1))) (fun i => nI (ar_ q (4 * i + 2))) (fun i => nI (ar_ q (4 * i + 3))) (fun i => nI (bi_ e i)) (fun i => nI (bm_ e i)) (bv_ e) (bl_ e) (io_ e) (fun i => nI (fl_ e i)) (fun i => nI (fi_ e i)) (fun i => nI (cx_ e i)) (fun i => nI (ci_ e i)) (yx_ e)) := by
  have hnn := sr_n S
  intro m
  induction m with
  | zero =>
    intro n d e hm h
    have := run_n S h
    omega
  | succ m ih =>
    intro n d e hm h
    have h800 := run_n S h
    have ssd : ss_ d = -1 := by
      obtain ⟨cur, yb, yi, bi, bm, bv, bl, io, fl, fi, cx, ci, yx, sg, et, oi, wi, kp, ps, he, W, I, T, hp, hss, ho⟩ := h
      exact hss
    have sse : yr_ e = -1 := by
      obtain ⟨cur, yb, yi, bi, bm, bv, bl, io, fl, fi, cx, ci, yx, sg, et, oi, wi, kp, ps, he, W, I, T, hp, hss, ho⟩ := h
      rw [he]
      exact hss
    have ype : yp_ e = pc_ d := by
      obtain ⟨cur, yb, yi, bi, bm, bv, bl, io, fl, fi, cx, ci, yx, sg, et, oi, wi, kp, ps, he, W, I, T, hp, hss, ho⟩ := h
      rw [he]
      rfl
    have pcn : pc_ d ≤ nn_ q := by
      obtain ⟨cur, yb, yi, bi, bm, bv, bl, io, fl, fi, cx, ci, yx, sg, et, oi, wi, kp, ps, he, W, I, T, hp, hss, ho⟩ := h
      rw [← hp]
      exact (rr_top W).2.1
    by_cases hP : pc_ d < nn_ q
    · have step : ∀ d1 e1, (∃ d' e', FIN q c d' e' ∧ (∀ (post : Int32 → SX → Prop) (N : Nat), m + 3 ≤ N → post (ss_ d') (XT q c d') → wX_run_70 post N (nI (n + 1)) 0 1 2 3 0 1 2 3 4 5 (-1) 48 512 (nI (mL_ q)) (nI (mT_ q)) (nI (mD_ q)) (nI (cm_ q)) (nI (nn_ q)) (nI (sp_ q)) (nI (sn_ q)) (nI (oc_ q)) (in_ d1) (ss_ d1) (nI (cu_ d1)) (nI (pc_ d1)) (nI (tk_ d1)) (nI (ou_ d1)) (nI (ev_ d1)) (nI (ht_ d1)) (nI (cl_ d1)) (nI (fc_ d1)) (fa_ d1) (fun i => nI (kd_ q i)) (fun i => nI (ls_ q i)) (fun i => nI (oe_ q i)) (fun i => nI (od_ q i)) (fun i => nI (ar_ q i)) (fun i => nI (se_ q i)) (fun i => nI (ol_ q i)) (fun i => nI (pl_ q i)) (fun i => nI (sv_ d1 i)) (fun i => nI (sw_ d1 i)) (fun i => nI (pa_ q i)) (fun i => nI (ow_ q i)) (fun i => nI (sl_ q i)) (fun i => nI (lo_ q i)) (lx_ q) (an_ q) (vn_ q) (fun i => nI (lh_ q i)) (cp_ c) (fun i => nI (st_ c i)) (fun i => nI (nc_ c i)) (fun i => nI (cc_ c i)) (fun i => nI (hd_ c i)) (fun i => nI (lt_ q i)) (fun i => nI (hm_ c i)) (fun i => nI (rm_ c i)) (ri_ c) (fun i => nI (rh_ c i)) (me_ d1) (fun i => nI (fs_ d1 i)) (fun i => nI (fe_ d1 i)) (ot_ d1) (li_ d1)) ∧ (∀ (post : Int32 → SY → Prop) (N : Nat), m + 3 ≤ N → post (ss_ d') (YT q e') → wY_run_75 post N (nI (n + 1)) (nI (mL_ q)) (nI (mT_ q)) (nI (mD_ q)) (nI (nn_ q)) (nI (yp_ e1)) (yc_ e1) (nI (yu_ e1)) (nI (yo_ e1)) (nI (yb_ e1)) (nI (yi_ e1)) (nI (yf_ e1)) (nI (yl_ e1)) (yn_ e1) (yr_ e1) (yt_ e1) (nI (cm_ q)) (fun i => nI (kd_ q i)) (fun i => nI (ar_ q (4 * i + 1))) (fun i => nI (ar_ q (4 * i + 2))) (fun i => nI (ar_ q (4 * i + 3))) (fun i => nI (bi_ e1 i)) (fun i => nI (bm_ e1 i)) (bv_ e1) (bl_ e1) (io_ e1) (fun i => nI (fl_ e1 i)) (fun i => nI (fi_ e1 i)) (fun i => nI (cx_ e1 i)) (fun i => nI (ci_ e1 i)) (yx_ e1))) →
          (∀ post, post (XT q c d1) → wpX_execute post (XT q c d) (nI (pc_ d))) → (∀ post, post (YT q e1) → wpY_execute post (YT q e) (nI (kd_ q (pc_ d)))) →
          ∃ d' e', FIN q c d' e' ∧ (∀ (post : Int32 → SX → Prop) (N : Nat), m + 1 + 3 ≤ N → post (ss_ d') (XT q c d') → wX_run_70 post N (nI n) 0 1 2 3 0 1 2 3 4 5 (-1) 48 512 (nI (mL_ q)) (nI (mT_ q)) (nI (mD_ q)) (nI (cm_ q)) (nI (nn_ q)) (nI (sp_ q)) (nI (sn_ q)) (nI (oc_ q)) (in_ d) (ss_ d) (nI (cu_ d)) (nI (pc_ d)) (nI (tk_ d)) (nI (ou_ d)) (nI (ev_ d)) (nI (ht_ d)) (nI (cl_ d)) (nI (fc_ d)) (fa_ d) (fun i => nI (kd_ q i)) (fun i => nI (ls_ q i)) (fun i => nI (oe_ q i)) (fun i => nI (od_ q i)) (fun i => nI (ar_ q i)) (fun i => nI (se_ q i)) (fun i => nI (ol_ q i)) (fun i => nI (pl_ q i)) (fun i => nI (sv_ d i)) (fun i => nI (sw_ d i)) (fun i => nI (pa_ q i)) (fun i => nI (ow_ q i)) (fun i => nI (sl_ q i)) (fun i => nI (lo_ q i)) (lx_ q) (an_ q) (vn_ q) (fun i => nI (lh_ q i)) (cp_ c) (fun i => nI (st_ c i)) (fun i => nI (nc_ c i)) (fun i => nI (cc_ c i)) (fun i => nI (hd_ c i)) (fun i => nI (lt_ q i)) (fun i => nI (hm_ c i)) (fun i => nI (rm_ c i)) (ri_ c) (fun i => nI (rh_ c i)) (me_ d) (fun i => nI (fs_ d i)) (fun i => nI (fe_ d i)) (ot_ d) (li_ d)) ∧ (∀ (post : Int32 → SY → Prop) (N : Nat), m + 1 + 3 ≤ N → post (ss_ d') (YT q e') → wY_run_75 post N (nI n) (nI (mL_ q)) (nI (mT_ q)) (nI (mD_ q)) (nI (nn_ q)) (nI (yp_ e)) (yc_ e) (nI (yu_ e)) (nI (yo_ e)) (nI (yb_ e)) (nI (yi_ e)) (nI (yf_ e)) (nI (yl_ e)) (yn_ e) (yr_ e) (yt_ e) (nI (cm_ q)) (fun i => nI (kd_ q i)) (fun i => nI (ar_ q (4 * i + 1))) (fun i => nI (ar_ q (4 * i + 2))) (fun i => nI (ar_ q (4 * i + 3))) (fun i => nI (bi_ e i)) (fun i => nI (bm_ e i)) (bv_ e) (bl_ e) (io_ e) (fun i => nI (fl_ e i)) (fun i => nI (fi_ e i)) (fun i => nI (cx_ e i)) (fun i => nI (ci_ e i)) (yx_ e)) := by
        intro d1 e1 hh hX hY
        obtain ⟨d', e', F, A, B⟩ := hh
        refine ⟨d', e', F, fun post N hN h => ?_, fun post N hN h => ?_⟩
        · cases N with
          | zero => omega
          | succ N =>
            rw [wX_run_70]
            refine br_f (nI_ge (b := 4096) (by omega) (by omega)) (br_t ssd (br_f (nI_ge hP (by omega)) ?_))
            exact hX _ (nm_r (nI_1 n) (A post N (by omega) h))
        · cases N with
          | zero => omega
          | succ N =>
            rw [wY_run_75]
            refine br_f (nI_ge (b := 1000000) (by omega) (by omega)) (br_t sse ?_)
            rw [ype]
            refine br_f (nI_pos (by omega)) (br_t (nI_lt hP (by omega)) ⟨vp_in_nI (by omega) (by omega), ?_⟩)
            rw [nI_clamp (n := pc_ d) (by omega), ← ype]
            rw [← ype] at hY
            exact hY _ (nm_r (nI_1 n) (B post N (by omega) h))
      rcases exe_ S h hP with ⟨d1, e1, R1, hX, hY⟩ | ⟨d1, e1, F1, hX, hY⟩
      · exact step d1 e1 (ih (n + 1) d1 e1 (by omega) R1) hX hY
      · refine step d1 e1 ⟨d1, e1, F1, fun post N hN h => xr_fin (by omega) F1.1 (by omega) h, fun post N hN h => yr_fin (by omega) (by rw [F1.2.1]; exact F1.1) (by omega) (by rw [F1.2.1]; exact h)⟩ hX hY
    · obtain ⟨ip, ss, cu, pc, tk, ou, ev, ht, cl, fc, fa, sv, sw, me, fs, fe, ot, li⟩ := d
      obtain ⟨cur, yb, yi, bi, bm, bv, bl, io, fl, fi, cx, ci, yx, sg, et, oi, wi, kp, ps, rfl, W, I, T, hp, hss, ho⟩ := h
      have hT := S.2.2.2.2.2.1
      obtain ⟨i1, i2, i3, i4, i5, i6, i7⟩ := I
      have B := rr_b W
      have z := rr_z W
      have ou2 : ou ≤ tk := i3
      have tk2 : tk ≤ mT_ q := i5
      have pc2 : ¬ pc < nn_ q := hP
      have pc3 : pc ≤ nn_ q := pcn
      have hbb : ∀ b, b < yb → bi b < 1000 ∧ bm b < 8 := fun b hb => ⟨by have := (B.1 b hb).1; omega, by have := (B.1 b hb).2.1; omega⟩
      refine ⟨(ip, 0, cu, pc, tk, ou, ev, ht, cl, fc, fa, sv, sw, me, fs, fe, ot, li), (pc, (nI cur), tk, ou, yb, yi, fc, cl, ip, 0, fa, bi, bm, bv, bl, io, fl, fi, cx, ci, yx), ⟨show (0 : Int32) ≠ -1 by decide, rfl, rfl, rfl, show ou ≤ 200 by omega, ho, z.2.1, hbb, rr_sv S W⟩, fun post N hN h => ?_, fun post N hN h => ?_⟩
      · cases N with
        | zero => omega
        | succ N =>
          rw [wX_run_70]
          exact br_f (nI_ge (b := 4096) (by omega) (by omega)) (br_t hss (br_t (nI_le (show nn_ q ≤ pc by omega) (show pc < 2 ^ 31 by omega)) (br_t hss h)))
      · cases N with
        | zero => omega
        | succ N =>
          rw [wY_run_75]
          refine br_f (nI_ge (b := 1000000) (by omega) (by omega)) (br_t sse (br_f (nI_pos (show pc < 2 ^ 31 by omega)) (br_f (nI_nlt (show nn_ q ≤ pc by omega) (show pc < 2 ^ 31 by omega)) (nm_r (nI_1 n) ?_))))
          exact yr_fin (q := q) (e := (pc, (nI cur), tk, ou, yb, yi, fc, cl, ip, 0, fa, bi, bm, bv, bl, io, fl, fi, cx, ci, yx)) (by omega) (show (0 : Int32) ≠ -1 by decide) (by omega) h
end
end
section
section
variable {q : QT} {c : CT}
theorem L0_ (S : SR q c) : Lq_ q 0 = 0 := by
  have y := fs_y (sr_f S) 0 (Nat.zero_le _)
  have le := eo_le (kd_ q) 0
  unfold sc_ sy_ at y
  rw [if_pos (show eo_ (kd_ q) 0 = 0 by omega)] at y
  apply Classical.byContradiction
  intro z
  rw [if_neg z] at y
  omega
theorem UP_0 {w1 w2 w3 w4 w5 : Nat} (S : SR q c) : UP q w1 w2 w3 w4 w5 0 ≤ w5 * nc_ c 0 := by
  have s0 : 0 < sn_ q := by have := (fs_b (sr_f S)).2.1; omega
  have rn := mul_nc (w := w5) (rf_nc S s0 (Nat.zero_le (nn_ q)))
  unfold UP
  rw [L0_ S, po_it S s0, if_pos (fs_r (sr_f S)).2.1]
  unfold uu_
  rw [if_pos rfl]
  omega
theorem beg_ (S : SR q c) (hc : cm_ q ≤ 1) (hcm : cm_ q ≠ 0) (d : DT) (e : ET) (v1 : Int32) : ∃ d' e', FIN q c d' e' ∧ (∀ post : Int32 → SX → Prop, post (ss_ d') (XT q c d') → wpX_run post (XT q c d) v1) ∧ (∀ post : Int32 → SY → Prop, post (ss_ d') (YT q e') → wpY_run post (YT q e) v1) := by
  obtain ⟨ip, ss, cu, pc, tk, ou, ev, ht, cl, fc, fa, sv, sw, me, fs, fe, ot, li⟩ := d
  obtain ⟨yp, yc, yu, yo, yb, yi, yf, yl, yn, yr, yt, bi, bm, bv, bl, io, fl, fi, cx, ci, yx⟩ := e
  have hT := S.2.2.2.2.1
  have hT2 := S.2.2.2.2.2.1
  have s0 : 0 < sn_ q := by have := (fs_b (sr_f S)).2.1; omega
  have ow0 := (fs_r (sr_f S)).2.1
  have cn := cc_nc S s0
  have c2 := cc_2 S s0
  have m0 : mo_ (sc_ (sl_ q) 0) = -1 := by
    unfold sc_
    rw [if_pos rfl, mo_0]
  obtain ⟨r1, -⟩ := ent_ (q := q) (c := c) (yl := 0) (cy := cx) (cj := ci) (ly := -1) (line := 0) (cl := 0) (ip := v1) (ss := -1) (fa := -1) (cu := cu) (pc := pc) (tk := 0) (ou := 0) (ev := 0) (ht := 512) (fc := 0) (ot := ot) (yp := 0) (yx := yx) (yb := 0) (yi := 0) (kp := fun _ => 0) (ps := fun _ => 0) (ci := ci) (cx := cx) (sv := sv) (sw := sw) (yc := -1) (ov := -1) (o := 0) (s := 0) (P' := 0) (io := io) (me := me) (li := li) (bi := bi) (bm := bm) (bv := bv) (bl := bl) (fs := fs) (fe := fe) (fl := fl) (fi := fi) (sg := fun _ => 0) (et := fun _ => 0) (oi := fun _ => 0) (wi := fun _ => 0)
    S ⟨rfl, rfl, rfl, fun i hi => absurd hi (Nat.not_lt_zero _), fun i j _ hj => absurd hj (Nat.not_lt_zero _)⟩ ⟨fun b hb => absurd hb (Nat.not_lt_zero _), fun i x hi => absurd hi (Nat.not_lt_zero _), fun b b' hb => absurd hb (Nat.not_lt_zero _), fun i hi => absurd hi (Nat.not_lt_zero _)⟩
    (fun b hb => absurd hb (Nat.not_lt_zero _)) (fun b hb => absurd hb (Nat.not_lt_zero _)) (fun i _ hi => absurd hi (Nat.not_lt_zero _)) (fun v h1 h2 => by omega) (fun k hk => absurd hk (Nat.not_lt_zero _)) s0 rfl (fun _ => ⟨rfl, rfl⟩) (fun z => absurd z (Nat.lt_irrefl _)) rfl rfl (fun _ z => absurd z (Nat.lt_irrefl _)) (fun _ => ⟨rfl, rfl⟩)
    (Nat.zero_le _) (L0_ S).symm (fun z => absurd rfl z) (fun _ => rfl) (fun _ z => absurd z (Nat.lt_irrefl _)) (fun z => absurd ow0 z) rfl rfl rfl rfl rfl ⟨fun k hk => absurd hk (Nat.not_lt_zero _), by rw [up_s, up_s]; split <;> rfl⟩ (by omega) (by omega) (fun _ => by omega) (by omega) (by omega) (by omega) (by omega) (fun z => absurd z (Nat.lt_irrefl _))
  obtain ⟨fc', fs', fe', fl', fi', bi', bm', me', li', bv', bl', hf, -, W', X', Y'⟩ := r1 (by omega)
  have u1 := UP_0 (w1 := 0) (w2 := 1) (w3 := 1) (w4 := 0) (w5 := 0) S
  have u2 := UP_0 (w1 := 1) (w2 := 2) (w3 := 1) (w4 := 1) (w5 := 1) S
  rw [m0] at Y'
  have I1 : NI q (0 + nc_ c 0) 0 (512 + (if 0 < cc_ c 0 then cc_ c 0 + 1 else 0)) 0 fc' (0 + nc_ c 0) (0 + 1) (up_ (fun _ => 0) 0 0) := by
    refine ⟨Nat.le_refl _, by omega, by omega, by omega, by omega, by omega, ?_⟩
    rw [sm_tp (f := fun P => UP q 0 1 1 0 0 P)]
    show 0 + 1 + (0 + UP q 0 1 1 0 0 0) ≤ _
    omega
  have T1 : ST_ q 0 (0 + nc_ c 0) 0 (up_ (fun _ => 0) 0 0) := by
    unfold ST_
    rw [sm_tp (f := fun P => UP q 1 2 1 1 1 P)]
    show 0 + (0 + UP q 1 2 1 1 1 0) ≤ _
    omega
  have RU : RUN q c 0 (v1, -1, cu, 0, 0 + nc_ c 0, 0, up_ (fun _ => 0) 0 (if 0 < cc_ c 0 then 512 else if 0 = 0 then 0 else 0) 0, 512 + (if 0 < cc_ c 0 then cc_ c 0 + 1 else 0), 0, fc', -1, sv, sw, me', fs', fe', ot, li') (0, nI 0, 0 + nc_ c 0, 0, 0 + nc_ c 0, 0 + 1, fc', 0, v1, -1, -1, bi', bm', bv', bl', upd io 0 (-1), fl', fi', cx, ci, yx) :=
    ⟨0, 0 + nc_ c 0, 0 + 1, bi', bm', bv', bl', upd io 0 (-1), fl', fi', cx, ci, yx, _, _, _, _, _, _, rfl, W', I1, T1, up_s, rfl, fun i hi => absurd hi (Nat.not_lt_zero _)⟩
  obtain ⟨d', e', F, A, B⟩ := lop_ S 801 0 _ _ (by omega) RU
  refine ⟨d', e', F, fun post h => cm1 hc hcm ?_, fun post h => cm1 hc hcm ?_⟩
  · exact X' _ ⟨804, A post 804 (by omega) h⟩
  · exact Y' _ ⟨804, B post 804 (by omega) h⟩
end
end
section
section
def RE (q : QT) (c : CT) (d : DT) (e : ET) : Prop := yo_ e = ou_ d ∧ ou_ d ≤ 200 ∧ (∀ i, i < ou_ d → yx_ e i = ot_ d i) ∧ yt_ e = fa_ d ∧ yb_ e ≤ 250 ∧ (∀ b, b < yb_ e → bi_ e b < 1000 ∧ bm_ e b < 8) ∧ (SV q c (yb_ e) (bi_ e) (bm_ e) (bv_ e) (bl_ e) (me_ d) ∨ (yb_ e = 0 ∧ ∀ a, me_ d a = 0))
def IR (q : QT) (c : CT) (d : DT) (e : ET) : Prop := GQ q ∧ 16 ≤ mT_ q ∧ mT_ q ≤ 200 ∧ 1 ≤ mD_ q ∧ mD_ q ≤ 8 ∧ (cm_ q = 0 → c = c0_ ∧ yb_ e = 0 ∧ ∀ a, me_ d a = 0) ∧ (cm_ q ≠ 0 → oc_ q = 0 ∧ CM q c) ∧ RE q c d e
def i_Rel (k : Nat) (u : SX) (v : SY) : Prop := ∃ q c d e, u = XT q c d ∧ v = YT q e ∧ IR q c d e
theorem i_up {k : Nat} {u : SX} {v : SY} (h : i_Rel k u v) : i_Rel (k + 5) u v := h
theorem fo_ir {q : QT} {c : CT} {d : DT} {e : ET} {WX : (Int32 → SX → Prop) → Prop} {WY : (Int32 → SY → Prop) → Prop} (k : Nat) (H : IR q c d e) (F : FO q c d e WX WY) : WX (fun r u' => WY (fun r' v' => r' = r ∧ i_Rel k u' v')) := by
  rcases F with ⟨r, a, b⟩ | ⟨h0, hl, r, q', K, a, b⟩
  · exact a _ (b _ ⟨rfl, q, c, d, e, rfl, rfl, H⟩)
  · obtain ⟨⟨g1, g2, g3, g4⟩, h1, h2, h3, h4, h5, h6, e1, e2, e3, e4, e5, e6, -⟩ := H
    obtain ⟨k1, k2, k3, k4, k5, k6, k7⟩ := K
    have c0 := h5 h0
    exact a _ (b _ ⟨rfl, q', c, d, e, rfl, rfl, ⟨k1, k2, by omega, by omega⟩, by omega, by omega, by omega, by omega, fun _ => c0, fun z => absurd (k6.trans h0) z, e1, e2, e3, e4, e5, e6, Or.inr c0.2⟩)
theorem i_vc_put {k : Nat} {u : SX} {v : SY} (I : i_Rel k u v) (hk : k + 5 ≤ 2563) (v1 : Int32) (v2 : Int32) (v3 : Int32) (v4 : Int32) : wpX_put (fun r u' => wpY_put (fun r' v' => r' = r ∧ i_Rel (k + 5) u' v') v v1 v2 v3 v4) u v1 v2 v3 v4 := by
  obtain ⟨q, c, d, e, rfl, rfl, H⟩ := I
  exact fo_ir (k + 5) H (fo_put H.1 v1 v2 v3 v4)
theorem i_vc_act {k : Nat} {u : SX} {v : SY} (I : i_Rel k u v) (hk : k + 5 ≤ 2563) (v1 : Int32) (v2 : Int32) (v3 : Int32) : wpX_act (fun r u' => wpY_act (fun r' v' => r' = r ∧ i_Rel (k + 5) u' v') v v1 v2 v3) u v1 v2 v3 := by
  obtain ⟨q, c, d, e, rfl, rfl, H⟩ := I
  exact fo_ir (k + 5) H (fo_act H.1 v1 v2 v3)
theorem i_vc_openFunction {k : Nat} {u : SX} {v : SY} (I : i_Rel k u v) (hk : k + 5 ≤ 2563) (v1 : Int32) (v2 : Int32) : wpX_openFunction (fun r u' => wpY_openFunction (fun r' v' => r' = r ∧ i_Rel (k + 5) u' v') v v1 v2) u v1 v2 := by
  obtain ⟨q, c, d, e, rfl, rfl, H⟩ := I
  exact fo_ir (k + 5) H (fo_openFunction H.1 v1 v2)
theorem i_vc_openBlock {k : Nat} {u : SX} {v : SY} (I : i_Rel k u v) (hk : k + 5 ≤ 2563) (v1 : Int32) (v2 : Int32) : wpX_openBlock (fun r u' => wpY_openBlock (fun r' v' => r' = r ∧ i_Rel (k + 5) u' v') v v1 v2) u v1 v2 := by
  obtain ⟨q, c, d, e, rfl, rfl, H⟩ := I
  exact fo_ir (k + 5) H (fo_openBlock H.1 v1 v2)
theorem i_vc_openFor {k : Nat} {u : SX} {v : SY} (I : i_Rel k u v) (hk : k + 5 ≤ 2563) : wpX_openFor (fun r u' => wpY_openFor (fun r' v' => r' = r ∧ i_Rel (k + 5) u' v') v) u := by
  obtain ⟨q, c, d, e, rfl, rfl, H⟩ := I
  exact fo_ir (k + 5) H (fo_openFor H.1)
theorem i_vc_part {k : Nat} {u : SX} {v : SY} (I : i_Rel k u v) (hk : k + 5 ≤ 2563) : wpX_part (fun r u' => wpY_part (fun r' v' => r' = r ∧ i_Rel (k + 5) u' v') v) u := by
  obtain ⟨q, c, d, e, rfl, rfl, H⟩ := I
  exact fo_ir (k + 5) H (fo_part H.1)
theorem i_vc_condition {k : Nat} {u : SX} {v : SY} (I : i_Rel k u v) (hk : k + 5 ≤ 2563) (v1 : Int32) (v2 : Int32) : wpX_condition (fun r u' => wpY_condition (fun r' v' => r' = r ∧ i_Rel (k + 5) u' v') v v1 v2) u v1 v2 := by
  obtain ⟨q, c, d, e, rfl, rfl, H⟩ := I
  exact fo_ir (k + 5) H (fo_condition H.1 v1 v2)
theorem i_vc_jump {k : Nat} {u : SX} {v : SY} (I : i_Rel k u v) (hk : k + 5 ≤ 2563) (v1 : Int32) : wpX_jump (fun r u' => wpY_jump (fun r' v' => r' = r ∧ i_Rel (k + 5) u' v') v v1) u v1 := by
  obtain ⟨q, c, d, e, rfl, rfl, H⟩ := I
  exact fo_ir (k + 5) H (fo_jump H.1 v1)
theorem i_vc_end {k : Nat} {u : SX} {v : SY} (I : i_Rel k u v) (hk : k + 5 ≤ 2563) : wpX_end (fun r u' => wpY_end (fun r' v' => r' = r ∧ i_Rel (k + 5) u' v') v) u := by
  obtain ⟨q, c, d, e, rfl, rfl, H⟩ := I
  exact fo_ir (k + 5) H (fo_end H.1)
theorem i_vc_outCount {k : Nat} {u : SX} {v : SY} (I : i_Rel k u v) (hk : k + 5 ≤ 2563) : wpX_outCount (fun r => wpY_outCount (fun r' => r' = r ∧ i_Rel (k + 5) u v) v) u := by
  obtain ⟨q, c, d, e, rfl, rfl, H⟩ := I
  obtain ⟨e1, -⟩ := H.2.2.2.2.2.2.2
  exact ⟨by rw [e1], q, c, d, e, rfl, rfl, H⟩
theorem i_vc_output {k : Nat} {u : SX} {v : SY} (I : i_Rel k u v) (hk : k + 5 ≤ 2563) (v1 : Int32) : wpX_output (fun r => wpY_output (fun r' => r' = r ∧ i_Rel (k + 5) u v) v v1) u v1 := by
  obtain ⟨q, c, d, e, rfl, rfl, H⟩ := I
  have J : i_Rel (k + 5) (XT q c d) (YT q e) := ⟨q, c, d, e, rfl, rfl, H⟩
  obtain ⟨e1, e2, e3, -⟩ := H.2.2.2.2.2.2.2
  have Y0 : ∀ post : Int32 → Prop, (v1 < 0 → post 0) → (nI (ou_ d) ≤ v1 → post 0) → (∀ j, j < ou_ d → v1 = nI j → post (ot_ d j)) → wpY_output post (YT q e) v1 := by
    intro post h1 h2 h3
    refine br_c h1 (fun z => ?_)
    rcases pk_ix v1 (n := ou_ d) (by omega) with y | y | ⟨j, j1, j2⟩
    · exact absurd y z
    · refine br_f (fun w => ?_) (h2 y)
      rw [e1] at w
      rw [Int32.le_iff_toInt_le] at y
      rw [Int32.lt_iff_toInt_lt] at w
      omega
    · rw [e1]
      subst j2
      refine br_t (nI_lt j1 (by omega)) ⟨vp_in_nI (by omega) (by omega), ?_⟩
      rw [nI_clamp (by omega), e3 j j1]
      exact h3 j j1 rfl
  refine br_c (fun z => Y0 _ (fun _ => ⟨rfl, J⟩) (fun w => ⟨rfl, J⟩) (fun j j1 j2 => ?_)) (fun z => br_c (fun y => Y0 _ (fun w => absurd w z) (fun _ => ⟨rfl, J⟩) (fun j j1 j2 => ?_)) (fun y => ?_))
  · subst j2
    exact absurd z (nI_pos (by omega))
  · subst j2
    exact absurd y (nI_ge j1 (by omega))
  · rcases pk_ix v1 (n := ou_ d) (by omega) with w | w | ⟨j, j1, j2⟩
    · exact absurd w z
    · exact absurd w y
    · subst j2
      refine And.intro (vp_in_nI (by omega) (by omega)) ?_
      rw [nI_clamp (by omega)]
      refine Y0 _ (fun w => absurd w z) (fun w => absurd w y) (fun j' h1 h2 => ⟨?_, J⟩)
      rw [(nI_eq (by omega) (by omega)).mp h2]
theorem i_vc_faultLine {k : Nat} {u : SX} {v : SY} (I : i_Rel k u v) (hk : k + 5 ≤ 2563) : wpX_faultLine (fun r => wpY_faultLine (fun r' => r' = r ∧ i_Rel (k + 5) u v) v) u := by
  obtain ⟨q, c, d, e, rfl, rfl, H⟩ := I
  exact ⟨H.2.2.2.2.2.2.2.2.2.2.1, q, c, d, e, rfl, rfl, H⟩
theorem i_vc_lineField {k : Nat} {u : SX} {v : SY} (I : i_Rel k u v) (hk : k + 5 ≤ 2563) (v1 : Int32) (v2 : Int32) : wpX_lineField (fun r => wpY_lineField (fun r' => r' = r ∧ i_Rel (k + 5) u v) v v1 v2) u v1 v2 := by
  obtain ⟨q, c, d, e, rfl, rfl, H⟩ := I
  have J : i_Rel (k + 5) (XT q c d) (YT q e) := ⟨q, c, d, e, rfl, rfl, H⟩
  have hn := fq_n H.1.1
  refine br_c (fun z => br_t z ⟨rfl, J⟩) (fun z => br_c (fun y => br_f z (br_t y ⟨rfl, J⟩)) (fun y => br_c (fun x => br_f z (br_f y (br_t x ⟨rfl, J⟩))) (fun x => br_c (fun w => ?_) (fun w => br_f z (br_f y (br_f x (br_f w ⟨rfl, J⟩)))))))
  obtain ⟨p, p1, p2⟩ : ∃ p, p < nn_ q ∧ v1 = nI p := by
    rcases pk_ix v1 (n := nn_ q) (by omega) with a | a | a
    · exact absurd a z
    · exact absurd a y
    · exact a
  obtain ⟨p', p3, p4⟩ := nI_of2 (M := 3) (n := 3) (by decide) x w
  subst p2 p4
  have vp : vp_in (nI p) 48 := vp_in_nI (by omega) (by omega)
  have e4 : (4 : Int32) * nI p + nI p' = nI (4 * p + p') := m4_ p p'
  have ne : ∀ m, m < 100 → p' ≠ m → ¬ nI p' = nI m := fun m h1 h2 h3 => h2 ((nI_eq (by omega) (by omega)).mp h3)
  have v4 : vp_in ((4 : Int32) * nI p + nI p') 192 := pk_in (4 * p + p') 192 (by omega) e4 (by omega)
  have ear : (fun i => nI (ar_ q i)) ((4 : Int32) * nI p + nI p').toNatClampNeg = nI (ar_ q (4 * p + p')) := ga_ (f := ar_ q) e4 (by omega)
  have cases4 : p' = 0 ∨ p' = 1 ∨ p' = 2 ∨ p' = 3 := by omega
  rcases cases4 with e0 | e0 | e0 | e0
  · exact br_t (by rw [e0]; rfl) ⟨vp, br_f z (br_f y (br_f x (br_t w (br_t (by rw [e0]; rfl) ⟨vp, rfl, J⟩))))⟩
  · refine br_f (ne 0 (by omega) (by omega)) ⟨v4, br_f z (br_f y (br_f x (br_t w (br_f (ne 0 (by omega) (by omega)) (br_t (by rw [e0]; rfl) ⟨vp, ?_, J⟩)))))⟩
    exact (gf_1 (by omega)).trans (by rw [ear, e0])
  · refine br_f (ne 0 (by omega) (by omega)) ⟨v4, br_f z (br_f y (br_f x (br_t w (br_f (ne 0 (by omega) (by omega)) (br_f (ne 1 (by omega) (by omega)) (br_t (by rw [e0]; rfl) ⟨vp, ?_, J⟩))))))⟩
    exact (gf_2 (by omega)).trans (by rw [ear, e0])
  · refine br_f (ne 0 (by omega) (by omega)) ⟨v4, br_f z (br_f y (br_f x (br_t w (br_f (ne 0 (by omega) (by omega)) (br_f (ne 1 (by omega) (by omega)) (br_f (ne 2 (by omega) (by omega)) ⟨vp, ?_, J⟩))))))⟩
    exact (gf_3 (by omega)).trans (by rw [ear, e0])
theorem i_vc_run {k : Nat} {u : SX} {v : SY} (I : i_Rel k u v) (hk : k + 5 ≤ 2563) (v1 : Int32) : wpX_run (fun r u' => wpY_run (fun r' v' => r' = r ∧ i_Rel (k + 5) u' v') v v1) u v1 := by
  obtain ⟨q, c, d, e, rfl, rfl, H⟩ := I
  have H0 := H
  obtain ⟨⟨g1, g2, g3, g4⟩, h1, h2, h3, h4, h5, h6, -⟩ := H
  by_cases z : cm_ q = 0
  · exact cm0 z (cm0 z ⟨rfl, q, c, d, e, rfl, rfl, H0⟩)
  · obtain ⟨o, C⟩ := h6 z
    obtain ⟨d', e', ⟨f1, f2, f3, f4, f5, f6, f7, f8, f9⟩, A, B⟩ := beg_ ⟨g1, g2, o, C, h1, h2, h3, h4⟩ g4 z d e v1
    exact A _ (B _ ⟨rfl, q, c, d', e', rfl, rfl, ⟨g1, g2, g3, g4⟩, h1, h2, h3, h4, fun w => absurd w z, h6, f4, f5, f6, f3, f7, f8, Or.inl f9⟩)
theorem i_vc_compile {k : Nat} {u : SX} {v : SY} (I : i_Rel k u v) (hk : k + 5 ≤ 2563) : wpX_compile (fun r u' => wpY_compile (fun r' v' => r' = r ∧ i_Rel (k + 5) u' v') v) u := by
  obtain ⟨q, c, d, e, rfl, rfl, H⟩ := I
  have H0 := H
  obtain ⟨⟨g1, g2, g3, g4⟩, h1, h2, h3, h4, h5, h6, e1, e2, e3, e4, e5, e6, -⟩ := H
  have hn := fq_n g1
  have ob := (fs_b g1).2.2.2.1
  by_cases z : cm_ q = 0
  · obtain ⟨rfl, y0, m0⟩ := h5 z
    have t := (fs_t g1).1
    have Y0 : ∀ post : Int32 → SY → Prop, (oc_ q = 0 → post (nI (nn_ q)) (YT (mL_ q, mT_ q, mD_ q, 1, nn_ q, sp_ q, sn_ q, oc_ q, kd_ q, ls_ q, oe_ q, od_ q, ar_ q, se_ q, ol_ q, pl_ q, pa_ q, ow_ q, sl_ q, lo_ q, lh_ q, lt_ q, lx_ q, an_ q, vn_ q) e)) → (oc_ q ≠ 0 → post (-7) (YT q e)) → wpY_compile post (YT q e) := by
      intro post a b
      refine cm0 z ?_
      refine yw_en (q := q) (e := e) (by omega) (fun j hj => fs_k g1 j (by omega)) ?_
      rw [t]
      unfold sk_
      by_cases o : oc_ q = 0
      · rw [if_pos o, mo_0]
        exact br_t (by decide) (a o)
      · have lt := (fs_top g1 o).1
        rw [if_neg o, mo_s]
        exact br_f (nI_pos (by omega)) (b o)
    by_cases o : oc_ q = 0
    · refine xw_comp g1 g2 z o (fun c hc => ?_)
      refine Y0 _ (fun _ => ⟨rfl, (mL_ q, mT_ q, mD_ q, 1, nn_ q, sp_ q, sn_ q, oc_ q, kd_ q, ls_ q, oe_ q, od_ q, ar_ q, se_ q, ol_ q, pl_ q, pa_ q, ow_ q, sl_ q, lo_ q, lh_ q, lt_ q, lx_ q, an_ q, vn_ q), c, d, e, rfl, rfl, ⟨g1, g2, g3, Nat.le_refl _⟩, h1, h2, h3, h4, fun w => absurd w Nat.one_ne_zero, fun _ => ⟨o, hc⟩, e1, e2, e3, e4, e5, e6, Or.inr ⟨y0, m0⟩⟩) (fun w => absurd o w)
    · exact cm0 z (br_f (nI_nle (by omega) (by omega)) (Y0 _ (fun w => absurd w o) (fun _ => ⟨rfl, q, c0_, d, e, rfl, rfl, H0⟩)))
  · exact cm1 g4 z (cm1 g4 z ⟨rfl, q, c, d, e, rfl, rfl, H0⟩)
end
end
section
section
variable {q : QT} {c : CT} {d : DT} {e : ET}
theorem yw_fx {post : Int32 → Prop} {p v : Int32} (hb : yb_ e ≤ 256) (hno : ∀ b, b < yb_ e → ¬ nI (bm_ e b) = v) (h : post (-1)) : wpY_find post (YT q e) p v := by
  have L : ∀ m b N, b + m = yb_ e → m < N → wY_find_2 post p v (nI (mL_ q)) (nI (mT_ q)) (nI (mD_ q)) (nI (nn_ q)) (nI (yp_ e)) (yc_ e) (nI (yu_ e)) (nI (yo_ e)) (nI (yb_ e)) (nI (yi_ e)) (nI (yf_ e)) (nI (yl_ e)) (yn_ e) (yr_ e) (yt_ e) (nI (cm_ q)) (fun i => nI (kd_ q i)) (fun i => nI (ar_ q (4 * i + 1))) (fun i => nI (ar_ q (4 * i + 2))) (fun i => nI (ar_ q (4 * i + 3))) (fun i => nI (bi_ e i)) (fun i => nI (bm_ e i)) (bv_ e) (bl_ e) (io_ e) (fun i => nI (fl_ e i)) (fun i => nI (fi_ e i)) (fun i => nI (cx_ e i)) (fun i => nI (ci_ e i)) (yx_ e) N (nI b) := by
    intro m
    induction m with
    | zero =>
      intro b N hm hN
      cases N with
      | zero => omega
      | succ N =>
        rw [wY_find_2]
        exact br_t (nI_le (by omega) (by omega)) h
    | succ m ih =>
      intro b N hm hN
      cases N with
      | zero => omega
      | succ N =>
        rw [wY_find_2]
        have vb : vp_in (nI b) 256 := vp_in_nI (by omega) (by omega)
        have go := nm_r (P := fun y => wY_find_2 post p v (nI (mL_ q)) (nI (mT_ q)) (nI (mD_ q)) (nI (nn_ q)) (nI (yp_ e)) (yc_ e) (nI (yu_ e)) (nI (yo_ e)) (nI (yb_ e)) (nI (yi_ e)) (nI (yf_ e)) (nI (yl_ e)) (yn_ e) (yr_ e) (yt_ e) (nI (cm_ q)) (fun i => nI (kd_ q i)) (fun i => nI (ar_ q (4 * i + 1))) (fun i => nI (ar_ q (4 * i + 2))) (fun i => nI (ar_ q (4 * i + 3))) (fun i => nI (bi_ e i)) (fun i => nI (bm_ e i)) (bv_ e) (bl_ e) (io_ e) (fun i => nI (fl_ e i)) (fun i => nI (fi_ e i)) (fun i => nI (cx_ e i)) (fun i => nI (ci_ e i)) (yx_ e) N y) (nI_1 b) (ih (b + 1) N (by omega) (by omega))
        refine br_f (nI_ge (by omega) (by omega)) ⟨vb, br_c (fun _ => ⟨vb, br_f ?_ go⟩) (fun _ => go)⟩
        rw [nI_clamp (n := b) (by omega)]
        exact hno b (by omega)
  exact ⟨yb_ e + 1, L (yb_ e) 0 (yb_ e + 1) (by omega) (by omega)⟩
theorem hm_100 (H : IR q c d e) {x : Nat} (hx : x < 8) (hd : dq2_ q 0 x = true) : hm_ c x < 100 := by
  obtain ⟨⟨g1, g2, g3, g4⟩, h1, h2, h3, h4, h5, h6, -⟩ := H
  by_cases z : cm_ q = 0
  · rw [(h5 z).1]
    exact Nat.zero_lt_succ _
  · obtain ⟨o, C⟩ := h6 z
    have S : SR q c := ⟨g1, g2, o, C, h1, h2, h3, h4⟩
    have s0 : 0 < sn_ q := by have := (fs_b g1).2.1; omega
    have e8 : 8 * 0 + x = x := by omega
    by_cases cp : bt (cp_ c 0) x = true
    · have h := hm_cap S s0 hx hd cp
      have := cc_nc S s0
      rw [e8] at h
      omega
    · have h := hm_slot S s0 hx hd (cap_ft cp)
      rw [e8] at h
      omega
end
theorem i_vc_scriptValue {k : Nat} {u : SX} {v : SY} (I : i_Rel k u v) (hk : k + 5 ≤ 2563) (v1 : Int32) : wpX_scriptValue (fun r => wpY_scriptValue (fun r' => r' = r ∧ i_Rel (k + 5) u v) v v1) u v1 := by
  obtain ⟨q, c, d, e, rfl, rfl, H⟩ := I
  have J : i_Rel (k + 5) (XT q c d) (YT q e) := ⟨q, c, d, e, rfl, rfl, H⟩
  have hr := H.2.2.2.2.2.2.2
  obtain ⟨e1, e2, e3, e4, e5, e6, e7⟩ := hr
  by_cases hx : v1 &&& (-8) = 0
  · obtain ⟨x, x8, rfl⟩ := (bs_8i v1).mp hx
    have Y0 : ∀ post : Int32 → Prop, (∀ b, b < yb_ e → bi_ e b = 0 → bm_ e b = x → (bl_ e b = 0 → post 0) ∧ (bl_ e b ≠ 0 → post (bv_ e b))) → ((∀ b, b < yb_ e → ¬ (bi_ e b = 0 ∧ bm_ e b = x)) → post 0) → wpY_scriptValue post (YT q e) (nI x) := by
      intro post a b
      obtain ⟨yp, yc, yu, yo, yb, yi, yf, yl, yn, yr, yt, bi, bm, bv, bl, io, fl, fi, cx, ci, yx⟩ := e
      have yb2 : yb ≤ 250 := e5
      refine yw_find (i := 0) (x := x) (bi := bi) (bm := bm) (yb := yb) (by omega) (by omega) (by omega) (fun b hb => ⟨(e6 b hb).1, by have := (e6 b hb).2; show bm b < 1000; exact Nat.lt_trans this (by omega)⟩) (fun b' b1 b2 b3 _ => br_f (nI_pos (by omega)) ⟨vp_in_nI (by omega) (by omega), ?_⟩) (fun hno => br_t (by decide) (b hno))
      have hh := a b' b1 b2 b3
      rw [nI_clamp (by omega)]
      exact br_c (fun z => hh.1 z) (fun z => ⟨vp_in_nI (by omega) (by omega), hh.2 z⟩)
    refine br_t hx ?_
    refine xw_db (q := q) (c := c) (d := d) (s := 0) (by omega) (by rw [(fs_r H.1.1).2.1]; omega) x8 (fun hd => br_f (by decide) ?_) (fun hd => br_t rfl ?_)
    · have h100 := hm_100 H x8 hd
      have eh : (fun i => nI (hm_ c i)) (nI x).toNatClampNeg = nI (hm_ c x) := ga_ rfl (by omega)
      have eh5 : (512 : Int32) + (fun i => nI (hm_ c i)) (nI x).toNatClampNeg = nI (512 + hm_ c x) := by
        rw [eh]
        exact nI_add 512 (hm_ c x)
      have vx : vp_in (nI x) 512 := vp_in_nI (by omega) (by omega)
      have key : ∀ r : Int32, r = me_ d (if bt (cp_ c 0) x = true then 512 + hm_ c x else hm_ c x) → wpY_scriptValue (fun r' => r' = r ∧ i_Rel (k + 5) (XT q c d) (YT q e)) (YT q e) (nI x) := by
        intro r hr
        rcases e7 with sv | ⟨y0, m0⟩
        · obtain ⟨b, b1, b2, b3, b4, b5, b6, b7⟩ := (sv x x8).2 hd
          refine Y0 _ (fun b' c1 c2 c3 => ?_) (fun hno => absurd ⟨b2, b3⟩ (hno b b1))
          have eb := b4 b' c1 c2 c3
          subst eb
          exact ⟨fun z => ⟨by rw [hr, b6, b7 z], J⟩, fun z => ⟨by rw [hr, b6], J⟩⟩
        · refine Y0 _ (fun b' c1 => by omega) (fun _ => ⟨by rw [hr, m0], J⟩)
      refine br_c (fun z => ⟨vx, pk_in (hm_ c x) 1024 (by omega) eh (by omega), key _ ?_⟩) (fun z => ⟨vx, pk_in (512 + hm_ c x) 1024 (by omega) eh5 (by omega), key _ ?_⟩)
      · have cp := (bs_t (by omega)).mp z
        show me_ d ((fun i => nI (hm_ c i)) (nI x).toNatClampNeg).toNatClampNeg = _
        rw [eh, nI_clamp (by omega), cp, if_neg (by decide)]
      · have cp : bt (cp_ c 0) x = true := by
          cases hb : bt (cp_ c 0) x with
          | true => rfl
          | false => exact absurd ((bs_t (by omega)).mpr hb) z
        show me_ d ((512 : Int32) + (fun i => nI (hm_ c i)) (nI x).toNatClampNeg).toNatClampNeg = _
        rw [eh5, nI_clamp (by omega), cp, if_pos rfl]
    · rcases e7 with sv | ⟨y0, m0⟩
      · exact Y0 _ (fun b c1 c2 c3 => absurd ⟨c2, c3⟩ ((sv x x8).1 hd b c1)) (fun _ => ⟨rfl, J⟩)
      · exact Y0 _ (fun b c1 => by omega) (fun _ => ⟨rfl, J⟩)
  · refine br_f hx ?_
    refine yw_fx (by omega) (fun b hb w => hx ((bs_8i v1).mpr ⟨_, (e6 b hb).2, w.symm⟩)) (br_t (by decide) ⟨rfl, J⟩)
def CL_ (p : Int32) (lo hi a : Nat) : Prop := lo ≤ a ∧ a ≤ hi ∧ ∀ A : Int32 → Prop, A (nI a) → ((nI lo ≤ p → ((p ≤ nI hi → A p) ∧ (¬ p ≤ nI hi → A (nI hi)))) ∧ (¬ nI lo ≤ p → A (nI lo)))
theorem clp_ (p : Int32) {lo hi : Nat} (h : lo ≤ hi) (hh : hi < 1000) : ∃ a, CL_ p lo hi a := by
  by_cases h1 : nI lo ≤ p
  · by_cases h2 : p ≤ nI hi
    · obtain ⟨a, a1, a2⟩ := nI_of2 (n := hi) (nI_toInt (by omega)) (fun z => by
        rw [Int32.le_iff_toInt_le, nI_toInt (by omega)] at h1
        rw [Int32.lt_iff_toInt_lt] at z
        have e0 : (0 : Int32).toInt = 0 := by decide
        omega) h2
      subst a2
      exact ⟨a, (nI_leI (by omega) (by omega)).mp h1, a1, fun A hA => br_t h1 (br_t h2 hA)⟩
    · exact ⟨hi, h, Nat.le_refl _, fun A hA => br_t h1 (br_f h2 hA)⟩
  · exact ⟨lo, Nat.le_refl _, h, fun A hA => br_f h1 hA⟩
theorem xw_clamp {post : Int32 → Prop} {u : SX} {p : Int32} {lo hi a : Nat} (h : CL_ p lo hi a) (hp : post (nI a)) : wpX_clamp post u p (nI lo) (nI hi) := h.2.2 post hp
theorem yw_init {post : SY → Prop} {k0 k1 k2 : Int32} {a b m : Nat} (ha : CL_ k0 8 48 a) (hb : CL_ k1 16 200 b) (hm : CL_ k2 1 8 m) (h : post (nI a, nI b, nI m, 0, 0, 0, 0, 0, 0, 0, 0, 0, 0, 0, (-1), 0, (fun _ => 0), (fun _ => 0), (fun _ => 0), (fun _ => 0), (fun _ => 0), (fun _ => 0), (fun _ => 0), (fun _ => 0), (fun _ => 0), (fun _ => 0), (fun _ => 0), (fun _ => 0), (fun _ => 0), (fun _ => 0))) : wpY_init post k0 k1 k2 :=
  ha.2.2 (fun z => wY_init_153 post k1 k2 z 0 0 0 0 0 0 0 0 0 0 0 0 0 0 (-1) 0 (fun _ => 0) (fun _ => 0) (fun _ => 0) (fun _ => 0) (fun _ => 0) (fun _ => 0) (fun _ => 0) (fun _ => 0) (fun _ => 0) (fun _ => 0) (fun _ => 0) (fun _ => 0) (fun _ => 0) (fun _ => 0)) (hb.2.2 (fun z => wY_init_182 post k2 z (nI a) 0 0 0 0 0 0 0 0 0 0 0 0 0 (-1) 0 (fun _ => 0) (fun _ => 0) (fun _ => 0) (fun _ => 0) (fun _ => 0) (fun _ => 0) (fun _ => 0) (fun _ => 0) (fun _ => 0) (fun _ => 0) (fun _ => 0) (fun _ => 0) (fun _ => 0) (fun _ => 0)) (hm.2.2 (fun z => post (nI a, nI b, z, 0, 0, 0, 0, 0, 0, 0, 0, 0, 0, 0, (-1), 0, (fun _ => 0), (fun _ => 0), (fun _ => 0), (fun _ => 0), (fun _ => 0), (fun _ => 0), (fun _ => 0), (fun _ => 0), (fun _ => 0), (fun _ => 0), (fun _ => 0), (fun _ => 0), (fun _ => 0), (fun _ => 0))) h))
def q0_ (a b m : Nat) : QT := (a, b, m, 0, 0, 0, 1, 0, (fun _ => 0), (fun _ => 0), (fun _ => 0), (fun _ => 0), (fun _ => 0), (fun _ => 0), (fun _ => 0), (fun _ => 0), (fun _ => 0), (fun _ => 0), (fun _ => 0), (fun _ => 0), (fun _ => 0), (fun _ => 0), (fun _ => 0), (fun _ => 0), (fun _ => 0))
theorem bt_00 (x : Nat) : bt 0 x = false := by
  unfold bt
  exact BitVec.getLsbD_zero
theorem q0_L (a b m i : Nat) : Lq_ (q0_ a b m) i = 0 := by
  show up_ (fun _ => 0) 0 0 i = 0
  by_cases e : i = 0
  · rw [e, up_s]
  · rw [up_n e]
theorem q0_F (a b m : Nat) : FQ (q0_ a b m) := by
  refine ⟨⟨by show 0 ≤ 48; omega, by show 1 ≤ 1; omega, by show 1 ≤ 0 + 1; omega, by show 0 ≤ 8; omega, fun i _ => by rw [q0_L]; show 0 < 1; omega⟩, fun i hi => absurd hi (Nat.not_lt_zero _), fun j _ => rfl, ⟨rfl, rfl, fun k h1 h2 => absurd (Nat.le_trans h1 h2) (by show ¬ 1 ≤ 0; omega)⟩, ⟨rfl, fun k h1 h2 => absurd (Nat.le_trans h1 h2) (by show ¬ 1 ≤ 0; omega)⟩, fun l hl => absurd hl (Nat.not_lt_zero _), rfl, fun i hi => absurd hi (Nat.not_lt_zero _), fun i hi => absurd hi (Nat.not_lt_zero _), ⟨rfl, rfl, rfl, rfl⟩, fun s h1 h2 => absurd (Nat.lt_of_lt_of_le h1 (Nat.le_of_lt_succ h2)) (Nat.lt_irrefl _), fun s t h1 h2 h3 => absurd (Nat.lt_of_lt_of_le (Nat.lt_trans h1 h2) (Nat.le_of_lt_succ h3)) (Nat.lt_irrefl _), fun l hl => absurd hl (Nat.not_lt_zero _), fun i hi => ?_, fun i hi => absurd hi (Nat.not_lt_zero _)⟩
  have i0 : i = 0 := Nat.le_zero.mp hi
  rw [q0_L, i0]
  rfl
theorem q0_M (a b m : Nat) : MQ_ (q0_ a b m) := by
  have f0 : ∀ x, ¬ bt 0 x = true := fun x z => by rw [bt_00] at z; exact absurd z (by decide)
  refine ⟨fun s x _ => ⟨fun z => absurd z (f0 x), fun ⟨j, hj, _⟩ => absurd hj (Nat.not_lt_zero _)⟩, fun s x _ => ⟨fun z => absurd z (f0 x), fun ⟨j, hj, _⟩ => absurd hj (Nat.not_lt_zero _)⟩, fun s x _ _ => ⟨fun z => absurd z (f0 x), fun ⟨t, _, z⟩ => absurd z (f0 x)⟩, fun s x j _ => ⟨fun z => absurd z.symm (Nat.succ_ne_zero _), fun z => absurd z.1 (Nat.not_lt_zero _)⟩, fun i j hi => absurd hi (Nat.not_lt_zero _), fun s x _ z => absurd z (f0 x), ⟨fun j hj => absurd hj (Nat.not_lt_zero _), fun s => Or.inl rfl⟩, ?_, ⟨fun j => Nat.zero_le _, fun i hi => absurd hi (Nat.not_lt_zero _), fun i _ => rfl⟩⟩
  have c0 : ∀ n, ct_ (db_ (fun _ => 0) (fun _ => 0) (fun _ => 0) 0) n = 0 := by
    intro n
    induction n with
    | zero => rfl
    | succ n ih =>
      rw [ct_, ih]
      unfold db_
      rw [if_pos rfl, bt_00]
      rfl
  show 0 + ct_ (db_ (fun _ => 0) (fun _ => 0) (fun _ => 0) 0) 8 ≤ 0
  rw [c0]
  exact Nat.le_refl _
theorem i_vc0 (k0 : Int32) (k1 : Int32) (k2 : Int32) : wpX_init (fun u => wpY_init (fun v => i_Rel 3 u v) k0 k1 k2) k0 k1 k2 := by
  obtain ⟨a, ha⟩ := clp_ k0 (lo := 8) (hi := 48) (by omega) (by omega)
  obtain ⟨b, hb⟩ := clp_ k1 (lo := 16) (hi := 200) (by omega) (by omega)
  obtain ⟨m, hm⟩ := clp_ k2 (lo := 1) (hi := 8) (by omega) (by omega)
  refine xw_clamp ha (xw_clamp hb (xw_clamp hm (yw_init ha hb hm ⟨q0_ a b m, c0_, (0, 0, 0, 0, 0, 0, 0, 0, 0, 0, -1, (fun _ => 0), (fun _ => 0), (fun _ => 0), (fun _ => 0), (fun _ => 0), (fun _ => 0), (fun _ => 0)), (0, 0, 0, 0, 0, 0, 0, 0, 0, 0, -1, (fun _ => 0), (fun _ => 0), (fun _ => 0), (fun _ => 0), (fun _ => 0), (fun _ => 0), (fun _ => 0), (fun _ => 0), (fun _ => 0), (fun _ => 0)), rfl, rfl, ⟨q0_F a b m, q0_M a b m, ha.2.1, Nat.zero_le _⟩, hb.1, hb.2.1, hm.1, hm.2.1, fun _ => ⟨rfl, rfl, fun _ => rfl⟩, fun z => absurd rfl z, rfl, Nat.zero_le _, fun i hi => absurd hi (Nat.not_lt_zero _), rfl, Nat.zero_le _, fun i hi => absurd hi (Nat.not_lt_zero _), Or.inr ⟨rfl, fun _ => rfl⟩⟩)))
end
