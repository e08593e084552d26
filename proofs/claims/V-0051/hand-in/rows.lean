section
theorem pk_us {f : Nat → Int32} {k : Nat} {x : Int32} : upd f k x k = x := if_pos rfl
theorem pk_un {f : Nat → Int32} {k j : Nat} {x : Int32} (h : j ≠ k) : upd f k x j = f j := if_neg h
theorem pk_uLs {f : Nat → Int64} {k : Nat} {x : Int64} : vp_updL f k x k = x := if_pos rfl
theorem pk_uLn {f : Nat → Int64} {k j : Nat} {x : Int64} (h : j ≠ k) : vp_updL f k x j = f j := if_neg h
theorem pk_sub {a b : Nat} (h : b ≤ a) : nI a - nI b = nI (a - b) := by
  obtain ⟨c, rfl⟩ : ∃ c, a = c + b := ⟨a - b, by omega⟩
  rw [← nI_add, Int32.add_sub_cancel, Nat.add_sub_cancel]
theorem pk_m1 (n : Nat) : nI (n + 1) + (-1) = nI n := by
  rw [← nI_1, Int32.add_assoc, show (1 : Int32) + (-1) = 0 from rfl, Int32.add_zero]
theorem pk_mul (a b : Nat) : nI a * nI b = nI (a * b) := (Int32.ofNat_mul a b).symm
theorem pk_div {a d : Nat} (ha : a < 2 ^ 31) (h0 : 0 < d) (hd : d < 2 ^ 31) : nI a / nI d = nI (a / d) := by
  apply Int32.toInt_inj.mp
  rw [lg_idiv_nonneg (by rw [nI_toInt ha]; omega) (by rw [nI_toInt hd]; omega), nI_toInt ha, nI_toInt hd, nI_toInt (Nat.lt_of_le_of_lt (Nat.div_le_self a d) ha)]
  first | rfl | exact (Int.natCast_ediv _ _).symm
theorem pk_rem {a d : Nat} (ha : a < 2 ^ 31) (h0 : 0 < d) (hd : d < 2 ^ 31) : nI a - nI a / nI d * nI d = nI (a % d) := by
  rw [pk_div ha h0 hd, pk_mul, pk_sub (Nat.div_mul_le_self a d)]
  exact congrArg nI (by have := Nat.div_add_mod' a d; omega)
theorem pk_sub_toInt {a b : Nat} (ha : a < 2 ^ 30) (hb : b < 2 ^ 30) : (nI a - nI b).toInt = (a : Int) - b := by
  rw [Int32.toInt_sub, nI_toInt (by omega), nI_toInt (by omega)]
  exact Int.bmod_eq_of_le (by omega) (by omega)
theorem pk_sneg {a b : Nat} (hb : b < 2 ^ 30) (h : a < b) : nI a - nI b < 0 := by
  rw [Int32.lt_iff_toInt_lt, pk_sub_toInt (by omega) hb, show (0 : Int32).toInt = 0 from by decide]
  omega
theorem pk_ix (x : Int32) {n : Nat} (hn : n < 2 ^ 31) : x < 0 ∨ nI n ≤ x ∨ ∃ j : Nat, j < n ∧ x = nI j := by
  by_cases h : x < 0
  · exact Or.inl h
  · obtain ⟨j, hj, rfl⟩ := nI_of h
    by_cases h2 : j < n
    · exact Or.inr (Or.inr ⟨j, h2, rfl⟩)
    · exact Or.inr (Or.inl (nI_le (by omega) hj))
theorem pk_le {x y : Int32} {A B : Prop} (a b : Nat) (f : a ≤ b → A) (g : b < a → B) (hx : x = nI a := by rfl) (hy : y = nI b := by rfl) (ha : a < 2 ^ 31 := by omega) (hb : b < 2 ^ 31 := by omega) : (x ≤ y → A) ∧ (¬ x ≤ y → B) := by
  subst hx hy
  rw [nI_leI ha hb]
  exact ⟨f, fun z => g (by omega)⟩
theorem pk_lt {x y : Int32} {A B : Prop} (a b : Nat) (f : a < b → A) (g : b ≤ a → B) (hx : x = nI a := by rfl) (hy : y = nI b := by rfl) (ha : a < 2 ^ 31 := by omega) (hb : b < 2 ^ 31 := by omega) : (x < y → A) ∧ (¬ x < y → B) := by
  subst hx hy
  rw [nI_ltI ha hb]
  exact ⟨f, fun z => g (by omega)⟩
theorem pk_eq {x y : Int32} {A B : Prop} (a b : Nat) (f : a = b → A) (g : a ≠ b → B) (hx : x = nI a := by rfl) (hy : y = nI b := by rfl) (ha : a < 2 ^ 31 := by omega) (hb : b < 2 ^ 31 := by omega) : (x = y → A) ∧ (¬ x = y → B) := by
  subst hx hy
  rw [nI_eq ha hb]
  exact ⟨f, g⟩
theorem pk_in {x : Int32} (n N : Nat) (h : n < N) (hx : x = nI n := by rfl) (hN : N < 2 ^ 31 := by omega) : vp_in x N := by
  subst hx
  exact vp_in_nI h hN
theorem pk_cl {x : Int32} (n : Nat) (hx : x = nI n := by rfl) (h : n < 2 ^ 31 := by omega) : x.toNatClampNeg = n := by
  subst hx
  exact nI_clamp h
theorem pk_tn {n : Nat} (h : n < 2 ^ 32) : (nI n).toBitVec.toNat = n := Nat.mod_eq_of_lt h
theorem pk_and (x : Int32) {m : Int32} (k : Nat) (hm : m.toBitVec.toNat = 2 ^ k - 1) : x &&& m = nI (x.toBitVec.toNat % 2 ^ k) := by
  apply Int32.toBitVec_inj.mp
  apply BitVec.eq_of_toNat_eq
  rw [Int32.toBitVec_and, BitVec.toNat_and, hm, Nat.and_two_pow_sub_one_eq_mod]
  show _ = (BitVec.ofNat 32 _).toNat
  rw [BitVec.toNat_ofNat]
  exact (Nat.mod_eq_of_lt (Nat.lt_of_le_of_lt (Nat.mod_le _ _) x.toBitVec.isLt)).symm
theorem pk_andN {n : Nat} (h : n < 2 ^ 32) {m : Int32} (k : Nat) (hm : m.toBitVec.toNat = 2 ^ k - 1) : nI n &&& m = nI (n % 2 ^ k) := by
  rw [pk_and _ k hm, pk_tn h]
theorem pk_andE (x : Int32) {m : Int32} (k : Nat) (hm : m.toBitVec.toNat = 2 ^ k - 1) : ∃ j : Nat, j < 2 ^ k ∧ x &&& m = nI j := ⟨_, Nat.mod_lt _ (Nat.two_pow_pos k), pk_and x k hm⟩
theorem pk_andIn (x : Int32) {m : Int32} (k : Nat) (hm : m.toBitVec.toNat = 2 ^ k - 1) (hk : k ≤ 30) : vp_in (x &&& m) (2 ^ k) := by
  obtain ⟨j, hj, e⟩ := pk_andE x k hm
  rw [e]
  exact vp_in_nI hj (Nat.lt_of_le_of_lt (Nat.pow_le_pow_right (by decide) hk) (by decide))
theorem pk_shl (a s : Int32) (k : Nat) (hs : (s.toBitVec.smod 32).toNat = k) : (a <<< s).toBitVec.toNat = a.toBitVec.toNat * 2 ^ k % 2 ^ 32 := by
  show (a.toBitVec <<< (s.toBitVec.smod 32).toNat).toNat = _
  rw [hs, BitVec.toNat_shiftLeft, Nat.shiftLeft_eq]
theorem pk_shlN {n : Nat} (s : Int32) (k : Nat) (hs : (s.toBitVec.smod 32).toNat = k) (h : n * 2 ^ k < 2 ^ 32) : nI n <<< s = nI (n * 2 ^ k) := by
  apply Int32.toBitVec_inj.mp
  apply BitVec.eq_of_toNat_eq
  have hn : n < 2 ^ 32 := Nat.lt_of_le_of_lt (Nat.le_mul_of_pos_right n (Nat.two_pow_pos k)) h
  rw [pk_shl _ _ k hs, pk_tn hn, pk_tn h, Nat.mod_eq_of_lt h]
theorem pk_shr (a s : Int32) (k : Nat) (hs : (s.toBitVec.smod 32).toNat = k) : (a >>> s).toInt = a.toInt >>> k := by
  show (a.toBitVec.sshiftRight (s.toBitVec.smod 32).toNat).toInt = _
  rw [hs, BitVec.toInt_sshiftRight]
  rfl
theorem pk_shrN {n : Nat} (h : n < 2 ^ 31) (s : Int32) (k : Nat) (hs : (s.toBitVec.smod 32).toNat = k) : nI n >>> s = nI (n / 2 ^ k) := by
  apply Int32.toInt_inj.mp
  have h2 : n / 2 ^ k ≤ n := Nat.div_le_self _ _
  rw [pk_shr _ _ k hs, nI_toInt h, nI_toInt (by omega), Int.shiftRight_eq_div_pow]
  rfl
theorem pk_ushr (x s : Int32) (k : Nat) (hs : ((s.toUInt32 &&& Int32.toUInt32 31).toBitVec % 32).toNat = k) : (x.toUInt32 >>> (s.toUInt32 &&& Int32.toUInt32 31)).toInt32.toBitVec.toNat = x.toBitVec.toNat / 2 ^ k := by
  have e : (x.toUInt32 >>> (s.toUInt32 &&& Int32.toUInt32 31)).toInt32.toBitVec = x.toBitVec >>> k := by
    rw [← hs]
    exact UInt32.toBitVec_shiftRight _ _
  rw [e, BitVec.toNat_ushiftRight, Nat.shiftRight_eq_div_pow]
theorem pk_ushrN {n : Nat} (hn : n < 2 ^ 32) (s : Int32) (k : Nat) (hs : ((s.toUInt32 &&& Int32.toUInt32 31).toBitVec % 32).toNat = k) : ((nI n).toUInt32 >>> (s.toUInt32 &&& Int32.toUInt32 31)).toInt32 = nI (n / 2 ^ k) := by
  apply Int32.toBitVec_inj.mp
  apply BitVec.eq_of_toNat_eq
  rw [pk_ushr _ s k hs, pk_tn hn, pk_tn (Nat.lt_of_le_of_lt (Nat.div_le_self _ _) hn)]
theorem pk_nb (z : Int32) : narrow .byte (.int z.toInt8.toInt32) = .int z.toInt8.toInt32 := congrArg Value.int (by simp)
theorem pk_ns (z : Int32) : narrow .short (.int z.toInt16.toInt32) = .int z.toInt16.toInt32 := congrArg Value.int (by simp)
theorem pk_fb (r : Int32) : fits .byte (.int r.toInt8.toInt32) = true := by
  have ⟨a, b⟩ := lg_i2b_range r
  have h1 : (-128 : Int32).toInt = -128 := by decide
  have h2 : (127 : Int32).toInt = 127 := by decide
  simp only [fits, Bool.and_eq_true, decide_eq_true_eq, Int32.le_iff_toInt_le, h1, h2]
  omega
theorem pk_fs (r : Int32) : fits .short (.int r.toInt16.toInt32) = true := by
  have ⟨a, b⟩ := lg_i2s_range r
  have h1 : (-32768 : Int32).toInt = -32768 := by decide
  have h2 : (32767 : Int32).toInt = 32767 := by decide
  simp only [fits, Bool.and_eq_true, decide_eq_true_eq, Int32.le_iff_toInt_le, h1, h2]
  omega
theorem pk_charN {q : Nat} (hq : q < 65536) : narrow .char (.int (nI q)) = .int (nI q) ∧ fits .char (.int (nI q)) = true := by
  constructor
  · have e : (nI q).toUInt32.toUInt16.toUInt32.toInt32 = nI q := by
      apply Int32.toBitVec_inj.mp
      apply BitVec.eq_of_toNat_eq
      show (nI q).toUInt32.toUInt16.toUInt32.toNat = q % 2 ^ 32
      rw [UInt16.toNat_toUInt32, UInt32.toNat_toUInt16, show (nI q).toUInt32.toNat = q % 2 ^ 32 from rfl]
      omega
    exact congrArg Value.int e
  · have a : (0 : Int32) ≤ nI q := nI_pos' (by omega)
    have b : nI q ≤ 65535 := nI_le (b := 65535) (by omega) (by decide)
    show (decide ((0 : Int32) ≤ nI q) && decide (nI q ≤ 65535)) = true
    rw [decide_eq_true a, decide_eq_true b]
    rfl
theorem pk_char (x : Int32) : (x.toUInt32 % 65536).toInt32 = nI (x.toBitVec.toNat % 65536) := by
  apply Int32.toBitVec_inj.mp
  apply BitVec.eq_of_toNat_eq
  rw [pk_tn (by omega)]
  show (x.toUInt32 % 65536).toNat = _
  rw [UInt32.toNat_mod]
  rfl
theorem pk_nc (x : Int32) : narrow .char (.int (x.toUInt32 % 65536).toInt32) = .int (x.toUInt32 % 65536).toInt32 := by
  rw [pk_char]
  exact (pk_charN (Nat.mod_lt _ (by decide))).1
theorem pk_fc (x : Int32) : fits .char (.int (x.toUInt32 % 65536).toInt32) = true := by
  rw [pk_char]
  exact (pk_charN (Nat.mod_lt _ (by decide))).2
theorem pk_vb (z : Int32) : vp_nar .byte z.toInt8.toInt32 = z.toInt8.toInt32 := by rw [vp_nar_byte]; simp
theorem pk_vs (z : Int32) : vp_nar .short z.toInt16.toInt32 = z.toInt16.toInt32 := by rw [vp_nar_short]; simp
theorem pk_vc (z : Int32) : vp_nar .char (z.toUInt32 % 65536).toInt32 = (z.toUInt32 % 65536).toInt32 := Value.int.inj (pk_nc z)
theorem pk_lT {n : Nat} (h : n < 2 ^ 63) : (lN n).toInt = (n : Int) := lg_ofNat_toInt h
theorem pk_lLT {a b : Nat} (ha : a < 2 ^ 63) (hb : b < 2 ^ 63) : lN a < lN b ↔ a < b := by
  rw [Int64.lt_iff_toInt_lt, pk_lT ha, pk_lT hb]; omega
theorem pk_lLE {a b : Nat} (ha : a < 2 ^ 63) (hb : b < 2 ^ 63) : lN a ≤ lN b ↔ a ≤ b := by
  rw [Int64.le_iff_toInt_le, pk_lT ha, pk_lT hb]; omega
theorem pk_lEQ {a b : Nat} (ha : a < 2 ^ 63) (hb : b < 2 ^ 63) : lN a = lN b ↔ a = b := by
  rw [← Int64.toInt_inj, pk_lT ha, pk_lT hb]; omega
theorem pk_lOf {x : Int64} (h : ¬ x < 0) : ∃ k : Nat, k < 2 ^ 63 ∧ x = lN k := by
  rw [Int64.lt_iff_toInt_lt] at h
  have h0 : (0 : Int64).toInt = 0 := by decide
  have hx := Int64.toInt_lt x
  refine ⟨x.toInt.toNat, by omega, Int64.toInt_inj.mp ?_⟩
  rw [pk_lT (by omega)]
  omega
theorem pk_lDiv {a b : Nat} (ha : a < 2 ^ 63) (h0 : 0 < b) (hb : b < 2 ^ 63) : lN a / lN b = lN (a / b) := by
  apply Int64.toInt_inj.mp
  rw [lg_ldiv_nonneg (by rw [pk_lT ha]; omega) (by rw [pk_lT hb]; omega), pk_lT ha, pk_lT hb, pk_lT (Nat.lt_of_le_of_lt (Nat.div_le_self a b) ha)]
  rfl
theorem pk_lRem {a b : Nat} (ha : a < 2 ^ 63) (h0 : 0 < b) (hb : b < 2 ^ 63) : lN a - lN a / lN b * lN b = lN (a % b) := by
  rw [pk_lDiv ha h0 hb, lN_mul, lN_sub (Nat.div_mul_le_self a b)]
  exact congrArg lN (by have := Nat.div_add_mod' a b; omega)
theorem pk_loop {σ : Type} (W : Nat → Nat → σ → Prop) (I : Nat → σ → Prop) (e i0 : Nat) (s : σ) (hi : i0 ≤ e) (h0 : I i0 s) (hx : ∀ n s, I e s → W (n + 1) e s)
    (hs : ∀ n i s, i < e → I i s → (∀ s', I (i + 1) s' → W n (i + 1) s') → W (n + 1) i s) : ∃ n, W n i0 s :=
  ⟨e + 1, loop_i W I e hx hs (e + 1) i0 s hi (by omega) h0⟩
theorem pk_loopD {σ : Type} (W : Nat → Nat → σ → Prop) (I : Nat → σ → Prop) (hx : ∀ n s, I 0 s → W (n + 1) 0 s)
    (hs : ∀ n i s, I (i + 1) s → (∀ s', I i s' → W n i s') → W (n + 1) (i + 1) s) : ∀ (e : Nat) (s : σ), I e s → W (e + 1) e s := by
  intro e
  induction e with
  | zero => exact fun s h => hx 0 s h
  | succ e ih => exact fun s h => hs (e + 1) e s h (fun s' h' => ih s' h')
theorem lp1 {A1 : Type} (W : Nat → A1 → Prop) (I : A1 → Prop) (μ : A1 → Nat) (hs : ∀ (n : Nat) (a1 : A1), I a1 → (∀ (b1 : A1), I b1 → μ b1 < μ a1 → W n b1) → W (n + 1) a1) (a1 : A1) (h : I a1) : ∃ n, W n a1 :=
  loop_m (σ := A1) (fun n s => W n s) (fun s => I s) (fun s => μ s) (fun n s hI hk => hs n s hI (fun b1 h9 hm => hk b1 h9 hm)) a1 h
theorem lp2 {A1 A2 : Type} (W : Nat → A1 → A2 → Prop) (I : A1 → A2 → Prop) (μ : A1 → A2 → Nat) (hs : ∀ (n : Nat) (a1 : A1) (a2 : A2), I a1 a2 → (∀ (b1 : A1) (b2 : A2), I b1 b2 → μ b1 b2 < μ a1 a2 → W n b1 b2) → W (n + 1) a1 a2) (a1 : A1) (a2 : A2) (h : I a1 a2) : ∃ n, W n a1 a2 :=
  loop_m (σ := A1 × A2) (fun n s => W n s.1 s.2) (fun s => I s.1 s.2) (fun s => μ s.1 s.2) (fun n s hI hk => hs n s.1 s.2 hI (fun b1 b2 h9 hm => hk (b1, b2) h9 hm)) (a1, a2) h
theorem lp3 {A1 A2 A3 : Type} (W : Nat → A1 → A2 → A3 → Prop) (I : A1 → A2 → A3 → Prop) (μ : A1 → A2 → A3 → Nat) (hs : ∀ (n : Nat) (a1 : A1) (a2 : A2) (a3 : A3), I a1 a2 a3 → (∀ (b1 : A1) (b2 : A2) (b3 : A3), I b1 b2 b3 → μ b1 b2 b3 < μ a1 a2 a3 → W n b1 b2 b3) → W (n + 1) a1 a2 a3) (a1 : A1) (a2 : A2) (a3 : A3) (h : I a1 a2 a3) : ∃ n, W n a1 a2 a3 :=
  loop_m (σ := A1 × A2 × A3) (fun n s => W n s.1 s.2.1 s.2.2) (fun s => I s.1 s.2.1 s.2.2) (fun s => μ s.1 s.2.1 s.2.2) (fun n s hI hk => hs n s.1 s.2.1 s.2.2 hI (fun b1 b2 b3 h9 hm => hk (b1, b2, b3) h9 hm)) (a1, a2, a3) h
theorem lp4 {A1 A2 A3 A4 : Type} (W : Nat → A1 → A2 → A3 → A4 → Prop) (I : A1 → A2 → A3 → A4 → Prop) (μ : A1 → A2 → A3 → A4 → Nat) (hs : ∀ (n : Nat) (a1 : A1) (a2 : A2) (a3 : A3) (a4 : A4), I a1 a2 a3 a4 → (∀ (b1 : A1) (b2 : A2) (b3 : A3) (b4 : A4), I b1 b2 b3 b4 → μ b1 b2 b3 b4 < μ a1 a2 a3 a4 → W n b1 b2 b3 b4) → W (n + 1) a1 a2 a3 a4) (a1 : A1) (a2 : A2) (a3 : A3) (a4 : A4) (h : I a1 a2 a3 a4) : ∃ n, W n a1 a2 a3 a4 :=
  loop_m (σ := A1 × A2 × A3 × A4) (fun n s => W n s.1 s.2.1 s.2.2.1 s.2.2.2) (fun s => I s.1 s.2.1 s.2.2.1 s.2.2.2) (fun s => μ s.1 s.2.1 s.2.2.1 s.2.2.2) (fun n s hI hk => hs n s.1 s.2.1 s.2.2.1 s.2.2.2 hI (fun b1 b2 b3 b4 h9 hm => hk (b1, b2, b3, b4) h9 hm)) (a1, a2, a3, a4) h
theorem lp5 {A1 A2 A3 A4 A5 : Type} (W : Nat → A1 → A2 → A3 → A4 → A5 → Prop) (I : A1 → A2 → A3 → A4 → A5 → Prop) (μ : A1 → A2 → A3 → A4 → A5 → Nat) (hs : ∀ (n : Nat) (a1 : A1) (a2 : A2) (a3 : A3) (a4 : A4) (a5 : A5), I a1 a2 a3 a4 a5 → (∀ (b1 : A1) (b2 : A2) (b3 : A3) (b4 : A4) (b5 : A5), I b1 b2 b3 b4 b5 → μ b1 b2 b3 b4 b5 < μ a1 a2 a3 a4 a5 → W n b1 b2 b3 b4 b5) → W (n + 1) a1 a2 a3 a4 a5) (a1 : A1) (a2 : A2) (a3 : A3) (a4 : A4) (a5 : A5) (h : I a1 a2 a3 a4 a5) : ∃ n, W n a1 a2 a3 a4 a5 :=
  loop_m (σ := A1 × A2 × A3 × A4 × A5) (fun n s => W n s.1 s.2.1 s.2.2.1 s.2.2.2.1 s.2.2.2.2) (fun s => I s.1 s.2.1 s.2.2.1 s.2.2.2.1 s.2.2.2.2) (fun s => μ s.1 s.2.1 s.2.2.1 s.2.2.2.1 s.2.2.2.2) (fun n s hI hk => hs n s.1 s.2.1 s.2.2.1 s.2.2.2.1 s.2.2.2.2 hI (fun b1 b2 b3 b4 b5 h9 hm => hk (b1, b2, b3, b4, b5) h9 hm)) (a1, a2, a3, a4, a5) h
theorem lp6 {A1 A2 A3 A4 A5 A6 : Type} (W : Nat → A1 → A2 → A3 → A4 → A5 → A6 → Prop) (I : A1 → A2 → A3 → A4 → A5 → A6 → Prop) (μ : A1 → A2 → A3 → A4 → A5 → A6 → Nat) (hs : ∀ (n : Nat) (a1 : A1) (a2 : A2) (a3 : A3) (a4 : A4) (a5 : A5) (a6 : A6), I a1 a2 a3 a4 a5 a6 → (∀ (b1 : A1) (b2 : A2) (b3 : A3) (b4 : A4) (b5 : A5) (b6 : A6), I b1 b2 b3 b4 b5 b6 → μ b1 b2 b3 b4 b5 b6 < μ a1 a2 a3 a4 a5 a6 → W n b1 b2 b3 b4 b5 b6) → W (n + 1) a1 a2 a3 a4 a5 a6) (a1 : A1) (a2 : A2) (a3 : A3) (a4 : A4) (a5 : A5) (a6 : A6) (h : I a1 a2 a3 a4 a5 a6) : ∃ n, W n a1 a2 a3 a4 a5 a6 :=
  loop_m (σ := A1 × A2 × A3 × A4 × A5 × A6) (fun n s => W n s.1 s.2.1 s.2.2.1 s.2.2.2.1 s.2.2.2.2.1 s.2.2.2.2.2) (fun s => I s.1 s.2.1 s.2.2.1 s.2.2.2.1 s.2.2.2.2.1 s.2.2.2.2.2) (fun s => μ s.1 s.2.1 s.2.2.1 s.2.2.2.1 s.2.2.2.2.1 s.2.2.2.2.2) (fun n s hI hk => hs n s.1 s.2.1 s.2.2.1 s.2.2.2.1 s.2.2.2.2.1 s.2.2.2.2.2 hI (fun b1 b2 b3 b4 b5 b6 h9 hm => hk (b1, b2, b3, b4, b5, b6) h9 hm)) (a1, a2, a3, a4, a5, a6) h
theorem lp7 {A1 A2 A3 A4 A5 A6 A7 : Type} (W : Nat → A1 → A2 → A3 → A4 → A5 → A6 → A7 → Prop) (I : A1 → A2 → A3 → A4 → A5 → A6 → A7 → Prop) (μ : A1 → A2 → A3 → A4 → A5 → A6 → A7 → Nat) (hs : ∀ (n : Nat) (a1 : A1) (a2 : A2) (a3 : A3) (a4 : A4) (a5 : A5) (a6 : A6) (a7 : A7), I a1 a2 a3 a4 a5 a6 a7 → (∀ (b1 : A1) (b2 : A2) (b3 : A3) (b4 : A4) (b5 : A5) (b6 : A6) (b7 : A7), I b1 b2 b3 b4 b5 b6 b7 → μ b1 b2 b3 b4 b5 b6 b7 < μ a1 a2 a3 a4 a5 a6 a7 → W n b1 b2 b3 b4 b5 b6 b7) → W (n + 1) a1 a2 a3 a4 a5 a6 a7) (a1 : A1) (a2 : A2) (a3 : A3) (a4 : A4) (a5 : A5) (a6 : A6) (a7 : A7) (h : I a1 a2 a3 a4 a5 a6 a7) : ∃ n, W n a1 a2 a3 a4 a5 a6 a7 :=
  loop_m (σ := A1 × A2 × A3 × A4 × A5 × A6 × A7) (fun n s => W n s.1 s.2.1 s.2.2.1 s.2.2.2.1 s.2.2.2.2.1 s.2.2.2.2.2.1 s.2.2.2.2.2.2) (fun s => I s.1 s.2.1 s.2.2.1 s.2.2.2.1 s.2.2.2.2.1 s.2.2.2.2.2.1 s.2.2.2.2.2.2) (fun s => μ s.1 s.2.1 s.2.2.1 s.2.2.2.1 s.2.2.2.2.1 s.2.2.2.2.2.1 s.2.2.2.2.2.2) (fun n s hI hk => hs n s.1 s.2.1 s.2.2.1 s.2.2.2.1 s.2.2.2.2.1 s.2.2.2.2.2.1 s.2.2.2.2.2.2 hI (fun b1 b2 b3 b4 b5 b6 b7 h9 hm => hk (b1, b2, b3, b4, b5, b6, b7) h9 hm)) (a1, a2, a3, a4, a5, a6, a7) h
theorem lp8 {A1 A2 A3 A4 A5 A6 A7 A8 : Type} (W : Nat → A1 → A2 → A3 → A4 → A5 → A6 → A7 → A8 → Prop) (I : A1 → A2 → A3 → A4 → A5 → A6 → A7 → A8 → Prop) (μ : A1 → A2 → A3 → A4 → A5 → A6 → A7 → A8 → Nat) (hs : ∀ (n : Nat) (a1 : A1) (a2 : A2) (a3 : A3) (a4 : A4) (a5 : A5) (a6 : A6) (a7 : A7) (a8 : A8), I a1 a2 a3 a4 a5 a6 a7 a8 → (∀ (b1 : A1) (b2 : A2) (b3 : A3) (b4 : A4) (b5 : A5) (b6 : A6) (b7 : A7) (b8 : A8), I b1 b2 b3 b4 b5 b6 b7 b8 → μ b1 b2 b3 b4 b5 b6 b7 b8 < μ a1 a2 a3 a4 a5 a6 a7 a8 → W n b1 b2 b3 b4 b5 b6 b7 b8) → W (n + 1) a1 a2 a3 a4 a5 a6 a7 a8) (a1 : A1) (a2 : A2) (a3 : A3) (a4 : A4) (a5 : A5) (a6 : A6) (a7 : A7) (a8 : A8) (h : I a1 a2 a3 a4 a5 a6 a7 a8) : ∃ n, W n a1 a2 a3 a4 a5 a6 a7 a8 :=
  loop_m (σ := A1 × A2 × A3 × A4 × A5 × A6 × A7 × A8) (fun n s => W n s.1 s.2.1 s.2.2.1 s.2.2.2.1 s.2.2.2.2.1 s.2.2.2.2.2.1 s.2.2.2.2.2.2.1 s.2.2.2.2.2.2.2) (fun s => I s.1 s.2.1 s.2.2.1 s.2.2.2.1 s.2.2.2.2.1 s.2.2.2.2.2.1 s.2.2.2.2.2.2.1 s.2.2.2.2.2.2.2) (fun s => μ s.1 s.2.1 s.2.2.1 s.2.2.2.1 s.2.2.2.2.1 s.2.2.2.2.2.1 s.2.2.2.2.2.2.1 s.2.2.2.2.2.2.2) (fun n s hI hk => hs n s.1 s.2.1 s.2.2.1 s.2.2.2.1 s.2.2.2.2.1 s.2.2.2.2.2.1 s.2.2.2.2.2.2.1 s.2.2.2.2.2.2.2 hI (fun b1 b2 b3 b4 b5 b6 b7 b8 h9 hm => hk (b1, b2, b3, b4, b5, b6, b7, b8) h9 hm)) (a1, a2, a3, a4, a5, a6, a7, a8) h
theorem lp9 {A1 A2 A3 A4 A5 A6 A7 A8 A9 : Type} (W : Nat → A1 → A2 → A3 → A4 → A5 → A6 → A7 → A8 → A9 → Prop) (I : A1 → A2 → A3 → A4 → A5 → A6 → A7 → A8 → A9 → Prop) (μ : A1 → A2 → A3 → A4 → A5 → A6 → A7 → A8 → A9 → Nat) (hs : ∀ (n : Nat) (a1 : A1) (a2 : A2) (a3 : A3) (a4 : A4) (a5 : A5) (a6 : A6) (a7 : A7) (a8 : A8) (a9 : A9), I a1 a2 a3 a4 a5 a6 a7 a8 a9 → (∀ (b1 : A1) (b2 : A2) (b3 : A3) (b4 : A4) (b5 : A5) (b6 : A6) (b7 : A7) (b8 : A8) (b9 : A9), I b1 b2 b3 b4 b5 b6 b7 b8 b9 → μ b1 b2 b3 b4 b5 b6 b7 b8 b9 < μ a1 a2 a3 a4 a5 a6 a7 a8 a9 → W n b1 b2 b3 b4 b5 b6 b7 b8 b9) → W (n + 1) a1 a2 a3 a4 a5 a6 a7 a8 a9) (a1 : A1) (a2 : A2) (a3 : A3) (a4 : A4) (a5 : A5) (a6 : A6) (a7 : A7) (a8 : A8) (a9 : A9) (h : I a1 a2 a3 a4 a5 a6 a7 a8 a9) : ∃ n, W n a1 a2 a3 a4 a5 a6 a7 a8 a9 :=
  loop_m (σ := A1 × A2 × A3 × A4 × A5 × A6 × A7 × A8 × A9) (fun n s => W n s.1 s.2.1 s.2.2.1 s.2.2.2.1 s.2.2.2.2.1 s.2.2.2.2.2.1 s.2.2.2.2.2.2.1 s.2.2.2.2.2.2.2.1 s.2.2.2.2.2.2.2.2) (fun s => I s.1 s.2.1 s.2.2.1 s.2.2.2.1 s.2.2.2.2.1 s.2.2.2.2.2.1 s.2.2.2.2.2.2.1 s.2.2.2.2.2.2.2.1 s.2.2.2.2.2.2.2.2) (fun s => μ s.1 s.2.1 s.2.2.1 s.2.2.2.1 s.2.2.2.2.1 s.2.2.2.2.2.1 s.2.2.2.2.2.2.1 s.2.2.2.2.2.2.2.1 s.2.2.2.2.2.2.2.2) (fun n s hI hk => hs n s.1 s.2.1 s.2.2.1 s.2.2.2.1 s.2.2.2.2.1 s.2.2.2.2.2.1 s.2.2.2.2.2.2.1 s.2.2.2.2.2.2.2.1 s.2.2.2.2.2.2.2.2 hI (fun b1 b2 b3 b4 b5 b6 b7 b8 b9 h9 hm => hk (b1, b2, b3, b4, b5, b6, b7, b8, b9) h9 hm)) (a1, a2, a3, a4, a5, a6, a7, a8, a9) h
theorem lp10 {A1 A2 A3 A4 A5 A6 A7 A8 A9 A10 : Type} (W : Nat → A1 → A2 → A3 → A4 → A5 → A6 → A7 → A8 → A9 → A10 → Prop) (I : A1 → A2 → A3 → A4 → A5 → A6 → A7 → A8 → A9 → A10 → Prop) (μ : A1 → A2 → A3 → A4 → A5 → A6 → A7 → A8 → A9 → A10 → Nat) (hs : ∀ (n : Nat) (a1 : A1) (a2 : A2) (a3 : A3) (a4 : A4) (a5 : A5) (a6 : A6) (a7 : A7) (a8 : A8) (a9 : A9) (a10 : A10), I a1 a2 a3 a4 a5 a6 a7 a8 a9 a10 → (∀ (b1 : A1) (b2 : A2) (b3 : A3) (b4 : A4) (b5 : A5) (b6 : A6) (b7 : A7) (b8 : A8) (b9 : A9) (b10 : A10), I b1 b2 b3 b4 b5 b6 b7 b8 b9 b10 → μ b1 b2 b3 b4 b5 b6 b7 b8 b9 b10 < μ a1 a2 a3 a4 a5 a6 a7 a8 a9 a10 → W n b1 b2 b3 b4 b5 b6 b7 b8 b9 b10) → W (n + 1) a1 a2 a3 a4 a5 a6 a7 a8 a9 a10) (a1 : A1) (a2 : A2) (a3 : A3) (a4 : A4) (a5 : A5) (a6 : A6) (a7 : A7) (a8 : A8) (a9 : A9) (a10 : A10) (h : I a1 a2 a3 a4 a5 a6 a7 a8 a9 a10) : ∃ n, W n a1 a2 a3 a4 a5 a6 a7 a8 a9 a10 :=
  loop_m (σ := A1 × A2 × A3 × A4 × A5 × A6 × A7 × A8 × A9 × A10) (fun n s => W n s.1 s.2.1 s.2.2.1 s.2.2.2.1 s.2.2.2.2.1 s.2.2.2.2.2.1 s.2.2.2.2.2.2.1 s.2.2.2.2.2.2.2.1 s.2.2.2.2.2.2.2.2.1 s.2.2.2.2.2.2.2.2.2) (fun s => I s.1 s.2.1 s.2.2.1 s.2.2.2.1 s.2.2.2.2.1 s.2.2.2.2.2.1 s.2.2.2.2.2.2.1 s.2.2.2.2.2.2.2.1 s.2.2.2.2.2.2.2.2.1 s.2.2.2.2.2.2.2.2.2) (fun s => μ s.1 s.2.1 s.2.2.1 s.2.2.2.1 s.2.2.2.2.1 s.2.2.2.2.2.1 s.2.2.2.2.2.2.1 s.2.2.2.2.2.2.2.1 s.2.2.2.2.2.2.2.2.1 s.2.2.2.2.2.2.2.2.2) (fun n s hI hk => hs n s.1 s.2.1 s.2.2.1 s.2.2.2.1 s.2.2.2.2.1 s.2.2.2.2.2.1 s.2.2.2.2.2.2.1 s.2.2.2.2.2.2.2.1 s.2.2.2.2.2.2.2.2.1 s.2.2.2.2.2.2.2.2.2 hI (fun b1 b2 b3 b4 b5 b6 b7 b8 b9 b10 h9 hm => hk (b1, b2, b3, b4, b5, b6, b7, b8, b9, b10) h9 hm)) (a1, a2, a3, a4, a5, a6, a7, a8, a9, a10) h
theorem lp11 {A1 A2 A3 A4 A5 A6 A7 A8 A9 A10 A11 : Type} (W : Nat → A1 → A2 → A3 → A4 → A5 → A6 → A7 → A8 → A9 → A10 → A11 → Prop) (I : A1 → A2 → A3 → A4 → A5 → A6 → A7 → A8 → A9 → A10 → A11 → Prop) (μ : A1 → A2 → A3 → A4 → A5 → A6 → A7 → A8 → A9 → A10 → A11 → Nat) (hs : ∀ (n : Nat) (a1 : A1) (a2 : A2) (a3 : A3) (a4 : A4) (a5 : A5) (a6 : A6) (a7 : A7) (a8 : A8) (a9 : A9) (a10 : A10) (a11 : A11), I a1 a2 a3 a4 a5 a6 a7 a8 a9 a10 a11 → (∀ (b1 : A1) (b2 : A2) (b3 : A3) (b4 : A4) (b5 : A5) (b6 : A6) (b7 : A7) (b8 : A8) (b9 : A9) (b10 : A10) (b11 : A11), I b1 b2 b3 b4 b5 b6 b7 b8 b9 b10 b11 → μ b1 b2 b3 b4 b5 b6 b7 b8 b9 b10 b11 < μ a1 a2 a3 a4 a5 a6 a7 a8 a9 a10 a11 → W n b1 b2 b3 b4 b5 b6 b7 b8 b9 b10 b11) → W (n + 1) a1 a2 a3 a4 a5 a6 a7 a8 a9 a10 a11) (a1 : A1) (a2 : A2) (a3 : A3) (a4 : A4) (a5 : A5) (a6 : A6) (a7 : A7) (a8 : A8) (a9 : A9) (a10 : A10) (a11 : A11) (h : I a1 a2 a3 a4 a5 a6 a7 a8 a9 a10 a11) : ∃ n, W n a1 a2 a3 a4 a5 a6 a7 a8 a9 a10 a11 :=
  loop_m (σ := A1 × A2 × A3 × A4 × A5 × A6 × A7 × A8 × A9 × A10 × A11) (fun n s => W n s.1 s.2.1 s.2.2.1 s.2.2.2.1 s.2.2.2.2.1 s.2.2.2.2.2.1 s.2.2.2.2.2.2.1 s.2.2.2.2.2.2.2.1 s.2.2.2.2.2.2.2.2.1 s.2.2.2.2.2.2.2.2.2.1 s.2.2.2.2.2.2.2.2.2.2) (fun s => I s.1 s.2.1 s.2.2.1 s.2.2.2.1 s.2.2.2.2.1 s.2.2.2.2.2.1 s.2.2.2.2.2.2.1 s.2.2.2.2.2.2.2.1 s.2.2.2.2.2.2.2.2.1 s.2.2.2.2.2.2.2.2.2.1 s.2.2.2.2.2.2.2.2.2.2) (fun s => μ s.1 s.2.1 s.2.2.1 s.2.2.2.1 s.2.2.2.2.1 s.2.2.2.2.2.1 s.2.2.2.2.2.2.1 s.2.2.2.2.2.2.2.1 s.2.2.2.2.2.2.2.2.1 s.2.2.2.2.2.2.2.2.2.1 s.2.2.2.2.2.2.2.2.2.2) (fun n s hI hk => hs n s.1 s.2.1 s.2.2.1 s.2.2.2.1 s.2.2.2.2.1 s.2.2.2.2.2.1 s.2.2.2.2.2.2.1 s.2.2.2.2.2.2.2.1 s.2.2.2.2.2.2.2.2.1 s.2.2.2.2.2.2.2.2.2.1 s.2.2.2.2.2.2.2.2.2.2 hI (fun b1 b2 b3 b4 b5 b6 b7 b8 b9 b10 b11 h9 hm => hk (b1, b2, b3, b4, b5, b6, b7, b8, b9, b10, b11) h9 hm)) (a1, a2, a3, a4, a5, a6, a7, a8, a9, a10, a11) h
theorem lp12 {A1 A2 A3 A4 A5 A6 A7 A8 A9 A10 A11 A12 : Type} (W : Nat → A1 → A2 → A3 → A4 → A5 → A6 → A7 → A8 → A9 → A10 → A11 → A12 → Prop) (I : A1 → A2 → A3 → A4 → A5 → A6 → A7 → A8 → A9 → A10 → A11 → A12 → Prop) (μ : A1 → A2 → A3 → A4 → A5 → A6 → A7 → A8 → A9 → A10 → A11 → A12 → Nat) (hs : ∀ (n : Nat) (a1 : A1) (a2 : A2) (a3 : A3) (a4 : A4) (a5 : A5) (a6 : A6) (a7 : A7) (a8 : A8) (a9 : A9) (a10 : A10) (a11 : A11) (a12 : A12), I a1 a2 a3 a4 a5 a6 a7 a8 a9 a10 a11 a12 → (∀ (b1 : A1) (b2 : A2) (b3 : A3) (b4 : A4) (b5 : A5) (b6 : A6) (b7 : A7) (b8 : A8) (b9 : A9) (b10 : A10) (b11 : A11) (b12 : A12), I b1 b2 b3 b4 b5 b6 b7 b8 b9 b10 b11 b12 → μ b1 b2 b3 b4 b5 b6 b7 b8 b9 b10 b11 b12 < μ a1 a2 a3 a4 a5 a6 a7 a8 a9 a10 a11 a12 → W n b1 b2 b3 b4 b5 b6 b7 b8 b9 b10 b11 b12) → W (n + 1) a1 a2 a3 a4 a5 a6 a7 a8 a9 a10 a11 a12) (a1 : A1) (a2 : A2) (a3 : A3) (a4 : A4) (a5 : A5) (a6 : A6) (a7 : A7) (a8 : A8) (a9 : A9) (a10 : A10) (a11 : A11) (a12 : A12) (h : I a1 a2 a3 a4 a5 a6 a7 a8 a9 a10 a11 a12) : ∃ n, W n a1 a2 a3 a4 a5 a6 a7 a8 a9 a10 a11 a12 :=
  loop_m (σ := A1 × A2 × A3 × A4 × A5 × A6 × A7 × A8 × A9 × A10 × A11 × A12) (fun n s => W n s.1 s.2.1 s.2.2.1 s.2.2.2.1 s.2.2.2.2.1 s.2.2.2.2.2.1 s.2.2.2.2.2.2.1 s.2.2.2.2.2.2.2.1 s.2.2.2.2.2.2.2.2.1 s.2.2.2.2.2.2.2.2.2.1 s.2.2.2.2.2.2.2.2.2.2.1 s.2.2.2.2.2.2.2.2.2.2.2) (fun s => I s.1 s.2.1 s.2.2.1 s.2.2.2.1 s.2.2.2.2.1 s.2.2.2.2.2.1 s.2.2.2.2.2.2.1 s.2.2.2.2.2.2.2.1 s.2.2.2.2.2.2.2.2.1 s.2.2.2.2.2.2.2.2.2.1 s.2.2.2.2.2.2.2.2.2.2.1 s.2.2.2.2.2.2.2.2.2.2.2) (fun s => μ s.1 s.2.1 s.2.2.1 s.2.2.2.1 s.2.2.2.2.1 s.2.2.2.2.2.1 s.2.2.2.2.2.2.1 s.2.2.2.2.2.2.2.1 s.2.2.2.2.2.2.2.2.1 s.2.2.2.2.2.2.2.2.2.1 s.2.2.2.2.2.2.2.2.2.2.1 s.2.2.2.2.2.2.2.2.2.2.2) (fun n s hI hk => hs n s.1 s.2.1 s.2.2.1 s.2.2.2.1 s.2.2.2.2.1 s.2.2.2.2.2.1 s.2.2.2.2.2.2.1 s.2.2.2.2.2.2.2.1 s.2.2.2.2.2.2.2.2.1 s.2.2.2.2.2.2.2.2.2.1 s.2.2.2.2.2.2.2.2.2.2.1 s.2.2.2.2.2.2.2.2.2.2.2 hI (fun b1 b2 b3 b4 b5 b6 b7 b8 b9 b10 b11 b12 h9 hm => hk (b1, b2, b3, b4, b5, b6, b7, b8, b9, b10, b11, b12) h9 hm)) (a1, a2, a3, a4, a5, a6, a7, a8, a9, a10, a11, a12) h
theorem lp13 {A1 A2 A3 A4 A5 A6 A7 A8 A9 A10 A11 A12 A13 : Type} (W : Nat → A1 → A2 → A3 → A4 → A5 → A6 → A7 → A8 → A9 → A10 → A11 → A12 → A13 → Prop) (I : A1 → A2 → A3 → A4 → A5 → A6 → A7 → A8 → A9 → A10 → A11 → A12 → A13 → Prop) (μ : A1 → A2 → A3 → A4 → A5 → A6 → A7 → A8 → A9 → A10 → A11 → A12 → A13 → Nat) (hs : ∀ (n : Nat) (a1 : A1) (a2 : A2) (a3 : A3) (a4 : A4) (a5 : A5) (a6 : A6) (a7 : A7) (a8 : A8) (a9 : A9) (a10 : A10) (a11 : A11) (a12 : A12) (a13 : A13), I a1 a2 a3 a4 a5 a6 a7 a8 a9 a10 a11 a12 a13 → (∀ (b1 : A1) (b2 : A2) (b3 : A3) (b4 : A4) (b5 : A5) (b6 : A6) (b7 : A7) (b8 : A8) (b9 : A9) (b10 : A10) (b11 : A11) (b12 : A12) (b13 : A13), I b1 b2 b3 b4 b5 b6 b7 b8 b9 b10 b11 b12 b13 → μ b1 b2 b3 b4 b5 b6 b7 b8 b9 b10 b11 b12 b13 < μ a1 a2 a3 a4 a5 a6 a7 a8 a9 a10 a11 a12 a13 → W n b1 b2 b3 b4 b5 b6 b7 b8 b9 b10 b11 b12 b13) → W (n + 1) a1 a2 a3 a4 a5 a6 a7 a8 a9 a10 a11 a12 a13) (a1 : A1) (a2 : A2) (a3 : A3) (a4 : A4) (a5 : A5) (a6 : A6) (a7 : A7) (a8 : A8) (a9 : A9) (a10 : A10) (a11 : A11) (a12 : A12) (a13 : A13) (h : I a1 a2 a3 a4 a5 a6 a7 a8 a9 a10 a11 a12 a13) : ∃ n, W n a1 a2 a3 a4 a5 a6 a7 a8 a9 a10 a11 a12 a13 :=
  loop_m (σ := A1 × A2 × A3 × A4 × A5 × A6 × A7 × A8 × A9 × A10 × A11 × A12 × A13) (fun n s => W n s.1 s.2.1 s.2.2.1 s.2.2.2.1 s.2.2.2.2.1 s.2.2.2.2.2.1 s.2.2.2.2.2.2.1 s.2.2.2.2.2.2.2.1 s.2.2.2.2.2.2.2.2.1 s.2.2.2.2.2.2.2.2.2.1 s.2.2.2.2.2.2.2.2.2.2.1 s.2.2.2.2.2.2.2.2.2.2.2.1 s.2.2.2.2.2.2.2.2.2.2.2.2) (fun s => I s.1 s.2.1 s.2.2.1 s.2.2.2.1 s.2.2.2.2.1 s.2.2.2.2.2.1 s.2.2.2.2.2.2.1 s.2.2.2.2.2.2.2.1 s.2.2.2.2.2.2.2.2.1 s.2.2.2.2.2.2.2.2.2.1 s.2.2.2.2.2.2.2.2.2.2.1 s.2.2.2.2.2.2.2.2.2.2.2.1 s.2.2.2.2.2.2.2.2.2.2.2.2) (fun s => μ s.1 s.2.1 s.2.2.1 s.2.2.2.1 s.2.2.2.2.1 s.2.2.2.2.2.1 s.2.2.2.2.2.2.1 s.2.2.2.2.2.2.2.1 s.2.2.2.2.2.2.2.2.1 s.2.2.2.2.2.2.2.2.2.1 s.2.2.2.2.2.2.2.2.2.2.1 s.2.2.2.2.2.2.2.2.2.2.2.1 s.2.2.2.2.2.2.2.2.2.2.2.2) (fun n s hI hk => hs n s.1 s.2.1 s.2.2.1 s.2.2.2.1 s.2.2.2.2.1 s.2.2.2.2.2.1 s.2.2.2.2.2.2.1 s.2.2.2.2.2.2.2.1 s.2.2.2.2.2.2.2.2.1 s.2.2.2.2.2.2.2.2.2.1 s.2.2.2.2.2.2.2.2.2.2.1 s.2.2.2.2.2.2.2.2.2.2.2.1 s.2.2.2.2.2.2.2.2.2.2.2.2 hI (fun b1 b2 b3 b4 b5 b6 b7 b8 b9 b10 b11 b12 b13 h9 hm => hk (b1, b2, b3, b4, b5, b6, b7, b8, b9, b10, b11, b12, b13) h9 hm)) (a1, a2, a3, a4, a5, a6, a7, a8, a9, a10, a11, a12, a13) h
theorem lp14 {A1 A2 A3 A4 A5 A6 A7 A8 A9 A10 A11 A12 A13 A14 : Type} (W : Nat → A1 → A2 → A3 → A4 → A5 → A6 → A7 → A8 → A9 → A10 → A11 → A12 → A13 → A14 → Prop) (I : A1 → A2 → A3 → A4 → A5 → A6 → A7 → A8 → A9 → A10 → A11 → A12 → A13 → A14 → Prop) (μ : A1 → A2 → A3 → A4 → A5 → A6 → A7 → A8 → A9 → A10 → A11 → A12 → A13 → A14 → Nat) (hs : ∀ (n : Nat) (a1 : A1) (a2 : A2) (a3 : A3) (a4 : A4) (a5 : A5) (a6 : A6) (a7 : A7) (a8 : A8) (a9 : A9) (a10 : A10) (a11 : A11) (a12 : A12) (a13 : A13) (a14 : A14), I a1 a2 a3 a4 a5 a6 a7 a8 a9 a10 a11 a12 a13 a14 → (∀ (b1 : A1) (b2 : A2) (b3 : A3) (b4 : A4) (b5 : A5) (b6 : A6) (b7 : A7) (b8 : A8) (b9 : A9) (b10 : A10) (b11 : A11) (b12 : A12) (b13 : A13) (b14 : A14), I b1 b2 b3 b4 b5 b6 b7 b8 b9 b10 b11 b12 b13 b14 → μ b1 b2 b3 b4 b5 b6 b7 b8 b9 b10 b11 b12 b13 b14 < μ a1 a2 a3 a4 a5 a6 a7 a8 a9 a10 a11 a12 a13 a14 → W n b1 b2 b3 b4 b5 b6 b7 b8 b9 b10 b11 b12 b13 b14) → W (n + 1) a1 a2 a3 a4 a5 a6 a7 a8 a9 a10 a11 a12 a13 a14) (a1 : A1) (a2 : A2) (a3 : A3) (a4 : A4) (a5 : A5) (a6 : A6) (a7 : A7) (a8 : A8) (a9 : A9) (a10 : A10) (a11 : A11) (a12 : A12) (a13 : A13) (a14 : A14) (h : I a1 a2 a3 a4 a5 a6 a7 a8 a9 a10 a11 a12 a13 a14) : ∃ n, W n a1 a2 a3 a4 a5 a6 a7 a8 a9 a10 a11 a12 a13 a14 :=
  loop_m (σ := A1 × A2 × A3 × A4 × A5 × A6 × A7 × A8 × A9 × A10 × A11 × A12 × A13 × A14) (fun n s => W n s.1 s.2.1 s.2.2.1 s.2.2.2.1 s.2.2.2.2.1 s.2.2.2.2.2.1 s.2.2.2.2.2.2.1 s.2.2.2.2.2.2.2.1 s.2.2.2.2.2.2.2.2.1 s.2.2.2.2.2.2.2.2.2.1 s.2.2.2.2.2.2.2.2.2.2.1 s.2.2.2.2.2.2.2.2.2.2.2.1 s.2.2.2.2.2.2.2.2.2.2.2.2.1 s.2.2.2.2.2.2.2.2.2.2.2.2.2) (fun s => I s.1 s.2.1 s.2.2.1 s.2.2.2.1 s.2.2.2.2.1 s.2.2.2.2.2.1 s.2.2.2.2.2.2.1 s.2.2.2.2.2.2.2.1 s.2.2.2.2.2.2.2.2.1 s.2.2.2.2.2.2.2.2.2.1 s.2.2.2.2.2.2.2.2.2.2.1 s.2.2.2.2.2.2.2.2.2.2.2.1 s.2.2.2.2.2.2.2.2.2.2.2.2.1 s.2.2.2.2.2.2.2.2.2.2.2.2.2) (fun s => μ s.1 s.2.1 s.2.2.1 s.2.2.2.1 s.2.2.2.2.1 s.2.2.2.2.2.1 s.2.2.2.2.2.2.1 s.2.2.2.2.2.2.2.1 s.2.2.2.2.2.2.2.2.1 s.2.2.2.2.2.2.2.2.2.1 s.2.2.2.2.2.2.2.2.2.2.1 s.2.2.2.2.2.2.2.2.2.2.2.1 s.2.2.2.2.2.2.2.2.2.2.2.2.1 s.2.2.2.2.2.2.2.2.2.2.2.2.2) (fun n s hI hk => hs n s.1 s.2.1 s.2.2.1 s.2.2.2.1 s.2.2.2.2.1 s.2.2.2.2.2.1 s.2.2.2.2.2.2.1 s.2.2.2.2.2.2.2.1 s.2.2.2.2.2.2.2.2.1 s.2.2.2.2.2.2.2.2.2.1 s.2.2.2.2.2.2.2.2.2.2.1 s.2.2.2.2.2.2.2.2.2.2.2.1 s.2.2.2.2.2.2.2.2.2.2.2.2.1 s.2.2.2.2.2.2.2.2.2.2.2.2.2 hI (fun b1 b2 b3 b4 b5 b6 b7 b8 b9 b10 b11 b12 b13 b14 h9 hm => hk (b1, b2, b3, b4, b5, b6, b7, b8, b9, b10, b11, b12, b13, b14) h9 hm)) (a1, a2, a3, a4, a5, a6, a7, a8, a9, a10, a11, a12, a13, a14) h
theorem lp15 {A1 A2 A3 A4 A5 A6 A7 A8 A9 A10 A11 A12 A13 A14 A15 : Type} (W : Nat → A1 → A2 → A3 → A4 → A5 → A6 → A7 → A8 → A9 → A10 → A11 → A12 → A13 → A14 → A15 → Prop) (I : A1 → A2 → A3 → A4 → A5 → A6 → A7 → A8 → A9 → A10 → A11 → A12 → A13 → A14 → A15 → Prop) (μ : A1 → A2 → A3 → A4 → A5 → A6 → A7 → A8 → A9 → A10 → A11 → A12 → A13 → A14 → A15 → Nat) (hs : ∀ (n : Nat) (a1 : A1) (a2 : A2) (a3 : A3) (a4 : A4) (a5 : A5) (a6 : A6) (a7 : A7) (a8 : A8) (a9 : A9) (a10 : A10) (a11 : A11) (a12 : A12) (a13 : A13) (a14 : A14) (a15 : A15), I a1 a2 a3 a4 a5 a6 a7 a8 a9 a10 a11 a12 a13 a14 a15 → (∀ (b1 : A1) (b2 : A2) (b3 : A3) (b4 : A4) (b5 : A5) (b6 : A6) (b7 : A7) (b8 : A8) (b9 : A9) (b10 : A10) (b11 : A11) (b12 : A12) (b13 : A13) (b14 : A14) (b15 : A15), I b1 b2 b3 b4 b5 b6 b7 b8 b9 b10 b11 b12 b13 b14 b15 → μ b1 b2 b3 b4 b5 b6 b7 b8 b9 b10 b11 b12 b13 b14 b15 < μ a1 a2 a3 a4 a5 a6 a7 a8 a9 a10 a11 a12 a13 a14 a15 → W n b1 b2 b3 b4 b5 b6 b7 b8 b9 b10 b11 b12 b13 b14 b15) → W (n + 1) a1 a2 a3 a4 a5 a6 a7 a8 a9 a10 a11 a12 a13 a14 a15) (a1 : A1) (a2 : A2) (a3 : A3) (a4 : A4) (a5 : A5) (a6 : A6) (a7 : A7) (a8 : A8) (a9 : A9) (a10 : A10) (a11 : A11) (a12 : A12) (a13 : A13) (a14 : A14) (a15 : A15) (h : I a1 a2 a3 a4 a5 a6 a7 a8 a9 a10 a11 a12 a13 a14 a15) : ∃ n, W n a1 a2 a3 a4 a5 a6 a7 a8 a9 a10 a11 a12 a13 a14 a15 :=
  loop_m (σ := A1 × A2 × A3 × A4 × A5 × A6 × A7 × A8 × A9 × A10 × A11 × A12 × A13 × A14 × A15) (fun n s => W n s.1 s.2.1 s.2.2.1 s.2.2.2.1 s.2.2.2.2.1 s.2.2.2.2.2.1 s.2.2.2.2.2.2.1 s.2.2.2.2.2.2.2.1 s.2.2.2.2.2.2.2.2.1 s.2.2.2.2.2.2.2.2.2.1 s.2.2.2.2.2.2.2.2.2.2.1 s.2.2.2.2.2.2.2.2.2.2.2.1 s.2.2.2.2.2.2.2.2.2.2.2.2.1 s.2.2.2.2.2.2.2.2.2.2.2.2.2.1 s.2.2.2.2.2.2.2.2.2.2.2.2.2.2) (fun s => I s.1 s.2.1 s.2.2.1 s.2.2.2.1 s.2.2.2.2.1 s.2.2.2.2.2.1 s.2.2.2.2.2.2.1 s.2.2.2.2.2.2.2.1 s.2.2.2.2.2.2.2.2.1 s.2.2.2.2.2.2.2.2.2.1 s.2.2.2.2.2.2.2.2.2.2.1 s.2.2.2.2.2.2.2.2.2.2.2.1 s.2.2.2.2.2.2.2.2.2.2.2.2.1 s.2.2.2.2.2.2.2.2.2.2.2.2.2.1 s.2.2.2.2.2.2.2.2.2.2.2.2.2.2) (fun s => μ s.1 s.2.1 s.2.2.1 s.2.2.2.1 s.2.2.2.2.1 s.2.2.2.2.2.1 s.2.2.2.2.2.2.1 s.2.2.2.2.2.2.2.1 s.2.2.2.2.2.2.2.2.1 s.2.2.2.2.2.2.2.2.2.1 s.2.2.2.2.2.2.2.2.2.2.1 s.2.2.2.2.2.2.2.2.2.2.2.1 s.2.2.2.2.2.2.2.2.2.2.2.2.1 s.2.2.2.2.2.2.2.2.2.2.2.2.2.1 s.2.2.2.2.2.2.2.2.2.2.2.2.2.2) (fun n s hI hk => hs n s.1 s.2.1 s.2.2.1 s.2.2.2.1 s.2.2.2.2.1 s.2.2.2.2.2.1 s.2.2.2.2.2.2.1 s.2.2.2.2.2.2.2.1 s.2.2.2.2.2.2.2.2.1 s.2.2.2.2.2.2.2.2.2.1 s.2.2.2.2.2.2.2.2.2.2.1 s.2.2.2.2.2.2.2.2.2.2.2.1 s.2.2.2.2.2.2.2.2.2.2.2.2.1 s.2.2.2.2.2.2.2.2.2.2.2.2.2.1 s.2.2.2.2.2.2.2.2.2.2.2.2.2.2 hI (fun b1 b2 b3 b4 b5 b6 b7 b8 b9 b10 b11 b12 b13 b14 b15 h9 hm => hk (b1, b2, b3, b4, b5, b6, b7, b8, b9, b10, b11, b12, b13, b14, b15) h9 hm)) (a1, a2, a3, a4, a5, a6, a7, a8, a9, a10, a11, a12, a13, a14, a15) h
theorem lp16 {A1 A2 A3 A4 A5 A6 A7 A8 A9 A10 A11 A12 A13 A14 A15 A16 : Type} (W : Nat → A1 → A2 → A3 → A4 → A5 → A6 → A7 → A8 → A9 → A10 → A11 → A12 → A13 → A14 → A15 → A16 → Prop) (I : A1 → A2 → A3 → A4 → A5 → A6 → A7 → A8 → A9 → A10 → A11 → A12 → A13 → A14 → A15 → A16 → Prop) (μ : A1 → A2 → A3 → A4 → A5 → A6 → A7 → A8 → A9 → A10 → A11 → A12 → A13 → A14 → A15 → A16 → Nat) (hs : ∀ (n : Nat) (a1 : A1) (a2 : A2) (a3 : A3) (a4 : A4) (a5 : A5) (a6 : A6) (a7 : A7) (a8 : A8) (a9 : A9) (a10 : A10) (a11 : A11) (a12 : A12) (a13 : A13) (a14 : A14) (a15 : A15) (a16 : A16), I a1 a2 a3 a4 a5 a6 a7 a8 a9 a10 a11 a12 a13 a14 a15 a16 → (∀ (b1 : A1) (b2 : A2) (b3 : A3) (b4 : A4) (b5 : A5) (b6 : A6) (b7 : A7) (b8 : A8) (b9 : A9) (b10 : A10) (b11 : A11) (b12 : A12) (b13 : A13) (b14 : A14) (b15 : A15) (b16 : A16), I b1 b2 b3 b4 b5 b6 b7 b8 b9 b10 b11 b12 b13 b14 b15 b16 → μ b1 b2 b3 b4 b5 b6 b7 b8 b9 b10 b11 b12 b13 b14 b15 b16 < μ a1 a2 a3 a4 a5 a6 a7 a8 a9 a10 a11 a12 a13 a14 a15 a16 → W n b1 b2 b3 b4 b5 b6 b7 b8 b9 b10 b11 b12 b13 b14 b15 b16) → W (n + 1) a1 a2 a3 a4 a5 a6 a7 a8 a9 a10 a11 a12 a13 a14 a15 a16) (a1 : A1) (a2 : A2) (a3 : A3) (a4 : A4) (a5 : A5) (a6 : A6) (a7 : A7) (a8 : A8) (a9 : A9) (a10 : A10) (a11 : A11) (a12 : A12) (a13 : A13) (a14 : A14) (a15 : A15) (a16 : A16) (h : I a1 a2 a3 a4 a5 a6 a7 a8 a9 a10 a11 a12 a13 a14 a15 a16) : ∃ n, W n a1 a2 a3 a4 a5 a6 a7 a8 a9 a10 a11 a12 a13 a14 a15 a16 :=
  loop_m (σ := A1 × A2 × A3 × A4 × A5 × A6 × A7 × A8 × A9 × A10 × A11 × A12 × A13 × A14 × A15 × A16) (fun n s => W n s.1 s.2.1 s.2.2.1 s.2.2.2.1 s.2.2.2.2.1 s.2.2.2.2.2.1 s.2.2.2.2.2.2.1 s.2.2.2.2.2.2.2.1 s.2.2.2.2.2.2.2.2.1 s.2.2.2.2.2.2.2.2.2.1 s.2.2.2.2.2.2.2.2.2.2.1 s.2.2.2.2.2.2.2.2.2.2.2.1 s.2.2.2.2.2.2.2.2.2.2.2.2.1 s.2.2.2.2.2.2.2.2.2.2.2.2.2.1 s.2.2.2.2.2.2.2.2.2.2.2.2.2.2.1 s.2.2.2.2.2.2.2.2.2.2.2.2.2.2.2) (fun s => I s.1 s.2.1 s.2.2.1 s.2.2.2.1 s.2.2.2.2.1 s.2.2.2.2.2.1 s.2.2.2.2.2.2.1 s.2.2.2.2.2.2.2.1 s.2.2.2.2.2.2.2.2.1 s.2.2.2.2.2.2.2.2.2.1 s.2.2.2.2.2.2.2.2.2.2.1 s.2.2.2.2.2.2.2.2.2.2.2.1 s.2.2.2.2.2.2.2.2.2.2.2.2.1 s.2.2.2.2.2.2.2.2.2.2.2.2.2.1 s.2.2.2.2.2.2.2.2.2.2.2.2.2.2.1 s.2.2.2.2.2.2.2.2.2.2.2.2.2.2.2) (fun s => μ s.1 s.2.1 s.2.2.1 s.2.2.2.1 s.2.2.2.2.1 s.2.2.2.2.2.1 s.2.2.2.2.2.2.1 s.2.2.2.2.2.2.2.1 s.2.2.2.2.2.2.2.2.1 s.2.2.2.2.2.2.2.2.2.1 s.2.2.2.2.2.2.2.2.2.2.1 s.2.2.2.2.2.2.2.2.2.2.2.1 s.2.2.2.2.2.2.2.2.2.2.2.2.1 s.2.2.2.2.2.2.2.2.2.2.2.2.2.1 s.2.2.2.2.2.2.2.2.2.2.2.2.2.2.1 s.2.2.2.2.2.2.2.2.2.2.2.2.2.2.2) (fun n s hI hk => hs n s.1 s.2.1 s.2.2.1 s.2.2.2.1 s.2.2.2.2.1 s.2.2.2.2.2.1 s.2.2.2.2.2.2.1 s.2.2.2.2.2.2.2.1 s.2.2.2.2.2.2.2.2.1 s.2.2.2.2.2.2.2.2.2.1 s.2.2.2.2.2.2.2.2.2.2.1 s.2.2.2.2.2.2.2.2.2.2.2.1 s.2.2.2.2.2.2.2.2.2.2.2.2.1 s.2.2.2.2.2.2.2.2.2.2.2.2.2.1 s.2.2.2.2.2.2.2.2.2.2.2.2.2.2.1 s.2.2.2.2.2.2.2.2.2.2.2.2.2.2.2 hI (fun b1 b2 b3 b4 b5 b6 b7 b8 b9 b10 b11 b12 b13 b14 b15 b16 h9 hm => hk (b1, b2, b3, b4, b5, b6, b7, b8, b9, b10, b11, b12, b13, b14, b15, b16) h9 hm)) (a1, a2, a3, a4, a5, a6, a7, a8, a9, a10, a11, a12, a13, a14, a15, a16) h
theorem pk_least (P : Nat → Prop) (h : ∃ k, P k) : ∃ k, P k ∧ ∀ j, j < k → ¬ P j := by
  obtain ⟨k, hk⟩ := h
  induction k using Nat.strongRecOn with
  | ind k ih =>
    by_cases e : ∃ j, j < k ∧ P j
    · obtain ⟨j, hj, pj⟩ := e
      exact ih j hj pj
    · exact ⟨k, hk, fun j hj pj => e ⟨j, hj, pj⟩⟩
theorem rp1 {ρ A1 : Type} (W : Nat → (ρ → Prop) → A1 → Prop) (ok : A1 → Prop) (μ : A1 → Nat) (val : A1 → ρ)
    (hs : ∀ (d : Nat) (post : ρ → Prop) (a1 : A1), ok a1 → post (val a1) → (∀ (post' : ρ → Prop) (b1 : A1), ok b1 → μ b1 < μ a1 → post' (val b1) → W d post' b1) → W (d + 1) post a1) :
    ∀ (d : Nat) (post : ρ → Prop) (a1 : A1), ok a1 → μ a1 < d → post (val a1) → W d post a1 := by
  intro d
  induction d with
  | zero => intro post a1 _ h; omega
  | succ d ih =>
    intro post a1 ho hm hp
    exact hs d post a1 ho hp (fun post' b1 ho' hm' hp' => ih post' b1 ho' (by omega) hp')
theorem rp2 {ρ A1 A2 : Type} (W : Nat → (ρ → Prop) → A1 → A2 → Prop) (ok : A1 → A2 → Prop) (μ : A1 → A2 → Nat) (val : A1 → A2 → ρ)
    (hs : ∀ (d : Nat) (post : ρ → Prop) (a1 : A1) (a2 : A2), ok a1 a2 → post (val a1 a2) → (∀ (post' : ρ → Prop) (b1 : A1) (b2 : A2), ok b1 b2 → μ b1 b2 < μ a1 a2 → post' (val b1 b2) → W d post' b1 b2) → W (d + 1) post a1 a2) :
    ∀ (d : Nat) (post : ρ → Prop) (a1 : A1) (a2 : A2), ok a1 a2 → μ a1 a2 < d → post (val a1 a2) → W d post a1 a2 := by
  intro d
  induction d with
  | zero => intro post a1 a2 _ h; omega
  | succ d ih =>
    intro post a1 a2 ho hm hp
    exact hs d post a1 a2 ho hp (fun post' b1 b2 ho' hm' hp' => ih post' b1 b2 ho' (by omega) hp')
theorem rp3 {ρ A1 A2 A3 : Type} (W : Nat → (ρ → Prop) → A1 → A2 → A3 → Prop) (ok : A1 → A2 → A3 → Prop) (μ : A1 → A2 → A3 → Nat) (val : A1 → A2 → A3 → ρ)
    (hs : ∀ (d : Nat) (post : ρ → Prop) (a1 : A1) (a2 : A2) (a3 : A3), ok a1 a2 a3 → post (val a1 a2 a3) → (∀ (post' : ρ → Prop) (b1 : A1) (b2 : A2) (b3 : A3), ok b1 b2 b3 → μ b1 b2 b3 < μ a1 a2 a3 → post' (val b1 b2 b3) → W d post' b1 b2 b3) → W (d + 1) post a1 a2 a3) :
    ∀ (d : Nat) (post : ρ → Prop) (a1 : A1) (a2 : A2) (a3 : A3), ok a1 a2 a3 → μ a1 a2 a3 < d → post (val a1 a2 a3) → W d post a1 a2 a3 := by
  intro d
  induction d with
  | zero => intro post a1 a2 a3 _ h; omega
  | succ d ih =>
    intro post a1 a2 a3 ho hm hp
    exact hs d post a1 a2 a3 ho hp (fun post' b1 b2 b3 ho' hm' hp' => ih post' b1 b2 b3 ho' (by omega) hp')
theorem rp4 {ρ A1 A2 A3 A4 : Type} (W : Nat → (ρ → Prop) → A1 → A2 → A3 → A4 → Prop) (ok : A1 → A2 → A3 → A4 → Prop) (μ : A1 → A2 → A3 → A4 → Nat) (val : A1 → A2 → A3 → A4 → ρ)
    (hs : ∀ (d : Nat) (post : ρ → Prop) (a1 : A1) (a2 : A2) (a3 : A3) (a4 : A4), ok a1 a2 a3 a4 → post (val a1 a2 a3 a4) → (∀ (post' : ρ → Prop) (b1 : A1) (b2 : A2) (b3 : A3) (b4 : A4), ok b1 b2 b3 b4 → μ b1 b2 b3 b4 < μ a1 a2 a3 a4 → post' (val b1 b2 b3 b4) → W d post' b1 b2 b3 b4) → W (d + 1) post a1 a2 a3 a4) :
    ∀ (d : Nat) (post : ρ → Prop) (a1 : A1) (a2 : A2) (a3 : A3) (a4 : A4), ok a1 a2 a3 a4 → μ a1 a2 a3 a4 < d → post (val a1 a2 a3 a4) → W d post a1 a2 a3 a4 := by
  intro d
  induction d with
  | zero => intro post a1 a2 a3 a4 _ h; omega
  | succ d ih =>
    intro post a1 a2 a3 a4 ho hm hp
    exact hs d post a1 a2 a3 a4 ho hp (fun post' b1 b2 b3 b4 ho' hm' hp' => ih post' b1 b2 b3 b4 ho' (by omega) hp')
theorem rp5 {ρ A1 A2 A3 A4 A5 : Type} (W : Nat → (ρ → Prop) → A1 → A2 → A3 → A4 → A5 → Prop) (ok : A1 → A2 → A3 → A4 → A5 → Prop) (μ : A1 → A2 → A3 → A4 → A5 → Nat) (val : A1 → A2 → A3 → A4 → A5 → ρ)
    (hs : ∀ (d : Nat) (post : ρ → Prop) (a1 : A1) (a2 : A2) (a3 : A3) (a4 : A4) (a5 : A5), ok a1 a2 a3 a4 a5 → post (val a1 a2 a3 a4 a5) → (∀ (post' : ρ → Prop) (b1 : A1) (b2 : A2) (b3 : A3) (b4 : A4) (b5 : A5), ok b1 b2 b3 b4 b5 → μ b1 b2 b3 b4 b5 < μ a1 a2 a3 a4 a5 → post' (val b1 b2 b3 b4 b5) → W d post' b1 b2 b3 b4 b5) → W (d + 1) post a1 a2 a3 a4 a5) :
    ∀ (d : Nat) (post : ρ → Prop) (a1 : A1) (a2 : A2) (a3 : A3) (a4 : A4) (a5 : A5), ok a1 a2 a3 a4 a5 → μ a1 a2 a3 a4 a5 < d → post (val a1 a2 a3 a4 a5) → W d post a1 a2 a3 a4 a5 := by
  intro d
  induction d with
  | zero => intro post a1 a2 a3 a4 a5 _ h; omega
  | succ d ih =>
    intro post a1 a2 a3 a4 a5 ho hm hp
    exact hs d post a1 a2 a3 a4 a5 ho hp (fun post' b1 b2 b3 b4 b5 ho' hm' hp' => ih post' b1 b2 b3 b4 b5 ho' (by omega) hp')
theorem rp6 {ρ A1 A2 A3 A4 A5 A6 : Type} (W : Nat → (ρ → Prop) → A1 → A2 → A3 → A4 → A5 → A6 → Prop) (ok : A1 → A2 → A3 → A4 → A5 → A6 → Prop) (μ : A1 → A2 → A3 → A4 → A5 → A6 → Nat) (val : A1 → A2 → A3 → A4 → A5 → A6 → ρ)
    (hs : ∀ (d : Nat) (post : ρ → Prop) (a1 : A1) (a2 : A2) (a3 : A3) (a4 : A4) (a5 : A5) (a6 : A6), ok a1 a2 a3 a4 a5 a6 → post (val a1 a2 a3 a4 a5 a6) → (∀ (post' : ρ → Prop) (b1 : A1) (b2 : A2) (b3 : A3) (b4 : A4) (b5 : A5) (b6 : A6), ok b1 b2 b3 b4 b5 b6 → μ b1 b2 b3 b4 b5 b6 < μ a1 a2 a3 a4 a5 a6 → post' (val b1 b2 b3 b4 b5 b6) → W d post' b1 b2 b3 b4 b5 b6) → W (d + 1) post a1 a2 a3 a4 a5 a6) :
    ∀ (d : Nat) (post : ρ → Prop) (a1 : A1) (a2 : A2) (a3 : A3) (a4 : A4) (a5 : A5) (a6 : A6), ok a1 a2 a3 a4 a5 a6 → μ a1 a2 a3 a4 a5 a6 < d → post (val a1 a2 a3 a4 a5 a6) → W d post a1 a2 a3 a4 a5 a6 := by
  intro d
  induction d with
  | zero => intro post a1 a2 a3 a4 a5 a6 _ h; omega
  | succ d ih =>
    intro post a1 a2 a3 a4 a5 a6 ho hm hp
    exact hs d post a1 a2 a3 a4 a5 a6 ho hp (fun post' b1 b2 b3 b4 b5 b6 ho' hm' hp' => ih post' b1 b2 b3 b4 b5 b6 ho' (by omega) hp')
theorem rec_p {σ ρ : Type} (W : Nat → (ρ → Prop) → σ → Prop) (ok : σ → Prop) (μ : σ → Nat) (val : σ → ρ)
    (hs : ∀ d s post, ok s → post (val s) → (∀ s' post', ok s' → μ s' < μ s → post' (val s') → W d post' s') → W (d + 1) post s) :
    ∀ d s post, ok s → μ s < d → post (val s) → W d post s := by
  intro d
  induction d with
  | zero => intro s post _ h; omega
  | succ d ih =>
    intro s post ho hm hp
    exact hs d s post ho hp (fun s' post' ho' hm' hp' => ih s' post' ho' (by omega) hp')
theorem rec_q {σ ρ : Type} (W : Nat → (ρ → Prop) → σ → Prop) (ok : σ → Prop) (μ : σ → Nat) (Q : σ → ρ → Prop)
    (hs : ∀ d s post, ok s → (∀ r, Q s r → post r) → (∀ s' post', ok s' → μ s' < μ s → (∀ r, Q s' r → post' r) → W d post' s') → W (d + 1) post s) :
    ∀ d s post, ok s → μ s < d → (∀ r, Q s r → post r) → W d post s := by
  intro d
  induction d with
  | zero => intro s post _ h; omega
  | succ d ih =>
    intro s post ho hm hp
    exact hs d s post ho hp (fun s' post' ho' hm' hp' => ih s' post' ho' (by omega) hp')
def bx_sum (f : Nat → Int32) : Nat → Int32
  | 0 => 0
  | n + 1 => bx_sum f n + f n
theorem ek_u {A : Prop} {B : Nat → Prop} {k N : Nat} (hk : k < N) (h : B k) : (some k = none → A) ∧ (∀ y : Nat, some k = some y → (y < N ∧ B y)) :=
  ⟨fun z => absurd z (Option.some_ne_none k), fun _ e => (by cases e; exact ⟨hk, h⟩)⟩
theorem ek_nu {A : Prop} {B : Nat → Prop} (h : A) : ((none : Option Nat) = none → A) ∧ (∀ y : Nat, (none : Option Nat) = some y → B y) :=
  ⟨fun _ => h, fun _ e => (by cases e)⟩
theorem ek_if {c d A B : Prop} (e : c ↔ d) (f : d → A) (g : ¬ d → B) : (c → A) ∧ (¬ c → B) :=
  ⟨fun z => f (e.mp z), fun z => g (fun y => z (e.mpr y))⟩
theorem ek_v {α : Sort _} {P : α → Prop} {a b : α} (e : a = b) (h : P b) : P a := e ▸ h
theorem co_some {x : Option Nat} {A : Prop} {B : Nat → Prop} (i : Nat) (h : B i) (hx : x = some i := by rfl) : (x = none → A) ∧ (∀ y : Nat, x = some y → B y) := by
  subst hx
  exact ⟨fun e => (nomatch e), fun y e => Option.some.inj e ▸ h⟩
theorem co_none {x : Option Nat} {A : Prop} {B : Nat → Prop} (h : A) (hx : x = none := by rfl) : (x = none → A) ∧ (∀ y : Nat, x = some y → B y) := by
  subst hx
  exact ⟨fun _ => h, fun y e => (nomatch e)⟩
theorem co_any {x : Option Nat} {A : Prop} {B : Nat → Prop} (hn : x = none → A) (hs : ∀ i : Nat, x = some i → B i) : (x = none → A) ∧ (∀ y : Nat, x = some y → B y) := ⟨hn, hs⟩
theorem co_2 {P : Nat → Prop} (h0 : P 0) (h1 : P 1) {i : Nat} (hi : i < 2) : P i :=
  match i, hi with
  | 0, _ => h0
  | 1, _ => h1
theorem co_3 {P : Nat → Prop} (h0 : P 0) (h1 : P 1) (h2 : P 2) {i : Nat} (hi : i < 3) : P i :=
  match i, hi with
  | 0, _ => h0
  | 1, _ => h1
  | 2, _ => h2
theorem co_4 {P : Nat → Prop} (h0 : P 0) (h1 : P 1) (h2 : P 2) (h3 : P 3) {i : Nat} (hi : i < 4) : P i :=
  match i, hi with
  | 0, _ => h0
  | 1, _ => h1
  | 2, _ => h2
  | 3, _ => h3
theorem co_dec {N : Nat} {P : Nat → Prop} [DecidablePred P] (h : (List.range N).all (fun i => decide (P i)) = true) {i : Nat} (hi : i < N) : P i := by
  have := List.all_eq_true.mp h i (List.mem_range.mpr hi)
  exact of_decide_eq_true this
theorem co_tab {α : Type} {l : List α} {d : α} {P : α → Prop} (h : ∀ a, a ∈ l → P a) {i : Nat} (hi : i < l.length) : P (l.getD i d) := by
  rw [List.getD_eq_getElem?_getD, List.getElem?_eq_getElem hi]
  exact h _ (List.getElem_mem hi)
theorem pk_mu {x : Int32} {L : Nat} (h0 : ¬ x < 0) (h : ¬ nI L ≤ x) (hL : L < 2 ^ 31) : ∃ j : Nat, j < L ∧ x = nI j ∧ x + 1 = nI (j + 1) ∧ x.toNatClampNeg = j ∧ L - (x + 1).toNatClampNeg < L - x.toNatClampNeg := by
  obtain ⟨j, hj, rfl⟩ := nI_of h0
  have hl : j < L := Nat.not_le.mp fun q => h (nI_le q hj)
  refine ⟨j, hl, rfl, nI_1 j, nI_clamp hj, ?_⟩
  rw [nI_1, nI_clamp (by omega), nI_clamp hj]
  omega
theorem op_s {α : Type} {r : Option α} {A : Prop} {B : α → Prop} {y : α} (h : r = some y) (b : B y) : (r = none → A) ∧ ∀ z, r = some z → B z :=
  ⟨fun e => (by rw [h] at e; cases e), fun z e => (by rw [h] at e; cases e; exact b)⟩
def l_holds {α : Type} (a : Nat → Option Nat) (LP : List Nat) (p : Nat → α) (c : Nat) (b : Nat → α) : Prop :=
  ∀ j, j < c → ∃ y, a j = some y ∧ y ∈ LP ∧ p y = b j
theorem l_holds_0 {α : Type} {a : Nat → Option Nat} {LP : List Nat} {p b : Nat → α} : l_holds a LP p 0 b := fun j h => absurd h (Nat.not_lt_zero j)
theorem l_in_new (LP : List Nat) (q : Nat) : q ∈ LP ++ [q] := List.mem_append.mpr (Or.inr (List.mem_singleton.mpr rfl))
def l_sum (b : Nat → Int32) : Nat → Int32
  | 0 => 0
  | k + 1 => l_sum b k + b k
theorem sb_shr0 (x : Int32) : x >>> ((0 : Int32) &&& 31) = x := by
  rw [show ((0 : Int32) &&& 31) = 0 by decide]
  simp
theorem sb_shl0 (x : Int32) : x <<< ((0 : Int32) &&& 31) = x := by
  rw [show ((0 : Int32) &&& 31) = 0 by decide]
  simp
theorem sb_cl0 : (0 : Int32).toNatClampNeg = 0 := by decide
theorem sb_m1 {p : Nat} (h : 0 < p) : nI p + (-1) = nI (p - 1) := by
  obtain ⟨q, rfl⟩ : ∃ q, p = q + 1 := ⟨p - 1, by omega⟩
  exact pk_m1 q
def sb_b (c : Nat) : Int32 := (nI c).toInt8.toInt32
theorem sb_byte : ∀ c, c < 256 → sb_b c &&& 255 = nI c ∧ ((nI c).toUInt32 % 65536).toInt32 = nI c ∧ nI c ≤ 255 := by decide +kernel
def sb_Fit (a : Nat → Int32) : Prop := ∀ j, fits .byte (.int (a j)) = true
def sb_Lat (t : Nat → Nat) (n : Nat) (a : Nat → Int32) : Prop := ∀ j, j < n → t j < 256 ∧ a j = sb_b (t j)
theorem sb_fitB (c : Nat) : fits .byte (.int (sb_b c)) = true := pk_fb _
theorem sb_fit0 : sb_Fit (fun _ => 0) := fun _ => by
  show fits .byte (.int 0) = true
  decide
theorem sb_fitU {a : Nat → Int32} {k : Nat} {x : Int32} (h : sb_Fit a) (hx : fits .byte (.int x) = true) : sb_Fit (upd a k x) := by
  intro j
  by_cases e : j = k
  · subst e
    rw [pk_us]
    exact hx
  · rw [pk_un e]
    exact h j
def sb_cat (t : Nat → Nat) (n : Nat) (s : Nat → Nat) : Nat → Nat := fun j => if j < n then t j else s (j - n)
theorem sb_cat_lo {t s : Nat → Nat} {n j : Nat} (h : j < n) : sb_cat t n s j = t j := if_pos h
theorem sb_cat_hi {t s : Nat → Nat} {n j : Nat} : sb_cat t n s (n + j) = s j := by
  show (if n + j < n then t (n + j) else s (n + j - n)) = s j
  rw [if_neg (by omega), Nat.add_sub_cancel_left]
theorem sb_latPut {t s : Nat → Nat} {n w : Nat} {a a' : Nat → Int32} (h : sb_Lat t n a) (hk : ∀ j, j < n → a' j = a j) (hs : ∀ i, i < w → s i < 256 ∧ a' (n + i) = sb_b (s i)) : sb_Lat (sb_cat t n s) (n + w) a' := by
  intro j hj
  by_cases e : j < n
  · rw [sb_cat_lo e, hk j e]
    exact h j e
  · obtain ⟨i, rfl⟩ : ∃ i, j = n + i := ⟨j - n, by omega⟩
    rw [sb_cat_hi]
    exact hs i (by omega)
theorem sb_latKeep {t : Nat → Nat} {n : Nat} {a a' : Nat → Int32} (h : sb_Lat t n a) (hk : ∀ j, j < n → a' j = a j) : sb_Lat t n a' := fun j hj => by
  rw [hk j hj]
  exact h j hj
def sb_cap (q m : Nat) : Nat := if q ≤ m then m else if 2 * m + 2 < q then q else 2 * m + 2
def sb_Room (q m mc ms : Nat) : Prop := q ≤ m ∨ (1 ≤ mc ∧ sb_cap q m ≤ ms ∧ sb_cap q m ≤ 65536)
theorem sb_cap_ge (q m : Nat) : q ≤ sb_cap q m := by
  unfold sb_cap
  split
  · omega
  · split <;> omega
theorem sb_cap_gem (q m : Nat) : m ≤ sb_cap q m := by
  unfold sb_cap
  split
  · omega
  · split <;> omega
theorem sb_cap_le {q m mc ms : Nat} (hm : m ≤ 65536) (hr : sb_Room q m mc ms) : sb_cap q m ≤ 65536 := by
  rcases hr with h | h
  · rw [sb_cap, if_pos h]
    exact hm
  · exact h.2.2
theorem sb_at {P : Int32 → Prop} {x y : Int32} (e : x = y) (h : P y) : P x := e ▸ h
def sb_dg (w : Nat) : Nat := if w < 10 then 1 else if w < 100 then 2 else if w < 1000 then 3 else if w < 10000 then 4 else if w < 100000 then 5 else if w < 1000000 then 6 else if w < 10000000 then 7 else if w < 100000000 then 8 else if w < 1000000000 then 9 else 10
def sb_dec (v : Nat) : Nat → Nat := fun i => 48 + v / 10 ^ (sb_dg v - 1 - i) % 10
theorem sb_dg_in (w : Nat) : 1 ≤ sb_dg w ∧ sb_dg w ≤ 10 := by
  unfold sb_dg
  constructor <;> (repeat' split) <;> omega
theorem sb_dg100 {w : Nat} (h : 100 ≤ w) (hw : w < 2 ^ 31) : sb_dg w = sb_dg (w / 100) + 2 := by
  rw [sb_dg, sb_dg, if_neg (show ¬ w < 10 by omega), if_neg (show ¬ w < 100 by omega)]
  by_cases h3 : w < 1000
  · rw [if_pos h3, if_pos (show w / 100 < 10 by omega)]
  rw [if_neg h3, if_neg (show ¬ w / 100 < 10 by omega)]
  by_cases h4 : w < 10000
  · rw [if_pos h4, if_pos (show w / 100 < 100 by omega)]
  rw [if_neg h4, if_neg (show ¬ w / 100 < 100 by omega)]
  by_cases h5 : w < 100000
  · rw [if_pos h5, if_pos (show w / 100 < 1000 by omega)]
  rw [if_neg h5, if_neg (show ¬ w / 100 < 1000 by omega)]
  by_cases h6 : w < 1000000
  · rw [if_pos h6, if_pos (show w / 100 < 10000 by omega)]
  rw [if_neg h6, if_neg (show ¬ w / 100 < 10000 by omega)]
  by_cases h7 : w < 10000000
  · rw [if_pos h7, if_pos (show w / 100 < 100000 by omega)]
  rw [if_neg h7, if_neg (show ¬ w / 100 < 100000 by omega)]
  by_cases h8 : w < 100000000
  · rw [if_pos h8, if_pos (show w / 100 < 1000000 by omega)]
  rw [if_neg h8, if_neg (show ¬ w / 100 < 1000000 by omega)]
  by_cases h9 : w < 1000000000
  · rw [if_pos h9, if_pos (show w / 100 < 10000000 by omega)]
  rw [if_neg h9, if_neg (show ¬ w / 100 < 10000000 by omega)]
  rw [if_pos (show w / 100 < 100000000 by omega)]
theorem sb_negT {w : Nat} (h : w < 2 ^ 31) : (-nI w).toInt = -(w : Int) := by
  rw [Int32.toInt_neg, nI_toInt h]
  exact Int.bmod_eq_of_le (by omega) (by omega)
theorem sb_nle {a b : Nat} (ha : a < 2 ^ 31) (hb : b < 2 ^ 31) : -nI a ≤ -nI b ↔ b ≤ a := by
  rw [Int32.le_iff_toInt_le, sb_negT ha, sb_negT hb]
  omega
theorem sb_nlt {a b : Nat} (ha : a < 2 ^ 31) (hb : b < 2 ^ 31) : -nI a < -nI b ↔ b < a := by
  rw [Int32.lt_iff_toInt_lt, sb_negT ha, sb_negT hb]
  omega
theorem sb_cmp {A B : Prop} {x : Int32} (v c : Nat) (f : c ≤ v → A) (g : v < c → B) (hv : v < 2 ^ 31) (hx : x = -nI c := by rfl) (hc : c < 2 ^ 31 := by omega) : (-nI v ≤ x → A) ∧ (¬ -nI v ≤ x → B) := by
  subst hx
  rw [sb_nle hv hc]
  exact ⟨f, fun z => g (by omega)⟩
theorem sb_ndiv {w : Nat} (hw : w < 2 ^ 31) : (-nI w) / 100 = -nI (w / 100) := by
  apply Int32.toInt_inj.mp
  have h100 : (100 : Int32).toInt = 100 := by decide
  rw [Int32.toInt_div, sb_negT hw, h100, sb_negT (by omega), Int.neg_tdiv, Int.tdiv_eq_ediv_of_nonneg (by omega), Int.bmod_eq_of_le (by omega) (by omega)]
  omega
theorem sb_nrem {w : Nat} (hw : w < 2 ^ 31) : (-nI (w / 100)) * 100 - (-nI w) = nI (w % 100) := by
  have h := pk_rem (a := w) (d := 100) hw (by decide) (by decide)
  rw [pk_div hw (by decide) (by decide)] at h
  rw [← h]
  show (-nI (w / 100)) * nI 100 - (-nI w) = nI w - nI (w / 100) * nI 100
  rw [Int32.neg_mul, Int32.sub_neg, Int32.add_comm, ← Int32.sub_eq_add_neg]
def bt (x : Int32) (i : Nat) : Bool := x.toBitVec.getLsbD i
theorem b_ext {x y : Int32} (h : ∀ i, i < 32 → bt x i = bt y i) : x = y := Int32.toBitVec_inj.mp (BitVec.eq_of_getLsbD_eq (fun i hi => h i hi))
theorem b_or (x y : Int32) (i : Nat) : bt (x ||| y) i = (bt x i || bt y i) := by unfold bt; rw [Int32.toBitVec_or, BitVec.getLsbD_or]
theorem b_and (x y : Int32) (i : Nat) : bt (x &&& y) i = (bt x i && bt y i) := by unfold bt; rw [Int32.toBitVec_and, BitVec.getLsbD_and]
theorem b_xor (x y : Int32) (i : Nat) : bt (x ^^^ y) i = (bt x i ^^ bt y i) := by unfold bt; rw [Int32.toBitVec_xor, BitVec.getLsbD_xor]
theorem b_big {x : Int32} {i : Nat} (h : 32 ≤ i) : bt x i = false := BitVec.getLsbD_of_ge _ _ h
theorem b_255 (i : Nat) : bt 255 i = decide (i < 8) := by
  rcases Nat.lt_or_ge i 32 with h | h
  · exact (by decide +kernel : ∀ i, i < 32 → bt 255 i = decide (i < 8)) i h
  · rw [b_big h, decide_eq_false (by omega)]
theorem b_65535 (i : Nat) : bt 65535 i = decide (i < 16) := by
  rcases Nat.lt_or_ge i 32 with h | h
  · exact (by decide +kernel : ∀ i, i < 32 → bt 65535 i = decide (i < 16)) i h
  · rw [b_big h, decide_eq_false (by omega)]
theorem b_m1 : ∀ i, i < 32 → bt (-1) i = true := by decide +kernel
theorem b_0 (i : Nat) : bt 0 i = false := BitVec.getLsbD_zero
theorem s_l : ∀ n, n < 32 → ((nI n &&& 31).toBitVec.smod 32).toNat = n := by decide +kernel
theorem s_u : ∀ n, n < 32 → (((nI n).toUInt32 &&& Int32.toUInt32 31).toBitVec % 32).toNat = n := by decide +kernel
theorem b_shl (n : Nat) (hn : n < 32) (x : Int32) {i : Nat} (hi : i < 32) : bt (x <<< (nI n &&& 31)) i = (decide (n ≤ i) && bt x (i - n)) := by
  unfold bt
  rw [Int32.toBitVec_shiftLeft]
  show (x.toBitVec <<< ((nI n &&& 31).toBitVec.smod 32).toNat).getLsbD i = _
  rw [s_l n hn, BitVec.getLsbD_shiftLeft]
  rcases Nat.lt_or_ge i n with h | h
  · simp [h, Nat.not_le.mpr h]
  · simp [hi, h, Nat.not_lt.mpr h]
theorem b_ushr (n : Nat) (hn : n < 32) (x : Int32) (i : Nat) : bt ((x.toUInt32 >>> ((nI n).toUInt32 &&& Int32.toUInt32 31)).toInt32) i = bt x (n + i) := by
  show (x.toUInt32 >>> ((nI n).toUInt32 &&& Int32.toUInt32 31)).toBitVec.getLsbD i = x.toUInt32.toBitVec.getLsbD (n + i)
  rw [UInt32.toBitVec_shiftRight]
  show (x.toUInt32.toBitVec >>> (((nI n).toUInt32 &&& Int32.toUInt32 31).toBitVec % 32).toNat).getLsbD i = _
  rw [s_u n hn, BitVec.getLsbD_ushiftRight]
theorem b_sshr (n : Nat) (hn : n < 32) (x : Int32) {i : Nat} (hi : i < 32) : bt (x >>> (nI n &&& 31)) i = if n + i < 32 then bt x (n + i) else bt x 31 := by
  unfold bt
  rw [Int32.toBitVec_shiftRight]
  show (x.toBitVec.sshiftRight ((nI n &&& 31).toBitVec.smod 32).toNat).getLsbD i = _
  rw [s_l n hn, BitVec.getLsbD_sshiftRight, BitVec.msb_eq_getLsbD_last]
  simp [hi]
theorem b_shl8 (x : Int32) {i : Nat} (hi : i < 32) : bt (x <<< ((8 : Int32) &&& 31)) i = (decide (8 ≤ i) && bt x (i - 8)) := b_shl 8 (by omega) x hi
theorem b_shl16 (x : Int32) {i : Nat} (hi : i < 32) : bt (x <<< ((16 : Int32) &&& 31)) i = (decide (16 ≤ i) && bt x (i - 16)) := b_shl 16 (by omega) x hi
theorem b_shl24 (x : Int32) {i : Nat} (hi : i < 32) : bt (x <<< ((24 : Int32) &&& 31)) i = (decide (24 ≤ i) && bt x (i - 24)) := b_shl 24 (by omega) x hi
theorem b_sshr8 (x : Int32) {i : Nat} (hi : i < 32) : bt (x >>> ((8 : Int32) &&& 31)) i = if 8 + i < 32 then bt x (8 + i) else bt x 31 := b_sshr 8 (by omega) x hi
theorem nx_and (a b : Nat) : nI a &&& nI b = nI (a &&& b) := by
  apply Int32.toBitVec_inj.1
  show BitVec.ofNat 32 a &&& BitVec.ofNat 32 b = BitVec.ofNat 32 (a &&& b)
  apply BitVec.eq_of_getLsbD_eq
  intro i hi
  simp [hi]
theorem nx_xor (a b : Nat) : nI a ^^^ nI b = nI (a ^^^ b) := by
  apply Int32.toBitVec_inj.1
  show BitVec.ofNat 32 a ^^^ BitVec.ofNat 32 b = BitVec.ofNat 32 (a ^^^ b)
  apply BitVec.eq_of_getLsbD_eq
  intro i hi
  simp [hi]
theorem nx_cnt : ∀ j : Fin 32, (UInt32.ofNat j.val &&& Int32.toUInt32 31).toNat % 32 = j.val := by decide +kernel
theorem nx_ush {k j : Nat} (hk : k < 65536) (hj : j < 32) : ((nI k).toUInt32 >>> ((nI j).toUInt32 &&& Int32.toUInt32 31)).toInt32 = nI (k >>> j) := by
  have hs : k >>> j ≤ k := by
    rw [Nat.shiftRight_eq_div_pow]
    exact Nat.div_le_self _ _
  have e2 : UInt32.ofNat k >>> (UInt32.ofNat j &&& Int32.toUInt32 31) = UInt32.ofNat (k >>> j) := by
    apply UInt32.toNat_inj.1
    have h1 : (UInt32.ofNat k).toNat = k := Nat.mod_eq_of_lt (by omega)
    have h2 : (UInt32.ofNat (k >>> j)).toNat = k >>> j := Nat.mod_eq_of_lt (by omega)
    rw [UInt32.toNat_shiftRight, nx_cnt ⟨j, hj⟩, h1, h2]
  show (UInt32.ofNat k >>> (UInt32.ofNat j &&& Int32.toUInt32 31)).toInt32 = _
  rw [e2]
  rfl
theorem nx_bit {k j : Nat} (hk : k < 65536) (hj : j < 16) : (((nI k).toUInt32 >>> ((nI j).toUInt32 &&& Int32.toUInt32 31)).toInt32 &&& 1) = 0 ↔ k.testBit j = false := by
  rw [nx_ush hk (by omega)]
  show nI (k >>> j) &&& nI 1 = 0 ↔ _
  rw [nx_and, Nat.and_one_is_mod, ← nI_0, nI_eq (by omega) (by omega), Nat.testBit_eq_decide_div_mod_eq, Nat.shiftRight_eq_div_pow, decide_eq_false_iff_not]
  generalize k / 2 ^ j = z
  omega
theorem nx_mod (k : Nat) : nI k &&& 65535 = nI (k % 65536) := by
  show nI k &&& nI 65535 = _
  rw [nx_and, show (65535 : Nat) = 2 ^ 16 - 1 from rfl, Nat.and_two_pow_sub_one_eq_mod]
theorem nx_m16 {k : Nat} (h : k < 65536) : nI k &&& 65535 = nI k := by rw [nx_mod, Nat.mod_eq_of_lt h]
theorem nx_mask (x : Int32) : ∃ k, k < 65536 ∧ x &&& 65535 = nI k := by
  have e : x = nI x.toBitVec.toNat := by
    apply Int32.toBitVec_inj.1
    show x.toBitVec = BitVec.ofNat 32 x.toBitVec.toNat
    simp
  refine ⟨x.toBitVec.toNat % 65536, Nat.mod_lt _ (by omega), ?_⟩
  rw [← nx_mod, ← e]
def nf_M (m : Int32) : Nat := 4294967296 - m.toBitVec.toNat
theorem nf_sh : ∀ l, l < 32 → ((1 : Int32) <<< (nI l &&& 31)).toBitVec = BitVec.twoPow 32 l := by decide +kernel
theorem nf_sl : ∀ l, l < 32 → (((nI l).toUInt32 &&& Int32.toUInt32 31).toBitVec % 32).toNat = l := by decide +kernel
theorem nf_tp : ∀ l, l < 32 → BitVec.twoPow 32 l ≠ 0#32 := by decide +kernel
theorem nf_bit (m : Int32) (l : Nat) (hl : l < 32) : ((m.toUInt32 >>> ((nI l).toUInt32 &&& Int32.toUInt32 31)).toInt32 &&& 1) = 0 ↔ (m &&& ((1 : Int32) <<< (nI l &&& 31))) = 0 := by
  have e : ((m.toUInt32 >>> ((nI l).toUInt32 &&& Int32.toUInt32 31)).toInt32).toBitVec = m.toBitVec >>> l := by
    show m.toBitVec >>> (((nI l).toUInt32 &&& Int32.toUInt32 31).toBitVec % 32) = m.toBitVec >>> l
    rw [BitVec.ushiftRight_eq', nf_sl l hl]
  rw [← Int32.toBitVec_inj, ← Int32.toBitVec_inj, Int32.toBitVec_and, Int32.toBitVec_and, nf_sh l hl, e, BitVec.and_twoPow]
  show (m.toBitVec >>> l &&& 1#32) = 0#32 ↔ _ = 0#32
  rw [BitVec.and_one_eq_setWidth_ofBool_getLsbD, BitVec.getLsbD_ushiftRight, Nat.add_zero]
  cases hb : m.toBitVec.getLsbD l
  · exact ⟨fun _ => by simp, fun _ => by decide⟩
  · exact ⟨fun z => absurd z (by decide), fun z => absurd ((if_pos rfl).symm.trans z) (nf_tp l hl)⟩
theorem nf_gr (m k : Int32) (h : m &&& k = 0) (hk : k ≠ 0) : nf_M (m ||| k) < nf_M m := by
  have hm := m.toBitVec.isLt
  have hm' := (m ||| k).toBitVec.isLt
  have h1 : m.toBitVec.toNat ≤ (m ||| k).toBitVec.toNat := by
    rw [Int32.toBitVec_or, BitVec.toNat_or]
    exact Nat.left_le_or
  have h2 : m.toBitVec.toNat ≠ (m ||| k).toBitVec.toNat := by
    intro e
    have e2 : m = m ||| k := Int32.toBitVec_inj.mp (BitVec.eq_of_toNat_eq e)
    apply hk
    apply Int32.toBitVec_inj.mp
    show k.toBitVec = 0#32
    apply BitVec.eq_of_getLsbD_eq
    intro i hi
    have a : m.toBitVec.getLsbD i = (m.toBitVec.getLsbD i || k.toBitVec.getLsbD i) := by rw [← BitVec.getLsbD_or, ← Int32.toBitVec_or, ← e2]
    have b : (m.toBitVec.getLsbD i && k.toBitVec.getLsbD i) = false := by
      rw [← BitVec.getLsbD_and, ← Int32.toBitVec_and, h]
      exact BitVec.getLsbD_zero
    rw [BitVec.getLsbD_zero]
    revert a b
    cases m.toBitVec.getLsbD i <;> cases k.toBitVec.getLsbD i <;> simp
  unfold nf_M
  omega
theorem bp_b (x : Int32) : x.toInt8.toInt32 &&& 255 = x &&& 255 := by
  apply Int32.toBitVec_inj.mp
  rw [Int32.toBitVec_and, Int32.toBitVec_and, Int8.toBitVec_toInt32, Int32.toBitVec_toInt8]
  apply BitVec.eq_of_getLsbD_eq
  intro i hi
  rw [BitVec.getLsbD_and, BitVec.getLsbD_and]
  have hm : ∀ i < 32, 8 ≤ i → (255 : Int32).toBitVec.getLsbD i = false := by decide
  rcases Nat.lt_or_ge i 8 with z | z
  · rw [BitVec.getLsbD_signExtend, BitVec.getLsbD_signExtend, if_pos z, if_pos hi]
    simp only [z, hi, decide_true, Bool.true_and]
  · rw [hm i hi z]; simp
theorem em_w (v : Int32) : ∃ w : Nat, w < 65536 ∧ (v.toUInt32 % 65536).toInt32 = nI w ∧ v &&& 65535 = nI w := by
  have hr := lw_u16_r v
  have h0 : (0 : Int32).toInt = 0 := by decide
  obtain ⟨w, h1, h2⟩ := nI_of (x := lw_u16 v) (by rw [Int32.lt_iff_toInt_lt]; omega)
  have h3 : (v.toUInt32 % 65536).toInt32 = nI w := h2
  rw [h2, nI_toInt h1] at hr
  exact ⟨w, by omega, h3, by rw [← lg_i2c_mask, ← lg_i2c_nf, h3]⟩
theorem ts_nf {x : Bool} (h : ¬ x = false) : x = true := by cases x <;> first | rfl | exact absurd rfl h
theorem ts_nt {x : Bool} (h : ¬ x = true) : x = false := by cases x <;> first | rfl | exact absurd rfl h
theorem ts_bit {w : Int64} {s : UInt64} {j : Nat} (hj : j < 64) (hs : s.toNat = j) : ((w.toUInt64 >>> s).toInt64 &&& 1) = 0 ↔ w.toBitVec.getLsbD j = false := by
  have e : (w.toUInt64 >>> s).toInt64.toBitVec = w.toBitVec >>> j := by
    apply BitVec.eq_of_toNat_eq
    show (w.toUInt64 >>> s).toNat = _
    rw [UInt64.toNat_shiftRight, hs, Nat.mod_eq_of_lt hj, BitVec.toNat_ushiftRight]
    rfl
  rw [← Int64.toBitVec_inj, Int64.toBitVec_and, e]
  show w.toBitVec >>> j &&& 1#64 = 0#64 ↔ _
  constructor
  · intro h
    have t := congrArg (fun x => x.getLsbD 0) h
    simpa using t
  · intro h
    apply BitVec.eq_of_getLsbD_eq
    intro i hi
    cases i with
    | zero => simp [h]
    | succ i => simp
theorem ts_or {w m : Int64} {j : Nat} (hj : j < 64) (hm : m.toBitVec = BitVec.twoPow 64 j) : (w ||| m) = w ↔ w.toBitVec.getLsbD j = true := by
  rw [← Int64.toBitVec_inj, Int64.toBitVec_or, hm]
  constructor
  · intro h
    have t := congrArg (fun x => x.getLsbD j) h
    simp only [BitVec.getLsbD_or, BitVec.getLsbD_twoPow] at t
    simpa [hj] using t.symm
  · intro h
    apply BitVec.eq_of_getLsbD_eq
    intro i hi
    rw [BitVec.getLsbD_or, BitVec.getLsbD_twoPow]
    by_cases e : j = i
    · subst e; rw [h, Bool.true_or]
    · simp [e]
theorem ts_and {w m : Int64} {j : Nat} (hj : j < 64) (hm : m.toBitVec = BitVec.twoPow 64 j) : (w &&& (m ^^^ (-1))) = w ↔ w.toBitVec.getLsbD j = false := by
  have ha : (-1 : Int64).toBitVec = BitVec.allOnes 64 := by decide
  rw [← Int64.toBitVec_inj, Int64.toBitVec_and, Int64.toBitVec_xor, hm, ha]
  constructor
  · intro h
    have t := congrArg (fun x => x.getLsbD j) h
    simp only [BitVec.getLsbD_and, BitVec.getLsbD_xor, BitVec.getLsbD_twoPow, BitVec.getLsbD_allOnes] at t
    simpa [hj] using t.symm
  · intro h
    apply BitVec.eq_of_getLsbD_eq
    intro i hi
    rw [BitVec.getLsbD_and, BitVec.getLsbD_xor, BitVec.getLsbD_twoPow, BitVec.getLsbD_allOnes]
    by_cases e : j = i
    · subst e; rw [h, Bool.false_and]
    · simp [e, hi]
theorem wb_tb (n : Nat) : (lN n).toBitVec = BitVec.ofNat 64 n := rfl
theorem wb_inj {a b : Int64} (h : a.toBitVec = b.toBitVec) : a = b := Int64.toBitVec_inj.mp h
theorem wb_tn {n : Nat} (h : n < 2 ^ 64) : (lN n).toBitVec.toNat = n := by rw [wb_tb, BitVec.toNat_ofNat, Nat.mod_eq_of_lt h]
theorem wb_of (x : Int64) : ∃ n, n < 2 ^ 64 ∧ x = lN n := ⟨x.toBitVec.toNat, x.toBitVec.isLt, wb_inj (by rw [wb_tb]; simp)⟩
theorem wb_of32 (x : Int32) : ∃ n, n < 2 ^ 32 ∧ x = nI n := ⟨x.toBitVec.toNat, x.toBitVec.isLt, Int32.toBitVec_inj.mp (by show _ = BitVec.ofNat 32 _; simp)⟩
theorem wb_c : ∀ k, k < 64 → ((nI k).toInt64 &&& 63) = lN k := by decide +kernel
theorem wb_cu : ∀ k, k < 64 → ((nI k).toInt64.toUInt64 &&& Int64.toUInt64 63) = UInt64.ofNat k := by decide +kernel
theorem wb_sm : ∀ k, k < 64 → (BitVec.ofNat 64 k).smod 64 = BitVec.ofNat 64 k := by decide +kernel
theorem wb_pw {a b : Nat} (h : a ≤ b) : 2 ^ b = 2 ^ a * 2 ^ (b - a) := by rw [← Nat.pow_add]; congr 1; omega
theorem wb_lt2 {a b : Nat} (h : a < b) : 2 ^ a < 2 ^ b := Nat.pow_lt_pow_right (by decide) h
theorem wb_mod (n : Nat) : lN n = lN (n % 2 ^ 64) := wb_inj (by rw [wb_tb, wb_tb]; apply BitVec.eq_of_toNat_eq; rw [BitVec.toNat_ofNat, BitVec.toNat_ofNat, Nat.mod_mod])
theorem wb_shr {n k : Nat} (hn : n < 2 ^ 64) (hk : k < 64) : ((lN n).toUInt64 >>> ((nI k).toInt64.toUInt64 &&& Int64.toUInt64 63)).toInt64 = lN (n / 2 ^ k) := by
  rw [wb_cu k hk]
  apply wb_inj
  apply BitVec.eq_of_toNat_eq
  show ((lN n).toUInt64 >>> UInt64.ofNat k).toNat = (BitVec.ofNat 64 _).toNat
  have h1 : (UInt64.ofNat k).toNat = k := by
    show (BitVec.ofNat 64 k).toNat = k
    rw [BitVec.toNat_ofNat, Nat.mod_eq_of_lt (by omega)]
  have h2 : (lN n).toUInt64.toNat = n := wb_tn hn
  rw [UInt64.toNat_shiftRight, h1, h2, Nat.mod_eq_of_lt hk, Nat.shiftRight_eq_div_pow, BitVec.toNat_ofNat, Nat.mod_eq_of_lt (Nat.lt_of_le_of_lt (Nat.div_le_self _ _) hn)]
theorem wb_shl (n : Nat) {k : Nat} (hk : k < 64) : lN n <<< ((nI k).toInt64 &&& 63) = lN (n * 2 ^ k) := by
  rw [wb_c k hk]
  apply wb_inj
  rw [Int64.toBitVec_shiftLeft, wb_tb, wb_tb, wb_tb, wb_sm k hk]
  apply BitVec.eq_of_toNat_eq
  rw [BitVec.shiftLeft_eq', BitVec.toNat_shiftLeft, BitVec.toNat_ofNat, BitVec.toNat_ofNat, BitVec.toNat_ofNat, Nat.mod_eq_of_lt (show k < 2 ^ 64 by omega), Nat.shiftLeft_eq, Nat.mul_mod, Nat.mod_mod, ← Nat.mul_mod]
theorem wb_and {a b : Nat} (ha : a < 2 ^ 64) (hb : b < 2 ^ 64) : lN a &&& lN b = lN (a &&& b) := by
  apply wb_inj
  rw [Int64.toBitVec_and, wb_tb, wb_tb, wb_tb]
  apply BitVec.eq_of_toNat_eq
  rw [BitVec.toNat_and, BitVec.toNat_ofNat, BitVec.toNat_ofNat, BitVec.toNat_ofNat, Nat.mod_eq_of_lt ha, Nat.mod_eq_of_lt hb, Nat.mod_eq_of_lt (Nat.and_lt_two_pow _ hb)]
theorem wb_or {a b : Nat} (ha : a < 2 ^ 64) (hb : b < 2 ^ 64) : lN a ||| lN b = lN (a ||| b) := by
  apply wb_inj
  rw [Int64.toBitVec_or, wb_tb, wb_tb, wb_tb]
  apply BitVec.eq_of_toNat_eq
  rw [BitVec.toNat_or, BitVec.toNat_ofNat, BitVec.toNat_ofNat, BitVec.toNat_ofNat, Nat.mod_eq_of_lt ha, Nat.mod_eq_of_lt hb, Nat.mod_eq_of_lt (Nat.or_lt_two_pow ha hb)]
theorem wb_mask {n k : Nat} (hn : n < 2 ^ 64) (hk : k < 64) : lN n &&& lN (2 ^ k - 1) = lN (n % 2 ^ k) := by
  rw [wb_and hn (by have := wb_lt2 hk; omega), Nat.and_two_pow_sub_one_eq_mod]
theorem wb_a1 {n : Nat} (hn : n < 2 ^ 64) : lN n &&& 1 = lN (n % 2) := wb_mask (k := 1) hn (by decide)
theorem wb_bit {n k : Nat} (hn : n < 2 ^ 64) (hk : k < 64) : ((lN n).toUInt64 >>> ((nI k).toInt64.toUInt64 &&& Int64.toUInt64 63)).toInt64 &&& 1 = lN (n / 2 ^ k % 2) := by
  rw [wb_shr hn hk, wb_a1 (Nat.lt_of_le_of_lt (Nat.div_le_self _ _) hn)]
theorem wb_xor {q k : Nat} (hk : k < 63) (h : 2 ^ k ≤ q) (h2 : q < 2 ^ (k + 1)) : lN q ^^^ lN (2 ^ k) = lN (q - 2 ^ k) := by
  obtain ⟨r, rfl⟩ : ∃ r, q = 2 ^ k + r := ⟨q - 2 ^ k, by omega⟩
  have hr : r < 2 ^ k := by rw [Nat.pow_succ] at h2; omega
  have hx : (2 ^ k + r) ^^^ 2 ^ k = r := by
    apply Nat.eq_of_testBit_eq
    intro i
    rw [Nat.testBit_xor, Nat.testBit_two_pow]
    rcases Nat.lt_trichotomy i k with h | h | h
    · rw [Nat.testBit_two_pow_add_gt h]
      simp [show ¬ k = i by omega]
    · subst h
      rw [Nat.testBit_two_pow_add_eq]
      simp
    · have a1 : 2 ^ (k + 1) ≤ 2 ^ i := Nat.pow_le_pow_right (by decide) h
      rw [Nat.testBit_lt_two_pow (show 2 ^ k + r < 2 ^ i by omega), Nat.testBit_lt_two_pow (show r < 2 ^ i by omega)]
      simp [show ¬ k = i by omega]
  have b1 := wb_lt2 (show k + 1 < 64 by omega)
  have b2 := wb_lt2 (show k < 64 by omega)
  apply wb_inj
  rw [Int64.toBitVec_xor, wb_tb, wb_tb, wb_tb]
  apply BitVec.eq_of_toNat_eq
  rw [BitVec.toNat_xor, BitVec.toNat_ofNat, BitVec.toNat_ofNat, BitVec.toNat_ofNat, Nat.mod_eq_of_lt (by omega : 2 ^ k + r < 2 ^ 64), Nat.mod_eq_of_lt b2, hx, Nat.add_sub_cancel_left, Nat.mod_eq_of_lt (by omega)]
theorem u_tn {n : Nat} (h : n < 2 ^ 64) : (UInt64.ofNat n).toNat = n := Nat.mod_eq_of_lt h
theorem g_and {a b c : Nat} (ha : a < 2 ^ 64) (hb : b < 2 ^ 64) (hc : a &&& b = c) : lN a &&& lN b = lN c := by
  subst hc
  have h : UInt64.ofNat a &&& UInt64.ofNat b = UInt64.ofNat (a &&& b) := UInt64.toNat_inj.mp (by rw [UInt64.toNat_and, u_tn ha, u_tn hb, u_tn (Nat.and_lt_two_pow a hb)])
  have h2 := congrArg UInt64.toInt64 h
  exact h2
theorem g_and1 {a : Nat} (ha : a < 2 ^ 64) : lN a &&& 1 = lN (a % 2) := g_and (b := 1) ha (by decide) (Nat.and_two_pow_sub_one_eq_mod a 1)
theorem g_mask {a s p : Nat} (hp : 2 ^ s = p) (hs : s < 64) (ha : a < 2 ^ 64) : lN a &&& lN (p - 1) = lN (a % p) := by
  subst hp
  have := Nat.pow_lt_pow_right (show 1 < 2 by decide) hs
  exact g_and ha (by omega) (Nat.and_two_pow_sub_one_eq_mod a s)
theorem g_or {k p a b : Nat} (hp : 2 ^ k = p) (ha : a < p) (h : b * p + a < 2 ^ 64) : lN (b * p) ||| lN a = lN (b * p + a) := by
  subst hp
  have h1 : b * 2 ^ k ||| a = b * 2 ^ k + a := by rw [← Nat.shiftLeft_eq, Nat.shiftLeft_add_eq_or_of_lt ha]
  have h3 : UInt64.ofNat (b * 2 ^ k) ||| UInt64.ofNat a = UInt64.ofNat (b * 2 ^ k + a) := UInt64.toNat_inj.mp (by rw [UInt64.toNat_or, u_tn (by omega), u_tn (by omega), u_tn h, h1])
  have h2 := congrArg UInt64.toInt64 h3
  exact h2
theorem g_or' {k p a b : Nat} (hp : 2 ^ k = p) (ha : a < p) (h : a + b * p < 2 ^ 64) : lN a ||| lN (b * p) = lN (a + b * p) := by
  rw [Int64.or_comm, g_or hp ha (by omega), Nat.add_comm]
theorem g_ushr {a k p : Nat} {y : UInt64} (hy : y = UInt64.ofNat k) (hk : k < 64) (hp : 2 ^ k = p) (ha : a < 2 ^ 64) : ((lN a).toUInt64 >>> y).toInt64 = lN (a / p) := by
  subst hy hp
  have h : UInt64.ofNat a >>> UInt64.ofNat k = UInt64.ofNat (a / 2 ^ k) := UInt64.toNat_inj.mp (by rw [UInt64.toNat_shiftRight, u_tn ha, u_tn (by omega), u_tn (Nat.lt_of_le_of_lt (Nat.div_le_self _ _) ha), Nat.mod_eq_of_lt hk, Nat.shiftRight_eq_div_pow])
  have h2 := congrArg UInt64.toInt64 h
  exact h2
theorem g_shl {a k p : Nat} {y : Int64} (hy : y.toBitVec.smod 64 = BitVec.ofNat 64 k) (hk : k < 64) (hp : 2 ^ k = p) (ha : a < 2 ^ 64) : lN a <<< y = lN (a * p) := by
  subst hp
  apply Int64.toBitVec_inj.mp
  rw [Int64.toBitVec_shiftLeft, hy]
  apply BitVec.eq_of_toNat_eq
  have hb : (lN a).toBitVec.toNat = a := Nat.mod_eq_of_lt ha
  have hk' : (BitVec.ofNat 64 k).toNat = k := Nat.mod_eq_of_lt (by omega)
  have h : ((lN a).toBitVec <<< BitVec.ofNat 64 k).toNat = (a * 2 ^ k) % 2 ^ 64 := by simp only [BitVec.shiftLeft_eq', BitVec.toNat_shiftLeft, hb, hk', Nat.shiftLeft_eq]
  exact h
theorem pf_lI {a : Nat} (h : a < 2 ^ 63) : (lN a).toInt = (a : Int) := lg_ofNat_toInt h
theorem pf_shr {a d : Nat} {D : Int64} (hD : (D.toBitVec.smod 64).toNat = d) (h : a < 2 ^ 62) : lN a >>> D = lN (a / 2 ^ d) := by
  have hd : a / 2 ^ d ≤ a := Nat.div_le_self _ _
  apply Int64.toInt_inj.mp
  have e : (lN a >>> D).toInt = (lN a).toInt >>> d := by
    rw [← hD]
    exact BitVec.toInt_sshiftRight ..
  rw [e, Int.shiftRight_eq_div_pow, pf_lI (by omega), pf_lI (by omega)]
  rfl
theorem pf_ushr {a d : Nat} {D : UInt64} (hD : D.toNat % 64 = d) (h : a < 2 ^ 62) : ((lN a).toUInt64 >>> D).toInt64 = lN (a / 2 ^ d) := by
  have hd : a / 2 ^ d ≤ a := Nat.div_le_self _ _
  have e : (lN a).toUInt64 >>> D = UInt64.ofNat (a / 2 ^ d) := UInt64.toNat_inj.mp (by
    rw [UInt64.toNat_shiftRight, hD, Nat.shiftRight_eq_div_pow, UInt64.toNat_ofNat']
    show (UInt64.ofNat a).toNat / 2 ^ d = _
    rw [UInt64.toNat_ofNat', Nat.mod_eq_of_lt (by omega), Nat.mod_eq_of_lt (by omega)])
  rw [e]
  rfl
theorem pf_andw (x : Int64) : ∃ m, m < 2 ^ 32 ∧ x &&& 4294967295 = lN m := ⟨x.toBitVec.toNat % 2 ^ 32, Nat.mod_lt _ (by decide), Int64.toBitVec_inj.mp (BitVec.eq_of_toNat_eq (by
  show (x.toBitVec &&& 4294967295#64).toNat = (BitVec.ofNat 64 (x.toBitVec.toNat % 2 ^ 32)).toNat
  rw [BitVec.toNat_and, show (4294967295#64).toNat = 2 ^ 32 - 1 from by decide, Nat.and_two_pow_sub_one_eq_mod, BitVec.toNat_ofNat]
  omega))⟩
def uN (x : Int64) : Nat := x.toUInt64.toNat
theorem uN_lt (x : Int64) : uN x < 18446744073709551616 := x.toUInt64.toNat_lt
theorem uN_inj {x y : Int64} (h : uN x = uN y) : x = y := congrArg UInt64.toInt64 (UInt64.toNat_inj.mp h)
theorem uN_add (x y : Int64) : uN (x + y) = (uN x + uN y) % 18446744073709551616 := by
  show (x.toUInt64 + y.toUInt64).toNat = _
  exact UInt64.toNat_add _ _
theorem uN_mul (x y : Int64) : uN (x * y) = (uN x * uN y) % 18446744073709551616 := by
  show (x.toUInt64 * y.toUInt64).toNat = _
  exact UInt64.toNat_mul _ _
theorem uN_shl (x : Int64) : uN (x <<< ((1 : Int32).toInt64 &&& 63)) = (2 * uN x) % 18446744073709551616 := by
  have h : (((1 : Int32).toInt64 &&& 63).toBitVec.smod 64).toNat = 1 := by decide
  show (x.toBitVec <<< (((1 : Int32).toInt64 &&& 63).toBitVec.smod 64).toNat).toNat = _
  rw [h, BitVec.toNat_shiftLeft, Nat.shiftLeft_eq, Nat.mul_comm]
  rfl
theorem uN_shr (x : Int64) (s : UInt64) : uN (x.toUInt64 >>> s).toInt64 = uN x / 2 ^ (s.toNat % 64) := by
  show (x.toUInt64 >>> s).toNat = _
  rw [UInt64.toNat_shiftRight, Nat.shiftRight_eq_div_pow]
  rfl
theorem uN_s32 (x : Int64) : uN (x.toUInt64 >>> ((32 : Int32).toInt64.toUInt64 &&& Int64.toUInt64 63)).toInt64 = uN x / 4294967296 := by
  have h : ((32 : Int32).toInt64.toUInt64 &&& Int64.toUInt64 63).toNat % 64 = 32 := by decide
  rw [uN_shr, h]
theorem uN_s63 (x : Int64) : uN (x.toUInt64 >>> ((63 : Int32).toInt64.toUInt64 &&& Int64.toUInt64 63)).toInt64 = uN x / 9223372036854775808 := by
  have h : ((63 : Int32).toInt64.toUInt64 &&& Int64.toUInt64 63).toNat % 64 = 63 := by decide
  rw [uN_shr, h]
theorem uN_lo (x : Int64) : uN (x &&& 4294967295) = uN x % 4294967296 := by
  show (x.toUInt64 &&& Int64.toUInt64 4294967295).toNat = _
  rw [UInt64.toNat_and]
  exact Nat.and_two_pow_sub_one_eq_mod _ 32
theorem uN_bit (x : Int64) : (x &&& 1) = 0 ↔ uN x % 2 = 0 := by
  have h : uN (x &&& 1) = uN x % 2 := by
    show (x.toUInt64 &&& Int64.toUInt64 1).toNat = _
    rw [UInt64.toNat_and]
    exact Nat.and_two_pow_sub_one_eq_mod _ 1
  rw [← h]
  exact ⟨fun z => by rw [z]; rfl, fun z => uN_inj (z.trans rfl)⟩
theorem uN_or {x y : Int64} (hy : uN y < 2) : uN ((x <<< ((1 : Int32).toInt64 &&& 63)) ||| y) = (2 * uN x) % 18446744073709551616 + uN y := by
  have h1 : uN ((x <<< ((1 : Int32).toInt64 &&& 63)) ||| y) = uN (x <<< ((1 : Int32).toInt64 &&& 63)) ||| uN y := UInt64.toNat_or _ _
  have h2 : (2 * uN x) % 18446744073709551616 = 2 ^ 1 * (uN x % 9223372036854775808) := by omega
  rw [h1, uN_shl, h2]
  exact (Nat.two_pow_add_eq_or_of_lt (i := 1) hy _).symm
theorem nat_xor {a : Nat} (h : a < 18446744073709551616) : a ^^^ 2 ^ 63 = (a + 9223372036854775808) % 18446744073709551616 := by
  have h1 : (a ^^^ 2 ^ 63) % 2 ^ 63 = a % 2 ^ 63 := by rw [Nat.xor_mod_two_pow, Nat.mod_self, Nat.xor_zero]
  have h2 : (a ^^^ 2 ^ 63) / 2 ^ 63 = (a / 2 ^ 63) ^^^ 1 := by rw [Nat.xor_div_two_pow, Nat.div_self (Nat.two_pow_pos 63)]
  have h3 : a / 2 ^ 63 = 0 ∨ a / 2 ^ 63 = 1 := by omega
  generalize a ^^^ 2 ^ 63 = t at h1 h2
  rcases h3 with h3 | h3
  · rw [h3] at h2
    have h2 : t / 2 ^ 63 = 1 := h2
    omega
  · rw [h3] at h2
    have h2 : t / 2 ^ 63 = 0 := h2
    omega
theorem uN_xor (x : Int64) : uN (x ^^^ (-9223372036854775808)) = (uN x + 9223372036854775808) % 18446744073709551616 := by
  rw [← nat_xor (uN_lt x)]
  exact UInt64.toNat_xor _ _
theorem uN_int (x : Int64) : x.toInt = if 2 * uN x < 18446744073709551616 then (uN x : Int) else (uN x : Int) - 18446744073709551616 := BitVec.toInt_eq_toNat_cond _
theorem uN_le (x y : Int64) : (x ^^^ (-9223372036854775808)) ≤ (y ^^^ (-9223372036854775808)) ↔ uN x ≤ uN y := by
  have hx := uN_lt x
  have hy := uN_lt y
  rw [Int64.le_iff_toInt_le, uN_int, uN_int, uN_xor, uN_xor]
  omega
theorem uN_sk (x : Int64) {k : Nat} (hk : k < 64) : uN (x.toUInt64 >>> ((nI k).toInt64.toUInt64 &&& Int64.toUInt64 63)).toInt64 = uN x / 2 ^ k := by
  have h : ((nI k).toInt64.toUInt64 &&& Int64.toUInt64 63).toNat % 64 = k := by
    rw [nI_l (by omega), UInt64.toNat_and]
    have e : (lN k).toUInt64.toNat = k % 2 ^ 64 := rfl
    have e2 : (Int64.toUInt64 63).toNat = 2 ^ 6 - 1 := by decide
    rw [e, e2, Nat.and_two_pow_sub_one_eq_mod]
    omega
  rw [uN_shr, h]
theorem lN_bv (n : Nat) : (lN n).toBitVec = BitVec.ofNat 64 n := rfl
theorem lN_nat {n : Nat} (h : n < 2 ^ 64) : (lN n).toBitVec.toNat = n := by rw [lN_bv, BitVec.toNat_ofNat]; exact Nat.mod_eq_of_lt h
theorem lN_xor (a b : Nat) : lN a ^^^ lN b = lN (a ^^^ b) := by
  apply Int64.toBitVec_inj.mp; rw [Int64.toBitVec_xor, lN_bv, lN_bv, lN_bv]; apply BitVec.eq_of_getLsbD_eq; intro i hi; simp [BitVec.getLsbD_ofNat, Nat.testBit_xor, hi]
theorem lN_ti {m : Nat} (h : m < 2 ^ 64) : (lN m).toInt = if m < 2 ^ 63 then (m : Int) else (m : Int) - 2 ^ 64 := by
  have c := BitVec.toInt_eq_toNat_cond (lN m).toBitVec
  rw [lN_nat h] at c
  show (lN m).toBitVec.toInt = _
  rw [c]
  split <;> split <;> omega
theorem xor63 {x : Nat} (h : x < 2 ^ 63) : x ^^^ 2 ^ 63 = 2 ^ 63 + x := by
  apply Nat.eq_of_testBit_eq
  intro i
  rw [Nat.testBit_xor, Nat.testBit_two_pow]
  rcases Nat.lt_trichotomy i 63 with z | z | z
  · rw [Nat.testBit_two_pow_add_gt z, decide_eq_false (by omega)]; simp
  · subst z; rw [Nat.testBit_two_pow_add_eq]; simp
  · have hp : 2 ^ 64 ≤ 2 ^ i := Nat.pow_le_pow_right (by decide) z
    rw [Nat.testBit_lt_two_pow (show x < 2 ^ i by omega), Nat.testBit_lt_two_pow (show 2 ^ 63 + x < 2 ^ i by omega), decide_eq_false (by omega)]; rfl
theorem xorS {a : Nat} (h : a < 2 ^ 64) : (lN a ^^^ (-9223372036854775808)).toInt = (a : Int) - 2 ^ 63 := by
  rw [show (-9223372036854775808 : Int64) = lN (2 ^ 63) from by decide +kernel, lN_xor]
  rcases Nat.lt_or_ge a (2 ^ 63) with z | z
  · rw [xor63 z, lN_ti (by omega), if_neg (by omega)]; omega
  · obtain ⟨x, rfl⟩ : ∃ x, a = 2 ^ 63 + x := ⟨a - 2 ^ 63, by omega⟩
    rw [← xor63 (by omega), Nat.xor_assoc, Nat.xor_self, Nat.xor_zero, lN_ti (by omega), if_pos (by omega), xor63 (by omega)]; omega
theorem ultL {a b : Nat} (ha : a < 2 ^ 64) (hb : b < 2 ^ 64) : ((lN b ^^^ (-9223372036854775808)) ≤ (lN a ^^^ (-9223372036854775808))) ↔ b ≤ a := by
  rw [Int64.le_iff_toInt_le, xorS ha, xorS hb]; omega
theorem cr_bits (W U M : BitVec 64) : ((W &&& U) &&& (U &&& (M ^^^ BitVec.allOnes 64))) = 0#64 ↔ (W &&& U) &&& M = W &&& U := by
  constructor
  · intro h
    apply BitVec.eq_of_getLsbD_eq
    intro i hi
    have e := congrArg (fun x => BitVec.getLsbD x i) h
    simp only [BitVec.getLsbD_and, BitVec.getLsbD_xor, BitVec.getLsbD_allOnes, BitVec.getLsbD_zero, hi, decide_true] at e ⊢
    revert e
    cases W.getLsbD i <;> cases U.getLsbD i <;> cases M.getLsbD i <;> decide
  · intro h
    apply BitVec.eq_of_getLsbD_eq
    intro i hi
    have e := congrArg (fun x => BitVec.getLsbD x i) h
    simp only [BitVec.getLsbD_and, BitVec.getLsbD_xor, BitVec.getLsbD_allOnes, BitVec.getLsbD_zero, hi, decide_true] at e ⊢
    revert e
    cases W.getLsbD i <;> cases U.getLsbD i <;> cases M.getLsbD i <;> decide
theorem cr_mask (w U m : Int64) (n : Nat) (hm : m.toBitVec.toNat = 2 ^ n - 1) : ((w &&& U) &&& (U &&& (m ^^^ (-1)))) = 0 ↔ (w &&& U).toBitVec.toNat < 2 ^ n := by
  have e0 : (-1 : Int64).toBitVec = BitVec.allOnes 64 := by decide
  have z0 : (0 : Int64).toBitVec = 0#64 := by decide
  rw [← Int64.toBitVec_inj, z0, Int64.toBitVec_and, Int64.toBitVec_and, Int64.toBitVec_and, Int64.toBitVec_xor, e0, cr_bits]
  generalize w.toBitVec &&& U.toBitVec = T
  rw [← BitVec.toNat_inj, BitVec.toNat_and, hm, Nat.and_two_pow_sub_one_eq_mod]
  constructor
  · intro h
    have t := Nat.mod_lt T.toNat (Nat.two_pow_pos n)
    rw [h] at t
    exact t
  · exact Nat.mod_eq_of_lt
theorem cr_shr (t : Int64) (x : UInt64) (n : Nat) (hx : x.toNat % 64 = n) : (t.toUInt64 >>> x).toInt64 = 0 ↔ t.toBitVec.toNat < 2 ^ n := by
  rw [← Int64.toBitVec_inj, ← BitVec.toNat_inj]
  show (t.toUInt64 >>> x).toNat = 0 ↔ t.toUInt64.toNat < 2 ^ n
  rw [UInt64.toNat_shiftRight, hx, Nat.shiftRight_eq_div_pow]
  constructor
  · intro h
    have d : t.toUInt64.toNat / 2 ^ n < 1 := by
      rw [h]
      decide
    have e := (Nat.div_lt_iff_lt_mul (Nat.two_pow_pos n)).mp d
    rw [Nat.one_mul] at e
    exact e
  · exact Nat.div_eq_of_lt
theorem cr_amt (s : Int64) : ∃ n, n < 64 ∧ s &&& 63 = lN n ∧ (s.toUInt64 &&& Int64.toUInt64 63).toNat % 64 = n := by
  have e : (s.toUInt64 &&& Int64.toUInt64 63).toNat = s.toUInt64.toNat % 2 ^ 6 := by
    rw [UInt64.toNat_and, show (Int64.toUInt64 63).toNat = 2 ^ 6 - 1 from by decide, Nat.and_two_pow_sub_one_eq_mod]
  refine ⟨s.toUInt64.toNat % 2 ^ 6, by omega, ?_, by omega⟩
  rw [← Int64.toBitVec_inj, ← BitVec.toNat_inj]
  show (s.toUInt64 &&& Int64.toUInt64 63).toNat = (BitVec.ofNat 64 (s.toUInt64.toNat % 2 ^ 6)).toNat
  rw [e, BitVec.toNat_ofNat]
  omega
end
section
theorem qa_ne1 {j : Nat} (h : j < 2 ^ 31) : ¬ nI j = -1 := by
  intro e
  have := nI_pos h
  rw [e] at this
  exact this (by decide)
theorem qa_1ne {j : Nat} (h : j < 2 ^ 31) : ¬ (-1 : Int32) = nI j := fun e => qa_ne1 h e.symm
theorem qa_ne3 {j : Nat} (h : j < 2 ^ 31) : ¬ nI j = -3 := by
  intro e
  have := nI_pos h
  rw [e] at this
  exact this (by decide)
theorem qa_inj {a b : Nat} (ha : a < 2 ^ 31) (hb : b < 2 ^ 31) (h : nI a = nI b) : a = b := (nI_eq ha hb).mp h
theorem qa_0le {j : Nat} (h : j < 2 ^ 31) : (0 : Int32) ≤ nI j := nI_pos' h
theorem qa_n0le : ¬ (0 : Int32) ≤ -1 := by decide
theorem qa_1lt : (-1 : Int32) < 0 := by decide
theorem qa_cl1 : (-1 : Int32).toNatClampNeg = 0 := by decide
noncomputable def qa_b (P : Prop) : Nat := @ite Nat P (Classical.propDecidable P) 1 0
theorem qa_bt {P : Prop} (h : P) : qa_b P = 1 := by unfold qa_b; rw [if_pos h]
theorem qa_bf {P : Prop} (h : ¬ P) : qa_b P = 0 := by unfold qa_b; rw [if_neg h]
theorem qa_ble (P : Prop) : qa_b P ≤ 1 := by
  rcases Classical.em P with h | h
  · rw [qa_bt h]; omega
  · rw [qa_bf h]; omega
theorem qa_bmono {P Q : Prop} (h : P → Q) : qa_b P ≤ qa_b Q := by
  rcases Classical.em P with hp | hp
  · rw [qa_bt hp, qa_bt (h hp)]; omega
  · rw [qa_bf hp]; omega
noncomputable def qa_cn (P : Nat → Prop) : Nat → Nat
  | 0 => 0
  | k + 1 => qa_cn P k + qa_b (P k)
theorem qa_cn_mono {P Q : Nat → Prop} : ∀ {N : Nat}, (∀ k, k < N → P k → Q k) → qa_cn P N ≤ qa_cn Q N
  | 0, _ => Nat.le_refl _
  | N + 1, h => by
    have a := qa_cn_mono (P := P) (Q := Q) (N := N) (fun k hk => h k (by omega))
    have b := qa_bmono (h N (by omega))
    simp only [qa_cn]; omega
theorem qa_cn_lt {P Q : Nat → Prop} {a : Nat} (hp : ¬ P a) (hq : Q a) : ∀ {N : Nat}, (∀ k, k < N → P k → Q k) → a < N → qa_cn P N < qa_cn Q N
  | 0, _, h => by omega
  | N + 1, h, ha => by
    simp only [qa_cn]
    rcases Nat.lt_or_ge a N with z | z
    · have x := qa_cn_lt hp hq (N := N) (fun k hk => h k (by omega)) z
      have b := qa_bmono (h N (by omega))
      omega
    · have e : a = N := by omega
      subst e
      have x := qa_cn_mono (P := P) (Q := Q) (N := a) (fun k hk => h k (by omega))
      rw [qa_bt hq, qa_bf hp]; omega
theorem qa_cn_le (P : Nat → Prop) : ∀ N, qa_cn P N ≤ N
  | 0 => Nat.le_refl _
  | N + 1 => by have := qa_cn_le P N; have := qa_ble (P N); simp only [qa_cn]; omega
theorem qa_cn_eq {P Q : Nat → Prop} {N : Nat} (h : ∀ k, k < N → (P k ↔ Q k)) : qa_cn P N = qa_cn Q N :=
  Nat.le_antisymm (qa_cn_mono fun k hk => (h k hk).mp) (qa_cn_mono fun k hk => (h k hk).mpr)
theorem qa_cn_add {P : Nat → Prop} {a : Nat} (hp : ¬ P a) : ∀ {N : Nat}, a < N → qa_cn (fun k => P k ∨ k = a) N = qa_cn P N + 1
  | 0, h => by omega
  | N + 1, h => by
    simp only [qa_cn]
    rcases Nat.lt_or_ge a N with z | z
    · rw [qa_cn_add hp z]
      have : qa_b (P N ∨ N = a) = qa_b (P N) := Nat.le_antisymm (qa_bmono fun q => q.elim id (fun e => by omega)) (qa_bmono Or.inl)
      omega
    · have e : a = N := by omega
      subst e
      have x : qa_cn (fun k => P k ∨ k = a) a = qa_cn P a := qa_cn_eq fun k hk => ⟨fun q => q.elim id (fun e => by omega), Or.inl⟩
      rw [x, qa_bt (Or.inr rfl), qa_bf hp]
theorem qa_cn_all {P : Nat → Prop} : ∀ {N : Nat}, (∀ k, k < N → P k) → qa_cn P N = N
  | 0, _ => rfl
  | N + 1, h => by
    simp only [qa_cn]
    rw [qa_cn_all (N := N) (fun k hk => h k (by omega)), qa_bt (h N (by omega))]
theorem qa_cn_pos {P : Nat → Prop} {a N : Nat} (ha : a < N) (h : P a) : 0 < qa_cn P N := by
  have x := qa_cn_lt (P := fun _ => False) (Q := P) (a := a) (fun z => z) h (N := N) (fun _ _ z => z.elim) ha
  omega
theorem qa_cn_zero {P : Nat → Prop} {N : Nat} (h : ∀ k, k < N → ¬ P k) : qa_cn P N = 0 := by
  induction N with
  | zero => rfl
  | succ N ih => simp only [qa_cn]; rw [ih (fun k hk => h k (by omega)), qa_bf (h N (by omega))]
theorem qa_cn_rem {P Q : Nat → Prop} {a N : Nat} (ha : a < N) (hp : P a) (hq : ∀ k, k < N → (Q k ↔ P k ∧ k ≠ a)) : qa_cn Q N + 1 = qa_cn P N := by
  have hn : ¬ Q a := fun z => ((hq a ha).mp z).2 rfl
  rw [← qa_cn_add hn ha]
  refine qa_cn_eq fun k hk => ⟨fun z => z.elim (fun z => ((hq k hk).mp z).1) (fun z => z ▸ hp), fun z => ?_⟩
  by_cases e : k = a
  · exact Or.inr e
  · exact Or.inl ((hq k hk).mpr ⟨z, e⟩)
def qb_lo (x : Int32) (i : Nat) : Prop := i < 32 ∧ bt x i = true ∧ ∀ j, j < i → bt x j = false
theorem qb_b1 : ∀ i, i < 32 → bt 1 i = decide (i = 0) := by decide +kernel
theorem qb_b7 : ∀ i, i < 32 → bt 7 i = decide (i < 3) := by decide +kernel
theorem qb_bm8 : ∀ i, i < 32 → bt (-8) i = decide (3 ≤ i) := by decide +kernel
theorem qb_not (x : Int32) {i : Nat} (h : i < 32) : bt (x ^^^ (-1)) i = !bt x i := by
  rw [b_xor, b_m1 i h]; cases bt x i <;> rfl
theorem qb_one (y : Int32) : (y &&& 1) = 0 ↔ bt y 0 = false := by
  constructor
  · intro h
    have e : bt (y &&& 1) 0 = bt 0 0 := by rw [h]
    rw [b_and, b_0, qb_b1 0 (by decide)] at e
    simpa using e
  · intro h
    refine b_ext fun i hi => ?_
    rw [b_and, b_0, qb_b1 i hi]
    by_cases z : i = 0
    · subst z; rw [h]; rfl
    · rw [decide_eq_false z, Bool.and_false]
theorem qb_t (x : Int32) {j : Nat} (hj : j < 32) : (((x.toUInt32 >>> ((nI j).toUInt32 &&& Int32.toUInt32 31)).toInt32) &&& 1) = 0 ↔ bt x j = false := by
  rw [qb_one, b_ushr j hj, Nat.add_zero]
theorem qb_s {i j : Nat} (hi : i < 32) (hj : j < 32) : bt ((1 : Int32) <<< (nI i &&& 31)) j = decide (j = i) := by
  rw [b_shl i hi 1 hj, qb_b1 (j - i) (by omega)]
  by_cases e : j = i
  · subst e; simp
  · by_cases z : i ≤ j
    · have : ¬ j - i = 0 := by omega
      simp [e, this]
    · simp [e, z]
theorem qb_ex {x : Int32} (h : ¬ x = 0) : ∃ i, qb_lo x i := by
  have e : ∃ i, i < 32 ∧ bt x i = true := by
    refine Classical.byContradiction fun n => h (b_ext fun i hi => ?_)
    rw [b_0]
    cases q : bt x i
    · rfl
    · exact (n ⟨i, hi, q⟩).elim
  obtain ⟨i, ⟨hi, ti⟩, hm⟩ := pk_least (fun i => i < 32 ∧ bt x i = true) e
  refine ⟨i, hi, ti, fun j hj => ?_⟩
  cases q : bt x j
  · rfl
  · exact (hm j hj ⟨by omega, q⟩).elim
theorem qb_neg (x : Int32) {i : Nat} (hi : i < 32) : bt (-x) i = (bt x i ^^ decide (∃ j < i, bt x j = true)) := by
  unfold bt
  rw [Int32.toBitVec_neg, BitVec.getLsbD_neg]
  simp [hi]
theorem qb_pred (x : Int32) {i : Nat} (hi : i < 32) : bt (x - 1) i = !(bt x i ^^ decide (∃ j < i, bt x j = true)) := by
  rw [← qb_neg x hi]
  unfold bt
  have e : (x - 1).toBitVec = ~~~ (-x).toBitVec := by
    rw [Int32.toBitVec_neg, BitVec.not_neg, Int32.toBitVec_sub]; rfl
  rw [e, BitVec.getLsbD_not]
  simp [hi]
theorem qb_nx {x : Int32} {i : Nat} (h : qb_lo x i) (j : Nat) : bt (x &&& (x - 1)) j = (bt x j && decide (j ≠ i)) := by
  rcases Nat.lt_or_ge j 32 with hj | hj
  · rw [b_and, qb_pred x hj]
    cases q : bt x j
    · rfl
    · by_cases e : j = i
      · have : ¬ ∃ k < j, bt x k = true := by
          rintro ⟨k, hk, tk⟩
          rw [h.2.2 k (by omega)] at tk
          exact absurd tk (by decide)
        rw [decide_eq_false this]; simp [e]
      · have : ∃ k < j, bt x k = true := by
          refine ⟨i, ?_, h.2.1⟩
          rcases Nat.lt_trichotomy i j with z | z | z
          · exact z
          · exact absurd z.symm e
          · rw [h.2.2 j z] at q; exact absurd q (by decide)
        simp [this, e]
  · rw [b_big hj, b_big hj]; rfl
theorem qb_lw {x : Int32} {i : Nat} (h : qb_lo x i) : x &&& (-x) = (1 : Int32) <<< (nI i &&& 31) := by
  refine b_ext fun j hj => ?_
  rw [b_and, qb_neg x hj, qb_s h.1 hj]
  by_cases e : j = i
  · subst e
    have : ¬ ∃ k < j, bt x k = true := by
      rintro ⟨k, hk, tk⟩
      rw [h.2.2 k hk] at tk
      exact absurd tk (by decide)
    simp [this, h.2.1]
  · rw [decide_eq_false e]
    rcases Nat.lt_trichotomy j i with z | z | z
    · rw [h.2.2 j z]; rfl
    · exact absurd z e
    · have : ∃ k < j, bt x k = true := ⟨i, z, h.2.1⟩
      cases q : bt x j <;> simp [this]
noncomputable def qb_pc (x : Int32) : Nat := qa_cn (fun i => bt x i = true) 32
theorem qb_pc_le (x : Int32) : qb_pc x ≤ 32 := qa_cn_le _ _
theorem qb_pc_nx {x : Int32} {i : Nat} (h : qb_lo x i) : qb_pc (x &&& (x - 1)) + 1 = qb_pc x := by
  refine qa_cn_rem (a := i) h.1 h.2.1 fun k hk => ?_
  rw [qb_nx h k]
  simp
theorem qb_loop {σ : Type} (W : Nat → Int32 → σ → Prop) (S : Int32) (I : Nat → σ → Prop)
    (hx : ∀ n s, I 32 s → W (n + 1) 0 s)
    (hk : ∀ i s, i < 32 → bt S i = false → I i s → I (i + 1) s)
    (hs : ∀ n i r s, ¬ r = 0 → qb_lo r i → bt S i = true → I i s → (∀ s', I (i + 1) s' → W n (r &&& (r - 1)) s') → W (n + 1) r s) :
    ∀ s, I 0 s → W 33 S s := by
  have skip : ∀ d i s, i + d ≤ 32 → (∀ j, i ≤ j → j < i + d → bt S j = false) → I i s → I (i + d) s := by
    intro d
    induction d with
    | zero => intro i s _ _ h; exact h
    | succ d ih =>
      intro i s hd hb h
      have := ih i s (by omega) (fun j h1 h2 => hb j h1 (by omega)) h
      exact hk (i + d) s (by omega) (hb _ (by omega) (by omega)) this
  have key : ∀ n i r s, 32 - i < n → i ≤ 32 → (∀ j, j < 32 → bt r j = (decide (i ≤ j) && bt S j)) → I i s → W n r s := by
    intro n
    induction n with
    | zero => intro i r s h; omega
    | succ n ih =>
      intro i r s hn hi hr h
      by_cases z : r = 0
      · subst z
        refine hx n s ?_
        have := skip (32 - i) i s (by omega) (fun j h1 h2 => ?_) h
        · rwa [show i + (32 - i) = 32 by omega] at this
        · have e := hr j (by omega)
          rw [b_0, decide_eq_true h1, Bool.true_and] at e
          exact e.symm
      · obtain ⟨k, hk'⟩ := qb_ex z
        have e := hr k hk'.1
        rw [hk'.2.1] at e
        have ik : i ≤ k := by
          refine Classical.byContradiction fun q => ?_
          rw [decide_eq_false q, Bool.false_and] at e
          exact absurd e (by decide)
        have sk : bt S k = true := by
          rw [decide_eq_true ik, Bool.true_and] at e
          exact e.symm
        have ik' : I k s := by
          have := skip (k - i) i s (by have := hk'.1; omega) (fun j h1 h2 => ?_) h
          · rwa [show i + (k - i) = k by omega] at this
          · have e2 := hr j (by have := hk'.1; omega)
            rw [hk'.2.2 j (by omega), decide_eq_true h1, Bool.true_and] at e2
            exact e2.symm
        refine hs n k r s z hk' sk ik' (fun s' h' => ih (k + 1) _ s' (by have := hk'.1; omega) (by have := hk'.1; omega) (fun j hj => ?_) h')
        rw [qb_nx hk' j, hr j hj]
        by_cases q : k + 1 ≤ j
        · have h1 : i ≤ j := by omega
          have h2 : j ≠ k := by omega
          simp [q, h1, h2]
        · rw [decide_eq_false q]
          by_cases q2 : j = k
          · simp [q2]
          · have : bt r j = false := hk'.2.2 j (by omega)
            rw [hr j hj] at this
            rw [this]; rfl
  intro s h
  exact key 33 0 S s (by omega) (by omega) (fun j _ => by simp) h
end
section
def qa_sg (m : Nat) (s a b : Int32) : Prop :=
  ∃ k, k < 16 ∧ s = nI k ∧
    ((k < 8 ∧ a = -1 ∧ b = -1) ∨ (8 ≤ k ∧ k < 12 ∧ (∃ i, i < m ∧ a = nI i) ∧ b = -1) ∨
     (12 ≤ k ∧ (∃ i, i < m ∧ a = nI i) ∧ (∃ j, j < m ∧ b = nI j)))
theorem qa_sg_mono {m m' : Nat} {s a b : Int32} (h : m ≤ m') (g : qa_sg m s a b) : qa_sg m' s a b := by
  obtain ⟨k, hk, rfl, g⟩ := g
  refine ⟨k, hk, rfl, ?_⟩
  rcases g with g | ⟨h1, h2, ⟨i, hi, rfl⟩, rfl⟩ | ⟨h1, ⟨i, hi, rfl⟩, ⟨j, hj, rfl⟩⟩
  · exact Or.inl g
  · exact Or.inr (Or.inl ⟨h1, h2, ⟨i, by omega, rfl⟩, rfl⟩)
  · exact Or.inr (Or.inr ⟨h1, ⟨i, by omega, rfl⟩, ⟨j, by omega, rfl⟩⟩)
def qa_ky (s a b : Int32) : Int32 := if 8 ≤ s then (if 12 ≤ s then ((136 + ((((s - 12) * 32) + a) * 32)) + b) else ((8 + ((s - 8) * 32)) + a)) else s
theorem qa_8 : (8 : Int32) = nI 8 := by decide
theorem qa_12 : (12 : Int32) = nI 12 := by decide
theorem qa_32 : (32 : Int32) = nI 32 := by decide
theorem qa_136 : (136 : Int32) = nI 136 := by decide
theorem qa_ky0 {k : Nat} (h : k < 8) (a b : Int32) : qa_ky (nI k) a b = nI k := by
  unfold qa_ky
  rw [if_neg]
  rw [qa_8]; exact nI_ge h (by omega)
theorem qa_ky1 {k i : Nat} (h : 8 ≤ k) (h2 : k < 12) (b : Int32) : qa_ky (nI k) (nI i) b = nI (8 + (k - 8) * 32 + i) := by
  unfold qa_ky
  rw [if_pos, if_neg]
  · rw [qa_8, qa_32, pk_sub h, pk_mul, nI_add, nI_add]
  · rw [qa_12]; exact nI_ge h2 (by omega)
  · rw [qa_8]; exact nI_le h (by omega)
theorem qa_ky2 {k i j : Nat} (h : 12 ≤ k) (h2 : k < 16) : qa_ky (nI k) (nI i) (nI j) = nI (136 + ((k - 12) * 32 + i) * 32 + j) := by
  unfold qa_ky
  rw [if_pos, if_pos]
  · rw [qa_136, qa_12, qa_32, pk_sub h, pk_mul, nI_add, pk_mul, nI_add, nI_add]
  · rw [qa_12]; exact nI_le h (by omega)
  · rw [qa_8]; exact nI_le (by omega) (by omega)
theorem qa_ky_in {s a b : Int32} (g : qa_sg 32 s a b) : ∃ k, k < 4232 ∧ qa_ky s a b = nI k := by
  obtain ⟨k, hk, rfl, g⟩ := g
  rcases g with ⟨h1, rfl, rfl⟩ | ⟨h1, h2, ⟨i, hi, rfl⟩, rfl⟩ | ⟨h1, ⟨i, hi, rfl⟩, ⟨j, hj, rfl⟩⟩
  · exact ⟨k, by omega, qa_ky0 h1 _ _⟩
  · exact ⟨_, by omega, qa_ky1 h1 h2 _⟩
  · exact ⟨_, by omega, qa_ky2 h1 hk⟩
theorem qa_ky_inj {s a b s' a' b' : Int32} (g : qa_sg 32 s a b) (g' : qa_sg 32 s' a' b') (e : qa_ky s a b = qa_ky s' a' b') : s = s' ∧ a = a' ∧ b = b' := by
  obtain ⟨k, hk, rfl, g⟩ := g
  obtain ⟨k', hk', rfl, g'⟩ := g'
  rcases g with ⟨h1, rfl, rfl⟩ | ⟨h1, h2, ⟨i, hi, rfl⟩, rfl⟩ | ⟨h1, ⟨i, hi, rfl⟩, ⟨j, hj, rfl⟩⟩ <;>
  rcases g' with ⟨h1', rfl, rfl⟩ | ⟨h1', h2', ⟨i', hi', rfl⟩, rfl⟩ | ⟨h1', ⟨i', hi', rfl⟩, ⟨j', hj', rfl⟩⟩
  · rw [qa_ky0 h1, qa_ky0 h1'] at e
    have := qa_inj (by omega) (by omega) e
    subst this; exact ⟨rfl, rfl, rfl⟩
  · rw [qa_ky0 h1, qa_ky1 h1' h2'] at e
    have := qa_inj (by omega) (by omega) e
    omega
  · rw [qa_ky0 h1, qa_ky2 h1' hk'] at e
    have := qa_inj (by omega) (by omega) e
    omega
  · rw [qa_ky1 h1 h2, qa_ky0 h1'] at e
    have := qa_inj (by omega) (by omega) e
    omega
  · rw [qa_ky1 h1 h2, qa_ky1 h1' h2'] at e
    have := qa_inj (by omega) (by omega) e
    have e1 : k = k' := by omega
    have e2 : i = i' := by omega
    subst e1; subst e2; exact ⟨rfl, rfl, rfl⟩
  · rw [qa_ky1 h1 h2, qa_ky2 h1' hk'] at e
    have := qa_inj (by omega) (by omega) e
    omega
  · rw [qa_ky2 h1 hk, qa_ky0 h1'] at e
    have := qa_inj (by omega) (by omega) e
    omega
  · rw [qa_ky2 h1 hk, qa_ky1 h1' h2'] at e
    have := qa_inj (by omega) (by omega) e
    omega
  · rw [qa_ky2 h1 hk, qa_ky2 h1' hk'] at e
    have := qa_inj (by omega) (by omega) e
    have e1 : k = k' := by omega
    have e2 : i = i' := by omega
    have e3 : j = j' := by omega
    subst e1; subst e2; subst e3; exact ⟨rfl, rfl, rfl⟩
def qc_lb (f : Nat → Int32) (x : Int32) : Int32 := if x = -1 then -1 else f x.toNatClampNeg
theorem qc_lb1 (f : Nat → Int32) : qc_lb f (-1) = -1 := if_pos rfl
theorem qc_lbN (f : Nat → Int32) {j : Nat} (h : j < 2 ^ 31) : qc_lb f (nI j) = f j := by
  unfold qc_lb
  rw [if_neg (qa_ne1 h), nI_clamp h]
def qa_tok (sy lf rt : Nat → Int32) (t : Nat) : Prop := qa_sg t (sy t) (lf t) (rt t)
def qc_nm (n : Nat) (ld : Nat → Int32) : Prop := ∀ x, x < n → ∃ j, j ≤ x ∧ ld x = nI j ∧ ld j = nI j
def qc_cl (n m : Nat) (sy lf rt el er : Nat → Int32) (P : Nat → Prop) (f : Nat → Int32) : Prop :=
  (∀ e, e < m → P e → f (el e).toNatClampNeg = f (er e).toNatClampNeg) ∧
  (∀ i j, i < n → j < n → sy i = sy j → qc_lb f (lf i) = qc_lb f (lf j) → qc_lb f (rt i) = qc_lb f (rt j) → f i = f j)
def qc_sn (n m : Nat) (sy lf rt el er : Nat → Int32) (P : Nat → Prop) (ld : Nat → Int32) : Prop :=
  ∀ f, qc_cl n m sy lf rt el er P f → ∀ x y, x < n → y < n → ld x = ld y → f x = f y
def qc_il (n m : Nat) (sy lf rt el er : Nat → Int32) (P : Nat → Prop) (ld : Nat → Int32) : Prop :=
  qc_nm n ld ∧ qc_sn n m sy lf rt el er P ld ∧ qc_cl n m sy lf rt el er P ld
theorem qc_un {n m : Nat} {sy lf rt el er ld ld' : Nat → Int32} {P : Nat → Prop} (hn : n ≤ 32)
    (h : qc_il n m sy lf rt el er P ld) (h' : qc_il n m sy lf rt el er P ld') : ∀ x, x < n → ld x = ld' x := by
  intro x hx
  obtain ⟨j, hj, e1, e2⟩ := h.1 x hx
  obtain ⟨k, hk, e3, e4⟩ := h'.1 x hx
  have a1 : ld' x = ld' j := h.2.1 ld' h'.2.2 x j hx (by omega) (by rw [e1, e2])
  have a2 : ld x = ld k := h'.2.1 ld h.2.2 x k hx (by omega) (by rw [e3, e4])
  obtain ⟨j', hj', e5, e6⟩ := h'.1 j (by omega)
  obtain ⟨k', hk', e7, e8⟩ := h.1 k (by omega)
  have b1 : k = j' := qa_inj (by omega) (by omega) (by rw [← e3, a1, e5])
  have b2 : j = k' := qa_inj (by omega) (by omega) (by rw [← e1, a2, e7])
  have : j = k := by omega
  rw [e1, e3, this]
theorem qc_cl_mono {n n' m m' : Nat} {sy lf rt el er : Nat → Int32} {P Q : Nat → Prop} {f : Nat → Int32} (hn : n ≤ n') (hm : m ≤ m') (hp : ∀ e, e < m → P e → Q e)
    (h : qc_cl n' m' sy lf rt el er Q f) : qc_cl n m sy lf rt el er P f :=
  ⟨fun e he pe => h.1 e (by omega) (hp e he pe), fun i j hi hj => h.2 i j (by omega) (by omega)⟩
theorem qc_sn_ev {n m m' : Nat} {sy lf rt el er el' er' ld : Nat → Int32} {P Q : Nat → Prop} (hm : m ≤ m') (hp : ∀ e, e < m → P e → Q e)
    (h1 : ∀ e, e < m → el' e = el e) (h2 : ∀ e, e < m → er' e = er e)
    (h : qc_sn n m sy lf rt el er P ld) : qc_sn n m' sy lf rt el' er' Q ld := by
  intro f hf
  refine h f ⟨fun e he pe => ?_, hf.2⟩
  have := hf.1 e (by omega) (hp e he pe)
  rwa [h1 e he, h2 e he] at this
theorem qc_il_P {n m : Nat} {sy lf rt el er ld : Nat → Int32} {P Q : Nat → Prop} (hp : ∀ e, e < m → (P e ↔ Q e))
    (h : qc_il n m sy lf rt el er P ld) : qc_il n m sy lf rt el er Q ld :=
  ⟨h.1, fun f hf => h.2.1 f (qc_cl_mono (Nat.le_refl _) (Nat.le_refl _) (fun e he => (hp e he).mp) hf), qc_cl_mono (Nat.le_refl _) (Nat.le_refl _) (fun e he => (hp e he).mpr) h.2.2⟩
theorem qc_lb_ext {f g : Nat → Int32} {n : Nat} {x : Int32} (h : ∀ j, j < n → f j = g j) (hx : x = -1 ∨ ∃ j, j < n ∧ x = nI j) (hn : n ≤ 2 ^ 31) : qc_lb f x = qc_lb g x := by
  rcases hx with rfl | ⟨j, hj, rfl⟩
  · rw [qc_lb1, qc_lb1]
  · rw [qc_lbN f (by omega), qc_lbN g (by omega), h j hj]
theorem qa_sg_a {m : Nat} {s a b : Int32} (g : qa_sg m s a b) : a = -1 ∨ ∃ j, j < m ∧ a = nI j := by
  obtain ⟨k, hk, rfl, g⟩ := g
  rcases g with ⟨h1, rfl, rfl⟩ | ⟨h1, h2, h3, rfl⟩ | ⟨h1, h3, h4⟩
  · exact Or.inl rfl
  · exact Or.inr h3
  · exact Or.inr h3
theorem qa_sg_b {m : Nat} {s a b : Int32} (g : qa_sg m s a b) : b = -1 ∨ ∃ j, j < m ∧ b = nI j := by
  obtain ⟨k, hk, rfl, g⟩ := g
  rcases g with ⟨h1, rfl, rfl⟩ | ⟨h1, h2, h3, rfl⟩ | ⟨h1, h3, h4⟩
  · exact Or.inl rfl
  · exact Or.inl rfl
  · exact Or.inr h4
theorem qa_sg_lb {m : Nat} {s a b : Int32} {ld : Nat → Int32} (hm : m ≤ 32) (g : qa_sg m s a b) (h : qc_nm m ld) : qa_sg m s (qc_lb ld a) (qc_lb ld b) := by
  obtain ⟨k, hk, rfl, g⟩ := g
  refine ⟨k, hk, rfl, ?_⟩
  rcases g with ⟨h1, rfl, rfl⟩ | ⟨h1, h2, ⟨i, hi, rfl⟩, rfl⟩ | ⟨h1, ⟨i, hi, rfl⟩, ⟨j, hj, rfl⟩⟩
  · exact Or.inl ⟨h1, qc_lb1 _, qc_lb1 _⟩
  · rw [qc_lbN _ (by omega), qc_lb1]
    obtain ⟨i', h5, h6, _⟩ := h i hi
    exact Or.inr (Or.inl ⟨h1, h2, ⟨i', by omega, h6⟩, rfl⟩)
  · rw [qc_lbN _ (by omega), qc_lbN _ (by omega)]
    obtain ⟨i', h5, h6, _⟩ := h i hi
    obtain ⟨j', h7, h8, _⟩ := h j hj
    exact Or.inr (Or.inr ⟨h1, ⟨i', by omega, h6⟩, ⟨j', by omega, h8⟩⟩)
theorem qc_nm_le {n m : Nat} {ld : Nat → Int32} (h : n ≤ m) (g : qc_nm m ld) : qc_nm n ld := fun x hx => g x (by omega)
theorem qa_tok_lb {n t : Nat} {sy lf rt ld : Nat → Int32} (hn : n ≤ 32) (ht : t < n) (g : qa_tok sy lf rt t) (h : qc_nm n ld) : qa_sg n (sy t) (qc_lb ld (lf t)) (qc_lb ld (rt t)) :=
  qa_sg_lb hn (qa_sg_mono (by omega) g) h
def qc_jn (n : Nat) (lo hi : Int32) (ld : Nat → Int32) : Nat → Int32 := fun x => if x < n ∧ ld x = hi then lo else ld x
theorem qc_jn_h {n : Nat} {lo hi : Int32} {ld : Nat → Int32} {x : Nat} (hx : x < n) (h : ld x = hi) : qc_jn n lo hi ld x = lo := if_pos ⟨hx, h⟩
theorem qc_jn_n {n : Nat} {lo hi : Int32} {ld : Nat → Int32} {x : Nat} (h : ¬ ld x = hi) : qc_jn n lo hi ld x = ld x := if_neg (fun z => h z.2)
theorem qc_jn_nm {n lo hi : Nat} {ld : Nat → Int32} (hn : n ≤ 32) (h : qc_nm n ld) (hlo : lo < hi) (hhi : hi < n) (el : ld lo = nI lo) (eh : ld hi = nI hi) : qc_nm n (qc_jn n (nI lo) (nI hi) ld) := by
  intro x hx
  have a : ¬ ld lo = nI hi := fun e => by
    have := qa_inj (by omega) (by omega) (el.symm.trans e); omega
  by_cases z : ld x = nI hi
  · obtain ⟨j, hj, e1, e2⟩ := h x hx
    have : j = hi := qa_inj (by omega) (by omega) (e1.symm.trans z)
    exact ⟨lo, by omega, qc_jn_h hx z, (qc_jn_n a).trans el⟩
  · obtain ⟨j, hj, e1, e2⟩ := h x hx
    refine ⟨j, hj, (qc_jn_n z).trans e1, (qc_jn_n ?_).trans e2⟩
    intro e; exact z (by rw [e1, ← e2, e])
theorem qc_jn_co {n : Nat} {lo hi : Int32} {ld : Nat → Int32} {x y : Nat} (hx : x < n) (hy : y < n) (e : ld x = ld y) : qc_jn n lo hi ld x = qc_jn n lo hi ld y := by
  by_cases z : ld x = hi
  · rw [qc_jn_h hx z, qc_jn_h hy (e ▸ z)]
  · rw [qc_jn_n z, qc_jn_n (e ▸ z), e]
theorem qc_jn_sn {n m a b : Nat} {lo hi : Int32} {sy lf rt el er ld : Nat → Int32} {P : Nat → Prop} (h : qc_sn n m sy lf rt el er P ld)
    (ha : a < n) (hb : b < n) (ea : ld a = lo) (eb : ld b = hi) (hf : ∀ f, qc_cl n m sy lf rt el er P f → f a = f b) : qc_sn n m sy lf rt el er P (qc_jn n lo hi ld) := by
  intro f cf x y hx hy e
  have key : ∀ x, x < n → ∃ x', x' < n ∧ ld x' = qc_jn n lo hi ld x ∧ f x' = f x := by
    intro x hx
    by_cases z : ld x = hi
    · refine ⟨a, ha, by rw [qc_jn_h hx z, ea], ?_⟩
      rw [hf f cf]; exact h f cf b x hb hx (by rw [eb, z])
    · exact ⟨x, hx, (qc_jn_n z).symm, rfl⟩
  obtain ⟨x', hx', e1, e2⟩ := key x hx
  obtain ⟨y', hy', e3, e4⟩ := key y hy
  rw [← e2, ← e4]
  exact h f cf x' y' hx' hy' (by rw [e1, e3, e])
theorem qc_jn_cn {n lo hi : Nat} {ld : Nat → Int32} (hn : n ≤ 32) (hlo : lo < hi) (hhi : hi < n) (el : ld lo = nI lo) (eh : ld hi = nI hi) :
    qa_cn (fun x => qc_jn n (nI lo) (nI hi) ld x = nI x) n + 1 = qa_cn (fun x => ld x = nI x) n := by
  refine qa_cn_rem (a := hi) hhi eh fun k hk => ?_
  by_cases z : ld k = nI hi
  · rw [qc_jn_h hk z, z]
    constructor
    · intro e
      have := qa_inj (by omega) (by omega) e
      subst this
      rw [el] at z
      have := qa_inj (by omega) (by omega) z; omega
    · rintro ⟨e, ne⟩
      exact (ne (qa_inj (by omega) (by omega) e).symm).elim
  · rw [qc_jn_n z]
    exact ⟨fun e => ⟨e, fun q => z (by rw [q, eh])⟩, fun e => e.1⟩
end
section
section
variable {f_termLimit f_patternLimit f_ruleLimit f_eventLimit f_termCount f_patternCount f_ruleCount f_eventCount f_closedTerms f_closedEvents f_classCount f_dirty f_matchPattern f_matchDepth f_levelCount f_groundLeft f_costsFresh f_settledClasses f_reachedClasses f_orderCount f_explainedCount : Int32} {a_termSymbol a_termLeft a_termRight a_termIndex a_patSymbol a_patLeft a_patRight a_patSubs a_patTop a_byTop a_patternIndex a_ruleLeft a_ruleRight a_eventLeft a_eventRight a_eventRule a_symbolWeight a_leader a_members a_users a_symbolTerms a_signTerm a_levelVar a_levelRest a_patValue a_standsFor a_order a_bestTerm a_gotTerm a_explainedEvent : Nat → Int32} {a_best a_treeCost : Nat → Int64}
theorem qx_low47 {post : Int32 → Prop} {y z : Int32} (K : post (if (y &&& (-1431655766)) = 0 then z else z + 1)) : wX_lowestBit_47 post y z f_termLimit f_patternLimit f_ruleLimit f_eventLimit f_termCount f_patternCount f_ruleCount f_eventCount f_closedTerms f_closedEvents f_classCount f_dirty f_matchPattern f_matchDepth f_levelCount f_groundLeft f_costsFresh f_settledClasses f_reachedClasses f_orderCount f_explainedCount a_termSymbol a_termLeft a_termRight a_termIndex a_patSymbol a_patLeft a_patRight a_patSubs a_patTop a_byTop a_patternIndex a_ruleLeft a_ruleRight a_eventLeft a_eventRight a_eventRule a_symbolWeight a_leader a_members a_users a_symbolTerms a_signTerm a_levelVar a_levelRest a_patValue a_standsFor a_order a_best a_bestTerm a_gotTerm a_treeCost a_explainedEvent := by
  unfold wX_lowestBit_47
  exact br_c (fun hc => by rwa [if_pos hc] at K) (fun hc w e => by rw [if_neg hc] at K; rw [e]; exact K)
theorem qx_low37 {post : Int32 → Prop} {y z : Int32} (K : ∀ w, w = (if (y &&& (-858993460)) = 0 then z else z + 2) → post (if (y &&& (-1431655766)) = 0 then w else w + 1)) : wX_lowestBit_37 post y z f_termLimit f_patternLimit f_ruleLimit f_eventLimit f_termCount f_patternCount f_ruleCount f_eventCount f_closedTerms f_closedEvents f_classCount f_dirty f_matchPattern f_matchDepth f_levelCount f_groundLeft f_costsFresh f_settledClasses f_reachedClasses f_orderCount f_explainedCount a_termSymbol a_termLeft a_termRight a_termIndex a_patSymbol a_patLeft a_patRight a_patSubs a_patTop a_byTop a_patternIndex a_ruleLeft a_ruleRight a_eventLeft a_eventRight a_eventRule a_symbolWeight a_leader a_members a_users a_symbolTerms a_signTerm a_levelVar a_levelRest a_patValue a_standsFor a_order a_best a_bestTerm a_gotTerm a_treeCost a_explainedEvent := by
  unfold wX_lowestBit_37
  exact br_c (fun hc => qx_low47 (K _ (if_pos hc).symm)) (fun hc w e => qx_low47 (K _ (by rw [if_neg hc]; exact e)))
theorem qx_low27 {post : Int32 → Prop} {y z : Int32} (K : ∀ v, v = (if (y &&& (-252645136)) = 0 then z else z + 4) → ∀ w, w = (if (y &&& (-858993460)) = 0 then v else v + 2) → post (if (y &&& (-1431655766)) = 0 then w else w + 1)) : wX_lowestBit_27 post y z f_termLimit f_patternLimit f_ruleLimit f_eventLimit f_termCount f_patternCount f_ruleCount f_eventCount f_closedTerms f_closedEvents f_classCount f_dirty f_matchPattern f_matchDepth f_levelCount f_groundLeft f_costsFresh f_settledClasses f_reachedClasses f_orderCount f_explainedCount a_termSymbol a_termLeft a_termRight a_termIndex a_patSymbol a_patLeft a_patRight a_patSubs a_patTop a_byTop a_patternIndex a_ruleLeft a_ruleRight a_eventLeft a_eventRight a_eventRule a_symbolWeight a_leader a_members a_users a_symbolTerms a_signTerm a_levelVar a_levelRest a_patValue a_standsFor a_order a_best a_bestTerm a_gotTerm a_treeCost a_explainedEvent := by
  unfold wX_lowestBit_27
  exact br_c (fun hc => qx_low37 (K _ (if_pos hc).symm)) (fun hc w e => qx_low37 (K _ (by rw [if_neg hc]; exact e)))
theorem qx_low17 {post : Int32 → Prop} {y z : Int32} (K : ∀ u, u = (if (y &&& (-16711936)) = 0 then z else z + 8) → ∀ v, v = (if (y &&& (-252645136)) = 0 then u else u + 4) → ∀ w, w = (if (y &&& (-858993460)) = 0 then v else v + 2) → post (if (y &&& (-1431655766)) = 0 then w else w + 1)) : wX_lowestBit_17 post y z f_termLimit f_patternLimit f_ruleLimit f_eventLimit f_termCount f_patternCount f_ruleCount f_eventCount f_closedTerms f_closedEvents f_classCount f_dirty f_matchPattern f_matchDepth f_levelCount f_groundLeft f_costsFresh f_settledClasses f_reachedClasses f_orderCount f_explainedCount a_termSymbol a_termLeft a_termRight a_termIndex a_patSymbol a_patLeft a_patRight a_patSubs a_patTop a_byTop a_patternIndex a_ruleLeft a_ruleRight a_eventLeft a_eventRight a_eventRule a_symbolWeight a_leader a_members a_users a_symbolTerms a_signTerm a_levelVar a_levelRest a_patValue a_standsFor a_order a_best a_bestTerm a_gotTerm a_treeCost a_explainedEvent := by
  unfold wX_lowestBit_17
  exact br_c (fun hc => qx_low27 (K _ (if_pos hc).symm)) (fun hc w e => qx_low27 (K _ (by rw [if_neg hc]; exact e)))
def qx_lF (y : Int32) : Int32 :=
  let z := if (y &&& (-65536)) = 0 then (0 : Int32) else 0 + 16
  let u := if (y &&& (-16711936)) = 0 then z else z + 8
  let v := if (y &&& (-252645136)) = 0 then u else u + 4
  let w := if (y &&& (-858993460)) = 0 then v else v + 2
  if (y &&& (-1431655766)) = 0 then w else w + 1
theorem qx_lFi : ∀ i, i < 32 → qx_lF ((1 : Int32) <<< (nI i &&& 31)) = nI i := by decide +kernel
theorem qx_low {post : Int32 → Prop} {x : Int32} {i : Nat} (h : qb_lo x i) (K : post (nI i)) : wpX_lowestBit post (f_termLimit, f_patternLimit, f_ruleLimit, f_eventLimit, f_termCount, f_patternCount, f_ruleCount, f_eventCount, f_closedTerms, f_closedEvents, f_classCount, f_dirty, f_matchPattern, f_matchDepth, f_levelCount, f_groundLeft, f_costsFresh, f_settledClasses, f_reachedClasses, f_orderCount, f_explainedCount, a_termSymbol, a_termLeft, a_termRight, a_termIndex, a_patSymbol, a_patLeft, a_patRight, a_patSubs, a_patTop, a_byTop, a_patternIndex, a_ruleLeft, a_ruleRight, a_eventLeft, a_eventRight, a_eventRule, a_symbolWeight, a_leader, a_members, a_users, a_symbolTerms, a_signTerm, a_levelVar, a_levelRest, a_patValue, a_standsFor, a_order, a_best, a_bestTerm, a_gotTerm, a_treeCost, a_explainedEvent) x := by
  unfold wpX_lowestBit
  intro y ey
  rw [qb_lw h] at ey
  have e := qx_lFi i h.1
  rw [← ey] at e
  rw [← e] at K
  refine br_c (fun hc => qx_low17 ?_) (fun hc z ez => qx_low17 ?_)
  · intro u eu v ev w ew
    unfold qx_lF at K
    rw [if_pos hc] at K
    rw [ew, ev, eu]; exact K
  · intro u eu v ev w ew
    unfold qx_lF at K
    rw [if_neg hc] at K
    rw [ew, ev, eu, ez]; exact K
theorem qx_key {post : Int32 → Prop} {s a b : Int32} (K : post (qa_ky s a b)) : wpX_key post (f_termLimit, f_patternLimit, f_ruleLimit, f_eventLimit, f_termCount, f_patternCount, f_ruleCount, f_eventCount, f_closedTerms, f_closedEvents, f_classCount, f_dirty, f_matchPattern, f_matchDepth, f_levelCount, f_groundLeft, f_costsFresh, f_settledClasses, f_reachedClasses, f_orderCount, f_explainedCount, a_termSymbol, a_termLeft, a_termRight, a_termIndex, a_patSymbol, a_patLeft, a_patRight, a_patSubs, a_patTop, a_byTop, a_patternIndex, a_ruleLeft, a_ruleRight, a_eventLeft, a_eventRight, a_eventRule, a_symbolWeight, a_leader, a_members, a_users, a_symbolTerms, a_signTerm, a_levelVar, a_levelRest, a_patValue, a_standsFor, a_order, a_best, a_bestTerm, a_gotTerm, a_treeCost, a_explainedEvent) s a b := by
  unfold wpX_key
  unfold qa_ky at K
  exact br_c (fun h => br_c (fun h2 => by rwa [if_pos h, if_pos h2] at K) (fun h2 => by rwa [if_pos h, if_neg h2] at K)) (fun h => by rwa [if_neg h] at K)
end
section
variable {f_termLimit f_patternLimit f_ruleLimit f_eventLimit f_termCount f_patternCount f_ruleCount f_eventCount f_closedEvents f_classCount f_dirty f_matchPattern f_matchDepth f_levelCount f_groundLeft f_costsFresh f_settledClasses f_reachedClasses f_orderCount f_explainedCount : Int32} {a_termIndex a_patSymbol a_patLeft a_patRight a_patSubs a_patTop a_byTop a_patternIndex a_ruleLeft a_ruleRight a_eventLeft a_eventRight a_eventRule a_symbolWeight a_members a_users a_symbolTerms a_levelVar a_levelRest a_patValue a_standsFor a_order a_bestTerm a_gotTerm a_explainedEvent : Nat → Int32} {a_best a_treeCost : Nat → Int64}
variable {c : Nat} {sy lf rt ld sgt : Nat → Int32}
theorem qx_sig38 {post : Int32 → Prop} {t : Nat} {a b : Int32} (ht : t < 32) (K : post (qa_ky (sy t) a b)) : wX_signatureKey_38 post (nI t) a b f_termLimit f_patternLimit f_ruleLimit f_eventLimit f_termCount f_patternCount f_ruleCount f_eventCount (nI c) f_closedEvents f_classCount f_dirty f_matchPattern f_matchDepth f_levelCount f_groundLeft f_costsFresh f_settledClasses f_reachedClasses f_orderCount f_explainedCount sy lf rt a_termIndex a_patSymbol a_patLeft a_patRight a_patSubs a_patTop a_byTop a_patternIndex a_ruleLeft a_ruleRight a_eventLeft a_eventRight a_eventRule a_symbolWeight ld a_members a_users a_symbolTerms sgt a_levelVar a_levelRest a_patValue a_standsFor a_order a_best a_bestTerm a_gotTerm a_treeCost a_explainedEvent := by
  unfold wX_signatureKey_38
  refine ⟨vp_in_nI ht (by omega), ?_⟩
  rw [nI_clamp (by omega)]
  exact qx_key K
theorem qx_sig26 {post : Int32 → Prop} {t j : Nat} {a b : Int32} (ht : t < 32) (hb : b = -1 ∨ ∃ j, j < 32 ∧ b = nI j) (K : post (qa_ky (sy t) a (qc_lb ld b))) : wX_signatureKey_26 post (nI t) a b f_termLimit f_patternLimit f_ruleLimit f_eventLimit f_termCount f_patternCount f_ruleCount f_eventCount (nI c) f_closedEvents f_classCount f_dirty f_matchPattern f_matchDepth f_levelCount f_groundLeft f_costsFresh f_settledClasses f_reachedClasses f_orderCount f_explainedCount sy lf rt a_termIndex a_patSymbol a_patLeft a_patRight a_patSubs a_patTop a_byTop a_patternIndex a_ruleLeft a_ruleRight a_eventLeft a_eventRight a_eventRule a_symbolWeight ld a_members a_users a_symbolTerms sgt a_levelVar a_levelRest a_patValue a_standsFor a_order a_best a_bestTerm a_gotTerm a_treeCost a_explainedEvent := by
  unfold wX_signatureKey_26
  rcases hb with rfl | ⟨j, hj, rfl⟩
  · rw [qc_lb1] at K
    exact br_t rfl (qx_sig38 ht K)
  · rw [qc_lbN _ (by omega)] at K
    exact br_f (qa_ne1 (by omega)) ⟨vp_in_nI hj (by omega), nm_r (e' := ld j) (by rw [nI_clamp (by omega)]) (qx_sig38 ht K)⟩
theorem qx_sig {post : Int32 → Prop} {t : Nat} (ht : t < 32) (g : qa_tok sy lf rt t) (K : post (qa_ky (sy t) (qc_lb ld (lf t)) (qc_lb ld (rt t)))) : wpX_signatureKey post (f_termLimit, f_patternLimit, f_ruleLimit, f_eventLimit, f_termCount, f_patternCount, f_ruleCount, f_eventCount, nI c, f_closedEvents, f_classCount, f_dirty, f_matchPattern, f_matchDepth, f_levelCount, f_groundLeft, f_costsFresh, f_settledClasses, f_reachedClasses, f_orderCount, f_explainedCount, sy, lf, rt, a_termIndex, a_patSymbol, a_patLeft, a_patRight, a_patSubs, a_patTop, a_byTop, a_patternIndex, a_ruleLeft, a_ruleRight, a_eventLeft, a_eventRight, a_eventRule, a_symbolWeight, ld, a_members, a_users, a_symbolTerms, sgt, a_levelVar, a_levelRest, a_patValue, a_standsFor, a_order, a_best, a_bestTerm, a_gotTerm, a_treeCost, a_explainedEvent) (nI t) := by
  unfold wpX_signatureKey
  have g' : qa_sg 32 (sy t) (lf t) (rt t) := qa_sg_mono (by omega) g
  refine ⟨vp_in_nI ht (by omega), nm_r (e' := lf t) (by rw [nI_clamp (by omega)]) ⟨vp_in_nI ht (by omega), nm_r (e' := rt t) (by rw [nI_clamp (by omega)]) ?_⟩⟩
  rcases qa_sg_a g' with e | ⟨j, hj, e⟩
  · rw [e] at K ⊢
    rw [qc_lb1] at K
    exact br_t rfl (qx_sig26 (j := 0) ht (qa_sg_b g') K)
  · rw [e] at K ⊢
    rw [qc_lbN _ (by omega)] at K
    exact br_f (qa_ne1 (by omega)) ⟨vp_in_nI hj (by omega), nm_r (e' := ld j) (by rw [nI_clamp (by omega)]) (qx_sig26 (j := 0) ht (qa_sg_b g') K)⟩
theorem qx_enr {post : Int32 → Prop} {k : Nat} (hk : k < 4232) (hc : c ≤ 32) (hs : ∃ q, q ≤ 32 ∧ sgt k = nI q) (g : ∀ t, t < c → qa_tok sy lf rt t)
    (K1 : ∀ t, t < c → sgt k = nI (t + 1) → qa_ky (sy t) (qc_lb ld (lf t)) (qc_lb ld (rt t)) = nI k → post (nI t))
    (K2 : (∀ t, t < c → sgt k = nI (t + 1) → ¬ qa_ky (sy t) (qc_lb ld (lf t)) (qc_lb ld (rt t)) = nI k) → post (-1)) : wpX_enrolled post (f_termLimit, f_patternLimit, f_ruleLimit, f_eventLimit, f_termCount, f_patternCount, f_ruleCount, f_eventCount, nI c, f_closedEvents, f_classCount, f_dirty, f_matchPattern, f_matchDepth, f_levelCount, f_groundLeft, f_costsFresh, f_settledClasses, f_reachedClasses, f_orderCount, f_explainedCount, sy, lf, rt, a_termIndex, a_patSymbol, a_patLeft, a_patRight, a_patSubs, a_patTop, a_byTop, a_patternIndex, a_ruleLeft, a_ruleRight, a_eventLeft, a_eventRight, a_eventRule, a_symbolWeight, ld, a_members, a_users, a_symbolTerms, sgt, a_levelVar, a_levelRest, a_patValue, a_standsFor, a_order, a_best, a_bestTerm, a_gotTerm, a_treeCost, a_explainedEvent) (nI k) := by
  unfold wpX_enrolled
  obtain ⟨q, hq, eq⟩ := hs
  refine ⟨vp_in_nI hk (by omega), ?_⟩
  cases q with
  | zero =>
    refine nm_r (e' := -1) (by rw [nI_clamp (by omega), eq]; decide) (br_t (by decide) (K2 fun t ht e => ?_))
    rw [eq] at e
    have := qa_inj (by omega) (by omega) e
    omega
  | succ t =>
    refine nm_r (e' := nI t) (by rw [nI_clamp (by omega), eq, nI_pred]) (br_f (nI_pos (by omega)) ?_)
    by_cases h : t < c
    · refine br_t (nI_lt h (by omega)) (qx_sig (by omega) (g t h) ?_)
      exact br_c (fun e => K1 t h eq e) (fun e => K2 fun t' ht' e' => by
        rw [eq] at e'
        have := qa_inj (by omega) (by omega) e'
        have : t = t' := by omega
        subst this; exact e)
    · refine br_f (nI_nlt (by omega) (by omega)) (K2 fun t' ht' e' => ?_)
      rw [eq] at e'
      have := qa_inj (by omega) (by omega) e'
      omega
end
end
section
def qx_cs (c : Nat) (sy lf rt ld mem usr syt sgt : Nat → Int32) (cc : Int32) : Prop :=
  c ≤ 32 ∧ (∀ t, t < c → qa_tok sy lf rt t) ∧ qc_nm c ld ∧
  (∀ l t, l < c → ld l = nI l → t < 32 → (bt (mem l) t = true ↔ t < c ∧ ld t = nI l)) ∧
  (∀ l t, l < c → ld l = nI l → t < 32 → (bt (usr l) t = true ↔ t < c ∧ (qc_lb ld (lf t) = nI l ∨ qc_lb ld (rt t) = nI l))) ∧
  (∀ s t, s < 16 → t < 32 → (bt (syt s) t = true ↔ t < c ∧ sy t = nI s)) ∧
  cc = nI (qa_cn (fun x => ld x = nI x) c) ∧
  (∀ k, k < 4232 → ∃ m, m ≤ 32 ∧ sgt k = nI m)
def qx_en (c : Nat) (sy lf rt ld sgt : Nat → Int32) (t : Nat) : Prop :=
  ∃ t', t' < c ∧ sgt (qa_ky (sy t) (qc_lb ld (lf t)) (qc_lb ld (rt t))).toNatClampNeg = nI (t' + 1) ∧ sy t' = sy t ∧ qc_lb ld (lf t') = qc_lb ld (lf t) ∧ qc_lb ld (rt t') = qc_lb ld (rt t) ∧ ld t' = ld t
def qx_dt (c : Nat) (sy lf rt ld sgt : Nat → Int32) (D : Int32) (x : Nat) : Prop :=
  (∀ t, t < 32 → bt D t = true → t < c) ∧ ∀ t, t < c → t ≠ x → bt D t = true ∨ qx_en c sy lf rt ld sgt t
def qx_ci (c m : Nat) (sy lf rt el er : Nat → Int32) (P : Nat → Prop) (ld mem usr syt sgt : Nat → Int32) (cc D : Int32) (x : Nat) : Prop :=
  qx_cs c sy lf rt ld mem usr syt sgt cc ∧ qx_dt c sy lf rt ld sgt D x ∧ qc_sn c m sy lf rt el er P ld
noncomputable def qx_mu (c : Nat) (ld : Nat → Int32) (D : Int32) : Nat := 33 * qa_cn (fun x => ld x = nI x) c + qb_pc D
theorem qc_jn_eq {n lo hi l x : Nat} {ld : Nat → Int32} (hx : x < n) (hl : l ≠ hi) (h1 : lo < 2 ^ 31) (h2 : hi < 2 ^ 31) (h3 : l < 2 ^ 31) :
    qc_jn n (nI lo) (nI hi) ld x = nI l ↔ (ld x = nI l ∨ (l = lo ∧ ld x = nI hi)) := by
  by_cases z : ld x = nI hi
  · rw [qc_jn_h hx z, z, nI_eq h1 h3, nI_eq h2 h3]
    exact ⟨fun e => Or.inr ⟨e.symm, rfl⟩, fun e => e.elim (fun e => (hl e.symm).elim) (fun e => e.1.symm)⟩
  · rw [qc_jn_n z]
    exact ⟨Or.inl, fun e => e.elim id (fun e => (z e.2).elim)⟩
theorem qc_lb_jn_eq {n lo hi l : Nat} {x : Int32} {ld : Nat → Int32} (hn : n ≤ 32) (hx : x = -1 ∨ ∃ j, j < n ∧ x = nI j) (hl : l ≠ hi) (h1 : lo < 2 ^ 31) (h2 : hi < 2 ^ 31) (h3 : l < 2 ^ 31) :
    qc_lb (qc_jn n (nI lo) (nI hi) ld) x = nI l ↔ (qc_lb ld x = nI l ∨ (l = lo ∧ qc_lb ld x = nI hi)) := by
  rcases hx with rfl | ⟨j, hj, rfl⟩
  · rw [qc_lb1, qc_lb1]
    exact ⟨fun e => (qa_1ne h3 e).elim, fun e => e.elim (fun e => (qa_1ne h3 e).elim) (fun e => (qa_1ne h2 e.2).elim)⟩
  · rw [qc_lbN _ (by omega), qc_lbN _ (by omega)]
    exact qc_jn_eq hj hl h1 h2 h3
theorem qc_lb_jn_n {n : Nat} {lo hi x : Int32} {ld : Nat → Int32} (h : ¬ qc_lb ld x = hi) : qc_lb (qc_jn n lo hi ld) x = qc_lb ld x := by
  unfold qc_lb at h ⊢
  by_cases z : x = -1
  · rw [if_pos z, if_pos z]
  · rw [if_neg z] at h ⊢
    rw [if_neg z, qc_jn_n h]
theorem qx_cs_ch {c t : Nat} {sy lf rt : Nat → Int32} (hc : c ≤ 32) (ht : t < c) (g : qa_tok sy lf rt t) : (lf t = -1 ∨ ∃ j, j < c ∧ lf t = nI j) ∧ (rt t = -1 ∨ ∃ j, j < c ∧ rt t = nI j) :=
  ⟨qa_sg_a (qa_sg_mono (by omega) g), qa_sg_b (qa_sg_mono (by omega) g)⟩
theorem qx_cs_jn {c lo hi : Nat} {sy lf rt ld mem usr syt sgt : Nat → Int32} {cc : Int32} (h : qx_cs c sy lf rt ld mem usr syt sgt cc) (hlo : lo < hi) (hhi : hi < c) (el : ld lo = nI lo) (eh : ld hi = nI hi) :
    qx_cs c sy lf rt (qc_jn c (nI lo) (nI hi) ld) (upd mem lo (mem lo ||| mem hi)) (upd usr lo (usr lo ||| usr hi)) syt sgt (cc - 1) := by
  obtain ⟨hc, g, nm, hm, hu, hs, hcc, hk⟩ := h
  have root : ∀ l, l < c → qc_jn c (nI lo) (nI hi) ld l = nI l → l ≠ hi ∧ ld l = nI l := by
    intro l hl e
    have a : ¬ ld l = nI hi := fun z => by
      rw [qc_jn_h hl z] at e
      have e1 := qa_inj (by omega) (by omega) e
      subst e1
      rw [el] at z
      have := qa_inj (by omega) (by omega) z
      omega
    rw [qc_jn_n a] at e
    exact ⟨fun z => a (by rw [z, eh]), e⟩
  refine ⟨hc, g, qc_jn_nm hc nm hlo hhi el eh, ?_, ?_, hs, ?_, hk⟩
  · intro l t hl e ht
    obtain ⟨n1, e1⟩ := root l hl e
    have m1 := hm l t hl e1 ht
    by_cases z : l = lo
    · subst z
      rw [pk_us, b_or, Bool.or_eq_true, m1, hm hi t hhi eh ht]
      constructor
      · rintro (⟨a, b⟩ | ⟨a, b⟩)
        · exact ⟨a, (qc_jn_eq a n1 (by omega) (by omega) (by omega)).mpr (Or.inl b)⟩
        · exact ⟨a, (qc_jn_eq a n1 (by omega) (by omega) (by omega)).mpr (Or.inr ⟨rfl, b⟩)⟩
      · rintro ⟨a, b⟩
        rcases (qc_jn_eq a n1 (by omega) (by omega) (by omega)).mp b with b | b
        · exact Or.inl ⟨a, b⟩
        · exact Or.inr ⟨a, b.2⟩
    · rw [pk_un z, m1]
      constructor
      · rintro ⟨a, b⟩
        exact ⟨a, (qc_jn_eq a n1 (by omega) (by omega) (by omega)).mpr (Or.inl b)⟩
      · rintro ⟨a, b⟩
        rcases (qc_jn_eq a n1 (by omega) (by omega) (by omega)).mp b with b | b
        · exact ⟨a, b⟩
        · exact (z b.1).elim
  · intro l t hl e ht
    obtain ⟨n1, e1⟩ := root l hl e
    have m1 := hu l t hl e1 ht
    have q : ∀ {x : Int32}, (x = -1 ∨ ∃ j, j < c ∧ x = nI j) → (qc_lb (qc_jn c (nI lo) (nI hi) ld) x = nI l ↔ (qc_lb ld x = nI l ∨ (l = lo ∧ qc_lb ld x = nI hi))) :=
      fun hx => qc_lb_jn_eq hc hx n1 (by omega) (by omega) (by omega)
    by_cases z : l = lo
    · subst z
      rw [pk_us, b_or, Bool.or_eq_true, m1, hu hi t hhi eh ht]
      constructor
      · rintro (⟨a, b⟩ | ⟨a, b⟩)
        · have k := qx_cs_ch hc a (g t a)
          exact ⟨a, b.elim (fun b => Or.inl ((q k.1).mpr (Or.inl b))) (fun b => Or.inr ((q k.2).mpr (Or.inl b)))⟩
        · have k := qx_cs_ch hc a (g t a)
          exact ⟨a, b.elim (fun b => Or.inl ((q k.1).mpr (Or.inr ⟨rfl, b⟩))) (fun b => Or.inr ((q k.2).mpr (Or.inr ⟨rfl, b⟩)))⟩
      · rintro ⟨a, b⟩
        have k := qx_cs_ch hc a (g t a)
        rcases b with b | b
        · exact ((q k.1).mp b).elim (fun b => Or.inl ⟨a, Or.inl b⟩) (fun b => Or.inr ⟨a, Or.inl b.2⟩)
        · exact ((q k.2).mp b).elim (fun b => Or.inl ⟨a, Or.inr b⟩) (fun b => Or.inr ⟨a, Or.inr b.2⟩)
    · rw [pk_un z, m1]
      constructor
      · rintro ⟨a, b⟩
        have k := qx_cs_ch hc a (g t a)
        exact ⟨a, b.elim (fun b => Or.inl ((q k.1).mpr (Or.inl b))) (fun b => Or.inr ((q k.2).mpr (Or.inl b)))⟩
      · rintro ⟨a, b⟩
        have k := qx_cs_ch hc a (g t a)
        rcases b with b | b
        · exact ((q k.1).mp b).elim (fun b => ⟨a, Or.inl b⟩) (fun b => (z b.1).elim)
        · exact ((q k.2).mp b).elim (fun b => ⟨a, Or.inr b⟩) (fun b => (z b.1).elim)
  · rw [hcc, ← qc_jn_cn hc hlo hhi el eh, nI_pred]
theorem qx_dt_jn {c lo hi ex : Nat} {sy lf rt ld mem usr syt sgt : Nat → Int32} {cc D D' : Int32} (h : qx_cs c sy lf rt ld mem usr syt sgt cc) (hhi : hi < c) (eh : ld hi = nI hi)
    (hd : qx_dt c sy lf rt ld sgt D ex) (hD : ∀ t, bt D' t = (bt D t || bt (usr hi) t)) : qx_dt c sy lf rt (qc_jn c (nI lo) (nI hi) ld) sgt D' ex := by
  obtain ⟨hc, g, nm, hm, hu, hs, hcc, hk⟩ := h
  refine ⟨fun t ht e => ?_, fun t ht tx => ?_⟩
  · rw [hD, Bool.or_eq_true] at e
    exact e.elim (hd.1 t ht) (fun e => ((hu hi t hhi eh ht).mp e).1)
  · rcases hd.2 t ht tx with e | e
    · left; rw [hD, e]; rfl
    · by_cases z : bt (usr hi) t = true
      · left; rw [hD, z, Bool.or_true]
      · right
        obtain ⟨t', ht', e1, e2, e3, e4, e5⟩ := e
        have z1 : ¬ qc_lb ld (lf t) = nI hi := fun q => z ((hu hi t hhi eh (by omega)).mpr ⟨ht, Or.inl q⟩)
        have z2 : ¬ qc_lb ld (rt t) = nI hi := fun q => z ((hu hi t hhi eh (by omega)).mpr ⟨ht, Or.inr q⟩)
        have f1 := qc_lb_jn_n (n := c) (lo := nI lo) z1
        have f2 := qc_lb_jn_n (n := c) (lo := nI lo) z2
        have f3 := qc_lb_jn_n (n := c) (lo := nI lo) (fun q => z1 (e3 ▸ q))
        have f4 := qc_lb_jn_n (n := c) (lo := nI lo) (fun q => z2 (e4 ▸ q))
        refine ⟨t', ht', ?_, e2, ?_, ?_, qc_jn_co ht' ht e5⟩
        · rw [f1, f2]; exact e1
        · rw [f3, f1]; exact e3
        · rw [f4, f2]; exact e4
section
variable {f_termLimit f_patternLimit f_ruleLimit f_eventLimit f_termCount f_patternCount f_ruleCount f_eventCount f_closedEvents f_matchPattern f_matchDepth f_levelCount f_groundLeft f_settledClasses f_reachedClasses f_orderCount f_explainedCount : Int32} {a_termIndex a_patSymbol a_patLeft a_patRight a_patSubs a_patTop a_byTop a_patternIndex a_ruleLeft a_ruleRight a_eventRule a_symbolWeight a_levelVar a_levelRest a_patValue a_standsFor a_order a_bestTerm a_gotTerm a_explainedEvent : Nat → Int32} {a_best a_treeCost : Nat → Int64}
variable {c m : Nat} {sy lf rt ld mem usr syt sgt el er : Nat → Int32} {cc D cf : Int32} {P : Nat → Prop}
theorem qx_join47 {post : SX → Prop} {lo hi : Nat} (h : qx_cs c sy lf rt ld mem usr syt sgt cc) (hlo : lo < hi) (hhi : hi < c) (e1 : ld lo = nI lo) (eh : ld hi = nI hi)
    (K : post (f_termLimit, f_patternLimit, f_ruleLimit, f_eventLimit, f_termCount, f_patternCount, f_ruleCount, f_eventCount, nI c, f_closedEvents, cc - 1, D ||| usr hi, f_matchPattern, f_matchDepth, f_levelCount, f_groundLeft, 0, f_settledClasses, f_reachedClasses, f_orderCount, f_explainedCount, sy, lf, rt, a_termIndex, a_patSymbol, a_patLeft, a_patRight, a_patSubs, a_patTop, a_byTop, a_patternIndex, a_ruleLeft, a_ruleRight, el, er, a_eventRule, a_symbolWeight, qc_jn c (nI lo) (nI hi) ld, upd mem lo (mem lo ||| mem hi), upd usr lo (usr lo ||| usr hi), syt, sgt, a_levelVar, a_levelRest, a_patValue, a_standsFor, a_order, a_best, a_bestTerm, a_gotTerm, a_treeCost, a_explainedEvent)) :
    wX_join_47 post (nI lo) (nI hi) f_termLimit f_patternLimit f_ruleLimit f_eventLimit f_termCount f_patternCount f_ruleCount f_eventCount (nI c) f_closedEvents cc D f_matchPattern f_matchDepth f_levelCount f_groundLeft cf f_settledClasses f_reachedClasses f_orderCount f_explainedCount 33 (mem hi) sy lf rt a_termIndex a_patSymbol a_patLeft a_patRight a_patSubs a_patTop a_byTop a_patternIndex a_ruleLeft a_ruleRight el er a_eventRule a_symbolWeight ld mem usr syt sgt a_levelVar a_levelRest a_patValue a_standsFor a_order a_best a_bestTerm a_gotTerm a_treeCost a_explainedEvent := by
  have hc := h.1
  refine qb_loop (fun n r l => wX_join_47 post (nI lo) (nI hi) f_termLimit f_patternLimit f_ruleLimit f_eventLimit f_termCount f_patternCount f_ruleCount f_eventCount (nI c) f_closedEvents cc D f_matchPattern f_matchDepth f_levelCount f_groundLeft cf f_settledClasses f_reachedClasses f_orderCount f_explainedCount n r sy lf rt a_termIndex a_patSymbol a_patLeft a_patRight a_patSubs a_patTop a_byTop a_patternIndex a_ruleLeft a_ruleRight el er a_eventRule a_symbolWeight l mem usr syt sgt a_levelVar a_levelRest a_patValue a_standsFor a_order a_best a_bestTerm a_gotTerm a_treeCost a_explainedEvent) (mem hi) (fun i l => ∀ x, l x = if x < i ∧ x < c ∧ ld x = nI hi then nI lo else ld x) ?_ ?_ ?_ ld (fun x => (if_neg (fun z => absurd z.1 (Nat.not_lt_zero _))).symm)
  · intro n l hl
    have e : l = qc_jn c (nI lo) (nI hi) ld := by
      funext x
      rw [hl x]
      unfold qc_jn
      by_cases z : x < c ∧ ld x = nI hi
      · rw [if_pos z, if_pos ⟨by omega, z⟩]
      · rw [if_neg z, if_neg (fun q => z q.2)]
    subst e
    rw [wX_join_47]
    have i1 : vp_in (nI lo) 32 := vp_in_nI (by omega) (by omega)
    have i2 : vp_in (nI hi) 32 := vp_in_nI (by omega) (by omega)
    have c1 : (nI lo).toNatClampNeg = lo := nI_clamp (by omega)
    have c2 : (nI hi).toNatClampNeg = hi := nI_clamp (by omega)
    refine br_t rfl ⟨i1, i2, i1, nm_r (e' := upd mem lo (mem lo ||| mem hi)) (by rw [c1, c2]) ⟨i1, i2, i1, nm_r (e' := upd usr lo (usr lo ||| usr hi)) (by rw [c1, c2]) ⟨i2, nm_r (e' := D ||| usr hi) (by rw [c2, pk_un (by omega)]) (nm_e K)⟩⟩⟩
  · intro i l hi' hb hl x
    rw [hl x]
    by_cases z : x < i ∧ x < c ∧ ld x = nI hi
    · rw [if_pos z, if_pos ⟨by omega, z.2⟩]
    · rw [if_neg z, if_neg]
      rintro ⟨a, b, d⟩
      have : x = i := Classical.byContradiction fun q => z ⟨by omega, b, d⟩
      subst this
      have := (h.2.2.2.1 hi x hhi eh hi').mpr ⟨b, d⟩
      rw [hb] at this
      exact absurd this (by decide)
  · intro n i r l hr lo' hb hl Kn
    rw [wX_join_47]
    refine br_f hr (qx_low lo' ⟨vp_in_nI lo'.1 (by omega), nm_r (e' := upd l i (nI lo)) (by rw [nI_clamp (by have := lo'.1; omega)]) (nm_e (Kn _ fun x => ?_))⟩)
    have mb := (h.2.2.2.1 hi i hhi eh lo'.1).mp hb
    by_cases z : x = i
    · subst z
      rw [pk_us, if_pos ⟨by omega, mb⟩]
    · rw [pk_un z, hl x]
      by_cases q : x < i ∧ x < c ∧ ld x = nI hi
      · rw [if_pos q, if_pos ⟨by omega, q.2⟩]
      · rw [if_neg q, if_neg (fun w => q ⟨by omega, w.2⟩)]
theorem qx_keep {lo hi : Nat} {D' : Int32} (h : qx_cs c sy lf rt ld mem usr syt sgt cc) (hhi : hi < c) (eh : ld hi = nI hi) (hD : ∀ t, bt D' t = (bt D t || bt (usr hi) t)) :
    ∀ t, t < c → bt D' t = true ∨ (qc_lb (qc_jn c (nI lo) (nI hi) ld) (lf t) = qc_lb ld (lf t) ∧ qc_lb (qc_jn c (nI lo) (nI hi) ld) (rt t) = qc_lb ld (rt t)) := by
  intro t ht
  have hc := h.1
  by_cases z : bt (usr hi) t = true
  · left; rw [hD, z, Bool.or_true]
  · right
    exact ⟨qc_lb_jn_n (fun q => z ((h.2.2.2.2.1 hi t hhi eh (by omega)).mpr ⟨ht, Or.inl q⟩)), qc_lb_jn_n (fun q => z ((h.2.2.2.2.1 hi t hhi eh (by omega)).mpr ⟨ht, Or.inr q⟩))⟩
theorem qx_join {post : SX → Prop} {a b ex : Nat} (h : qx_ci c m sy lf rt el er P ld mem usr syt sgt cc D ex) (ha : a < c) (hb : b < c) (hf : ∀ f, qc_cl c m sy lf rt el er P f → f a = f b)
    (K0 : ld a = ld b → post (f_termLimit, f_patternLimit, f_ruleLimit, f_eventLimit, f_termCount, f_patternCount, f_ruleCount, f_eventCount, nI c, f_closedEvents, cc, D, f_matchPattern, f_matchDepth, f_levelCount, f_groundLeft, cf, f_settledClasses, f_reachedClasses, f_orderCount, f_explainedCount, sy, lf, rt, a_termIndex, a_patSymbol, a_patLeft, a_patRight, a_patSubs, a_patTop, a_byTop, a_patternIndex, a_ruleLeft, a_ruleRight, el, er, a_eventRule, a_symbolWeight, ld, mem, usr, syt, sgt, a_levelVar, a_levelRest, a_patValue, a_standsFor, a_order, a_best, a_bestTerm, a_gotTerm, a_treeCost, a_explainedEvent))
    (K : ∀ ld' mem' usr' cc' D', qx_ci c m sy lf rt el er P ld' mem' usr' syt sgt cc' D' ex → (∀ t, t < c → bt D' t = true ∨ (qc_lb ld' (lf t) = qc_lb ld (lf t) ∧ qc_lb ld' (rt t) = qc_lb ld (rt t))) → ld' a = ld' b → (∀ x y, x < c → y < c → ld x = ld y → ld' x = ld' y) → qx_mu c ld' D' < qx_mu c ld D →
      post (f_termLimit, f_patternLimit, f_ruleLimit, f_eventLimit, f_termCount, f_patternCount, f_ruleCount, f_eventCount, nI c, f_closedEvents, cc', D', f_matchPattern, f_matchDepth, f_levelCount, f_groundLeft, 0, f_settledClasses, f_reachedClasses, f_orderCount, f_explainedCount, sy, lf, rt, a_termIndex, a_patSymbol, a_patLeft, a_patRight, a_patSubs, a_patTop, a_byTop, a_patternIndex, a_ruleLeft, a_ruleRight, el, er, a_eventRule, a_symbolWeight, ld', mem', usr', syt, sgt, a_levelVar, a_levelRest, a_patValue, a_standsFor, a_order, a_best, a_bestTerm, a_gotTerm, a_treeCost, a_explainedEvent)) : wpX_join post (f_termLimit, f_patternLimit, f_ruleLimit, f_eventLimit, f_termCount, f_patternCount, f_ruleCount, f_eventCount, nI c, f_closedEvents, cc, D, f_matchPattern, f_matchDepth, f_levelCount, f_groundLeft, cf, f_settledClasses, f_reachedClasses, f_orderCount, f_explainedCount, sy, lf, rt, a_termIndex, a_patSymbol, a_patLeft, a_patRight, a_patSubs, a_patTop, a_byTop, a_patternIndex, a_ruleLeft, a_ruleRight, el, er, a_eventRule, a_symbolWeight, ld, mem, usr, syt, sgt, a_levelVar, a_levelRest, a_patValue, a_standsFor, a_order, a_best, a_bestTerm, a_gotTerm, a_treeCost, a_explainedEvent) (nI a) (nI b) := by
  obtain ⟨hC, hd, hsn⟩ := h
  have hc := hC.1
  have nm := hC.2.2.1
  obtain ⟨p, hp, ep, rp⟩ := nm a ha
  obtain ⟨q, hq, eq, rq⟩ := nm b hb
  unfold wpX_join
  refine ⟨vp_in_nI (by omega) (by omega), nm_r (e' := nI p) (by rw [nI_clamp (by omega), ep]) ⟨vp_in_nI (by omega) (by omega), nm_r (e' := nI q) (by rw [nI_clamp (by omega), eq]) ?_⟩⟩
  refine pk_eq p q (fun e => K0 (by rw [ep, eq, e])) (fun ne => ?_)
  have D2 : ∀ hi t, bt (D ||| usr hi) t = (bt D t || bt (usr hi) t) := fun hi t => b_or _ _ _
  have mu : ∀ lo hi, lo < hi → hi < c → ld lo = nI lo → ld hi = nI hi → qx_mu c (qc_jn c (nI lo) (nI hi) ld) (D ||| usr hi) < qx_mu c ld D := by
    intro lo hi h1 h2 h3 h4
    unfold qx_mu
    have := qc_jn_cn hc h1 h2 h3 h4
    have := qb_pc_le (D ||| usr hi)
    omega
  refine pk_le p q (fun le => ?_) (fun lt => ?_)
  · refine ⟨vp_in_nI (by omega) (by omega), nm_r (e' := mem q) (by rw [nI_clamp (by omega)]) ⟨33, qx_join47 hC (by omega) (by omega) rp rq (K _ _ _ _ _ ⟨qx_cs_jn hC (by omega) (by omega) rp rq, qx_dt_jn hC (by omega) rq hd (D2 q), ?_⟩ (qx_keep hC (by omega) rq (D2 q)) ?_ ?_ ?_)⟩⟩
    · exact qc_jn_sn hsn ha hb ep eq hf
    · rw [qc_jn_h hb eq, qc_jn_n (by rw [ep]; exact fun z => ne (qa_inj (by omega) (by omega) z)), ep]
    · exact fun x y hx hy e => qc_jn_co hx hy e
    · exact mu p q (by omega) (by omega) rp rq
  · refine ⟨vp_in_nI (by omega) (by omega), nm_r (e' := mem p) (by rw [nI_clamp (by omega)]) ⟨33, qx_join47 hC (by omega) (by omega) rq rp (K _ _ _ _ _ ⟨qx_cs_jn hC (by omega) (by omega) rq rp, qx_dt_jn hC (by omega) rp hd (D2 p), ?_⟩ (qx_keep hC (by omega) rp (D2 p)) ?_ ?_ ?_)⟩⟩
    · exact qc_jn_sn hsn hb ha eq ep (fun f cf => (hf f cf).symm)
    · rw [qc_jn_h ha ep, qc_jn_n (by rw [eq]; exact fun z => ne (qa_inj (by omega) (by omega) z).symm), eq]
    · exact fun x y hx hy e => qc_jn_co hx hy e
    · exact mu q p (by omega) (by omega) rq rp
end
end
section
theorem qx_by : ∀ t, t < 33 → ((nI t + 1).toInt8.toInt32).toInt8.toInt32 = nI (t + 1) := by decide +kernel
theorem qx_bv {t : Nat} (h : t < 33) : vp_nar .byte ((nI t + 1).toInt8.toInt32) = nI (t + 1) := by rw [vp_nar_byte]; exact qx_by t h
theorem qc_lb_co {c : Nat} {ld ld' : Nat → Int32} {x y : Int32} (hc : c ≤ 32) (h : ∀ x y, x < c → y < c → ld x = ld y → ld' x = ld' y) (hn : qc_nm c ld)
    (hx : x = -1 ∨ ∃ j, j < c ∧ x = nI j) (hy : y = -1 ∨ ∃ j, j < c ∧ y = nI j) (e : qc_lb ld x = qc_lb ld y) : qc_lb ld' x = qc_lb ld' y := by
  rcases hx with rfl | ⟨i, hi, rfl⟩ <;> rcases hy with rfl | ⟨j, hj, rfl⟩
  · rfl
  · rw [qc_lb1, qc_lbN _ (by omega)] at e
    obtain ⟨k, hk, ek, _⟩ := hn j hj
    rw [ek] at e
    exact (qa_1ne (by omega) e).elim
  · rw [qc_lb1, qc_lbN _ (by omega)] at e
    obtain ⟨k, hk, ek, _⟩ := hn i hi
    rw [ek] at e
    exact (qa_ne1 (by omega) e).elim
  · rw [qc_lbN _ (by omega), qc_lbN _ (by omega)] at e ⊢
    exact h i j hi hj e
section
variable {f_termLimit f_patternLimit f_ruleLimit f_eventLimit f_termCount f_patternCount f_ruleCount f_eventCount f_closedEvents f_matchPattern f_matchDepth f_levelCount f_groundLeft f_settledClasses f_reachedClasses f_orderCount f_explainedCount : Int32} {a_termIndex a_patSymbol a_patLeft a_patRight a_patSubs a_patTop a_byTop a_patternIndex a_ruleLeft a_ruleRight a_eventRule a_symbolWeight a_levelVar a_levelRest a_patValue a_standsFor a_order a_bestTerm a_gotTerm a_explainedEvent : Nat → Int32} {a_best a_treeCost : Nat → Int64}
variable {c m : Nat} {sy lf rt syt el er : Nat → Int32} {P : Nat → Prop}
theorem qx_settle2 {post : SX → Prop} (ld0 : Nat → Int32) (cf0 : Int32)
    (K : ∀ ld' mem' usr' sgt' cc' cf', qx_ci c m sy lf rt el er P ld' mem' usr' syt sgt' cc' 0 99 → (∀ x y, x < c → y < c → ld0 x = ld0 y → ld' x = ld' y) → (cf' = 0 ∨ (cf' = cf0 ∧ ld' = ld0)) →
      post (f_termLimit, f_patternLimit, f_ruleLimit, f_eventLimit, f_termCount, f_patternCount, f_ruleCount, f_eventCount, nI c, f_closedEvents, cc', 0, f_matchPattern, f_matchDepth, f_levelCount, f_groundLeft, cf', f_settledClasses, f_reachedClasses, f_orderCount, f_explainedCount, sy, lf, rt, a_termIndex, a_patSymbol, a_patLeft, a_patRight, a_patSubs, a_patTop, a_byTop, a_patternIndex, a_ruleLeft, a_ruleRight, el, er, a_eventRule, a_symbolWeight, ld', mem', usr', syt, sgt', a_levelVar, a_levelRest, a_patValue, a_standsFor, a_order, a_best, a_bestTerm, a_gotTerm, a_treeCost, a_explainedEvent)) :
    ∀ k q ld mem usr sgt cc D cf, qx_ci c m sy lf rt el er P ld mem usr syt sgt cc D 99 → (∀ x y, x < c → y < c → ld0 x = ld0 y → ld x = ld y) → (cf = 0 ∨ (cf = cf0 ∧ ld = ld0)) →
      qx_mu c ld D < k → q + qx_mu c ld D < 4096 → wX_settle_2 post k (nI q) f_termLimit f_patternLimit f_ruleLimit f_eventLimit f_termCount f_patternCount f_ruleCount f_eventCount (nI c) f_closedEvents cc D f_matchPattern f_matchDepth f_levelCount f_groundLeft cf f_settledClasses f_reachedClasses f_orderCount f_explainedCount sy lf rt a_termIndex a_patSymbol a_patLeft a_patRight a_patSubs a_patTop a_byTop a_patternIndex a_ruleLeft a_ruleRight el er a_eventRule a_symbolWeight ld mem usr syt sgt a_levelVar a_levelRest a_patValue a_standsFor a_order a_best a_bestTerm a_gotTerm a_treeCost a_explainedEvent := by
  intro k
  induction k with
  | zero => intro q ld mem usr sgt cc D cf _ _ _ h; omega
  | succ k ih =>
    intro q ld mem usr sgt cc D cf h co cfh hk hq
    have h0 := h
    obtain ⟨hC, hd, hsn⟩ := h
    have hc := hC.1
    have g := hC.2.1
    have nm := hC.2.2.1
    rw [wX_settle_2]
    refine br_f (nI_ge (b := 4096) (by omega) (by decide)) ?_
    by_cases z : D = 0
    · subst z
      exact br_t rfl (K _ _ _ _ _ _ h0 co cfh)
    · obtain ⟨t, ht⟩ := qb_ex z
      have tc : t < c := hd.1 t ht.1 ht.2.1
      have hmu : qx_mu c ld (D &&& (D - 1)) + 1 = qx_mu c ld D := by
        unfold qx_mu; have := qb_pc_nx ht; omega
      have sgt0 := qa_tok_lb hc tc (g t tc) nm
      obtain ⟨k0, hk0, ek⟩ := qa_ky_in (qa_sg_mono hc sgt0)
      have inj : ∀ t', t' < c → qa_ky (sy t') (qc_lb ld (lf t')) (qc_lb ld (rt t')) = nI k0 → sy t' = sy t ∧ qc_lb ld (lf t') = qc_lb ld (lf t) ∧ qc_lb ld (rt t') = qc_lb ld (rt t) := by
        intro t' ht' e
        exact qa_ky_inj (qa_sg_mono hc (qa_tok_lb hc ht' (g t' ht') nm)) (qa_sg_mono hc sgt0) (by rw [e, ek])
      have db : ∀ s, s ≠ t → bt D s = true → bt (D &&& (D - 1)) s = true := by
        intro s hs e
        rw [qb_nx ht s, e]; simp [hs]
      have dc : ∀ s, s < 32 → bt (D &&& (D - 1)) s = true → s < c := by
        intro s hs e
        rw [qb_nx ht s, Bool.and_eq_true] at e
        exact hd.1 s hs e.1
      have dx : qx_dt c sy lf rt ld sgt (D &&& (D - 1)) t :=
        ⟨dc, fun s hs ne => (hd.2 s hs (by omega)).elim (fun e => Or.inl (db s ne e)) Or.inr⟩
      refine br_f z (qx_low ht (nm_e (qx_sig (by omega) (g t tc) ?_)))
      rw [ek]
      refine qx_enr hk0 hc (hC.2.2.2.2.2.2.2 k0 hk0) g ?_ ?_
      · intro t' ht' es e1
        obtain ⟨i1, i2, i3⟩ := inj t' ht' e1
        refine br_f (qa_ne1 (by omega)) (pk_eq t' t (fun e => ?_) (fun ne => ?_))
        · subst e
          refine nm_r (nI_1 q) (ih (q + 1) ld mem usr sgt cc _ cf ⟨hC, ⟨dc, fun s hs _ => ?_⟩, hsn⟩ co cfh (by omega) (by omega))
          by_cases e2 : s = t'
          · subst e2
            right
            exact ⟨s, tc, by rw [ek, nI_clamp (by omega)]; exact es, rfl, rfl, rfl, rfl⟩
          · exact dx.2 s hs e2
        · refine qx_join (a := t') (b := t) (ex := t) ⟨hC, dx, hsn⟩ ht' tc (fun f hf => ?_) (fun e => ?_) ?_
          · exact hf.2 t' t ht' tc i1 (qc_lb_co hc (hsn f hf) nm (qx_cs_ch hc ht' (g t' ht')).1 (qx_cs_ch hc tc (g t tc)).1 i2) (qc_lb_co hc (hsn f hf) nm (qx_cs_ch hc ht' (g t' ht')).2 (qx_cs_ch hc tc (g t tc)).2 i3)
          · refine nm_r (nI_1 q) (ih (q + 1) ld mem usr sgt cc _ cf ⟨hC, ⟨dc, fun s hs _ => ?_⟩, hsn⟩ co cfh (by omega) (by omega))
            by_cases e2 : s = t
            · subst e2
              right
              exact ⟨t', ht', by rw [ek, nI_clamp (by omega)]; exact es, i1, i2, i3, e⟩
            · exact dx.2 s hs e2
          · intro ld' mem' usr' cc' D' h' keep ee co' mu'
            refine nm_r (nI_1 q) (ih (q + 1) ld' mem' usr' sgt cc' D' 0 ⟨h'.1, ⟨h'.2.1.1, fun s hs _ => ?_⟩, h'.2.2⟩ (fun x y hx hy e => co' x y hx hy (co x y hx hy e)) (Or.inl rfl) (by omega) (by omega))
            by_cases e2 : s = t
            · subst e2
              rcases keep s hs with e3 | ⟨e3, e4⟩
              · exact Or.inl e3
              · right
                refine ⟨t', ht', by rw [e3, e4, ek, nI_clamp (by omega)]; exact es, i1, ?_, ?_, ee⟩
                · exact qc_lb_co hc co' nm (qx_cs_ch hc ht' (g t' ht')).1 (qx_cs_ch hc hs (g s hs)).1 i2
                · exact qc_lb_co hc co' nm (qx_cs_ch hc ht' (g t' ht')).2 (qx_cs_ch hc hs (g s hs)).2 i3
            · exact h'.2.1.2 s hs e2
      · intro none
        refine br_t rfl ⟨vp_in_nI hk0 (by omega), nm_r (e' := upd sgt k0 (nI (t + 1))) (by rw [nI_clamp (by omega), qx_bv (by omega)]) (nm_r (nI_1 q) (ih (q + 1) ld mem usr _ cc _ cf ⟨⟨hc, g, nm, hC.2.2.2.1, hC.2.2.2.2.1, hC.2.2.2.2.2.1, hC.2.2.2.2.2.2.1, ?_⟩, ⟨dc, fun s hs _ => ?_⟩, hsn⟩ co cfh (by omega) (by omega)))⟩
        · intro k hk
          by_cases e : k = k0
          · subst e; exact ⟨t + 1, by omega, pk_us⟩
          · rw [pk_un e]; exact hC.2.2.2.2.2.2.2 k hk
        · by_cases e2 : s = t
          · subst e2
            right
            exact ⟨s, hs, by rw [ek, nI_clamp (by omega), pk_us], rfl, rfl, rfl, rfl⟩
          · rcases dx.2 s hs e2 with e | ⟨s', hs', f1, f2, f3, f4, f5⟩
            · exact Or.inl e
            · right
              obtain ⟨k1, hk1, ek1⟩ := qa_ky_in (qa_sg_mono hc (qa_tok_lb hc hs (g s hs) nm))
              refine ⟨s', hs', ?_, f2, f3, f4, f5⟩
              rw [ek1, nI_clamp (by omega)] at f1 ⊢
              by_cases e3 : k1 = k0
              · subst e3
                exact (none s' hs' f1 (by rw [f2, f3, f4, ek1])).elim
              · rw [pk_un e3]; exact f1
end
end
section
theorem qx_cong {c ex : Nat} {sy lf rt ld mem usr syt sgt : Nat → Int32} {cc : Int32} (h : qx_cs c sy lf rt ld mem usr syt sgt cc) (hd : qx_dt c sy lf rt ld sgt 0 ex) (hx : c ≤ ex) :
    ∀ i j, i < c → j < c → sy i = sy j → qc_lb ld (lf i) = qc_lb ld (lf j) → qc_lb ld (rt i) = qc_lb ld (rt j) → ld i = ld j := by
  have hc := h.1
  intro i j hi hj e1 e2 e3
  rcases hd.2 i hi (by omega) with z | ⟨i', hi', a1, a2, a3, a4, a5⟩
  · rw [b_0] at z; exact absurd z (by decide)
  rcases hd.2 j hj (by omega) with z | ⟨j', hj', b1, b2, b3, b4, b5⟩
  · rw [b_0] at z; exact absurd z (by decide)
  rw [← e1, ← e2, ← e3] at b1
  rw [a1] at b1
  have := qa_inj (by omega) (by omega) b1
  have : i' = j' := by omega
  subst this
  rw [← a5, b5]
def qx_au (usr : Nat → Int32) (x b : Int32) : Nat → Int32 := if x = -1 then usr else upd usr x.toNatClampNeg (usr x.toNatClampNeg ||| b)
theorem qx_au_b {usr : Nat → Int32} {x b : Int32} {l t : Nat} (hx : x = -1 ∨ ∃ j, j < 32 ∧ x = nI j) (hl : l < 32) :
    bt (qx_au usr x b l) t = true ↔ bt (usr l) t = true ∨ (x = nI l ∧ bt b t = true) := by
  unfold qx_au
  rcases hx with rfl | ⟨j, hj, rfl⟩
  · rw [if_pos rfl]
    exact ⟨Or.inl, fun e => e.elim id (fun e => (qa_1ne (by omega) e.1).elim)⟩
  · rw [if_neg (qa_ne1 (by omega)), nI_clamp (by omega), nI_eq (by omega) (by omega)]
    by_cases z : l = j
    · subst z
      rw [pk_us, b_or, Bool.or_eq_true]
      exact ⟨fun e => e.elim Or.inl (fun e => Or.inr ⟨rfl, e⟩), fun e => e.elim Or.inl (fun e => Or.inr e.2)⟩
    · rw [pk_un z]
      exact ⟨Or.inl, fun e => e.elim id (fun e => (z e.1.symm).elim)⟩
theorem qx_cs_new {c s : Nat} {sy lf rt ld mem usr syt sgt : Nat → Int32} {cc : Int32} (h : qx_cs c sy lf rt ld mem usr syt sgt cc) (hc1 : c < 32) (g : qa_tok sy lf rt c) (hs : s < 16) (es : sy c = nI s) :
    qx_cs (c + 1) sy lf rt (upd ld c (nI c)) (upd mem c ((1 : Int32) <<< (nI c &&& 31)))
      (qx_au (qx_au (upd usr c 0) (qc_lb (upd ld c (nI c)) (lf c)) ((1 : Int32) <<< (nI c &&& 31))) (qc_lb (upd ld c (nI c)) (rt c)) ((1 : Int32) <<< (nI c &&& 31)))
      (upd syt s (syt s ||| ((1 : Int32) <<< (nI c &&& 31)))) sgt (cc + 1) := by
  obtain ⟨hc, gg, nm, hm, hu, hsy, hcc, hk⟩ := h
  have lo : ∀ x, x < c → upd ld c (nI c) x = ld x := fun x hx => pk_un (by omega)
  have ne : ∀ x, x < c → ¬ ld x = nI c := by
    intro x hx e
    obtain ⟨j, hj, e1, _⟩ := nm x hx
    have := qa_inj (by omega) (by omega) (e1.symm.trans e)
    omega
  have bit : ∀ t, t < 32 → (bt ((1 : Int32) <<< (nI c &&& 31)) t = true ↔ t = c) := by
    intro t ht
    rw [qb_s hc1 ht, decide_eq_true_eq]
  have lbl : ∀ x : Int32, (x = -1 ∨ ∃ j, j < c ∧ x = nI j) → qc_lb (upd ld c (nI c)) x = qc_lb ld x := by
    intro x hx
    exact qc_lb_ext (n := c) (fun j hj => lo j hj) hx (by omega)
  have lbn : ∀ x : Int32, (x = -1 ∨ ∃ j, j < c ∧ x = nI j) → (qc_lb ld x = -1 ∨ ∃ j, j < c ∧ qc_lb ld x = nI j) := by
    rintro x (rfl | ⟨j, hj, rfl⟩)
    · exact Or.inl (qc_lb1 _)
    · obtain ⟨k, hk, e1, _⟩ := nm j hj
      exact Or.inr ⟨k, by omega, by rw [qc_lbN _ (by omega), e1]⟩
  have chc := fun t (ht : t < c) => qx_cs_ch hc ht (gg t ht)
  have ch0 : (lf c = -1 ∨ ∃ j, j < c ∧ lf c = nI j) ∧ (rt c = -1 ∨ ∃ j, j < c ∧ rt c = nI j) := ⟨qa_sg_a g, qa_sg_b g⟩
  have ch : ∀ t, t < c + 1 → (lf t = -1 ∨ ∃ j, j < c ∧ lf t = nI j) ∧ (rt t = -1 ∨ ∃ j, j < c ∧ rt t = nI j) := by
    intro t ht
    by_cases z : t = c
    · subst z; exact ch0
    · exact chc t (by omega)
  refine ⟨by omega, ?_, ?_, ?_, ?_, ?_, ?_, hk⟩
  · intro t ht
    by_cases z : t = c
    · subst z; exact g
    · exact gg t (by omega)
  · intro x hx
    by_cases z : x = c
    · subst z; exact ⟨x, Nat.le_refl _, pk_us, pk_us⟩
    · obtain ⟨j, hj, e1, e2⟩ := nm x (by omega)
      exact ⟨j, hj, by rw [lo x (by omega)]; exact e1, by rw [lo j (by omega)]; exact e2⟩
  · intro l t hl el ht
    by_cases z : l = c
    · subst z
      rw [pk_us, bit t ht]
      constructor
      · intro e; subst e; exact ⟨by omega, pk_us⟩
      · rintro ⟨a, b⟩
        refine Classical.byContradiction fun q => ?_
        rw [lo t (by omega)] at b
        exact ne t (by omega) b
    · rw [lo l (by omega)] at el
      rw [pk_un z, hm l t (by omega) el ht]
      constructor
      · rintro ⟨a, b⟩; exact ⟨by omega, by rw [lo t a]; exact b⟩
      · rintro ⟨a, b⟩
        by_cases q : t = c
        · subst q
          rw [pk_us] at b
          exact (z (qa_inj (by omega) (by omega) b).symm).elim
        · rw [lo t (by omega)] at b
          exact ⟨by omega, b⟩
  · intro l t hl el ht
    rw [lbl _ ch0.1, lbl _ ch0.2]
    have w32 : ∀ x : Int32, (x = -1 ∨ ∃ j, j < c ∧ x = nI j) → (x = -1 ∨ ∃ j, j < 32 ∧ x = nI j) := fun x hx => hx.elim Or.inl (fun ⟨j, hj, e⟩ => Or.inr ⟨j, by omega, e⟩)
    rw [qx_au_b (w32 _ (lbn _ ch0.2)) (by omega), qx_au_b (w32 _ (lbn _ ch0.1)) (by omega), bit t ht]
    by_cases z : l = c
    · subst z
      rw [pk_us, b_0]
      have nl : ∀ x : Int32, (x = -1 ∨ ∃ j, j < l ∧ x = nI j) → ¬ x = nI l := by
        rintro x (rfl | ⟨j, hj, rfl⟩) e
        · exact qa_1ne (by omega) e
        · have := qa_inj (by omega) (by omega) e; omega
      constructor
      · rintro ((e | e) | e)
        · exact absurd e (by decide)
        · exact (nl _ (lbn _ ch0.1) e.1).elim
        · exact (nl _ (lbn _ ch0.2) e.1).elim
      · rintro ⟨a, b⟩
        rw [lbl _ (ch t a).1, lbl _ (ch t a).2] at b
        exact b.elim (fun b => (nl _ (lbn _ (ch t a).1) b).elim) (fun b => (nl _ (lbn _ (ch t a).2) b).elim)
    · rw [lo l (by omega)] at el
      rw [pk_un z, hu l t (by omega) el ht]
      constructor
      · rintro ((⟨a, b⟩ | ⟨a, b⟩) | ⟨a, b⟩)
        · refine ⟨by omega, ?_⟩
          rw [lbl _ (ch t (by omega)).1, lbl _ (ch t (by omega)).2]; exact b
        · subst b; refine ⟨by omega, Or.inl ?_⟩; rw [lbl _ ch0.1]; exact a
        · subst b; refine ⟨by omega, Or.inr ?_⟩; rw [lbl _ ch0.2]; exact a
      · rintro ⟨a, b⟩
        rw [lbl _ (ch t a).1, lbl _ (ch t a).2] at b
        by_cases q : t = c
        · subst q
          exact b.elim (fun b => Or.inl (Or.inr ⟨b, rfl⟩)) (fun b => Or.inr ⟨b, rfl⟩)
        · exact Or.inl (Or.inl ⟨by omega, b⟩)
  · intro s' t hs' ht
    by_cases z : s' = s
    · subst z
      rw [pk_us, b_or, Bool.or_eq_true, hsy s' t hs' ht, bit t ht]
      constructor
      · rintro (⟨a, b⟩ | e)
        · exact ⟨by omega, b⟩
        · subst e; exact ⟨by omega, es⟩
      · rintro ⟨a, b⟩
        by_cases q : t = c
        · exact Or.inr q
        · exact Or.inl ⟨by omega, b⟩
    · rw [pk_un z, hsy s' t hs' ht]
      constructor
      · rintro ⟨a, b⟩; exact ⟨by omega, b⟩
      · rintro ⟨a, b⟩
        refine ⟨?_, b⟩
        refine Classical.byContradiction fun q => ?_
        have : t = c := by omega
        subst this
        rw [es] at b
        exact z (qa_inj (by omega) (by omega) b).symm
  · have e : qa_cn (fun x => upd ld c (nI c) x = nI x) (c + 1) = qa_cn (fun x => ld x = nI x) c + 1 := by
      simp only [qa_cn]
      rw [qa_bt (show upd ld c (nI c) c = nI c from pk_us)]
      congr 1
      exact qa_cn_eq fun k hk => by rw [lo k hk]
    rw [e, hcc, nI_1]
theorem qx_dt_new {c ex : Nat} {sy lf rt ld mem usr syt sgt : Nat → Int32} {cc D : Int32} (h : qx_cs c sy lf rt ld mem usr syt sgt cc) (hc1 : c < 32) (hd : qx_dt c sy lf rt ld sgt D ex) :
    qx_dt (c + 1) sy lf rt (upd ld c (nI c)) sgt (D ||| ((1 : Int32) <<< (nI c &&& 31))) ex := by
  have hc := h.1
  have lo : ∀ x, x < c → upd ld c (nI c) x = ld x := fun x hx => pk_un (by omega)
  have lbl : ∀ t, t < c → qc_lb (upd ld c (nI c)) (lf t) = qc_lb ld (lf t) ∧ qc_lb (upd ld c (nI c)) (rt t) = qc_lb ld (rt t) := by
    intro t ht
    have k := qx_cs_ch hc ht (h.2.1 t ht)
    exact ⟨qc_lb_ext (n := c) (fun j hj => lo j hj) k.1 (by omega), qc_lb_ext (n := c) (fun j hj => lo j hj) k.2 (by omega)⟩
  refine ⟨fun t ht e => ?_, fun t ht tx => ?_⟩
  · rw [b_or, Bool.or_eq_true, qb_s hc1 ht, decide_eq_true_eq] at e
    rcases e with e | e
    · have := hd.1 t ht e; omega
    · omega
  · by_cases z : t = c
    · subst z
      left
      rw [b_or, qb_s hc1 hc1]; simp
    · rcases hd.2 t (by omega) tx with e | ⟨t', ht', a1, a2, a3, a4, a5⟩
      · left; rw [b_or, e]; rfl
      · right
        have l1 := lbl t (by omega)
        have l2 := lbl t' ht'
        refine ⟨t', by omega, ?_, a2, ?_, ?_, ?_⟩
        · rw [l1.1, l1.2]; exact a1
        · rw [l2.1, l1.1]; exact a3
        · rw [l2.2, l1.2]; exact a4
        · rw [lo t' ht', lo t (by omega)]; exact a5
theorem qx_sn_new {c m : Nat} {sy lf rt el er ld : Nat → Int32} {P : Nat → Prop} (hc : c < 32) (nm : qc_nm c ld) (h : qc_sn c m sy lf rt el er P ld) : qc_sn (c + 1) m sy lf rt el er P (upd ld c (nI c)) := by
  intro f hf x y hx hy e
  have hf' : qc_cl c m sy lf rt el er P f := qc_cl_mono (by omega) (Nat.le_refl _) (fun _ _ p => p) hf
  have ne : ∀ x, x < c → ¬ ld x = nI c := by
    intro x hx e
    obtain ⟨j, hj, e1, _⟩ := nm x hx
    have := qa_inj (by omega) (by omega) (e1.symm.trans e)
    omega
  by_cases zx : x = c
  · by_cases zy : y = c
    · rw [zx, zy]
    · subst zx
      rw [pk_us, pk_un zy] at e
      exact (ne y (by omega) e.symm).elim
  · by_cases zy : y = c
    · subst zy
      rw [pk_us, pk_un zx] at e
      exact (ne x (by omega) e).elim
    · rw [pk_un zx, pk_un zy] at e
      exact h f hf' x y (by omega) (by omega) e
theorem qx_mu_le {c : Nat} {ld : Nat → Int32} {D : Int32} (h : c ≤ 32) : qx_mu c ld D ≤ 1088 := by
  unfold qx_mu
  have := qa_cn_le (fun x => ld x = nI x) c
  have := qb_pc_le D
  omega
section
variable {f_termLimit f_patternLimit f_ruleLimit f_eventLimit f_termCount f_patternCount f_ruleCount f_eventCount f_closedEvents f_matchPattern f_matchDepth f_levelCount f_groundLeft f_settledClasses f_reachedClasses f_orderCount f_explainedCount : Int32} {a_termIndex a_patSymbol a_patLeft a_patRight a_patSubs a_patTop a_byTop a_patternIndex a_ruleLeft a_ruleRight a_eventRule a_symbolWeight a_levelVar a_levelRest a_patValue a_standsFor a_order a_bestTerm a_gotTerm a_explainedEvent : Nat → Int32} {a_best a_treeCost : Nat → Int64}
variable {c m : Nat} {sy lf rt ld mem usr syt sgt el er : Nat → Int32} {cc D cf : Int32} {P : Nat → Prop}
theorem qx_settle {post : SX → Prop} (h : qx_ci c m sy lf rt el er P ld mem usr syt sgt cc D 99)
    (K : ∀ ld' mem' usr' sgt' cc' cf', qx_ci c m sy lf rt el er P ld' mem' usr' syt sgt' cc' 0 99 → (∀ x y, x < c → y < c → ld x = ld y → ld' x = ld' y) → (cf' = 0 ∨ (cf' = cf ∧ ld' = ld)) →
      post (f_termLimit, f_patternLimit, f_ruleLimit, f_eventLimit, f_termCount, f_patternCount, f_ruleCount, f_eventCount, nI c, f_closedEvents, cc', 0, f_matchPattern, f_matchDepth, f_levelCount, f_groundLeft, cf', f_settledClasses, f_reachedClasses, f_orderCount, f_explainedCount, sy, lf, rt, a_termIndex, a_patSymbol, a_patLeft, a_patRight, a_patSubs, a_patTop, a_byTop, a_patternIndex, a_ruleLeft, a_ruleRight, el, er, a_eventRule, a_symbolWeight, ld', mem', usr', syt, sgt', a_levelVar, a_levelRest, a_patValue, a_standsFor, a_order, a_best, a_bestTerm, a_gotTerm, a_treeCost, a_explainedEvent)) : wpX_settle post (f_termLimit, f_patternLimit, f_ruleLimit, f_eventLimit, f_termCount, f_patternCount, f_ruleCount, f_eventCount, nI c, f_closedEvents, cc, D, f_matchPattern, f_matchDepth, f_levelCount, f_groundLeft, cf, f_settledClasses, f_reachedClasses, f_orderCount, f_explainedCount, sy, lf, rt, a_termIndex, a_patSymbol, a_patLeft, a_patRight, a_patSubs, a_patTop, a_byTop, a_patternIndex, a_ruleLeft, a_ruleRight, el, er, a_eventRule, a_symbolWeight, ld, mem, usr, syt, sgt, a_levelVar, a_levelRest, a_patValue, a_standsFor, a_order, a_best, a_bestTerm, a_gotTerm, a_treeCost, a_explainedEvent) := by
  unfold wpX_settle
  have mu := qx_mu_le (ld := ld) (D := D) h.1.1
  exact ⟨4096, qx_settle2 ld cf K 4096 0 ld mem usr sgt cc D cf h (fun _ _ _ _ e => e) (Or.inr ⟨rfl, rfl⟩) (by omega) (by omega)⟩
end
end
section
section
variable {f_termLimit f_patternLimit f_ruleLimit f_eventLimit f_termCount f_patternCount f_ruleCount f_eventCount f_closedEvents f_matchPattern f_matchDepth f_levelCount f_groundLeft f_settledClasses f_reachedClasses f_orderCount f_explainedCount : Int32} {a_termIndex a_patSymbol a_patLeft a_patRight a_patSubs a_patTop a_byTop a_patternIndex a_ruleLeft a_ruleRight a_eventRule a_symbolWeight a_levelVar a_levelRest a_patValue a_standsFor a_order a_bestTerm a_gotTerm a_explainedEvent : Nat → Int32} {a_best a_treeCost : Nat → Int64}
variable {c m : Nat} {sy lf rt ld mem usr syt sgt el er : Nat → Int32} {cc D cf : Int32} {P : Nat → Prop}
theorem qx_ent113 {post : SX → Prop} {J5 : Int32 → Int32 → Int32 → Int32 → Int32 → (Nat → Int32) → (Nat → Int32) → (Nat → Int32) → (Nat → Int32) → (Nat → Int32) → (Nat → Int32) → (Nat → Int32) → (Nat → Int32) → (Nat → Int32) → (Nat → Int32) → (Nat → Int32) → (Nat → Int32) → (Nat → Int32) → (Nat → Int32) → (Nat → Int32) → (Nat → Int32) → (Nat → Int32) → (Nat → Int32) → (Nat → Int32) → (Nat → Int32) → (Nat → Int32) → (Nat → Int32) → (Nat → Int32) → (Nat → Int32) → (Nat → Int32) → (Nat → Int32) → (Nat → Int32) → (Nat → Int64) → (Nat → Int32) → (Nat → Int32) → (Nat → Int64) → (Nat → Int32) → Prop} {b : Int32}
    (K : J5 (nI (c + 1)) (nI (c + 1)) (cc + 1) (D ||| b) 0 sy lf rt a_termIndex a_patSymbol a_patLeft a_patRight a_patSubs a_patTop a_byTop a_patternIndex a_ruleLeft a_ruleRight el er a_eventRule a_symbolWeight ld mem usr syt sgt a_levelVar a_levelRest a_patValue a_standsFor a_order a_best a_bestTerm a_gotTerm a_treeCost a_explainedEvent) : wX_enterTerms_113 post J5 (nI c) b f_termLimit f_patternLimit f_ruleLimit f_eventLimit f_termCount f_patternCount f_ruleCount f_eventCount (nI c) f_closedEvents cc D f_matchPattern f_matchDepth f_levelCount f_groundLeft cf f_settledClasses f_reachedClasses f_orderCount f_explainedCount sy lf rt a_termIndex a_patSymbol a_patLeft a_patRight a_patSubs a_patTop a_byTop a_patternIndex a_ruleLeft a_ruleRight el er a_eventRule a_symbolWeight ld mem usr syt sgt a_levelVar a_levelRest a_patValue a_standsFor a_order a_best a_bestTerm a_gotTerm a_treeCost a_explainedEvent := by
  unfold wX_enterTerms_113
  exact nm_e (nm_e (nm_r (nI_1 c) (nm_r (nI_1 c) K)))
theorem qx_ent83 {post : SX → Prop} {J5 : Int32 → Int32 → Int32 → Int32 → Int32 → (Nat → Int32) → (Nat → Int32) → (Nat → Int32) → (Nat → Int32) → (Nat → Int32) → (Nat → Int32) → (Nat → Int32) → (Nat → Int32) → (Nat → Int32) → (Nat → Int32) → (Nat → Int32) → (Nat → Int32) → (Nat → Int32) → (Nat → Int32) → (Nat → Int32) → (Nat → Int32) → (Nat → Int32) → (Nat → Int32) → (Nat → Int32) → (Nat → Int32) → (Nat → Int32) → (Nat → Int32) → (Nat → Int32) → (Nat → Int32) → (Nat → Int32) → (Nat → Int32) → (Nat → Int32) → (Nat → Int64) → (Nat → Int32) → (Nat → Int32) → (Nat → Int64) → (Nat → Int32) → Prop} {b : Int32}
    (hc : c < 32) (hr : rt c = -1 ∨ ∃ j l, j < 32 ∧ l < 32 ∧ rt c = nI j ∧ ld j = nI l)
    (K : J5 (nI (c + 1)) (nI (c + 1)) (cc + 1) (D ||| b) 0 sy lf rt a_termIndex a_patSymbol a_patLeft a_patRight a_patSubs a_patTop a_byTop a_patternIndex a_ruleLeft a_ruleRight el er a_eventRule a_symbolWeight ld mem (qx_au usr (qc_lb ld (rt c)) b) syt sgt a_levelVar a_levelRest a_patValue a_standsFor a_order a_best a_bestTerm a_gotTerm a_treeCost a_explainedEvent) : wX_enterTerms_83 post J5 (nI c) b f_termLimit f_patternLimit f_ruleLimit f_eventLimit f_termCount f_patternCount f_ruleCount f_eventCount (nI c) f_closedEvents cc D f_matchPattern f_matchDepth f_levelCount f_groundLeft cf f_settledClasses f_reachedClasses f_orderCount f_explainedCount sy lf rt a_termIndex a_patSymbol a_patLeft a_patRight a_patSubs a_patTop a_byTop a_patternIndex a_ruleLeft a_ruleRight el er a_eventRule a_symbolWeight ld mem usr syt sgt a_levelVar a_levelRest a_patValue a_standsFor a_order a_best a_bestTerm a_gotTerm a_treeCost a_explainedEvent := by
  unfold wX_enterTerms_83
  rw [show (nI c).toNatClampNeg = c from nI_clamp (by omega)]
  have i0 : vp_in (nI c) 32 := vp_in_nI hc (by omega)
  refine ⟨i0, ?_⟩
  rcases hr with e | ⟨j, l, hj, hl, e, e2⟩
  · rw [e] at K ⊢
    rw [qc_lb1] at K
    exact br_t rfl (qx_ent113 K)
  · rw [e, qc_lbN _ (by omega), e2] at K
    rw [e, show (nI j).toNatClampNeg = j from nI_clamp (by omega), e2]
    unfold qx_au at K
    rw [if_neg (qa_ne1 (by omega))] at K
    have il : vp_in (nI l) 32 := vp_in_nI hl (by omega)
    exact br_f (qa_ne1 (by omega)) ⟨i0, vp_in_nI hj (by omega), il, il, nm_e (qx_ent113 K)⟩
end
section
variable {f_termLimit f_patternLimit f_ruleLimit f_eventLimit f_patternCount f_ruleCount f_eventCount f_closedEvents f_matchPattern f_matchDepth f_levelCount f_groundLeft f_settledClasses f_reachedClasses f_orderCount f_explainedCount : Int32} {a_termIndex a_patSymbol a_patLeft a_patRight a_patSubs a_patTop a_byTop a_patternIndex a_ruleLeft a_ruleRight a_eventRule a_symbolWeight a_levelVar a_levelRest a_patValue a_standsFor a_order a_bestTerm a_gotTerm a_explainedEvent : Nat → Int32} {a_best a_treeCost : Nat → Int64}
variable {n m : Nat} {sy lf rt el er : Nat → Int32} {P : Nat → Prop}
theorem qx_enter5 {post : SX → Prop} (hn : n ≤ 32) (g : ∀ t, t < n → qa_tok sy lf rt t) (c0 : Nat) (ld0 : Nat → Int32) (cf0 : Int32)
    (K : ∀ ld' mem' usr' syt' sgt' cc' cf', qx_ci n m sy lf rt el er P ld' mem' usr' syt' sgt' cc' 0 99 → (∀ x y, x < c0 → y < c0 → ld0 x = ld0 y → ld' x = ld' y) → (cf' = 0 ∨ (cf' = cf0 ∧ ld' = ld0 ∧ c0 = n)) →
      post (f_termLimit, f_patternLimit, f_ruleLimit, f_eventLimit, nI n, f_patternCount, f_ruleCount, f_eventCount, nI n, f_closedEvents, cc', 0, f_matchPattern, f_matchDepth, f_levelCount, f_groundLeft, cf', f_settledClasses, f_reachedClasses, f_orderCount, f_explainedCount, sy, lf, rt, a_termIndex, a_patSymbol, a_patLeft, a_patRight, a_patSubs, a_patTop, a_byTop, a_patternIndex, a_ruleLeft, a_ruleRight, el, er, a_eventRule, a_symbolWeight, ld', mem', usr', syt', sgt', a_levelVar, a_levelRest, a_patValue, a_standsFor, a_order, a_best, a_bestTerm, a_gotTerm, a_treeCost, a_explainedEvent)) :
    ∀ k c ld mem usr syt sgt cc D cf, c ≤ n → c0 ≤ c → n - c < k → qx_ci c m sy lf rt el er P ld mem usr syt sgt cc D 99 → (∀ x y, x < c0 → y < c0 → ld0 x = ld0 y → ld x = ld y) → (cf = 0 ∨ (cf = cf0 ∧ ld = ld0 ∧ c0 = c)) →
      wX_enterTerms_5 post f_termLimit f_patternLimit f_ruleLimit f_eventLimit (nI n) f_patternCount f_ruleCount f_eventCount f_closedEvents f_matchPattern f_matchDepth f_levelCount f_groundLeft f_settledClasses f_reachedClasses f_orderCount f_explainedCount k (nI c) (nI c) cc D cf sy lf rt a_termIndex a_patSymbol a_patLeft a_patRight a_patSubs a_patTop a_byTop a_patternIndex a_ruleLeft a_ruleRight el er a_eventRule a_symbolWeight ld mem usr syt sgt a_levelVar a_levelRest a_patValue a_standsFor a_order a_best a_bestTerm a_gotTerm a_treeCost a_explainedEvent := by
  intro k
  induction k with
  | zero => intro c ld mem usr syt sgt cc D cf _ _ h; omega
  | succ k ih =>
    intro c ld mem usr syt sgt cc D cf hcn hc0 hk h co cfh
    rw [wX_enterTerms_5]
    refine pk_le n c (fun le => ?_) (fun lt => ?_)
    · have e : c = n := by omega
      subst e
      refine qx_settle h ?_
      intro ld' mem' usr' sgt' cc' cf' h' co' cf''
      refine K ld' mem' usr' syt sgt' cc' cf' h' (fun x y hx hy e => co' x y (by omega) (by omega) (co x y hx hy e)) ?_
      rcases cf'' with z | ⟨z1, z2⟩
      · exact Or.inl z
      · rcases cfh with w | ⟨w1, w2, w3⟩
        · exact Or.inl (z1.trans w)
        · exact Or.inr ⟨z1.trans w1, z2.trans w2, w3⟩
    · have i0 : vp_in (nI c) 32 := vp_in_nI (by omega) (by omega)
      have cl : (nI c).toNatClampNeg = c := nI_clamp (by omega)
      obtain ⟨s, hs, es, -⟩ := g c lt
      have is : vp_in (nI s) 16 := vp_in_nI hs (by omega)
      have hCn := qx_cs_new h.1 (by omega) (g c lt) hs es
      have hdn := qx_dt_new h.1 (by omega) h.2.1
      have hsn := qx_sn_new (by omega) h.1.2.2.1 h.2.2
      have nm := h.1.2.2.1
      have lo : ∀ x, x < c → upd ld c (nI c) x = ld x := fun x hx => pk_un (by omega)
      have chl : ∀ {x : Int32}, (x = -1 ∨ ∃ j, j < c ∧ x = nI j) → (x = -1 ∨ ∃ j l, j < 32 ∧ l < 32 ∧ x = nI j ∧ upd ld c (nI c) j = nI l) := by
        rintro x (rfl | ⟨j, hj, rfl⟩)
        · exact Or.inl rfl
        · obtain ⟨l, hl, e1, _⟩ := nm j hj
          exact Or.inr ⟨j, l, by omega, by omega, rfl, by rw [lo j hj]; exact e1⟩
      have Kn := ih (c + 1) _ _ _ _ _ _ _ 0 (by omega) (by omega) (by omega) ⟨hCn, hdn, hsn⟩ (fun x y hx hy e => by rw [lo x (by omega), lo y (by omega)]; exact co x y hx hy e) (Or.inl rfl)
      refine nm_e ⟨i0, nm_r (e' := upd ld c (nI c)) (by rw [cl]) ⟨i0, nm_r (e' := upd mem c ((1 : Int32) <<< (nI c &&& 31))) (by rw [cl]) ⟨i0, nm_r (e' := upd usr c 0) (by rw [cl]) ⟨i0, ?_⟩⟩⟩⟩
      rw [cl, es]
      refine ⟨is, is, nm_r (e' := upd syt s (syt s ||| ((1 : Int32) <<< (nI c &&& 31)))) (by rw [nI_clamp (by omega)]) ⟨i0, ?_⟩⟩
      rcases chl (qa_sg_a (g c lt)) with e | ⟨j, l, hj, hl, e, e2⟩
      · rw [e] at Kn ⊢
        rw [qc_lb1] at Kn
        exact br_t rfl (qx_ent83 (by omega) (chl (qa_sg_b (g c lt))) Kn)
      · rw [e, qc_lbN _ (by omega), e2] at Kn
        rw [e, show (nI j).toNatClampNeg = j from nI_clamp (by omega), e2]
        have il : vp_in (nI l) 32 := vp_in_nI hl (by omega)
        have ea : qx_au (upd usr c 0) (nI l) ((1 : Int32) <<< (nI c &&& 31)) = upd (upd usr c 0) (nI l).toNatClampNeg ((upd usr c 0) (nI l).toNatClampNeg ||| ((1 : Int32) <<< (nI c &&& 31))) := by
          unfold qx_au; rw [if_neg (qa_ne1 (by omega))]
        exact br_f (qa_ne1 (by omega)) ⟨i0, vp_in_nI hj (by omega), il, il, nm_r ea.symm (qx_ent83 (by omega) (chl (qa_sg_b (g c lt))) Kn)⟩
theorem qx_enter {post : SX → Prop} {c : Nat} {ld mem usr syt sgt : Nat → Int32} {cc D cf : Int32} (hn : n ≤ 32) (hc : c ≤ n) (g : ∀ t, t < n → qa_tok sy lf rt t) (h : qx_ci c m sy lf rt el er P ld mem usr syt sgt cc D 99)
    (K : ∀ ld' mem' usr' syt' sgt' cc' cf', qx_ci n m sy lf rt el er P ld' mem' usr' syt' sgt' cc' 0 99 → (∀ x y, x < c → y < c → ld x = ld y → ld' x = ld' y) → (cf' = 0 ∨ (cf' = cf ∧ ld' = ld ∧ c = n)) →
      post (f_termLimit, f_patternLimit, f_ruleLimit, f_eventLimit, nI n, f_patternCount, f_ruleCount, f_eventCount, nI n, f_closedEvents, cc', 0, f_matchPattern, f_matchDepth, f_levelCount, f_groundLeft, cf', f_settledClasses, f_reachedClasses, f_orderCount, f_explainedCount, sy, lf, rt, a_termIndex, a_patSymbol, a_patLeft, a_patRight, a_patSubs, a_patTop, a_byTop, a_patternIndex, a_ruleLeft, a_ruleRight, el, er, a_eventRule, a_symbolWeight, ld', mem', usr', syt', sgt', a_levelVar, a_levelRest, a_patValue, a_standsFor, a_order, a_best, a_bestTerm, a_gotTerm, a_treeCost, a_explainedEvent)) : wpX_enterTerms post (f_termLimit, f_patternLimit, f_ruleLimit, f_eventLimit, nI n, f_patternCount, f_ruleCount, f_eventCount, nI c, f_closedEvents, cc, D, f_matchPattern, f_matchDepth, f_levelCount, f_groundLeft, cf, f_settledClasses, f_reachedClasses, f_orderCount, f_explainedCount, sy, lf, rt, a_termIndex, a_patSymbol, a_patLeft, a_patRight, a_patSubs, a_patTop, a_byTop, a_patternIndex, a_ruleLeft, a_ruleRight, el, er, a_eventRule, a_symbolWeight, ld, mem, usr, syt, sgt, a_levelVar, a_levelRest, a_patValue, a_standsFor, a_order, a_best, a_bestTerm, a_gotTerm, a_treeCost, a_explainedEvent) := by
  unfold wpX_enterTerms
  exact ⟨n - c + 1, qx_enter5 hn g c ld cf K (n - c + 1) c ld mem usr syt sgt cc D cf hc (Nat.le_refl _) (by omega) h (fun _ _ _ _ e => e) (Or.inr ⟨rfl, rfl, rfl⟩)⟩
end
def qe_ok (n m : Nat) (el er : Nat → Int32) : Prop := ∀ e, e < m → ∃ a b, a < n ∧ b < n ∧ el e = nI a ∧ er e = nI b
def qx_xi (n m c ce : Nat) (sy lf rt el er ld mem usr syt sgt : Nat → Int32) (cc : Int32) : Prop :=
  c ≤ n ∧ n ≤ 32 ∧ m ≤ 64 ∧ ce ≤ m ∧ (∀ t, t < n → qa_tok sy lf rt t) ∧ qe_ok n m el er ∧
  qx_ci c m sy lf rt el er (fun _ => True) ld mem usr syt sgt cc 0 99 ∧ (∀ e, e < ce → ∃ a b, a < c ∧ b < c ∧ el e = nI a ∧ er e = nI b ∧ ld a = ld b)
section
variable {f_termLimit f_patternLimit f_ruleLimit f_eventLimit f_patternCount f_ruleCount f_closedEvents f_matchPattern f_matchDepth f_levelCount f_groundLeft f_settledClasses f_reachedClasses f_orderCount f_explainedCount : Int32} {a_termIndex a_patSymbol a_patLeft a_patRight a_patSubs a_patTop a_byTop a_patternIndex a_ruleLeft a_ruleRight a_eventRule a_symbolWeight a_levelVar a_levelRest a_patValue a_standsFor a_order a_bestTerm a_gotTerm a_explainedEvent : Nat → Int32} {a_best a_treeCost : Nat → Int64}
variable {n m : Nat} {sy lf rt el er syt : Nat → Int32}
theorem qx_sync9 {post : SX → Prop} (hn : n ≤ 32) (hm : m ≤ 64) (he : qe_ok n m el er) (ld0 : Nat → Int32) (cf0 : Int32)
    (K : ∀ ld' mem' usr' sgt' cc' cf', qx_ci n m sy lf rt el er (fun _ => True) ld' mem' usr' syt sgt' cc' 0 99 → qc_il n m sy lf rt el er (fun _ => True) ld' → (cf' = 0 ∨ (cf' = cf0 ∧ ld' = ld0)) →
      post (f_termLimit, f_patternLimit, f_ruleLimit, f_eventLimit, nI n, f_patternCount, f_ruleCount, nI m, nI n, nI m, cc', 0, f_matchPattern, f_matchDepth, f_levelCount, f_groundLeft, cf', f_settledClasses, f_reachedClasses, f_orderCount, f_explainedCount, sy, lf, rt, a_termIndex, a_patSymbol, a_patLeft, a_patRight, a_patSubs, a_patTop, a_byTop, a_patternIndex, a_ruleLeft, a_ruleRight, el, er, a_eventRule, a_symbolWeight, ld', mem', usr', syt, sgt', a_levelVar, a_levelRest, a_patValue, a_standsFor, a_order, a_best, a_bestTerm, a_gotTerm, a_treeCost, a_explainedEvent)) :
    ∀ k e ld mem usr sgt cc D cf, e ≤ m → m - e < k → qx_ci n m sy lf rt el er (fun _ => True) ld mem usr syt sgt cc D 99 → (∀ i, i < e → ld (el i).toNatClampNeg = ld (er i).toNatClampNeg) → (cf = 0 ∨ (cf = cf0 ∧ ld = ld0)) →
      wX_sync_9 post k (nI e) f_termLimit f_patternLimit f_ruleLimit f_eventLimit (nI n) f_patternCount f_ruleCount (nI m) (nI n) f_closedEvents cc D f_matchPattern f_matchDepth f_levelCount f_groundLeft cf f_settledClasses f_reachedClasses f_orderCount f_explainedCount sy lf rt a_termIndex a_patSymbol a_patLeft a_patRight a_patSubs a_patTop a_byTop a_patternIndex a_ruleLeft a_ruleRight el er a_eventRule a_symbolWeight ld mem usr syt sgt a_levelVar a_levelRest a_patValue a_standsFor a_order a_best a_bestTerm a_gotTerm a_treeCost a_explainedEvent := by
  intro k
  induction k with
  | zero => intro e ld mem usr sgt cc D cf _ h; omega
  | succ k ih =>
    intro e ld mem usr sgt cc D cf hem hk h ev cfh
    rw [wX_sync_9]
    refine pk_le m e (fun le => ?_) (fun lt => ?_)
    · refine qx_settle h ?_
      intro ld' mem' usr' sgt' cc' cf' h' co' cf''
      refine K ld' mem' usr' sgt' cc' cf' h' ⟨h'.1.2.2.1, h'.2.2, fun i hi _ => ?_, qx_cong h'.1 h'.2.1 (by omega)⟩ ?_
      · obtain ⟨a, b, ha, hb, ea, eb⟩ := he i hi
        have := ev i (by omega)
        rw [ea, eb, nI_clamp (by omega), nI_clamp (by omega)] at this ⊢
        exact co' a b ha hb this
      · rcases cf'' with z | ⟨z1, z2⟩
        · exact Or.inl z
        · rcases cfh with w | ⟨w1, w2⟩
          · exact Or.inl (z1.trans w)
          · exact Or.inr ⟨z1.trans w1, z2.trans w2⟩
    · obtain ⟨a, b, ha, hb, ea, eb⟩ := he e lt
      have i0 : vp_in (nI e) 64 := vp_in_nI (by omega) (by omega)
      refine ⟨i0, i0, ?_⟩
      rw [show (nI e).toNatClampNeg = e from nI_clamp (by omega), ea, eb]
      refine qx_join h ha hb (fun f hf => ?_) (fun ee => ?_) ?_
      · have := hf.1 e lt trivial
        rw [ea, eb, nI_clamp (by omega), nI_clamp (by omega)] at this
        exact this
      · refine nm_r (nI_1 e) (ih (e + 1) ld mem usr sgt cc D cf (by omega) (by omega) h (fun i hi => ?_) cfh)
        by_cases z : i = e
        · subst z; rw [ea, eb, nI_clamp (by omega), nI_clamp (by omega)]; exact ee
        · exact ev i (by omega)
      · intro ld' mem' usr' cc' D' h' _ ee co' _
        refine nm_r (nI_1 e) (ih (e + 1) ld' mem' usr' sgt cc' D' 0 (by omega) (by omega) h' (fun i hi => ?_) (Or.inl rfl))
        by_cases z : i = e
        · subst z; rw [ea, eb, nI_clamp (by omega), nI_clamp (by omega)]; exact ee
        · obtain ⟨a', b', ha', hb', ea', eb'⟩ := he i (by omega)
          have := ev i (by omega)
          rw [ea', eb', nI_clamp (by omega), nI_clamp (by omega)] at this ⊢
          exact co' a' b' ha' hb' this
end
section
variable {f_termLimit f_patternLimit f_ruleLimit f_eventLimit f_patternCount f_ruleCount f_matchPattern f_matchDepth f_levelCount f_groundLeft f_settledClasses f_reachedClasses f_orderCount f_explainedCount : Int32} {a_termIndex a_patSymbol a_patLeft a_patRight a_patSubs a_patTop a_byTop a_patternIndex a_ruleLeft a_ruleRight a_eventRule a_symbolWeight a_levelVar a_levelRest a_patValue a_standsFor a_order a_bestTerm a_gotTerm a_explainedEvent : Nat → Int32} {a_best a_treeCost : Nat → Int64}
variable {n m c ce : Nat} {sy lf rt el er ld mem usr syt sgt : Nat → Int32} {cc cf : Int32}
theorem qx_sync {post : SX → Prop} (h : qx_xi n m c ce sy lf rt el er ld mem usr syt sgt cc)
    (K : ∀ ld' mem' usr' syt' sgt' cc' cf', qx_xi n m n m sy lf rt el er ld' mem' usr' syt' sgt' cc' → qc_il n m sy lf rt el er (fun _ => True) ld' → (cf' = 0 ∨ (cf' = cf ∧ ld' = ld ∧ c = n)) →
      post (f_termLimit, f_patternLimit, f_ruleLimit, f_eventLimit, nI n, f_patternCount, f_ruleCount, nI m, nI n, nI m, cc', 0, f_matchPattern, f_matchDepth, f_levelCount, f_groundLeft, cf', f_settledClasses, f_reachedClasses, f_orderCount, f_explainedCount, sy, lf, rt, a_termIndex, a_patSymbol, a_patLeft, a_patRight, a_patSubs, a_patTop, a_byTop, a_patternIndex, a_ruleLeft, a_ruleRight, el, er, a_eventRule, a_symbolWeight, ld', mem', usr', syt', sgt', a_levelVar, a_levelRest, a_patValue, a_standsFor, a_order, a_best, a_bestTerm, a_gotTerm, a_treeCost, a_explainedEvent)) : wpX_sync post (f_termLimit, f_patternLimit, f_ruleLimit, f_eventLimit, nI n, f_patternCount, f_ruleCount, nI m, nI c, nI ce, cc, 0, f_matchPattern, f_matchDepth, f_levelCount, f_groundLeft, cf, f_settledClasses, f_reachedClasses, f_orderCount, f_explainedCount, sy, lf, rt, a_termIndex, a_patSymbol, a_patLeft, a_patRight, a_patSubs, a_patTop, a_byTop, a_patternIndex, a_ruleLeft, a_ruleRight, el, er, a_eventRule, a_symbolWeight, ld, mem, usr, syt, sgt, a_levelVar, a_levelRest, a_patValue, a_standsFor, a_order, a_best, a_bestTerm, a_gotTerm, a_treeCost, a_explainedEvent) := by
  obtain ⟨hc, hn, hm, hce, g, he, hi, hev⟩ := h
  unfold wpX_sync
  refine qx_enter hn hc g hi ?_
  intro ld' mem' usr' syt' sgt' cc' cf' h' co' cf''
  refine ⟨m - ce + 1, qx_sync9 hn hm he ld' cf' ?_ (m - ce + 1) ce ld' mem' usr' sgt' cc' 0 cf' hce (by omega) h' (fun i hi' => ?_) (Or.inr ⟨rfl, rfl⟩)⟩
  · intro ld2 mem2 usr2 sgt2 cc2 cf2 h2 il2 cfc
    refine K ld2 mem2 usr2 syt' sgt2 cc2 cf2 ⟨Nat.le_refl _, hn, hm, Nat.le_refl _, g, he, h2, fun e hem => ?_⟩ il2 ?_
    · obtain ⟨a, b, ha, hb, ea, eb⟩ := he e hem
      have := il2.2.2.1 e hem trivial
      rw [ea, eb, nI_clamp (by omega), nI_clamp (by omega)] at this
      exact ⟨a, b, ha, hb, ea, eb, this⟩
    · rcases cfc with z | ⟨z1, z2⟩
      · exact Or.inl z
      · rcases cf'' with w | ⟨w1, w2, w3⟩
        · exact Or.inl (z1.trans w)
        · exact Or.inr ⟨z1.trans w1, z2.trans w2, w3⟩
  · obtain ⟨a, b, ha, hb, ea, eb, e⟩ := hev i hi'
    rw [ea, eb, nI_clamp (by omega), nI_clamp (by omega)]
    exact co' a b ha hb e
end
end
section
section
variable {g_maxTerms g_maxPats g_maxRules g_maxEvents g_nTerms g_nPats g_nRules g_nEvents g_nKept g_labN : Int32} {b_sym b_lef b_rig b_psym b_pl b_pr b_rl b_rr b_el b_er b_eRule b_kept b_w b_in b_sub b_val b_stand b_needed b_pick b_got : Nat → Int32} {b_cost b_best : Nat → Int64}
variable {la : Nat → Int32}
theorem qy_lab {post : Int32 → Prop} {x : Int32} (hx : x = -1 ∨ ∃ j, j < 32 ∧ x = nI j) (K : post (qc_lb la x)) : wpY_labelOf post (g_maxTerms, g_maxPats, g_maxRules, g_maxEvents, g_nTerms, g_nPats, g_nRules, g_nEvents, g_nKept, g_labN, b_sym, b_lef, b_rig, b_psym, b_pl, b_pr, b_rl, b_rr, b_el, b_er, b_eRule, b_kept, b_w, b_in, la, b_sub, b_val, b_stand, b_cost, b_best, b_needed, b_pick, b_got) x := by
  unfold wpY_labelOf
  rcases hx with rfl | ⟨j, hj, rfl⟩
  · rw [qc_lb1] at K
    exact br_f qa_n0le K
  · rw [qc_lbN _ (by omega)] at K
    refine br_t (qa_0le (by omega)) ⟨vp_in_nI hj (by omega), ?_⟩
    rw [nI_clamp (by omega)]; exact K
end
section
variable {g_maxTerms g_maxPats g_maxRules g_maxEvents g_nTerms g_nPats g_nRules g_nEvents g_nKept : Int32} {b_sym b_lef b_rig b_psym b_pl b_pr b_rl b_rr b_el b_er b_eRule b_kept b_w b_in b_sub b_val b_stand b_needed b_pick b_got : Nat → Int32} {b_cost b_best : Nat → Int64}
variable {n : Nat} {la : Nat → Int32}
theorem qy_join74 {post : Int32 → SY → Prop} {lo hi : Int32} (hn : n ≤ 32) (K : post 1 (g_maxTerms, g_maxPats, g_maxRules, g_maxEvents, g_nTerms, g_nPats, g_nRules, g_nEvents, g_nKept, nI n, b_sym, b_lef, b_rig, b_psym, b_pl, b_pr, b_rl, b_rr, b_el, b_er, b_eRule, b_kept, b_w, b_in, qc_jn n lo hi la, b_sub, b_val, b_stand, b_cost, b_best, b_needed, b_pick, b_got)) :
    ∃ k, wY_join_74 post lo hi g_maxTerms g_maxPats g_maxRules g_maxEvents g_nTerms g_nPats g_nRules g_nEvents g_nKept (nI n) k 0 b_sym b_lef b_rig b_psym b_pl b_pr b_rl b_rr b_el b_er b_eRule b_kept b_w b_in la b_sub b_val b_stand b_cost b_best b_needed b_pick b_got := by
  refine loop_0 (fun k i l => wY_join_74 post lo hi g_maxTerms g_maxPats g_maxRules g_maxEvents g_nTerms g_nPats g_nRules g_nEvents g_nKept (nI n) k (nI i) b_sym b_lef b_rig b_psym b_pl b_pr b_rl b_rr b_el b_er b_eRule b_kept b_w b_in l b_sub b_val b_stand b_cost b_best b_needed b_pick b_got) (fun i l => ∀ x, l x = if x < i ∧ la x = hi then lo else la x) n la ?_ ?_ ?_
  · intro x; rw [if_neg (fun z => absurd z.1 (Nat.not_lt_zero _))]
  · intro k l hl
    have e : l = qc_jn n lo hi la := funext hl
    subst e
    rw [wY_join_74]
    exact br_t (nI_le (Nat.le_refl _) (by omega)) K
  · intro k i l hi' hl Kn
    rw [wY_join_74]
    refine br_f (nI_ge hi' (by omega)) ⟨vp_in_nI (by omega) (by omega), ?_⟩
    rw [show (nI i).toNatClampNeg = i from nI_clamp (by omega)]
    have e0 : l i = la i := by rw [hl i, if_neg (fun z => absurd z.1 (Nat.lt_irrefl _))]
    refine br_c (fun h => ⟨vp_in_nI (by omega) (by omega), nm_e (nm_r (nI_1 i) (Kn _ fun x => ?_))⟩) (fun h => nm_r (nI_1 i) (Kn _ fun x => ?_))
    · rw [e0] at h
      by_cases z : x = i
      · subst z; rw [pk_us, if_pos ⟨by omega, h⟩]
      · rw [pk_un z, hl x]
        by_cases q : x < i ∧ la x = hi
        · rw [if_pos q, if_pos ⟨by omega, q.2⟩]
        · rw [if_neg q, if_neg (fun w => q ⟨by omega, w.2⟩)]
    · rw [e0] at h
      rw [hl x]
      by_cases q : x < i ∧ la x = hi
      · rw [if_pos q, if_pos ⟨by omega, q.2⟩]
      · rw [if_neg q, if_neg]
        rintro ⟨w1, w2⟩
        have : x = i := Classical.byContradiction fun z => q ⟨by omega, w2⟩
        subst this
        exact h w2
theorem qy_join61 {post : Int32 → SY → Prop} {lo hi : Int32} (hn : n ≤ 32) (K0 : lo = hi → post 0 (g_maxTerms, g_maxPats, g_maxRules, g_maxEvents, g_nTerms, g_nPats, g_nRules, g_nEvents, g_nKept, nI n, b_sym, b_lef, b_rig, b_psym, b_pl, b_pr, b_rl, b_rr, b_el, b_er, b_eRule, b_kept, b_w, b_in, la, b_sub, b_val, b_stand, b_cost, b_best, b_needed, b_pick, b_got)) (K : ¬ lo = hi → post 1 (g_maxTerms, g_maxPats, g_maxRules, g_maxEvents, g_nTerms, g_nPats, g_nRules, g_nEvents, g_nKept, nI n, b_sym, b_lef, b_rig, b_psym, b_pl, b_pr, b_rl, b_rr, b_el, b_er, b_eRule, b_kept, b_w, b_in, qc_jn n lo hi la, b_sub, b_val, b_stand, b_cost, b_best, b_needed, b_pick, b_got)) : wY_join_61 post lo hi g_maxTerms g_maxPats g_maxRules g_maxEvents g_nTerms g_nPats g_nRules g_nEvents g_nKept (nI n) b_sym b_lef b_rig b_psym b_pl b_pr b_rl b_rr b_el b_er b_eRule b_kept b_w b_in la b_sub b_val b_stand b_cost b_best b_needed b_pick b_got := by
  unfold wY_join_61
  exact br_c K0 (fun h => qy_join74 hn (K h))
theorem qy_join {post : Int32 → SY → Prop} {a b : Nat} (hn : n ≤ 32) (nm : qc_nm n la) (ha : a < n) (hb : b < n) (K0 : la a = la b → post 0 (g_maxTerms, g_maxPats, g_maxRules, g_maxEvents, g_nTerms, g_nPats, g_nRules, g_nEvents, g_nKept, nI n, b_sym, b_lef, b_rig, b_psym, b_pl, b_pr, b_rl, b_rr, b_el, b_er, b_eRule, b_kept, b_w, b_in, la, b_sub, b_val, b_stand, b_cost, b_best, b_needed, b_pick, b_got))
    (K1 : ∀ lo hi, lo < hi → hi < n → la lo = nI lo → la hi = nI hi → ((la a = nI lo ∧ la b = nI hi) ∨ (la a = nI hi ∧ la b = nI lo)) → post 1 (g_maxTerms, g_maxPats, g_maxRules, g_maxEvents, g_nTerms, g_nPats, g_nRules, g_nEvents, g_nKept, nI n, b_sym, b_lef, b_rig, b_psym, b_pl, b_pr, b_rl, b_rr, b_el, b_er, b_eRule, b_kept, b_w, b_in, qc_jn n (nI lo) (nI hi) la, b_sub, b_val, b_stand, b_cost, b_best, b_needed, b_pick, b_got)) :
    wpY_join post (g_maxTerms, g_maxPats, g_maxRules, g_maxEvents, g_nTerms, g_nPats, g_nRules, g_nEvents, g_nKept, nI n, b_sym, b_lef, b_rig, b_psym, b_pl, b_pr, b_rl, b_rr, b_el, b_er, b_eRule, b_kept, b_w, b_in, la, b_sub, b_val, b_stand, b_cost, b_best, b_needed, b_pick, b_got) (nI a) (nI b) := by
  obtain ⟨p, hp, ep, rp⟩ := nm a ha
  obtain ⟨q, hq, eq, rq⟩ := nm b hb
  have ia : vp_in (nI a) 32 := vp_in_nI (by omega) (by omega)
  have ib : vp_in (nI b) 32 := vp_in_nI (by omega) (by omega)
  unfold wpY_join
  refine ⟨ia, ib, ?_⟩
  rw [show (nI a).toNatClampNeg = a from nI_clamp (by omega), show (nI b).toNatClampNeg = b from nI_clamp (by omega), ep, eq]
  refine pk_le q p (fun le => ⟨ib, ?_⟩) (fun lt => ⟨ia, ?_⟩)
  · unfold wY_join_30
    refine ⟨ia, ib, ?_⟩
    rw [show (nI a).toNatClampNeg = a from nI_clamp (by omega), show (nI b).toNatClampNeg = b from nI_clamp (by omega), ep, eq]
    refine br_t (nI_le le (by omega)) ⟨ia, qy_join61 hn (fun e => K0 (by rw [ep, eq, e])) (fun ne => K1 q p ?_ (by omega) rq rp (Or.inr ⟨ep, eq⟩))⟩
    have : q ≠ p := fun z => ne (by rw [z])
    omega
  · unfold wY_join_30
    refine ⟨ia, ib, ?_⟩
    rw [show (nI a).toNatClampNeg = a from nI_clamp (by omega), show (nI b).toNatClampNeg = b from nI_clamp (by omega), ep, eq]
    exact br_f (nI_ge lt (by omega)) ⟨ib, qy_join61 hn (fun e => K0 (by rw [ep, eq, e])) (fun _ => K1 p q (by omega) (by omega) rp rq (Or.inl ⟨ep, eq⟩))⟩
end
def qy_iv (n m : Nat) (sy lf rt el er : Nat → Int32) (P : Nat → Prop) (laS : Nat → Int32) (pr : Prop) (la : Nat → Int32) (ch : Int32) : Prop :=
  qc_nm n la ∧ qc_sn n m sy lf rt el er P la ∧ ((ch = 0 ∧ la = laS ∧ pr) ∨ (ch = 1 ∧ qa_cn (fun x => la x = nI x) n < qa_cn (fun x => laS x = nI x) n))
theorem qy_iv_skip {n m : Nat} {sy lf rt el er laS la : Nat → Int32} {P : Nat → Prop} {pr pr' : Prop} {ch : Int32} (h : qy_iv n m sy lf rt el er P laS pr la ch) (f : la = laS → pr → pr') : qy_iv n m sy lf rt el er P laS pr' la ch :=
  ⟨h.1, h.2.1, h.2.2.elim (fun z => Or.inl ⟨z.1, z.2.1, f z.2.1 z.2.2⟩) Or.inr⟩
theorem qy_iv_jn {n m a b lo hi : Nat} {sy lf rt el er laS la : Nat → Int32} {P : Nat → Prop} {pr pr' : Prop} {ch : Int32} (hn : n ≤ 32) (h : qy_iv n m sy lf rt el er P laS pr la ch) (ha : a < n) (hb : b < n) (hf : ∀ f, qc_cl n m sy lf rt el er P f → f a = f b)
    (hlo : lo < hi) (hhi : hi < n) (e1 : la lo = nI lo) (e2 : la hi = nI hi) (e : (la a = nI lo ∧ la b = nI hi) ∨ (la a = nI hi ∧ la b = nI lo)) : qy_iv n m sy lf rt el er P laS pr' (qc_jn n (nI lo) (nI hi) la) 1 := by
  refine ⟨qc_jn_nm hn h.1 hlo hhi e1 e2, ?_, Or.inr ⟨rfl, ?_⟩⟩
  · rcases e with e | e
    · exact qc_jn_sn h.2.1 ha hb e.1 e.2 hf
    · exact qc_jn_sn h.2.1 hb ha e.2 e.1 (fun f cf => (hf f cf).symm)
  · have := qc_jn_cn hn hlo hhi e1 e2
    rcases h.2.2 with ⟨_, rfl, _⟩ | ⟨_, z⟩ <;> omega
section
variable {g_maxTerms g_maxPats g_maxRules g_maxEvents g_nTerms g_nPats g_nRules g_nKept : Int32} {b_psym b_pl b_pr b_rl b_rr b_eRule b_kept b_w b_sub b_val b_stand b_needed b_pick b_got : Nat → Int32} {b_cost b_best : Nat → Int64}
variable {n m pass : Nat} {sy lf rt el er iv laS : Nat → Int32}
def qy_pe (m : Nat) (el er : Nat → Int32) (P : Nat → Prop) (la : Nat → Int32) (e : Nat) : Prop := ∀ i, i < e → P i → la (el i).toNatClampNeg = la (er i).toNatClampNeg
def qy_pc (sy lf rt la : Nat → Int32) (i j : Nat) : Prop := sy i = sy j → qc_lb la (lf i) = qc_lb la (lf j) → qc_lb la (rt i) = qc_lb la (rt j) → la i = la j
theorem qy_close108 {post : SY → Prop} {J35 J97 : Int32 → Int32 → Int32 → Int32 → Int32 → Int32 → Int32 → Int32 → Int32 → Int32 → Int32 → Int32 → (Nat → Int32) → (Nat → Int32) → (Nat → Int32) → (Nat → Int32) → (Nat → Int32) → (Nat → Int32) → (Nat → Int32) → (Nat → Int32) → (Nat → Int32) → (Nat → Int32) → (Nat → Int32) → (Nat → Int32) → (Nat → Int32) → (Nat → Int32) → (Nat → Int32) → (Nat → Int32) → (Nat → Int32) → (Nat → Int32) → (Nat → Int64) → (Nat → Int64) → (Nat → Int32) → (Nat → Int32) → (Nat → Int32) → Prop} {x2 : Int32} {i : Nat} {pr : Prop}
    (hn : n ≤ 32) (hi : i < n) (g : ∀ t, t < n → qa_tok sy lf rt t)
    (K : ∀ la ch, qy_iv n m sy lf rt el er (fun e => ¬ iv e = 0) laS (pr ∧ ∀ j, j < i → qy_pc sy lf rt laS i j) la ch → J97 ch (nI (i + 1)) g_maxTerms g_maxPats g_maxRules g_maxEvents g_nTerms g_nPats g_nRules (nI m) g_nKept (nI n) sy lf rt b_psym b_pl b_pr b_rl b_rr el er b_eRule b_kept b_w iv la b_sub b_val b_stand b_cost b_best b_needed b_pick b_got) :
    ∀ k j la ch, j ≤ i → i - j < k → qy_iv n m sy lf rt el er (fun e => ¬ iv e = 0) laS (pr ∧ ∀ j', j' < j → qy_pc sy lf rt laS i j') la ch → wY_close_108 post J35 J97 x2 (nI i) k ch (nI j) g_maxTerms g_maxPats g_maxRules g_maxEvents g_nTerms g_nPats g_nRules (nI m) g_nKept (nI n) sy lf rt b_psym b_pl b_pr b_rl b_rr el er b_eRule b_kept b_w iv la b_sub b_val b_stand b_cost b_best b_needed b_pick b_got := by
  intro k
  induction k with
  | zero => intro j la ch _ h; omega
  | succ k ih =>
    intro j la ch hj hk h
    rw [wY_close_108]
    refine pk_le i j (fun le => ?_) (fun lt => ?_)
    · have e : j = i := by omega
      subst e
      exact nm_r (nI_1 j) (K la ch h)
    · have ii : vp_in (nI i) 32 := vp_in_nI (by omega) (by omega)
      have ij : vp_in (nI j) 32 := vp_in_nI (by omega) (by omega)
      refine ⟨ii, ij, ?_⟩
      rw [show (nI i).toNatClampNeg = i from nI_clamp (by omega), show (nI j).toNatClampNeg = j from nI_clamp (by omega)]
      have ci := qx_cs_ch hn hi (g i hi)
      have cj := qx_cs_ch hn (by omega) (g j (by omega))
      have w32 : ∀ {x : Int32}, (x = -1 ∨ ∃ j, j < n ∧ x = nI j) → (x = -1 ∨ ∃ j, j < 32 ∧ x = nI j) := fun hx => hx.elim Or.inl (fun ⟨j, hj, e⟩ => Or.inr ⟨j, by omega, e⟩)
      have next : ∀ la ch, qy_iv n m sy lf rt el er (fun e => ¬ iv e = 0) laS (pr ∧ ∀ j', j' < j → qy_pc sy lf rt laS i j') la ch → (la = laS → qy_pc sy lf rt laS i j) → ∀ x, x = nI j + 1 → wY_close_108 post J35 J97 x2 (nI i) k ch x g_maxTerms g_maxPats g_maxRules g_maxEvents g_nTerms g_nPats g_nRules (nI m) g_nKept (nI n) sy lf rt b_psym b_pl b_pr b_rl b_rr el er b_eRule b_kept b_w iv la b_sub b_val b_stand b_cost b_best b_needed b_pick b_got := by
        intro la ch h f
        refine nm_r (nI_1 j) (ih (j + 1) la ch (by omega) (by omega) (qy_iv_skip h fun e hp => ⟨hp.1, fun j' hj' => ?_⟩))
        by_cases z : j' = j
        · subst z; exact f e
        · exact hp.2 j' (by omega)
      refine br_c (fun e1 => ⟨ii, ?_⟩) (fun e1 => next la ch h (fun _ z => (e1 z).elim))
      refine qy_lab (w32 ci.1) ⟨ij, qy_lab (w32 cj.1) ?_⟩
      refine br_c (fun e2 => ⟨ii, ?_⟩) (fun e2 => next la ch h (fun e _ z => (e2 (by rw [e]; exact z)).elim))
      refine qy_lab (w32 ci.2) ⟨ij, qy_lab (w32 cj.2) ?_⟩
      refine br_c (fun e3 => ?_) (fun e3 => next la ch h (fun e _ _ z => (e3 (by rw [e]; exact z)).elim))
      refine qy_join hn h.1 hi (by omega) (fun e4 => br_t rfl (next la ch h (fun e _ _ _ => by rw [← e]; exact e4))) ?_
      intro lo hi' hlo hhi f1 f2 f3
      refine br_f (by decide) (next _ 1 (qy_iv_jn hn h hi (by omega) (fun f hf => ?_) hlo hhi f1 f2 f3) ?_)
      · exact hf.2 i j hi (by omega) e1 (qc_lb_co hn (h.2.1 f hf) h.1 ci.1 cj.1 e2) (qc_lb_co hn (h.2.1 f hf) h.1 ci.2 cj.2 e3)
      · intro e
        have := (qy_iv_jn (pr' := True) hn h hi (b := j) (by omega) (fun f hf => hf.2 i j hi (by omega) e1 (qc_lb_co hn (h.2.1 f hf) h.1 ci.1 cj.1 e2) (qc_lb_co hn (h.2.1 f hf) h.1 ci.2 cj.2 e3)) hlo hhi f1 f2 f3).2.2
        rcases this with ⟨z, _⟩ | ⟨_, z⟩
        · exact absurd z (by decide)
        · rw [e] at z; exact (Nat.lt_irrefl _ z).elim
theorem qy_close97 {post : SY → Prop} {J35 : Int32 → Int32 → Int32 → Int32 → Int32 → Int32 → Int32 → Int32 → Int32 → Int32 → Int32 → Int32 → (Nat → Int32) → (Nat → Int32) → (Nat → Int32) → (Nat → Int32) → (Nat → Int32) → (Nat → Int32) → (Nat → Int32) → (Nat → Int32) → (Nat → Int32) → (Nat → Int32) → (Nat → Int32) → (Nat → Int32) → (Nat → Int32) → (Nat → Int32) → (Nat → Int32) → (Nat → Int32) → (Nat → Int32) → (Nat → Int32) → (Nat → Int64) → (Nat → Int64) → (Nat → Int32) → (Nat → Int32) → (Nat → Int32) → Prop} {pr : Prop}
    (hn : n ≤ 32) (g : ∀ t, t < n → qa_tok sy lf rt t)
    (K : ∀ la ch, qy_iv n m sy lf rt el er (fun e => ¬ iv e = 0) laS (pr ∧ ∀ i j, i < n → j < i → qy_pc sy lf rt laS i j) la ch → J35 ch (nI (pass + 1)) g_maxTerms g_maxPats g_maxRules g_maxEvents g_nTerms g_nPats g_nRules (nI m) g_nKept (nI n) sy lf rt b_psym b_pl b_pr b_rl b_rr el er b_eRule b_kept b_w iv la b_sub b_val b_stand b_cost b_best b_needed b_pick b_got) :
    ∀ k i la ch, i ≤ n → n - i < k → qy_iv n m sy lf rt el er (fun e => ¬ iv e = 0) laS (pr ∧ ∀ i' j', i' < i → j' < i' → qy_pc sy lf rt laS i' j') la ch → wY_close_97 post J35 (nI pass) k ch (nI i) g_maxTerms g_maxPats g_maxRules g_maxEvents g_nTerms g_nPats g_nRules (nI m) g_nKept (nI n) sy lf rt b_psym b_pl b_pr b_rl b_rr el er b_eRule b_kept b_w iv la b_sub b_val b_stand b_cost b_best b_needed b_pick b_got := by
  intro k
  induction k with
  | zero => intro i la ch _ h; omega
  | succ k ih =>
    intro i la ch hi hk h
    rw [wY_close_97]
    refine pk_le n i (fun le => ?_) (fun lt => ?_)
    · have e : i = n := by omega
      subst e
      exact nm_r (nI_1 pass) (K la ch h)
    · refine ⟨i + 1, qy_close108 hn lt g (pr := pr ∧ ∀ i' j', i' < i → j' < i' → qy_pc sy lf rt laS i' j') ?_ (i + 1) 0 la ch (by omega) (by omega) (qy_iv_skip h fun _ hp => ⟨hp, fun j hj => absurd hj (Nat.not_lt_zero _)⟩)⟩
      intro la ch h
      refine ih (i + 1) la ch (by omega) (by omega) (qy_iv_skip h fun _ hp => ⟨hp.1.1, fun i' j' hi' hj' => ?_⟩)
      by_cases z : i' = i
      · subst z; exact hp.2 j' hj'
      · exact hp.1.2 i' j' (by omega) hj'
theorem qy_close51 {post : SY → Prop} {J35 : Int32 → Int32 → Int32 → Int32 → Int32 → Int32 → Int32 → Int32 → Int32 → Int32 → Int32 → Int32 → (Nat → Int32) → (Nat → Int32) → (Nat → Int32) → (Nat → Int32) → (Nat → Int32) → (Nat → Int32) → (Nat → Int32) → (Nat → Int32) → (Nat → Int32) → (Nat → Int32) → (Nat → Int32) → (Nat → Int32) → (Nat → Int32) → (Nat → Int32) → (Nat → Int32) → (Nat → Int32) → (Nat → Int32) → (Nat → Int32) → (Nat → Int64) → (Nat → Int64) → (Nat → Int32) → (Nat → Int32) → (Nat → Int32) → Prop}
    (hn : n ≤ 32) (hm : m ≤ 64) (g : ∀ t, t < n → qa_tok sy lf rt t) (he : qe_ok n m el er)
    (K : ∀ la ch, qy_iv n m sy lf rt el er (fun e => ¬ iv e = 0) laS (qy_pe m el er (fun e => ¬ iv e = 0) laS m ∧ ∀ i j, i < n → j < i → qy_pc sy lf rt laS i j) la ch → J35 ch (nI (pass + 1)) g_maxTerms g_maxPats g_maxRules g_maxEvents g_nTerms g_nPats g_nRules (nI m) g_nKept (nI n) sy lf rt b_psym b_pl b_pr b_rl b_rr el er b_eRule b_kept b_w iv la b_sub b_val b_stand b_cost b_best b_needed b_pick b_got) :
    ∀ k e la ch, e ≤ m → m - e < k → qy_iv n m sy lf rt el er (fun e => ¬ iv e = 0) laS (qy_pe m el er (fun e => ¬ iv e = 0) laS e) la ch → wY_close_51 post J35 (nI pass) k ch (nI e) g_maxTerms g_maxPats g_maxRules g_maxEvents g_nTerms g_nPats g_nRules (nI m) g_nKept (nI n) sy lf rt b_psym b_pl b_pr b_rl b_rr el er b_eRule b_kept b_w iv la b_sub b_val b_stand b_cost b_best b_needed b_pick b_got := by
  intro k
  induction k with
  | zero => intro e la ch _ h; omega
  | succ k ih =>
    intro e la ch hem hk h
    rw [wY_close_51]
    refine pk_le m e (fun le => ?_) (fun lt => ?_)
    · have ee : e = m := by omega
      subst ee
      exact ⟨n + 1, qy_close97 hn g K (n + 1) 0 la ch (by omega) (by omega) (qy_iv_skip h fun _ hp => ⟨hp, fun i j hi => absurd hi (Nat.not_lt_zero _)⟩)⟩
    · have ie : vp_in (nI e) 64 := vp_in_nI (by omega) (by omega)
      refine ⟨ie, ?_⟩
      rw [show (nI e).toNatClampNeg = e from nI_clamp (by omega)]
      obtain ⟨a, b, ha, hb, ea, eb⟩ := he e lt
      have next : ∀ la ch, qy_iv n m sy lf rt el er (fun e => ¬ iv e = 0) laS (qy_pe m el er (fun e => ¬ iv e = 0) laS e) la ch → (la = laS → ¬ iv e = 0 → laS a = laS b) → ∀ x, x = nI e + 1 → wY_close_51 post J35 (nI pass) k ch x g_maxTerms g_maxPats g_maxRules g_maxEvents g_nTerms g_nPats g_nRules (nI m) g_nKept (nI n) sy lf rt b_psym b_pl b_pr b_rl b_rr el er b_eRule b_kept b_w iv la b_sub b_val b_stand b_cost b_best b_needed b_pick b_got := by
        intro la ch h f
        refine nm_r (nI_1 e) (ih (e + 1) la ch (by omega) (by omega) (qy_iv_skip h fun ee hp => fun i hi pi => ?_))
        by_cases z : i = e
        · subst z; rw [ea, eb, nI_clamp (by omega), nI_clamp (by omega)]; exact f ee pi
        · exact hp i (by omega) pi
      refine br_c (fun z => next la ch h (fun _ q => (q z).elim)) (fun z => ⟨ie, ie, ?_⟩)
      rw [ea, eb]
      have hf : ∀ f, qc_cl n m sy lf rt el er (fun e => ¬ iv e = 0) f → f a = f b := by
        intro f hf
        have := hf.1 e lt z
        rwa [ea, eb, nI_clamp (by omega), nI_clamp (by omega)] at this
      refine qy_join hn h.1 ha hb (fun e4 => br_t rfl (next la ch h (fun e _ => by rw [← e]; exact e4))) ?_
      intro lo hi' hlo hhi f1 f2 f3
      refine br_f (by decide) (next _ 1 (qy_iv_jn hn h ha hb hf hlo hhi f1 f2 f3) ?_)
      intro e
      have := (qy_iv_jn (pr' := True) hn h ha hb hf hlo hhi f1 f2 f3).2.2
      rcases this with ⟨z, _⟩ | ⟨_, z⟩
      · exact absurd z (by decide)
      · rw [e] at z; exact (Nat.lt_irrefl _ z).elim
end
section
variable {g_maxTerms g_maxPats g_maxRules g_maxEvents g_nTerms g_nPats g_nRules g_nKept : Int32} {b_psym b_pl b_pr b_rl b_rr b_eRule b_kept b_w b_sub b_val b_stand b_needed b_pick b_got : Nat → Int32} {b_cost b_best : Nat → Int64}
variable {n m : Nat} {sy lf rt el er iv : Nat → Int32}
theorem qy_close35 {post : SY → Prop} (hn : n ≤ 32) (hm : m ≤ 64) (g : ∀ t, t < n → qa_tok sy lf rt t) (he : qe_ok n m el er)
    (K : ∀ la, qc_il n m sy lf rt el er (fun e => ¬ iv e = 0) la → post (g_maxTerms, g_maxPats, g_maxRules, g_maxEvents, g_nTerms, g_nPats, g_nRules, nI m, g_nKept, nI n, sy, lf, rt, b_psym, b_pl, b_pr, b_rl, b_rr, el, er, b_eRule, b_kept, b_w, iv, la, b_sub, b_val, b_stand, b_cost, b_best, b_needed, b_pick, b_got)) :
    ∀ k pass la, n + 2 ≤ k + pass → qc_nm n la → qc_sn n m sy lf rt el er (fun e => ¬ iv e = 0) la → qa_cn (fun x => la x = nI x) n + pass ≤ n → wY_close_35 post k 1 (nI pass) g_maxTerms g_maxPats g_maxRules g_maxEvents g_nTerms g_nPats g_nRules (nI m) g_nKept (nI n) sy lf rt b_psym b_pl b_pr b_rl b_rr el er b_eRule b_kept b_w iv la b_sub b_val b_stand b_cost b_best b_needed b_pick b_got := by
  intro k
  induction k with
  | zero => intro pass la h1 _ _ h2; omega
  | succ k ih =>
    intro pass la hk nm sn hp
    rw [wY_close_35]
    refine br_f (by decide) (pk_lt n pass (fun lt => absurd lt (by omega)) (fun le => ?_))
    refine ⟨m + 1, qy_close51 (laS := la) hn hm g he ?_ (m + 1) 0 la 0 (by omega) (by omega) ⟨nm, sn, Or.inl ⟨rfl, rfl, fun i hi => absurd hi (Nat.not_lt_zero _)⟩⟩⟩
    intro la' ch h
    rcases h.2.2 with ⟨rfl, rfl, pr⟩ | ⟨rfl, lt⟩
    · cases k with
      | zero => omega
      | succ k =>
        rw [wY_close_35]
        refine br_t rfl (K la' ⟨nm, sn, fun e he => pr.1 e he, fun i j hi hj e1 e2 e3 => ?_⟩)
        rcases Nat.lt_trichotomy i j with z | z | z
        · exact (pr.2 j i hj z e1.symm e2.symm e3.symm).symm
        · rw [z]
        · exact pr.2 i j hi z e1 e2 e3
    · exact ih (pass + 1) la' (by omega) h.1 h.2.1 (by omega)
end
section
variable {g_maxTerms g_maxPats g_maxRules g_maxEvents g_nPats g_nRules g_nKept g_labN : Int32} {b_psym b_pl b_pr b_rl b_rr b_eRule b_kept b_w b_sub b_val b_stand b_needed b_pick b_got : Nat → Int32} {b_cost b_best : Nat → Int64}
variable {n m : Nat} {sy lf rt el er iv la : Nat → Int32}
theorem qy_close {post : SY → Prop} (hn : n ≤ 32) (hm : m ≤ 64) (g : ∀ t, t < n → qa_tok sy lf rt t) (he : qe_ok n m el er)
    (K : ∀ la, qc_il n m sy lf rt el er (fun e => ¬ iv e = 0) la → post (g_maxTerms, g_maxPats, g_maxRules, g_maxEvents, nI n, g_nPats, g_nRules, nI m, g_nKept, nI n, sy, lf, rt, b_psym, b_pl, b_pr, b_rl, b_rr, el, er, b_eRule, b_kept, b_w, iv, la, b_sub, b_val, b_stand, b_cost, b_best, b_needed, b_pick, b_got)) : wpY_close post (g_maxTerms, g_maxPats, g_maxRules, g_maxEvents, nI n, g_nPats, g_nRules, nI m, g_nKept, g_labN, sy, lf, rt, b_psym, b_pl, b_pr, b_rl, b_rr, el, er, b_eRule, b_kept, b_w, iv, la, b_sub, b_val, b_stand, b_cost, b_best, b_needed, b_pick, b_got) := by
  unfold wpY_close
  refine loop_0 (fun k i l => wY_close_10 post g_maxTerms g_maxPats g_maxRules g_maxEvents (nI n) g_nPats g_nRules (nI m) g_nKept (nI n) k (nI i) sy lf rt b_psym b_pl b_pr b_rl b_rr el er b_eRule b_kept b_w iv l b_sub b_val b_stand b_cost b_best b_needed b_pick b_got) (fun i l => ∀ x, x < i → l x = nI x) n la (fun x hx => absurd hx (Nat.not_lt_zero _)) ?_ ?_
  · intro k l hl
    rw [wY_close_10]
    have nm : qc_nm n l := fun x hx => ⟨x, Nat.le_refl _, hl x hx, hl x hx⟩
    have sn : qc_sn n m sy lf rt el er (fun e => ¬ iv e = 0) l := by
      intro f hf x y hx hy e
      rw [hl x hx, hl y hy] at e
      rw [qa_inj (by omega) (by omega) e]
    refine br_t (nI_le (Nat.le_refl _) (by omega)) ⟨n + 2, qy_close35 hn hm g he K (n + 2) 0 l (by omega) nm sn ?_⟩
    have := qa_cn_le (fun x => l x = nI x) n
    omega
  · intro k i l hi hl Kn
    rw [wY_close_10]
    refine br_f (nI_ge hi (by omega)) ⟨vp_in_nI (by omega) (by omega), nm_r (e' := upd l i (nI i)) (by rw [nI_clamp (by omega)]) (nm_r (nI_1 i) (Kn _ fun x hx => ?_))⟩
    by_cases z : x = i
    · subst z; exact pk_us
    · rw [pk_un z]; exact hl x (by omega)
theorem qy_closeAll {post : SY → Prop} (hn : n ≤ 32) (hm : m ≤ 64) (g : ∀ t, t < n → qa_tok sy lf rt t) (he : qe_ok n m el er)
    (K : ∀ iv la, (∀ e, e < 64 → iv e = 1) → qc_il n m sy lf rt el er (fun _ => True) la → post (g_maxTerms, g_maxPats, g_maxRules, g_maxEvents, nI n, g_nPats, g_nRules, nI m, g_nKept, nI n, sy, lf, rt, b_psym, b_pl, b_pr, b_rl, b_rr, el, er, b_eRule, b_kept, b_w, iv, la, b_sub, b_val, b_stand, b_cost, b_best, b_needed, b_pick, b_got)) : wpY_closeAll post (g_maxTerms, g_maxPats, g_maxRules, g_maxEvents, nI n, g_nPats, g_nRules, nI m, g_nKept, g_labN, sy, lf, rt, b_psym, b_pl, b_pr, b_rl, b_rr, el, er, b_eRule, b_kept, b_w, iv, la, b_sub, b_val, b_stand, b_cost, b_best, b_needed, b_pick, b_got) := by
  unfold wpY_closeAll
  refine loop_0 (fun k i l => wY_closeAll_2 post g_maxTerms g_maxPats g_maxRules g_maxEvents (nI n) g_nPats g_nRules (nI m) g_nKept g_labN k (nI i) sy lf rt b_psym b_pl b_pr b_rl b_rr el er b_eRule b_kept b_w l la b_sub b_val b_stand b_cost b_best b_needed b_pick b_got) (fun i l => ∀ x, x < i → l x = 1) 64 iv (fun x hx => absurd hx (Nat.not_lt_zero _)) ?_ ?_
  · intro k l hl
    rw [wY_closeAll_2]
    refine br_t (by decide) (qy_close hn hm g he fun la' h => K l la' hl (qc_il_P (fun e hem => ⟨fun _ => trivial, fun _ => ?_⟩) h))
    rw [hl e (by omega)]; decide
  · intro k i l hi hl Kn
    rw [wY_closeAll_2]
    refine br_f (nI_ge (b := 64) hi (by decide)) ⟨vp_in_nI hi (by omega), nm_r (e' := upd l i 1) (by rw [nI_clamp (by omega)]; rfl) (nm_r (nI_1 i) (Kn _ fun x hx => ?_))⟩
    by_cases z : x = i
    · subst z; exact pk_us
    · rw [pk_un z]; exact hl x (by omega)
end
end
section
def qp_sb (ps : Nat → Int32) (x : Int32) (q : Nat) : Bool := if x = -1 then false else bt (ps x.toNatClampNeg) q
def qp_tx (tp : Nat → Nat) (x : Int32) : Nat := if x = -1 then 0 else tp x.toNatClampNeg
theorem qp_sb1 (ps : Nat → Int32) (q : Nat) : qp_sb ps (-1) q = false := if_pos rfl
theorem qp_sbN (ps : Nat → Int32) {j : Nat} (h : j < 2 ^ 31) (q : Nat) : qp_sb ps (nI j) q = bt (ps j) q := by
  unfold qp_sb; rw [if_neg (qa_ne1 h), nI_clamp h]
theorem qp_tx1 (tp : Nat → Nat) : qp_tx tp (-1) = 0 := if_pos rfl
theorem qp_txN (tp : Nat → Nat) {j : Nat} (h : j < 2 ^ 31) : qp_tx tp (nI j) = tp j := by
  unfold qp_tx; rw [if_neg (qa_ne1 h), nI_clamp h]
def qp_ok (np : Nat) (psy pl pr ps : Nat → Int32) : Prop :=
  3 ≤ np ∧ np ≤ 32 ∧ (∀ p, p < 3 → psy p = -1 ∧ pl p = -1 ∧ pr p = -1) ∧ (∀ p, 3 ≤ p → p < np → qa_tok psy pl pr p) ∧
  (∀ p q, p < np → q < 32 → bt (ps p) q = (decide (q = p) || qp_sb ps (pl p) q || qp_sb ps (pr p) q))
def qp_tops (np : Nat) (pl pr : Nat → Int32) (tp : Nat → Nat) : Prop :=
  (∀ p, p < 3 → tp p = p + 1) ∧ (∀ p, 3 ≤ p → p < np → tp p = max (qp_tx tp (pl p)) (qp_tx tp (pr p)))
section
variable {np : Nat} {psy pl pr ps : Nat → Int32} {tp : Nat → Nat}
theorem qp_ch (h : qp_ok np psy pl pr ps) {p : Nat} (hp : p < np) : (pl p = -1 ∨ ∃ j, j < p ∧ pl p = nI j) ∧ (pr p = -1 ∨ ∃ j, j < p ∧ pr p = nI j) := by
  by_cases z : p < 3
  · have := h.2.2.1 p z
    exact ⟨Or.inl this.2.1, Or.inl this.2.2⟩
  · have := h.2.2.2.1 p (by omega) hp
    exact ⟨qa_sg_a this, qa_sg_b this⟩
theorem qp_self (h : qp_ok np psy pl pr ps) {p : Nat} (hp : p < np) : bt (ps p) p = true := by
  have := h.2.1
  rw [h.2.2.2.2 p p hp (by omega)]; simp
def qp_cd (pl pr : Nat → Int32) (p x : Nat) : Prop := x < 32 ∧ (pl p = nI x ∨ pr p = nI x)
theorem qp_cd_lt (h : qp_ok np psy pl pr ps) {p x : Nat} (hp : p < np) (c : qp_cd pl pr p x) : x < p ∧ 3 ≤ p := by
  obtain ⟨hx, c⟩ := c
  have := h.2.1
  have a : 3 ≤ p := by
    refine Classical.byContradiction fun z => ?_
    have := h.2.2.1 p (by omega)
    rw [this.2.1, this.2.2] at c
    exact c.elim (qa_1ne (by omega)) (qa_1ne (by omega))
  refine ⟨?_, a⟩
  have k := qp_ch h hp
  rcases c with c | c
  · rcases k.1 with z | ⟨j, hj, z⟩
    · exact (qa_1ne (by omega) (z.symm.trans c)).elim
    · have := qa_inj (by omega) (by omega) (z.symm.trans c); omega
  · rcases k.2 with z | ⟨j, hj, z⟩
    · exact (qa_1ne (by omega) (z.symm.trans c)).elim
    · have := qa_inj (by omega) (by omega) (z.symm.trans c); omega
theorem qp_rec (h : qp_ok np psy pl pr ps) {p q : Nat} (hp : p < np) : bt (ps p) q = true ↔ (q = p ∨ ∃ x, qp_cd pl pr p x ∧ bt (ps x) q = true) := by
  have h32 := h.2.1
  rcases Nat.lt_or_ge q 32 with hq | hq
  · rw [h.2.2.2.2 p q hp hq, Bool.or_eq_true, Bool.or_eq_true, decide_eq_true_eq]
    have k := qp_ch h hp
    constructor
    · rintro ((e | e) | e)
      · exact Or.inl e
      · right
        rcases k.1 with z | ⟨j, hj, z⟩
        · rw [z, qp_sb1] at e; exact absurd e (by decide)
        · rw [z, qp_sbN _ (by omega)] at e
          exact ⟨j, ⟨by omega, Or.inl z⟩, e⟩
      · right
        rcases k.2 with z | ⟨j, hj, z⟩
        · rw [z, qp_sb1] at e; exact absurd e (by decide)
        · rw [z, qp_sbN _ (by omega)] at e
          exact ⟨j, ⟨by omega, Or.inr z⟩, e⟩
    · rintro (e | ⟨x, ⟨hx, c⟩, e⟩)
      · exact Or.inl (Or.inl e)
      · rcases c with c | c
        · left; right; rw [c, qp_sbN _ (by omega)]; exact e
        · right; rw [c, qp_sbN _ (by omega)]; exact e
  · rw [b_big hq]
    constructor
    · intro e; exact absurd e (by decide)
    · rintro (e | ⟨x, c, e⟩)
      · omega
      · rw [b_big hq] at e; exact absurd e (by decide)
theorem qp_le (h : qp_ok np psy pl pr ps) : ∀ p, p < np → ∀ q, bt (ps p) q = true → q ≤ p := by
  intro p
  induction p using Nat.strongRecOn with
  | ind p ih =>
    intro hp q e
    rcases (qp_rec h hp).mp e with z | ⟨x, c, e⟩
    · omega
    · have := (qp_cd_lt h hp c).1
      have := ih x this (by omega) q e
      omega
theorem qp_dn (h : qp_ok np psy pl pr ps) : ∀ p, p < np → ∀ q x, bt (ps p) q = true → qp_cd pl pr q x → bt (ps p) x = true := by
  intro p
  induction p using Nat.strongRecOn with
  | ind p ih =>
    intro hp q x e c
    rcases (qp_rec h hp).mp e with z | ⟨y, cy, e⟩
    · subst z
      have := (qp_cd_lt h hp c).1
      exact (qp_rec h hp).mpr (Or.inr ⟨x, c, qp_self h (by omega)⟩)
    · have := (qp_cd_lt h hp cy).1
      exact (qp_rec h hp).mpr (Or.inr ⟨y, cy, ih y this (by omega) q x e c⟩)
theorem qp_up (h : qp_ok np psy pl pr ps) : ∀ p, p < np → ∀ x, bt (ps p) x = true → x = p ∨ ∃ y, bt (ps p) y = true ∧ qp_cd pl pr y x := by
  intro p
  induction p using Nat.strongRecOn with
  | ind p ih =>
    intro hp x e
    rcases (qp_rec h hp).mp e with z | ⟨y, cy, e⟩
    · exact Or.inl z
    · right
      have := (qp_cd_lt h hp cy).1
      rcases ih y this (by omega) x e with z | ⟨w, ew, cw⟩
      · subst z; exact ⟨p, qp_self h hp, cy⟩
      · exact ⟨w, (qp_rec h hp).mpr (Or.inr ⟨y, cy, ew⟩), cw⟩
theorem qp_tpc (h : qp_ok np psy pl pr ps) (ht : qp_tops np pl pr tp) {p x : Nat} (hp : p < np) (c : qp_cd pl pr p x) : tp x ≤ tp p := by
  have k := qp_cd_lt h hp c
  have := h.2.1
  rw [ht.2 p k.2 hp]
  obtain ⟨hx, c⟩ := c
  rcases c with c | c
  · rw [c, qp_txN _ (by omega)]; exact Nat.le_max_left _ _
  · rw [c, qp_txN _ (by omega)]; exact Nat.le_max_right _ _
theorem qp_tp3 (h : qp_ok np psy pl pr ps) (ht : qp_tops np pl pr tp) : ∀ p, p < np → tp p ≤ 3 := by
  intro p
  induction p using Nat.strongRecOn with
  | ind p ih =>
    intro hp
    have := h.2.1
    by_cases z : p < 3
    · rw [ht.1 p z]; omega
    · rw [ht.2 p (by omega) hp]
      have k := qp_ch h hp
      refine Nat.max_le.mpr ⟨?_, ?_⟩
      · rcases k.1 with e | ⟨j, hj, e⟩
        · rw [e, qp_tx1]; omega
        · rw [e, qp_txN _ (by omega)]; exact ih j hj (by omega)
      · rcases k.2 with e | ⟨j, hj, e⟩
        · rw [e, qp_tx1]; omega
        · rw [e, qp_txN _ (by omega)]; exact ih j hj (by omega)
theorem qp_tpv (h : qp_ok np psy pl pr ps) (ht : qp_tops np pl pr tp) : ∀ p, p < np → (∀ v, v < 3 → bt (ps p) v = true → v < tp p) ∧ (∀ v, tp p = v + 1 → bt (ps p) v = true) := by
  intro p
  induction p using Nat.strongRecOn with
  | ind p ih =>
    intro hp
    have h32 := h.2.1
    refine ⟨fun v hv e => ?_, fun v e => ?_⟩
    · rcases (qp_rec h hp).mp e with z | ⟨y, cy, e⟩
      · subst z; rw [ht.1 v hv]; omega
      · have k := (qp_cd_lt h hp cy).1
        have := (ih y k (by omega)).1 v hv e
        have := qp_tpc h ht hp cy
        omega
    · by_cases z : p < 3
      · rw [ht.1 p z] at e
        have : v = p := by omega
        subst this; exact qp_self h hp
      · have k := qp_ch h hp
        rw [ht.2 p (by omega) hp] at e
        rcases Nat.le_total (qp_tx tp (pl p)) (qp_tx tp (pr p)) with w | w
        · rw [Nat.max_eq_right w] at e
          rcases k.2 with q | ⟨j, hj, q⟩
          · rw [q, qp_tx1] at e; omega
          · rw [q, qp_txN _ (by omega)] at e
            exact (qp_rec h hp).mpr (Or.inr ⟨j, ⟨by omega, Or.inr q⟩, (ih j hj (by omega)).2 v e⟩)
        · rw [Nat.max_eq_left w] at e
          rcases k.1 with q | ⟨j, hj, q⟩
          · rw [q, qp_tx1] at e; omega
          · rw [q, qp_txN _ (by omega)] at e
            exact (qp_rec h hp).mpr (Or.inr ⟨j, ⟨by omega, Or.inl q⟩, (ih j hj (by omega)).2 v e⟩)
end
def qm_lk (sy lf rt ld : Nat → Int32) (s a b : Int32) : Nat → Int32
  | 0 => -1
  | t + 1 => if sy t = s ∧ qc_lb ld (lf t) = a ∧ qc_lb ld (rt t) = b then ld t else qm_lk sy lf rt ld s a b t
theorem qm_lk_none {sy lf rt ld : Nat → Int32} {s a b : Int32} : ∀ {c : Nat}, (∀ t, t < c → ¬ (sy t = s ∧ qc_lb ld (lf t) = a ∧ qc_lb ld (rt t) = b)) → qm_lk sy lf rt ld s a b c = -1
  | 0, _ => rfl
  | c + 1, h => by
    rw [qm_lk, if_neg (h c (by omega))]
    exact qm_lk_none fun t ht => h t (by omega)
theorem qm_lk_or {sy lf rt ld : Nat → Int32} {s a b : Int32} : ∀ {c : Nat}, qm_lk sy lf rt ld s a b c = -1 ∨ ∃ t, t < c ∧ (sy t = s ∧ qc_lb ld (lf t) = a ∧ qc_lb ld (rt t) = b) ∧ qm_lk sy lf rt ld s a b c = ld t
  | 0 => Or.inl rfl
  | c + 1 => by
    rw [qm_lk]
    by_cases z : sy c = s ∧ qc_lb ld (lf c) = a ∧ qc_lb ld (rt c) = b
    · rw [if_pos z]; exact Or.inr ⟨c, by omega, z, rfl⟩
    · rw [if_neg z]
      rcases qm_lk_or (sy := sy) (lf := lf) (rt := rt) (ld := ld) (s := s) (a := a) (b := b) (c := c) with e | ⟨t, ht, e1, e2⟩
      · exact Or.inl e
      · exact Or.inr ⟨t, by omega, e1, e2⟩
theorem qm_lk_some {sy lf rt ld : Nat → Int32} {s a b : Int32} {c t : Nat} (ht : t < c) (e : sy t = s ∧ qc_lb ld (lf t) = a ∧ qc_lb ld (rt t) = b)
    (cg : ∀ i j, i < c → j < c → sy i = sy j → qc_lb ld (lf i) = qc_lb ld (lf j) → qc_lb ld (rt i) = qc_lb ld (rt j) → ld i = ld j) : qm_lk sy lf rt ld s a b c = ld t := by
  have key : ∀ k, t < k → k ≤ c → qm_lk sy lf rt ld s a b k = ld t := by
    intro k
    induction k with
    | zero => intro h; omega
    | succ k ih =>
      intro h1 h2
      rw [qm_lk]
      by_cases z : sy k = s ∧ qc_lb ld (lf k) = a ∧ qc_lb ld (rt k) = b
      · rw [if_pos z]
        exact cg k t (by omega) ht (by rw [z.1, e.1]) (by rw [z.2.1, e.2.1]) (by rw [z.2.2, e.2.2])
      · rw [if_neg z]
        refine ih ?_ (by omega)
        refine Classical.byContradiction fun q => ?_
        have : t = k := by omega
        subst this
        exact z e
  exact key c ht (Nat.le_refl _)
def qm_vt (c : Nat) (sy lf rt ld psy pl pr A : Nat → Int32) : Nat → Nat → Int32
  | 0 => A
  | k + 1 => if k < 3 then qm_vt c sy lf rt ld psy pl pr A k else upd (qm_vt c sy lf rt ld psy pl pr A k) k (qm_lk sy lf rt ld (psy k) (qc_lb (qm_vt c sy lf rt ld psy pl pr A k) (pl k)) (qc_lb (qm_vt c sy lf rt ld psy pl pr A k) (pr k)) c)
def qm_v (c : Nat) (sy lf rt ld psy pl pr A : Nat → Int32) (q : Nat) : Int32 := qm_vt c sy lf rt ld psy pl pr A (q + 1) q
section
variable {c np : Nat} {sy lf rt ld psy pl pr ps A : Nat → Int32}
theorem qm_vt_st : ∀ d q, qm_vt c sy lf rt ld psy pl pr A (q + 1 + d) q = qm_v c sy lf rt ld psy pl pr A q := by
  intro d
  induction d with
  | zero => intro q; rfl
  | succ d ih =>
    intro q
    rw [← ih q]
    show qm_vt c sy lf rt ld psy pl pr A (q + 1 + d + 1) q = _
    rw [qm_vt]
    by_cases z : q + 1 + d < 3
    · rw [if_pos z]
    · rw [if_neg z, pk_un (by omega)]
theorem qm_vt_lt {q k : Nat} (h : q < k) : qm_vt c sy lf rt ld psy pl pr A k q = qm_v c sy lf rt ld psy pl pr A q := by
  have := qm_vt_st (c := c) (sy := sy) (lf := lf) (rt := rt) (ld := ld) (psy := psy) (pl := pl) (pr := pr) (A := A) (k - (q + 1)) q
  rwa [show q + 1 + (k - (q + 1)) = k by omega] at this
theorem qm_v3 {q : Nat} (h : q < 3) : qm_v c sy lf rt ld psy pl pr A q = A q := by
  unfold qm_v
  match q, h with
  | 0, _ => simp [qm_vt]
  | 1, _ => simp [qm_vt]
  | 2, _ => simp [qm_vt]
theorem qm_vq (h : qp_ok np psy pl pr ps) {q : Nat} (h3 : 3 ≤ q) (hq : q < np) :
    qm_v c sy lf rt ld psy pl pr A q = qm_lk sy lf rt ld (psy q) (qc_lb (qm_v c sy lf rt ld psy pl pr A) (pl q)) (qc_lb (qm_v c sy lf rt ld psy pl pr A) (pr q)) c := by
  have h32 := h.2.1
  have k := qp_ch h hq
  have e : ∀ {x : Int32}, (x = -1 ∨ ∃ j, j < q ∧ x = nI j) → qc_lb (qm_vt c sy lf rt ld psy pl pr A q) x = qc_lb (qm_v c sy lf rt ld psy pl pr A) x :=
    fun hx => qc_lb_ext (n := q) (fun j hj => qm_vt_lt hj) hx (by omega)
  rw [← e k.1, ← e k.2]
  show qm_vt c sy lf rt ld psy pl pr A (q + 1) q = _
  rw [qm_vt, if_neg (by omega), pk_us]
theorem qm_v_or (h : qp_ok np psy pl pr ps) (nm : qc_nm c ld) {q : Nat} (h3 : 3 ≤ q) (hq : q < np) :
    qm_v c sy lf rt ld psy pl pr A q = -1 ∨ ∃ j, j < c ∧ qm_v c sy lf rt ld psy pl pr A q = nI j ∧ ld j = nI j := by
  rw [qm_vq h h3 hq]
  rcases qm_lk_or (sy := sy) (lf := lf) (rt := rt) (ld := ld) (s := psy q) (a := qc_lb (qm_v c sy lf rt ld psy pl pr A) (pl q)) (b := qc_lb (qm_v c sy lf rt ld psy pl pr A) (pr q)) (c := c) with e | ⟨t, ht, _, e⟩
  · exact Or.inl e
  · obtain ⟨j, hj, e1, e2⟩ := nm t ht
    exact Or.inr ⟨j, by omega, by rw [e, e1], e2⟩
theorem qm_v_dn (h : qp_ok np psy pl pr ps) (hc : c ≤ 32) (g : ∀ t, t < c → qa_tok sy lf rt t) (nm : qc_nm c ld) {q x : Nat} (hq : q < np) (cd : qp_cd pl pr q x) (e : qm_v c sy lf rt ld psy pl pr A x = -1) :
    qm_v c sy lf rt ld psy pl pr A q = -1 := by
  have h3 := (qp_cd_lt h hq cd).2
  obtain ⟨hx, cd⟩ := cd
  rw [qm_vq h h3 hq]
  refine qm_lk_none fun t ht z => ?_
  have tk := h.2.2.2.1 q h3 hq
  have tt := g t ht
  obtain ⟨k, hk, ek, ck⟩ := tk
  obtain ⟨k', hk', ek', ck'⟩ := tt
  have kk : k = k' := qa_inj (by omega) (by omega) (by rw [← ek, ← ek', z.1])
  subst kk
  have nn : ∀ i, i < t → ¬ ld i = -1 := by
    intro i hi w
    obtain ⟨j, hj, e1, _⟩ := nm i (by omega)
    rw [e1] at w
    exact qa_ne1 (by omega) w
  have w1 := z.2.1
  have w2 := z.2.2
  rcases cd with cd | cd
  · rw [cd, qc_lbN _ (by omega), e] at w1
    rcases ck' with ⟨a1, a2, a3⟩ | ⟨a1, a2, ⟨i, hi, a3⟩, a4⟩ | ⟨a1, ⟨i, hi, a3⟩, a4⟩
    · rcases ck with ⟨b1, b2, b3⟩ | ⟨b1, b2, b3, b4⟩ | ⟨b1, b3, b4⟩
      · exact qa_1ne (by omega) (b2.symm.trans cd)
      · omega
      · omega
    · rw [a3, qc_lbN _ (by omega)] at w1; exact nn i hi w1
    · rw [a3, qc_lbN _ (by omega)] at w1; exact nn i hi w1
  · rw [cd, qc_lbN _ (by omega), e] at w2
    rcases ck' with ⟨a1, a2, a3⟩ | ⟨a1, a2, a3, a4⟩ | ⟨a1, a3, ⟨i, hi, a4⟩⟩
    · rcases ck with ⟨b1, b2, b3⟩ | ⟨b1, b2, b3, b4⟩ | ⟨b1, b3, b4⟩
      · exact qa_1ne (by omega) (b3.symm.trans cd)
      · omega
      · omega
    · rcases ck with ⟨b1, b2, b3⟩ | ⟨b1, b2, b3, b4⟩ | ⟨b1, b3, b4⟩
      · omega
      · exact qa_1ne (by omega) (b4.symm.trans cd)
      · omega
    · rw [a4, qc_lbN _ (by omega)] at w2; exact nn i hi w2
theorem qm_v_sub (h : qp_ok np psy pl pr ps) (hc : c ≤ 32) (g : ∀ t, t < c → qa_tok sy lf rt t) (nm : qc_nm c ld) : ∀ p, p < np → ∀ q, bt (ps p) q = true → qm_v c sy lf rt ld psy pl pr A q = -1 → qm_v c sy lf rt ld psy pl pr A p = -1 := by
  intro p
  induction p using Nat.strongRecOn with
  | ind p ih =>
    intro hp q e z
    rcases (qp_rec h hp).mp e with w | ⟨y, cy, e⟩
    · subst w; exact z
    · have := (qp_cd_lt h hp cy).1
      exact qm_v_dn h hc g nm hp cy (ih y this (by omega) q e z)
theorem qm_v_A (h : qp_ok np psy pl pr ps) {B : Nat → Int32} : ∀ q, q < np → (∀ v, v < 3 → bt (ps q) v = true → A v = B v) → qm_v c sy lf rt ld psy pl pr A q = qm_v c sy lf rt ld psy pl pr B q := by
  intro q
  induction q using Nat.strongRecOn with
  | ind q ih =>
    intro hq hv
    have h32 := h.2.1
    by_cases z : q < 3
    · rw [qm_v3 z, qm_v3 z]; exact hv q z (qp_self h hq)
    · rw [qm_vq h (by omega) hq, qm_vq h (by omega) hq]
      have k := qp_ch h hq
      have e : ∀ {x : Int32}, (x = pl q ∨ x = pr q) → qc_lb (qm_v c sy lf rt ld psy pl pr A) x = qc_lb (qm_v c sy lf rt ld psy pl pr B) x := by
        intro x hx
        have kx : x = -1 ∨ ∃ j, j < q ∧ x = nI j := by rcases hx with rfl | rfl; exact k.1; exact k.2
        rcases kx with rfl | ⟨j, hj, ej⟩
        · rw [qc_lb1, qc_lb1]
        · have cd : qp_cd pl pr q j := ⟨by omega, by rcases hx with e | e; exact Or.inl (e ▸ ej); exact Or.inr (e ▸ ej)⟩
          rw [ej, qc_lbN _ (by omega), qc_lbN _ (by omega)]
          exact ih j hj (by omega) (fun v hv' bv => hv v hv' ((qp_rec h hq).mpr (Or.inr ⟨j, cd, bv⟩)))
      rw [e (Or.inl rfl), e (Or.inr rfl)]
end
end
section
section
variable {f_termLimit f_patternLimit f_ruleLimit f_eventLimit f_termCount f_patternCount f_ruleCount f_eventCount f_closedEvents f_classCount f_dirty f_matchPattern f_matchDepth f_levelCount f_groundLeft f_costsFresh f_settledClasses f_reachedClasses f_orderCount f_explainedCount : Int32} {a_termIndex a_patSubs a_patTop a_byTop a_patternIndex a_ruleLeft a_ruleRight a_eventLeft a_eventRight a_eventRule a_symbolWeight a_members a_users a_symbolTerms a_levelVar a_levelRest a_standsFor a_order a_bestTerm a_gotTerm a_explainedEvent : Nat → Int32} {a_best a_treeCost : Nat → Int64}
variable {c np : Nat} {sy lf rt ld mem usr syt sgt psy pl pr ps pv A : Nat → Int32} {cc : Int32}
theorem qx_ev58 {post : Int32 → SX → Prop} {J2 : Int32 → (Nat → Int32) → (Nat → Int32) → (Nat → Int32) → (Nat → Int32) → (Nat → Int32) → (Nat → Int32) → (Nat → Int32) → (Nat → Int32) → (Nat → Int32) → (Nat → Int32) → (Nat → Int32) → (Nat → Int32) → (Nat → Int32) → (Nat → Int32) → (Nat → Int32) → (Nat → Int32) → (Nat → Int32) → (Nat → Int32) → (Nat → Int32) → (Nat → Int32) → (Nat → Int32) → (Nat → Int32) → (Nat → Int32) → (Nat → Int32) → (Nat → Int32) → (Nat → Int32) → (Nat → Int32) → (Nat → Int64) → (Nat → Int32) → (Nat → Int32) → (Nat → Int64) → (Nat → Int32) → Prop} {x2 l r : Int32} {q : Nat} (hC : qx_cs c sy lf rt ld mem usr syt sgt cc) (hd : qx_dt c sy lf rt ld sgt 0 99) (hq : q < 32) (sg : qa_sg c (psy q) l r)
    (K0 : (∀ t, t < c → ¬ (sy t = psy q ∧ qc_lb ld (lf t) = l ∧ qc_lb ld (rt t) = r)) → post 0 (f_termLimit, f_patternLimit, f_ruleLimit, f_eventLimit, f_termCount, f_patternCount, f_ruleCount, f_eventCount, nI c, f_closedEvents, f_classCount, f_dirty, f_matchPattern, f_matchDepth, f_levelCount, f_groundLeft, f_costsFresh, f_settledClasses, f_reachedClasses, f_orderCount, f_explainedCount, sy, lf, rt, a_termIndex, psy, pl, pr, a_patSubs, a_patTop, a_byTop, a_patternIndex, a_ruleLeft, a_ruleRight, a_eventLeft, a_eventRight, a_eventRule, a_symbolWeight, ld, a_members, a_users, a_symbolTerms, sgt, a_levelVar, a_levelRest, pv, a_standsFor, a_order, a_best, a_bestTerm, a_gotTerm, a_treeCost, a_explainedEvent))
    (K1 : ∀ t, t < c → (sy t = psy q ∧ qc_lb ld (lf t) = l ∧ qc_lb ld (rt t) = r) → J2 (x2 &&& (x2 - 1)) sy lf rt a_termIndex psy pl pr a_patSubs a_patTop a_byTop a_patternIndex a_ruleLeft a_ruleRight a_eventLeft a_eventRight a_eventRule a_symbolWeight ld a_members a_users a_symbolTerms sgt a_levelVar a_levelRest (upd pv q (ld t)) a_standsFor a_order a_best a_bestTerm a_gotTerm a_treeCost a_explainedEvent) :
    wX_evaluate_58 post J2 x2 (nI q) l r f_termLimit f_patternLimit f_ruleLimit f_eventLimit f_termCount f_patternCount f_ruleCount f_eventCount (nI c) f_closedEvents f_classCount f_dirty f_matchPattern f_matchDepth f_levelCount f_groundLeft f_costsFresh f_settledClasses f_reachedClasses f_orderCount f_explainedCount sy lf rt a_termIndex psy pl pr a_patSubs a_patTop a_byTop a_patternIndex a_ruleLeft a_ruleRight a_eventLeft a_eventRight a_eventRule a_symbolWeight ld a_members a_users a_symbolTerms sgt a_levelVar a_levelRest pv a_standsFor a_order a_best a_bestTerm a_gotTerm a_treeCost a_explainedEvent := by
  have hc := hC.1
  have nm := hC.2.2.1
  have iq : vp_in (nI q) 32 := vp_in_nI hq (by omega)
  have cq : (nI q).toNatClampNeg = q := nI_clamp (by omega)
  obtain ⟨k, hk, ek⟩ := qa_ky_in (qa_sg_mono hc sg)
  unfold wX_evaluate_58
  refine ⟨iq, ?_⟩
  rw [cq]
  refine qx_key ?_
  rw [ek]
  refine qx_enr hk hc (hC.2.2.2.2.2.2.2 k hk) hC.2.1 ?_ ?_
  · intro t ht es e
    have i := qa_ky_inj (qa_sg_mono hc (qa_tok_lb hc ht (hC.2.1 t ht) nm)) (qa_sg_mono hc sg) (by rw [e, ek])
    exact br_f (qa_ne1 (by omega)) ⟨vp_in_nI (by omega) (by omega), iq, nm_r (e' := upd pv q (ld t)) (by rw [nI_clamp (by omega)]) (nm_e (K1 t ht i))⟩
  · intro none
    refine br_t rfl (K0 fun t ht e => ?_)
    rcases hd.2 t ht (by omega) with z | ⟨t', ht', a1, a2, a3, a4, a5⟩
    · rw [b_0] at z; exact absurd z (by decide)
    · have e1 : qa_ky (sy t) (qc_lb ld (lf t)) (qc_lb ld (rt t)) = nI k := by rw [e.1, e.2.1, e.2.2, ek]
      rw [e1, nI_clamp (by omega)] at a1
      exact none t' ht' a1 (by rw [a2, a3, a4, e1])
theorem qx_ev43 {post : Int32 → SX → Prop} {J2 : Int32 → (Nat → Int32) → (Nat → Int32) → (Nat → Int32) → (Nat → Int32) → (Nat → Int32) → (Nat → Int32) → (Nat → Int32) → (Nat → Int32) → (Nat → Int32) → (Nat → Int32) → (Nat → Int32) → (Nat → Int32) → (Nat → Int32) → (Nat → Int32) → (Nat → Int32) → (Nat → Int32) → (Nat → Int32) → (Nat → Int32) → (Nat → Int32) → (Nat → Int32) → (Nat → Int32) → (Nat → Int32) → (Nat → Int32) → (Nat → Int32) → (Nat → Int32) → (Nat → Int32) → (Nat → Int32) → (Nat → Int64) → (Nat → Int32) → (Nat → Int32) → (Nat → Int64) → (Nat → Int32) → Prop} {x2 l : Int32} {q : Nat} (hC : qx_cs c sy lf rt ld mem usr syt sgt cc) (hd : qx_dt c sy lf rt ld sgt 0 99) (hq : q < 32) (hr : pr q = -1 ∨ ∃ j, j < 32 ∧ pr q = nI j) (sg : qa_sg c (psy q) l (qc_lb pv (pr q)))
    (K0 : (∀ t, t < c → ¬ (sy t = psy q ∧ qc_lb ld (lf t) = l ∧ qc_lb ld (rt t) = qc_lb pv (pr q))) → post 0 (f_termLimit, f_patternLimit, f_ruleLimit, f_eventLimit, f_termCount, f_patternCount, f_ruleCount, f_eventCount, nI c, f_closedEvents, f_classCount, f_dirty, f_matchPattern, f_matchDepth, f_levelCount, f_groundLeft, f_costsFresh, f_settledClasses, f_reachedClasses, f_orderCount, f_explainedCount, sy, lf, rt, a_termIndex, psy, pl, pr, a_patSubs, a_patTop, a_byTop, a_patternIndex, a_ruleLeft, a_ruleRight, a_eventLeft, a_eventRight, a_eventRule, a_symbolWeight, ld, a_members, a_users, a_symbolTerms, sgt, a_levelVar, a_levelRest, pv, a_standsFor, a_order, a_best, a_bestTerm, a_gotTerm, a_treeCost, a_explainedEvent))
    (K1 : ∀ t, t < c → (sy t = psy q ∧ qc_lb ld (lf t) = l ∧ qc_lb ld (rt t) = qc_lb pv (pr q)) → J2 (x2 &&& (x2 - 1)) sy lf rt a_termIndex psy pl pr a_patSubs a_patTop a_byTop a_patternIndex a_ruleLeft a_ruleRight a_eventLeft a_eventRight a_eventRule a_symbolWeight ld a_members a_users a_symbolTerms sgt a_levelVar a_levelRest (upd pv q (ld t)) a_standsFor a_order a_best a_bestTerm a_gotTerm a_treeCost a_explainedEvent) :
    wX_evaluate_43 post J2 x2 (nI q) l (pr q) f_termLimit f_patternLimit f_ruleLimit f_eventLimit f_termCount f_patternCount f_ruleCount f_eventCount (nI c) f_closedEvents f_classCount f_dirty f_matchPattern f_matchDepth f_levelCount f_groundLeft f_costsFresh f_settledClasses f_reachedClasses f_orderCount f_explainedCount sy lf rt a_termIndex psy pl pr a_patSubs a_patTop a_byTop a_patternIndex a_ruleLeft a_ruleRight a_eventLeft a_eventRight a_eventRule a_symbolWeight ld a_members a_users a_symbolTerms sgt a_levelVar a_levelRest pv a_standsFor a_order a_best a_bestTerm a_gotTerm a_treeCost a_explainedEvent := by
  unfold wX_evaluate_43
  rcases hr with e | ⟨j, hj, e⟩
  · rw [e, qc_lb1] at sg K0 K1
    rw [e]
    exact br_t rfl (qx_ev58 hC hd hq sg K0 K1)
  · rw [e, qc_lbN _ (by omega)] at sg K0 K1
    rw [e]
    exact br_f (qa_ne1 (by omega)) ⟨vp_in_nI hj (by omega), nm_r (e' := pv j) (by rw [nI_clamp (by omega)]) (qx_ev58 hC hd hq sg K0 K1)⟩
theorem qx_eval {post : Int32 → SX → Prop} {S : Int32} (hC : qx_cs c sy lf rt ld mem usr syt sgt cc) (hd : qx_dt c sy lf rt ld sgt 0 99) (hp : qp_ok np psy pl pr ps)
    (hS : ∀ q, bt S q = true → 3 ≤ q ∧ q < np)
    (hch : ∀ q x, bt S q = true → qp_cd pl pr q x → bt S x = true ∨ (pv x = qm_v c sy lf rt ld psy pl pr A x ∧ ∃ j, j < c ∧ pv x = nI j))
    (K1 : ∀ pv', (∀ q, bt S q = true → pv' q = qm_v c sy lf rt ld psy pl pr A q ∧ ∃ j, j < c ∧ pv' q = nI j) → (∀ q, bt S q = false → pv' q = pv q) → post 1 (f_termLimit, f_patternLimit, f_ruleLimit, f_eventLimit, f_termCount, f_patternCount, f_ruleCount, f_eventCount, nI c, f_closedEvents, f_classCount, f_dirty, f_matchPattern, f_matchDepth, f_levelCount, f_groundLeft, f_costsFresh, f_settledClasses, f_reachedClasses, f_orderCount, f_explainedCount, sy, lf, rt, a_termIndex, psy, pl, pr, a_patSubs, a_patTop, a_byTop, a_patternIndex, a_ruleLeft, a_ruleRight, a_eventLeft, a_eventRight, a_eventRule, a_symbolWeight, ld, a_members, a_users, a_symbolTerms, sgt, a_levelVar, a_levelRest, pv', a_standsFor, a_order, a_best, a_bestTerm, a_gotTerm, a_treeCost, a_explainedEvent))
    (K0 : ∀ pv' q, (∀ q, bt S q = false → pv' q = pv q) → bt S q = true → qm_v c sy lf rt ld psy pl pr A q = -1 → post 0 (f_termLimit, f_patternLimit, f_ruleLimit, f_eventLimit, f_termCount, f_patternCount, f_ruleCount, f_eventCount, nI c, f_closedEvents, f_classCount, f_dirty, f_matchPattern, f_matchDepth, f_levelCount, f_groundLeft, f_costsFresh, f_settledClasses, f_reachedClasses, f_orderCount, f_explainedCount, sy, lf, rt, a_termIndex, psy, pl, pr, a_patSubs, a_patTop, a_byTop, a_patternIndex, a_ruleLeft, a_ruleRight, a_eventLeft, a_eventRight, a_eventRule, a_symbolWeight, ld, a_members, a_users, a_symbolTerms, sgt, a_levelVar, a_levelRest, pv', a_standsFor, a_order, a_best, a_bestTerm, a_gotTerm, a_treeCost, a_explainedEvent)) :
    wpX_evaluate post (f_termLimit, f_patternLimit, f_ruleLimit, f_eventLimit, f_termCount, f_patternCount, f_ruleCount, f_eventCount, nI c, f_closedEvents, f_classCount, f_dirty, f_matchPattern, f_matchDepth, f_levelCount, f_groundLeft, f_costsFresh, f_settledClasses, f_reachedClasses, f_orderCount, f_explainedCount, sy, lf, rt, a_termIndex, psy, pl, pr, a_patSubs, a_patTop, a_byTop, a_patternIndex, a_ruleLeft, a_ruleRight, a_eventLeft, a_eventRight, a_eventRule, a_symbolWeight, ld, a_members, a_users, a_symbolTerms, sgt, a_levelVar, a_levelRest, pv, a_standsFor, a_order, a_best, a_bestTerm, a_gotTerm, a_treeCost, a_explainedEvent) S := by
  have hc := hC.1
  have nm := hC.2.2.1
  have cg := qx_cong hC hd (by omega)
  unfold wpX_evaluate
  refine ⟨33, qb_loop (fun k r v => wX_evaluate_2 post f_termLimit f_patternLimit f_ruleLimit f_eventLimit f_termCount f_patternCount f_ruleCount f_eventCount (nI c) f_closedEvents f_classCount f_dirty f_matchPattern f_matchDepth f_levelCount f_groundLeft f_costsFresh f_settledClasses f_reachedClasses f_orderCount f_explainedCount k r sy lf rt a_termIndex psy pl pr a_patSubs a_patTop a_byTop a_patternIndex a_ruleLeft a_ruleRight a_eventLeft a_eventRight a_eventRule a_symbolWeight ld a_members a_users a_symbolTerms sgt a_levelVar a_levelRest v a_standsFor a_order a_best a_bestTerm a_gotTerm a_treeCost a_explainedEvent) S (fun i v => (∀ q, q < i → bt S q = true → v q = qm_v c sy lf rt ld psy pl pr A q ∧ ∃ j, j < c ∧ v q = nI j) ∧ (∀ q, (bt S q = false ∨ i ≤ q) → v q = pv q)) ?_ ?_ ?_ pv ⟨fun q hq => absurd hq (Nat.not_lt_zero _), fun q _ => rfl⟩⟩
  · intro k v hv
    rw [wX_evaluate_2]
    refine br_t rfl (K1 v (fun q bq => hv.1 q ?_ bq) (fun q bq => hv.2 q (Or.inl bq)))
    have := hS q bq
    have := hp.2.1
    omega
  · intro i v hi bi hv
    refine ⟨fun q hq bq => ?_, fun q hq => hv.2 q (hq.elim Or.inl (fun h => Or.inr (by omega)))⟩
    by_cases z : q = i
    · subst z; rw [bi] at bq; exact absurd bq (by decide)
    · exact hv.1 q (by omega) bq
  · intro k i r v hr lo bi hv Kn
    have h3 := hS i bi
    have i32 := lo.1
    have ii : vp_in (nI i) 32 := vp_in_nI i32 (by omega)
    have ci : (nI i).toNatClampNeg = i := nI_clamp (by omega)
    have ch := qp_ch hp h3.2
    have val : ∀ x, qp_cd pl pr i x → v x = qm_v c sy lf rt ld psy pl pr A x ∧ ∃ j, j < c ∧ v x = nI j := by
      intro x cx
      have lt := (qp_cd_lt hp h3.2 cx).1
      cases bx : bt S x
      · rw [hv.2 x (Or.inl bx)]
        rcases hch i x bi cx with z | z
        · rw [bx] at z; exact absurd z (by decide)
        · exact z
      · exact hv.1 x lt bx
    have lbe : qc_lb v (pl i) = qc_lb (qm_v c sy lf rt ld psy pl pr A) (pl i) ∧ qc_lb v (pr i) = qc_lb (qm_v c sy lf rt ld psy pl pr A) (pr i) := by
      constructor
      · rcases ch.1 with e | ⟨j, hj, e⟩
        · rw [e, qc_lb1, qc_lb1]
        · rw [e, qc_lbN _ (by omega), qc_lbN _ (by omega)]; exact (val j ⟨by omega, Or.inl e⟩).1
      · rcases ch.2 with e | ⟨j, hj, e⟩
        · rw [e, qc_lb1, qc_lb1]
        · rw [e, qc_lbN _ (by omega), qc_lbN _ (by omega)]; exact (val j ⟨by omega, Or.inr e⟩).1
    have sg : qa_sg c (psy i) (qc_lb v (pl i)) (qc_lb v (pr i)) := by
      obtain ⟨kk, hk, ek, ck⟩ := hp.2.2.2.1 i h3.1 h3.2
      refine ⟨kk, hk, ek, ?_⟩
      rcases ck with ⟨a1, a2, a3⟩ | ⟨a1, a2, ⟨x, hx, a3⟩, a4⟩ | ⟨a1, ⟨x, hx, a3⟩, ⟨y, hy, a4⟩⟩
      · rw [a2, a3, qc_lb1]; exact Or.inl ⟨a1, rfl, rfl⟩
      · rw [a3, a4, qc_lb1, qc_lbN _ (by omega)]; exact Or.inr (Or.inl ⟨a1, a2, (val x ⟨by omega, Or.inl a3⟩).2, rfl⟩)
      · rw [a3, a4, qc_lbN _ (by omega), qc_lbN _ (by omega)]; exact Or.inr (Or.inr ⟨a1, (val x ⟨by omega, Or.inl a3⟩).2, (val y ⟨by omega, Or.inr a4⟩).2⟩)
    have k0 : (∀ t, t < c → ¬ (sy t = psy i ∧ qc_lb ld (lf t) = qc_lb v (pl i) ∧ qc_lb ld (rt t) = qc_lb v (pr i))) → post 0 (f_termLimit, f_patternLimit, f_ruleLimit, f_eventLimit, f_termCount, f_patternCount, f_ruleCount, f_eventCount, nI c, f_closedEvents, f_classCount, f_dirty, f_matchPattern, f_matchDepth, f_levelCount, f_groundLeft, f_costsFresh, f_settledClasses, f_reachedClasses, f_orderCount, f_explainedCount, sy, lf, rt, a_termIndex, psy, pl, pr, a_patSubs, a_patTop, a_byTop, a_patternIndex, a_ruleLeft, a_ruleRight, a_eventLeft, a_eventRight, a_eventRule, a_symbolWeight, ld, a_members, a_users, a_symbolTerms, sgt, a_levelVar, a_levelRest, v, a_standsFor, a_order, a_best, a_bestTerm, a_gotTerm, a_treeCost, a_explainedEvent) := by
      intro none
      have e : qm_v c sy lf rt ld psy pl pr A i = -1 := by
        rw [qm_vq hp h3.1 h3.2, ← lbe.1, ← lbe.2]
        exact qm_lk_none none
      exact K0 v i (fun q bq => hv.2 q (Or.inl bq)) bi e
    have k1 : ∀ t, t < c → (sy t = psy i ∧ qc_lb ld (lf t) = qc_lb v (pl i) ∧ qc_lb ld (rt t) = qc_lb v (pr i)) → wX_evaluate_2 post f_termLimit f_patternLimit f_ruleLimit f_eventLimit f_termCount f_patternCount f_ruleCount f_eventCount (nI c) f_closedEvents f_classCount f_dirty f_matchPattern f_matchDepth f_levelCount f_groundLeft f_costsFresh f_settledClasses f_reachedClasses f_orderCount f_explainedCount k (r &&& (r - 1)) sy lf rt a_termIndex psy pl pr a_patSubs a_patTop a_byTop a_patternIndex a_ruleLeft a_ruleRight a_eventLeft a_eventRight a_eventRule a_symbolWeight ld a_members a_users a_symbolTerms sgt a_levelVar a_levelRest (upd v i (ld t)) a_standsFor a_order a_best a_bestTerm a_gotTerm a_treeCost a_explainedEvent := by
      intro t ht e
      have ev : qm_v c sy lf rt ld psy pl pr A i = ld t := by
        rw [qm_vq hp h3.1 h3.2, ← lbe.1, ← lbe.2]
        exact qm_lk_some ht e cg
      refine Kn _ ⟨fun q hq bq => ?_, fun q hq => ?_⟩
      · by_cases z : q = i
        · subst z
          rw [pk_us]
          obtain ⟨j, hj, e1, _⟩ := nm t ht
          exact ⟨ev.symm, j, by omega, e1⟩
        · rw [pk_un z]; exact hv.1 q (by omega) bq
      · have : q ≠ i := by
          rintro rfl
          rcases hq with h | h
          · rw [bi] at h; exact absurd h (by decide)
          · omega
        rw [pk_un this]
        exact hv.2 q (hq.elim Or.inl (fun h => Or.inr (by omega)))
    rw [wX_evaluate_2]
    have w32 : ∀ {x : Int32}, (x = -1 ∨ ∃ j, j < i ∧ x = nI j) → (x = -1 ∨ ∃ j, j < 32 ∧ x = nI j) := fun hx => hx.elim Or.inl (fun ⟨j, hj, e⟩ => Or.inr ⟨j, by omega, e⟩)
    refine br_f hr (qx_low lo ⟨ii, nm_r (e' := pl i) (by rw [ci]) ⟨ii, nm_r (e' := pr i) (by rw [ci]) ?_⟩⟩)
    rcases ch.1 with e | ⟨j, hj, e⟩
    · rw [e, qc_lb1] at sg k0 k1
      rw [e]
      exact br_t rfl (qx_ev43 hC hd i32 (w32 ch.2) sg k0 k1)
    · rw [e, qc_lbN _ (by omega)] at sg k0 k1
      rw [e]
      exact br_f (qa_ne1 (by omega)) ⟨vp_in_nI (by omega) (by omega), nm_r (e' := v j) (by rw [nI_clamp (by omega)]) (qx_ev43 hC hd i32 (w32 ch.2) sg k0 k1)⟩
end
theorem qy_b1 : vp_nar .boolean 1 = 1 := rfl
theorem qy_b0 : vp_nar .boolean 0 = 0 := rfl
section
variable {g_maxTerms g_maxPats g_maxRules g_maxEvents g_nTerms g_nPats g_nRules g_nEvents g_nKept g_labN : Int32} {b_sym b_lef b_rig b_psym b_rl b_rr b_el b_er b_eRule b_kept b_w b_in b_lab b_val b_stand b_needed b_pick b_got : Nat → Int32} {b_cost b_best : Nat → Int64}
variable {np p : Nat} {psy pl pr ps sb : Nat → Int32}
def qy_mk (pl pr ps : Nat → Int32) (p q : Nat) (sb : Nat → Int32) : Prop :=
  ∀ x, x < 32 → (sb x = 0 ∧ ¬ (x = p ∨ ∃ y, q < y ∧ bt (ps p) y = true ∧ qp_cd pl pr y x)) ∨ (sb x = 1 ∧ (x = p ∨ ∃ y, q < y ∧ bt (ps p) y = true ∧ qp_cd pl pr y x))
theorem qy_mk_q (h : qp_ok np psy pl pr ps) (hp : p < np) {q : Nat} {sb : Nat → Int32} (hq : q < 32) (m : qy_mk pl pr ps p q sb) : (sb q = 0 ∧ ¬ bt (ps p) q = true) ∨ (sb q = 1 ∧ bt (ps p) q = true) := by
  have e : bt (ps p) q = true ↔ (q = p ∨ ∃ y, q < y ∧ bt (ps p) y = true ∧ qp_cd pl pr y q) := by
    constructor
    · intro b
      rcases qp_up h p hp q b with z | ⟨y, by', cy⟩
      · exact Or.inl z
      · have := qp_le h p hp y by'
        exact Or.inr ⟨y, (qp_cd_lt h (by omega) cy).1, by', cy⟩
    · rintro (z | ⟨y, _, by', cy⟩)
      · subst z; exact qp_self h hp
      · exact qp_dn h p hp y q by' cy
  rcases m q hq with ⟨a, b⟩ | ⟨a, b⟩
  · exact Or.inl ⟨a, fun z => b (e.mp z)⟩
  · exact Or.inr ⟨a, e.mpr b⟩
theorem qy_mk_step {q : Nat} {sb sb' : Nat → Int32} (m : qy_mk pl pr ps p (q + 1) sb) (hb : ∀ x, x < 32 → (sb' x = sb x ∨ sb' x = 1)) (h1 : ∀ x, x < 32 → sb' x = 1 → sb x = 1 ∨ (bt (ps p) (q + 1) = true ∧ qp_cd pl pr (q + 1) x))
    (h2 : ∀ x, bt (ps p) (q + 1) = true → qp_cd pl pr (q + 1) x → sb' x = 1) : qy_mk pl pr ps p q sb' := by
  intro x hx
  have key : (x = p ∨ ∃ y, q < y ∧ bt (ps p) y = true ∧ qp_cd pl pr y x) ↔ ((x = p ∨ ∃ y, q + 1 < y ∧ bt (ps p) y = true ∧ qp_cd pl pr y x) ∨ (bt (ps p) (q + 1) = true ∧ qp_cd pl pr (q + 1) x)) := by
    constructor
    · rintro (z | ⟨y, hy, a, b⟩)
      · exact Or.inl (Or.inl z)
      · by_cases e : y = q + 1
        · subst e; exact Or.inr ⟨a, b⟩
        · exact Or.inl (Or.inr ⟨y, by omega, a, b⟩)
    · rintro ((z | ⟨y, hy, a, b⟩) | ⟨a, b⟩)
      · exact Or.inl z
      · exact Or.inr ⟨y, by omega, a, b⟩
      · exact Or.inr ⟨q + 1, by omega, a, b⟩
  rw [key]
  rcases m x hx with ⟨a, b⟩ | ⟨a, b⟩
  · by_cases z : bt (ps p) (q + 1) = true ∧ qp_cd pl pr (q + 1) x
    · exact Or.inr ⟨h2 x z.1 z.2, Or.inr z⟩
    · left
      refine ⟨?_, fun w => w.elim b z⟩
      rcases hb x hx with e | e
      · rw [e, a]
      · rcases h1 x hx e with w | w
        · rw [a] at w; exact absurd w (by decide)
        · exact (z w).elim
  · right
    refine ⟨?_, Or.inl b⟩
    rcases hb x hx with e | e
    · rw [e, a]
    · exact e
theorem qy_mark32 {post : SY → Prop} (h : qp_ok np psy pl pr ps) (hp : p < np)
    (K : ∀ sb, (∀ x, x < 32 → sb x = if bt (ps p) x = true then 1 else 0) → post (g_maxTerms, g_maxPats, g_maxRules, g_maxEvents, g_nTerms, g_nPats, g_nRules, g_nEvents, g_nKept, g_labN, b_sym, b_lef, b_rig, b_psym, pl, pr, b_rl, b_rr, b_el, b_er, b_eRule, b_kept, b_w, b_in, b_lab, sb, b_val, b_stand, b_cost, b_best, b_needed, b_pick, b_got)) :
    ∀ d k sb, d ≤ p → d < k → qy_mk pl pr ps p d sb → wY_mark_32 post g_maxTerms g_maxPats g_maxRules g_maxEvents g_nTerms g_nPats g_nRules g_nEvents g_nKept g_labN k (nI d) b_sym b_lef b_rig b_psym pl pr b_rl b_rr b_el b_er b_eRule b_kept b_w b_in b_lab sb b_val b_stand b_cost b_best b_needed b_pick b_got := by
  have h32 := h.2.1
  intro d
  induction d with
  | zero =>
    intro k sb hd hk m
    cases k with
    | zero => omega
    | succ k =>
      rw [wY_mark_32]
      refine br_t (by decide) (K sb fun x hx => ?_)
      have e : bt (ps p) x = true ↔ (x = p ∨ ∃ y, 0 < y ∧ bt (ps p) y = true ∧ qp_cd pl pr y x) := by
        constructor
        · intro b
          rcases qp_up h p hp x b with z | ⟨y, by', cy⟩
          · exact Or.inl z
          · have := qp_le h p hp y by'
            have := (qp_cd_lt h (by omega) cy).2
            exact Or.inr ⟨y, by omega, by', cy⟩
        · rintro (z | ⟨y, _, by', cy⟩)
          · subst z; exact qp_self h hp
          · exact qp_dn h p hp y x by' cy
      rcases m x hx with ⟨a, b⟩ | ⟨a, b⟩
      · rw [if_neg (fun z => b (e.mp z)), a]
      · rw [if_pos (e.mpr b), a]
  | succ d ih =>
    intro k sb hd hk m
    cases k with
    | zero => omega
    | succ k =>
      rw [wY_mark_32]
      by_cases z3 : d + 1 < 3
      · refine br_t (nI_lt (b := 3) z3 (by decide)) (K sb fun x hx => ?_)
        have e : bt (ps p) x = true ↔ (x = p ∨ ∃ y, d + 1 < y ∧ bt (ps p) y = true ∧ qp_cd pl pr y x) := by
          constructor
          · intro b
            rcases qp_up h p hp x b with z | ⟨y, by', cy⟩
            · exact Or.inl z
            · have := qp_le h p hp y by'
              have := (qp_cd_lt h (by omega) cy).2
              exact Or.inr ⟨y, by omega, by', cy⟩
          · rintro (z | ⟨y, _, by', cy⟩)
            · subst z; exact qp_self h hp
            · exact qp_dn h p hp y x by' cy
        rcases m x hx with ⟨a, b⟩ | ⟨a, b⟩
        · rw [if_neg (fun z => b (e.mp z)), a]
        · rw [if_pos (e.mpr b), a]
      · have iq : vp_in (nI (d + 1)) 32 := vp_in_nI (by omega) (by omega)
        have cq : (nI (d + 1)).toNatClampNeg = d + 1 := nI_clamp (by omega)
        have ch := qp_ch h (show d + 1 < np by omega)
        refine br_f (nI_nlt (b := 3) (by omega) (by omega)) ⟨iq, ?_⟩
        rw [cq]
        have J : ∀ sb', qy_mk pl pr ps p d sb' → wY_mark_32 post g_maxTerms g_maxPats g_maxRules g_maxEvents g_nTerms g_nPats g_nRules g_nEvents g_nKept g_labN k (nI d) b_sym b_lef b_rig b_psym pl pr b_rl b_rr b_el b_er b_eRule b_kept b_w b_in b_lab sb' b_val b_stand b_cost b_best b_needed b_pick b_got := fun sb' m' => ih k sb' (by omega) (by omega) m'
        rcases qy_mk_q h hp (by omega) m with ⟨s0, nb⟩ | ⟨s1, yb⟩
        · refine br_t s0 ?_
          unfold wY_mark_67
          refine ⟨iq, ?_⟩
          rw [cq]
          refine br_t s0 (nm_r (pk_m1 d) (J sb (qy_mk_step m (fun _ _ => Or.inl rfl) (fun _ _ => Or.inl) (fun _ z => (nb z).elim))))
        · have s0 : ¬ sb (d + 1) = 0 := by rw [s1]; decide
          have tail : ∀ sb1, sb1 (d + 1) = 1 → (∀ x, x < 32 → (sb1 x = sb x ∨ sb1 x = 1)) → (∀ x, x < 32 → sb1 x = 1 → sb x = 1 ∨ (bt (ps p) (d + 1) = true ∧ qp_cd pl pr (d + 1) x)) → (∀ x, x < 32 → pl (d + 1) = nI x → sb1 x = 1) →
              wY_mark_67 post (wY_mark_32 post g_maxTerms g_maxPats g_maxRules g_maxEvents g_nTerms g_nPats g_nRules g_nEvents g_nKept g_labN k) (nI (d + 1)) g_maxTerms g_maxPats g_maxRules g_maxEvents g_nTerms g_nPats g_nRules g_nEvents g_nKept g_labN b_sym b_lef b_rig b_psym pl pr b_rl b_rr b_el b_er b_eRule b_kept b_w b_in b_lab sb1 b_val b_stand b_cost b_best b_needed b_pick b_got := by
            intro sb1 t1 t2 t3 t4
            unfold wY_mark_67
            refine ⟨iq, ?_⟩
            rw [cq]
            refine br_f (by rw [t1]; decide) ⟨iq, ?_⟩
            rcases ch.2 with e | ⟨j, hj, e⟩
            · rw [e]
              refine br_t qa_1lt (nm_r (pk_m1 d) (J sb1 (qy_mk_step m t2 t3 fun x _ cx => ?_)))
              rcases cx with ⟨hx, cx | cx⟩
              · exact t4 x hx cx
              · rw [e] at cx; exact (qa_1ne (by omega) cx).elim
            · rw [e]
              refine br_f (nI_pos (by omega)) ⟨iq, vp_in_nI (by omega) (by omega), nm_r (e' := upd sb1 j 1) (by rw [nI_clamp (by omega), qy_b1]) (nm_r (pk_m1 d) (J _ (qy_mk_step m (fun x hx => ?_) (fun x hx e1 => ?_) (fun x _ cx => ?_))))⟩
              · by_cases z : x = j
                · subst z; exact Or.inr pk_us
                · rw [pk_un z]; exact t2 x hx
              · by_cases z : x = j
                · subst z; exact Or.inr ⟨yb, by omega, Or.inr e⟩
                · rw [pk_un z] at e1; exact t3 x hx e1
              · by_cases z : x = j
                · subst z; exact pk_us
                · rw [pk_un z]
                  rcases cx with ⟨hx, cx | cx⟩
                  · exact t4 x hx cx
                  · rw [e] at cx; exact (z (qa_inj (by omega) (by omega) cx).symm).elim
          refine br_f s0 ⟨iq, ?_⟩
          rcases ch.1 with e | ⟨j, hj, e⟩
          · rw [e]
            refine br_t qa_1lt (tail sb s1 (fun _ _ => Or.inl rfl) (fun _ _ => Or.inl) (fun x hx ex => ?_))
            rw [e] at ex; exact (qa_1ne (by omega) ex).elim
          · rw [e]
            refine br_f (nI_pos (by omega)) ⟨iq, vp_in_nI (by omega) (by omega), nm_r (e' := upd sb j 1) (by rw [nI_clamp (by omega), qy_b1]) (tail _ ?_ (fun x hx => ?_) (fun x hx e1 => ?_) (fun x hx ex => ?_))⟩
            · rw [pk_un (by omega)]; exact s1
            · by_cases z : x = j
              · subst z; exact Or.inr pk_us
              · rw [pk_un z]; exact Or.inl rfl
            · by_cases z : x = j
              · subst z; exact Or.inr ⟨yb, by omega, Or.inl e⟩
              · rw [pk_un z] at e1; exact Or.inl e1
            · rw [e] at ex
              have := qa_inj (by omega) (by omega) ex
              subst this; exact pk_us
theorem qy_mark {post : SY → Prop} (h : qp_ok np psy pl pr ps) (hp : p < np)
    (K : ∀ sb, (∀ x, x < 32 → sb x = if bt (ps p) x = true then 1 else 0) → post (g_maxTerms, g_maxPats, g_maxRules, g_maxEvents, g_nTerms, g_nPats, g_nRules, g_nEvents, g_nKept, g_labN, b_sym, b_lef, b_rig, b_psym, pl, pr, b_rl, b_rr, b_el, b_er, b_eRule, b_kept, b_w, b_in, b_lab, sb, b_val, b_stand, b_cost, b_best, b_needed, b_pick, b_got)) : wpY_mark post (g_maxTerms, g_maxPats, g_maxRules, g_maxEvents, g_nTerms, g_nPats, g_nRules, g_nEvents, g_nKept, g_labN, b_sym, b_lef, b_rig, b_psym, pl, pr, b_rl, b_rr, b_el, b_er, b_eRule, b_kept, b_w, b_in, b_lab, sb, b_val, b_stand, b_cost, b_best, b_needed, b_pick, b_got) (nI p) := by
  have h32 := h.2.1
  unfold wpY_mark
  refine loop_0 (fun k i l => wY_mark_2 post (nI p) g_maxTerms g_maxPats g_maxRules g_maxEvents g_nTerms g_nPats g_nRules g_nEvents g_nKept g_labN k (nI i) b_sym b_lef b_rig b_psym pl pr b_rl b_rr b_el b_er b_eRule b_kept b_w b_in b_lab l b_val b_stand b_cost b_best b_needed b_pick b_got) (fun i l => ∀ x, x < i → l x = if x = p then 1 else 0) 32 sb (fun x hx => absurd hx (Nat.not_lt_zero _)) ?_ ?_
  · intro k l hl
    rw [wY_mark_2]
    refine br_t (by decide) ⟨p + 1, qy_mark32 h hp K p (p + 1) l (Nat.le_refl _) (by omega) (fun x hx => ?_)⟩
    rw [hl x hx]
    by_cases z : x = p
    · rw [if_pos z]; exact Or.inr ⟨rfl, Or.inl z⟩
    · rw [if_neg z]
      left
      refine ⟨rfl, ?_⟩
      rintro (w | ⟨y, hy, by', _⟩)
      · exact z w
      · have := qp_le h p hp y by'; omega
  · intro k i l hi hl Kn
    rw [wY_mark_2]
    have ii : vp_in (nI i) 32 := vp_in_nI hi (by omega)
    have ci : (nI i).toNatClampNeg = i := nI_clamp (by omega)
    refine br_f (nI_ge (b := 32) hi (by decide)) (pk_eq i p (fun e => ⟨ii, nm_r (e' := upd l i 1) (by rw [ci, qy_b1]) (nm_r (nI_1 i) (Kn _ fun x hx => ?_))⟩) (fun e => ⟨ii, nm_r (e' := upd l i 0) (by rw [ci, qy_b0]) (nm_r (nI_1 i) (Kn _ fun x hx => ?_))⟩))
    · by_cases z : x = i
      · subst z; rw [pk_us, if_pos e]
      · rw [pk_un z]; exact hl x (by omega)
    · by_cases z : x = i
      · subst z; rw [pk_us, if_neg e]
      · rw [pk_un z]; exact hl x (by omega)
end
end
section
theorem qa_uu {f : Nat → Int32} {k : Nat} {x y : Int32} : upd (upd f k x) k y = upd f k y := by
  funext j
  by_cases z : j = k
  · subst z; rw [pk_us, pk_us]
  · rw [pk_un z, pk_un z, pk_un z]
def qm_A (x y z : Int32) (v : Nat) : Int32 := if v = 0 then x else if v = 1 then y else z
section
variable {g_maxTerms g_maxPats g_maxRules g_maxEvents g_nTerms g_nPats g_nRules g_nEvents g_nKept : Int32} {b_rl b_rr b_el b_er b_eRule b_kept b_w b_in b_stand b_needed b_pick b_got : Nat → Int32} {b_cost b_best : Nat → Int64}
variable {c np p : Nat} {sy lf rt la psy pl pr ps sb va : Nat → Int32}
theorem qy_v113 {post : Int32 → SY → Prop} {J30 : Int32 → (Nat → Int32) → (Nat → Int32) → (Nat → Int32) → (Nat → Int32) → (Nat → Int32) → (Nat → Int32) → (Nat → Int32) → (Nat → Int32) → (Nat → Int32) → (Nat → Int32) → (Nat → Int32) → (Nat → Int32) → (Nat → Int32) → (Nat → Int32) → (Nat → Int32) → (Nat → Int32) → (Nat → Int32) → (Nat → Int32) → (Nat → Int64) → (Nat → Int64) → (Nat → Int32) → (Nat → Int32) → (Nat → Int32) → Prop} {x1 a b : Int32} {q : Nat} (hc : c ≤ 32) (hq : q < 32) (g : ∀ t, t < c → qa_tok sy lf rt t)
    (K0 : qm_lk sy lf rt la (psy q) a b c = -1 → post (-1) (g_maxTerms, g_maxPats, g_maxRules, g_maxEvents, g_nTerms, g_nPats, g_nRules, g_nEvents, g_nKept, nI c, sy, lf, rt, psy, pl, pr, b_rl, b_rr, b_el, b_er, b_eRule, b_kept, b_w, b_in, la, sb, upd va q (qm_lk sy lf rt la (psy q) a b c), b_stand, b_cost, b_best, b_needed, b_pick, b_got))
    (K1 : ¬ qm_lk sy lf rt la (psy q) a b c = -1 → J30 (nI (q + 1)) sy lf rt psy pl pr b_rl b_rr b_el b_er b_eRule b_kept b_w b_in la sb (upd va q (qm_lk sy lf rt la (psy q) a b c)) b_stand b_cost b_best b_needed b_pick b_got) :
    ∃ k, wY_valueOf_113 post J30 x1 (nI q) a b g_maxTerms g_maxPats g_maxRules g_maxEvents g_nTerms g_nPats g_nRules g_nEvents g_nKept (nI c) k 0 sy lf rt psy pl pr b_rl b_rr b_el b_er b_eRule b_kept b_w b_in la sb (upd va q (-1)) b_stand b_cost b_best b_needed b_pick b_got := by
  have iq : vp_in (nI q) 32 := vp_in_nI hq (by omega)
  have cq : (nI q).toNatClampNeg = q := nI_clamp (by omega)
  refine loop_0 (fun k i l => wY_valueOf_113 post J30 x1 (nI q) a b g_maxTerms g_maxPats g_maxRules g_maxEvents g_nTerms g_nPats g_nRules g_nEvents g_nKept (nI c) k (nI i) sy lf rt psy pl pr b_rl b_rr b_el b_er b_eRule b_kept b_w b_in la sb l b_stand b_cost b_best b_needed b_pick b_got) (fun i l => l = upd va q (qm_lk sy lf rt la (psy q) a b i)) c (upd va q (-1)) rfl ?_ ?_
  · intro k l hl
    subst hl
    rw [wY_valueOf_113]
    refine br_t (nI_le (Nat.le_refl _) (by omega)) ⟨iq, ?_⟩
    rw [cq, pk_us]
    exact br_c K0 (fun h => nm_r (nI_1 q) (K1 h))
  · intro k t l ht hl Kn
    subst hl
    rw [wY_valueOf_113]
    have it : vp_in (nI t) 32 := vp_in_nI (by omega) (by omega)
    have ct : (nI t).toNatClampNeg = t := nI_clamp (by omega)
    refine br_f (nI_ge ht (by omega)) ⟨it, iq, ?_⟩
    rw [cq, ct]
    have ch := qx_cs_ch hc ht (g t ht)
    have w32 : ∀ {x : Int32}, (x = -1 ∨ ∃ j, j < c ∧ x = nI j) → (x = -1 ∨ ∃ j, j < 32 ∧ x = nI j) := fun hx => hx.elim Or.inl (fun ⟨j, hj, e⟩ => Or.inr ⟨j, by omega, e⟩)
    have no : ¬ (sy t = psy q ∧ qc_lb la (lf t) = a ∧ qc_lb la (rt t) = b) → ∀ x, x = nI t + 1 → wY_valueOf_113 post J30 x1 (nI q) a b g_maxTerms g_maxPats g_maxRules g_maxEvents g_nTerms g_nPats g_nRules g_nEvents g_nKept (nI c) k x sy lf rt psy pl pr b_rl b_rr b_el b_er b_eRule b_kept b_w b_in la sb (upd va q (qm_lk sy lf rt la (psy q) a b t)) b_stand b_cost b_best b_needed b_pick b_got := by
      intro h
      exact nm_r (nI_1 t) (Kn _ (by rw [qm_lk, if_neg h]))
    refine br_c (fun e1 => ⟨it, qy_lab (w32 ch.1) ?_⟩) (fun e1 => no (fun z => e1 z.1))
    refine br_c (fun e2 => ⟨it, qy_lab (w32 ch.2) ?_⟩) (fun e2 => no (fun z => e2 z.2.1))
    refine br_c (fun e3 => ⟨it, iq, ?_⟩) (fun e3 => no (fun z => e3 z.2.2))
    exact nm_e (nm_r (nI_1 t) (Kn _ (by rw [qa_uu, qm_lk, if_pos ⟨e1, e2, e3⟩])))
theorem qy_v100 {post : Int32 → SY → Prop} {J30 : Int32 → (Nat → Int32) → (Nat → Int32) → (Nat → Int32) → (Nat → Int32) → (Nat → Int32) → (Nat → Int32) → (Nat → Int32) → (Nat → Int32) → (Nat → Int32) → (Nat → Int32) → (Nat → Int32) → (Nat → Int32) → (Nat → Int32) → (Nat → Int32) → (Nat → Int32) → (Nat → Int32) → (Nat → Int32) → (Nat → Int32) → (Nat → Int64) → (Nat → Int64) → (Nat → Int32) → (Nat → Int32) → (Nat → Int32) → Prop} {x1 a b : Int32} {q : Nat} (hc : c ≤ 32) (hq : q < 32) (g : ∀ t, t < c → qa_tok sy lf rt t)
    (K0 : qm_lk sy lf rt la (psy q) a b c = -1 → post (-1) (g_maxTerms, g_maxPats, g_maxRules, g_maxEvents, g_nTerms, g_nPats, g_nRules, g_nEvents, g_nKept, nI c, sy, lf, rt, psy, pl, pr, b_rl, b_rr, b_el, b_er, b_eRule, b_kept, b_w, b_in, la, sb, upd va q (qm_lk sy lf rt la (psy q) a b c), b_stand, b_cost, b_best, b_needed, b_pick, b_got))
    (K1 : ¬ qm_lk sy lf rt la (psy q) a b c = -1 → J30 (nI (q + 1)) sy lf rt psy pl pr b_rl b_rr b_el b_er b_eRule b_kept b_w b_in la sb (upd va q (qm_lk sy lf rt la (psy q) a b c)) b_stand b_cost b_best b_needed b_pick b_got) :
    wY_valueOf_100 post J30 x1 (nI q) a b g_maxTerms g_maxPats g_maxRules g_maxEvents g_nTerms g_nPats g_nRules g_nEvents g_nKept (nI c) sy lf rt psy pl pr b_rl b_rr b_el b_er b_eRule b_kept b_w b_in la sb va b_stand b_cost b_best b_needed b_pick b_got := by
  unfold wY_valueOf_100
  exact ⟨vp_in_nI hq (by omega), nm_r (e' := upd va q (-1)) (by rw [nI_clamp (by omega)]) (qy_v113 hc hq g K0 K1)⟩
theorem qy_v72 {post : Int32 → SY → Prop} {J30 : Int32 → (Nat → Int32) → (Nat → Int32) → (Nat → Int32) → (Nat → Int32) → (Nat → Int32) → (Nat → Int32) → (Nat → Int32) → (Nat → Int32) → (Nat → Int32) → (Nat → Int32) → (Nat → Int32) → (Nat → Int32) → (Nat → Int32) → (Nat → Int32) → (Nat → Int32) → (Nat → Int32) → (Nat → Int32) → (Nat → Int32) → (Nat → Int64) → (Nat → Int64) → (Nat → Int32) → (Nat → Int32) → (Nat → Int32) → Prop} {x1 a : Int32} {q : Nat} (hc : c ≤ 32) (hq : q < 32) (hr : pr q = -1 ∨ ∃ j, j < 32 ∧ pr q = nI j) (g : ∀ t, t < c → qa_tok sy lf rt t)
    (K0 : qm_lk sy lf rt la (psy q) a (qc_lb va (pr q)) c = -1 → post (-1) (g_maxTerms, g_maxPats, g_maxRules, g_maxEvents, g_nTerms, g_nPats, g_nRules, g_nEvents, g_nKept, nI c, sy, lf, rt, psy, pl, pr, b_rl, b_rr, b_el, b_er, b_eRule, b_kept, b_w, b_in, la, sb, upd va q (qm_lk sy lf rt la (psy q) a (qc_lb va (pr q)) c), b_stand, b_cost, b_best, b_needed, b_pick, b_got))
    (K1 : ¬ qm_lk sy lf rt la (psy q) a (qc_lb va (pr q)) c = -1 → J30 (nI (q + 1)) sy lf rt psy pl pr b_rl b_rr b_el b_er b_eRule b_kept b_w b_in la sb (upd va q (qm_lk sy lf rt la (psy q) a (qc_lb va (pr q)) c)) b_stand b_cost b_best b_needed b_pick b_got) :
    wY_valueOf_72 post J30 x1 (nI q) a g_maxTerms g_maxPats g_maxRules g_maxEvents g_nTerms g_nPats g_nRules g_nEvents g_nKept (nI c) sy lf rt psy pl pr b_rl b_rr b_el b_er b_eRule b_kept b_w b_in la sb va b_stand b_cost b_best b_needed b_pick b_got := by
  have iq : vp_in (nI q) 32 := vp_in_nI hq (by omega)
  unfold wY_valueOf_72
  refine ⟨iq, ?_⟩
  rw [show (nI q).toNatClampNeg = q from nI_clamp (by omega)]
  rcases hr with e | ⟨j, hj, e⟩
  · rw [e, qc_lb1] at K0 K1
    rw [e]
    exact br_f qa_n0le (qy_v100 hc hq g K0 K1)
  · rw [e, qc_lbN _ (by omega)] at K0 K1
    rw [e, show (nI j).toNatClampNeg = j from nI_clamp (by omega)]
    exact br_t (qa_0le (by omega)) ⟨iq, vp_in_nI hj (by omega), qy_v100 hc hq g K0 K1⟩
theorem qy_v30 {post : Int32 → SY → Prop} {A : Nat → Int32} (h : qp_ok np psy pl pr ps) (hc : c ≤ 32) (g : ∀ t, t < c → qa_tok sy lf rt t) (nm : qc_nm c la) (hp : p < np) (hsb : ∀ x, x < 32 → sb x = if bt (ps p) x = true then 1 else 0)
    (K : ∀ va, post (qm_v c sy lf rt la psy pl pr A p) (g_maxTerms, g_maxPats, g_maxRules, g_maxEvents, g_nTerms, g_nPats, g_nRules, g_nEvents, g_nKept, nI c, sy, lf, rt, psy, pl, pr, b_rl, b_rr, b_el, b_er, b_eRule, b_kept, b_w, b_in, la, sb, va, b_stand, b_cost, b_best, b_needed, b_pick, b_got)) :
    ∀ k q va, 0 < k → q ≤ 32 → 3 ≤ q → p + 2 ≤ k + q → (∀ x, x < q → bt (ps p) x = true → va x = qm_v c sy lf rt la psy pl pr A x) → wY_valueOf_30 post (nI p) g_maxTerms g_maxPats g_maxRules g_maxEvents g_nTerms g_nPats g_nRules g_nEvents g_nKept (nI c) k (nI q) sy lf rt psy pl pr b_rl b_rr b_el b_er b_eRule b_kept b_w b_in la sb va b_stand b_cost b_best b_needed b_pick b_got := by
  have h32 := h.2.1
  have ip : vp_in (nI p) 32 := vp_in_nI (by omega) (by omega)
  have cp : (nI p).toNatClampNeg = p := nI_clamp (by omega)
  intro k
  induction k with
  | zero => intro q va h0; omega
  | succ k ih =>
    intro q va _ hq32 h3 hk hv
    rw [wY_valueOf_30]
    refine pk_lt p q (fun lt => ⟨ip, ?_⟩) (fun le => ?_)
    · rw [cp, hv p lt (qp_self h hp)]
      exact K va
    · have iq : vp_in (nI q) 32 := vp_in_nI (by omega) (by omega)
      have cq : (nI q).toNatClampNeg = q := nI_clamp (by omega)
      refine ⟨iq, ?_⟩
      rw [cq, hsb q (by omega)]
      by_cases b : bt (ps p) q = true
      · rw [if_pos b]
        refine br_f (by decide) ⟨iq, ?_⟩
        have ch := qp_ch h (show q < np by omega)
        have w32 : ∀ {x : Int32}, (x = -1 ∨ ∃ j, j < q ∧ x = nI j) → (x = -1 ∨ ∃ j, j < 32 ∧ x = nI j) := fun hx => hx.elim Or.inl (fun ⟨j, hj, e⟩ => Or.inr ⟨j, by omega, e⟩)
        have vx : ∀ x, qp_cd pl pr q x → va x = qm_v c sy lf rt la psy pl pr A x := fun x cx => hv x (qp_cd_lt h (by omega) cx).1 (qp_dn h p hp q x b cx)
        have l1 : qc_lb va (pl q) = qc_lb (qm_v c sy lf rt la psy pl pr A) (pl q) := by
          rcases ch.1 with e | ⟨j, hj, e⟩
          · rw [e, qc_lb1, qc_lb1]
          · rw [e, qc_lbN _ (by omega), qc_lbN _ (by omega)]; exact vx j ⟨by omega, Or.inl e⟩
        have l2 : qc_lb va (pr q) = qc_lb (qm_v c sy lf rt la psy pl pr A) (pr q) := by
          rcases ch.2 with e | ⟨j, hj, e⟩
          · rw [e, qc_lb1, qc_lb1]
          · rw [e, qc_lbN _ (by omega), qc_lbN _ (by omega)]; exact vx j ⟨by omega, Or.inr e⟩
        have ev : qm_lk sy lf rt la (psy q) (qc_lb va (pl q)) (qc_lb va (pr q)) c = qm_v c sy lf rt la psy pl pr A q := by
          rw [qm_vq h h3 (by omega), l1, l2]
        have k0 : qm_lk sy lf rt la (psy q) (qc_lb va (pl q)) (qc_lb va (pr q)) c = -1 → post (-1) (g_maxTerms, g_maxPats, g_maxRules, g_maxEvents, g_nTerms, g_nPats, g_nRules, g_nEvents, g_nKept, nI c, sy, lf, rt, psy, pl, pr, b_rl, b_rr, b_el, b_er, b_eRule, b_kept, b_w, b_in, la, sb, upd va q (qm_lk sy lf rt la (psy q) (qc_lb va (pl q)) (qc_lb va (pr q)) c), b_stand, b_cost, b_best, b_needed, b_pick, b_got) := by
          intro z
          have := K (upd va q (qm_lk sy lf rt la (psy q) (qc_lb va (pl q)) (qc_lb va (pr q)) c))
          rwa [qm_v_sub h hc g nm p hp q b (by rw [← ev]; exact z)] at this
        have k1 : ¬ qm_lk sy lf rt la (psy q) (qc_lb va (pl q)) (qc_lb va (pr q)) c = -1 → wY_valueOf_30 post (nI p) g_maxTerms g_maxPats g_maxRules g_maxEvents g_nTerms g_nPats g_nRules g_nEvents g_nKept (nI c) k (nI (q + 1)) sy lf rt psy pl pr b_rl b_rr b_el b_er b_eRule b_kept b_w b_in la sb (upd va q (qm_lk sy lf rt la (psy q) (qc_lb va (pl q)) (qc_lb va (pr q)) c)) b_stand b_cost b_best b_needed b_pick b_got := by
          intro _
          refine ih (q + 1) _ (by omega) (by omega) (by omega) (by omega) (fun x hx bx => ?_)
          by_cases z : x = q
          · subst z; rw [pk_us]; exact ev
          · rw [pk_un z]; exact hv x (by omega) bx
        rcases ch.1 with e | ⟨j, hj, e⟩
        · rw [e, qc_lb1] at k0 k1
          rw [e]
          exact br_f qa_n0le (qy_v72 hc (by omega) (w32 ch.2) g k0 k1)
        · rw [e, qc_lbN _ (by omega)] at k0 k1
          rw [e, show (nI j).toNatClampNeg = j from nI_clamp (by omega)]
          exact br_t (qa_0le (by omega)) ⟨iq, vp_in_nI (by omega) (by omega), qy_v72 hc (by omega) (w32 ch.2) g k0 k1⟩
      · rw [if_neg b]
        refine br_t rfl (nm_r (nI_1 q) (ih (q + 1) va (by omega) (by omega) (by omega) (by omega) (fun x hx bx => ?_)))
        by_cases z : x = q
        · subst z; exact (b bx).elim
        · exact hv x (by omega) bx
theorem qy_valueOf {post : Int32 → SY → Prop} {x y z : Int32} (h : qp_ok np psy pl pr ps) (hc : c ≤ 32) (g : ∀ t, t < c → qa_tok sy lf rt t) (nm : qc_nm c la) (hp : p < np)
    (K : ∀ sb va, post (qm_v c sy lf rt la psy pl pr (qm_A x y z) p) (g_maxTerms, g_maxPats, g_maxRules, g_maxEvents, g_nTerms, g_nPats, g_nRules, g_nEvents, g_nKept, nI c, sy, lf, rt, psy, pl, pr, b_rl, b_rr, b_el, b_er, b_eRule, b_kept, b_w, b_in, la, sb, va, b_stand, b_cost, b_best, b_needed, b_pick, b_got)) : wpY_valueOf post (g_maxTerms, g_maxPats, g_maxRules, g_maxEvents, g_nTerms, g_nPats, g_nRules, g_nEvents, g_nKept, nI c, sy, lf, rt, psy, pl, pr, b_rl, b_rr, b_el, b_er, b_eRule, b_kept, b_w, b_in, la, sb, va, b_stand, b_cost, b_best, b_needed, b_pick, b_got) (nI p) x y z := by
  have h32 := h.2.1
  unfold wpY_valueOf
  refine qy_mark h hp ?_
  intro sb' hsb
  refine nm_e (nm_e (nm_e ⟨p + 2, qy_v30 h hc g nm hp hsb (fun va => K sb' va) (p + 2) 3 _ (by omega) (by omega) (by omega) (by omega) (fun v hv _ => ?_)⟩))
  rw [qm_v3 hv]
  unfold qm_A
  match v, hv with
  | 0, _ => rw [pk_un (by omega), pk_un (by omega), pk_us]; rfl
  | 1, _ => rw [pk_un (by omega), pk_us]; rfl
  | 2, _ => rw [pk_us]; rfl
end
end
section
abbrev QG : Type := Nat × (Nat → Int32) × (Nat → Int32) × (Nat → Int32)
def qi_m (sy lf rt : Nat → Int32) (s a b : Int32) (t : Nat) : Prop := sy t = s ∧ lf t = a ∧ rt t = b
def qi_fd (sy lf rt : Nat → Int32) (s a b : Int32) : Nat → Nat
  | 0 => 0
  | n + 1 => if qi_fd sy lf rt s a b n < n then qi_fd sy lf rt s a b n else if sy n = s ∧ lf n = a ∧ rt n = b then n else n + 1
def qi_in (lim : Nat) (G : QG) (s a b : Int32) : Int32 × QG :=
  if qi_fd G.2.1 G.2.2.1 G.2.2.2 s a b G.1 < G.1 then (nI (qi_fd G.2.1 G.2.2.1 G.2.2.2 s a b G.1), G)
  else if G.1 < lim then (nI G.1, (G.1 + 1, upd G.2.1 G.1 s, upd G.2.2.1 G.1 a, upd G.2.2.2 G.1 b)) else (-3, G)
theorem qi_fd_spec {sy lf rt : Nat → Int32} {s a b : Int32} : ∀ n, (qi_fd sy lf rt s a b n < n ∧ qi_m sy lf rt s a b (qi_fd sy lf rt s a b n) ∧ ∀ t, t < qi_fd sy lf rt s a b n → ¬ qi_m sy lf rt s a b t) ∨ (qi_fd sy lf rt s a b n = n ∧ ∀ t, t < n → ¬ qi_m sy lf rt s a b t)
  | 0 => Or.inr ⟨rfl, fun t h => absurd h (Nat.not_lt_zero _)⟩
  | n + 1 => by
    rw [qi_fd]
    rcases qi_fd_spec (sy := sy) (lf := lf) (rt := rt) (s := s) (a := a) (b := b) n with ⟨h1, h2, h3⟩ | ⟨h1, h2⟩
    · rw [if_pos h1]; exact Or.inl ⟨by omega, h2, h3⟩
    · rw [if_neg (by omega)]
      by_cases z : sy n = s ∧ lf n = a ∧ rt n = b
      · rw [if_pos z]; exact Or.inl ⟨by omega, z, h2⟩
      · rw [if_neg z]
        refine Or.inr ⟨rfl, fun t ht => ?_⟩
        by_cases q : t = n
        · subst q; exact z
        · exact h2 t (by omega)
theorem qi_fd_first {sy lf rt : Nat → Int32} {s a b : Int32} {n t : Nat} (ht : t < n) (m : qi_m sy lf rt s a b t) (f : ∀ t', t' < t → ¬ qi_m sy lf rt s a b t') : qi_fd sy lf rt s a b n = t := by
  rcases qi_fd_spec (sy := sy) (lf := lf) (rt := rt) (s := s) (a := a) (b := b) n with ⟨h1, h2, h3⟩ | ⟨h1, h2⟩
  · rcases Nat.lt_trichotomy (qi_fd sy lf rt s a b n) t with z | z | z
    · exact (f _ z h2).elim
    · exact z
    · exact (h3 t z m).elim
  · exact (h2 t ht m).elim
section
variable {lim n : Nat} {sy lf rt : Nat → Int32} {s a b : Int32}
theorem qi_in_f {t : Nat} (ht : t < n) (m : qi_m sy lf rt s a b t) (f : ∀ t', t' < t → ¬ qi_m sy lf rt s a b t') : qi_in lim (n, sy, lf, rt) s a b = (nI t, n, sy, lf, rt) := by
  unfold qi_in
  dsimp only
  rw [qi_fd_first ht m f, if_pos ht]
theorem qi_in_n (f : ∀ t, t < n → ¬ qi_m sy lf rt s a b t) (hl : n < lim) : qi_in lim (n, sy, lf, rt) s a b = (nI n, n + 1, upd sy n s, upd lf n a, upd rt n b) := by
  unfold qi_in
  dsimp only
  rcases qi_fd_spec (sy := sy) (lf := lf) (rt := rt) (s := s) (a := a) (b := b) n with ⟨h1, h2, h3⟩ | ⟨h1, h2⟩
  · exact (f _ h1 h2).elim
  · rw [h1, if_neg (Nat.lt_irrefl _), if_pos hl]
theorem qi_in_x (f : ∀ t, t < n → ¬ qi_m sy lf rt s a b t) (hl : ¬ n < lim) : qi_in lim (n, sy, lf, rt) s a b = (-3, n, sy, lf, rt) := by
  unfold qi_in
  dsimp only
  rcases qi_fd_spec (sy := sy) (lf := lf) (rt := rt) (s := s) (a := a) (b := b) n with ⟨h1, h2, h3⟩ | ⟨h1, h2⟩
  · exact (f _ h1 h2).elim
  · rw [h1, if_neg (Nat.lt_irrefl _), if_neg hl]
theorem qi_cases {r : Int32} {n' : Nat} {sy' lf' rt' : Nat → Int32} (e : (r, n', sy', lf', rt') = qi_in lim (n, sy, lf, rt) s a b) :
    (∃ t, t < n ∧ qi_m sy lf rt s a b t ∧ r = nI t ∧ n' = n ∧ sy' = sy ∧ lf' = lf ∧ rt' = rt) ∨
    ((∀ t, t < n → ¬ qi_m sy lf rt s a b t) ∧ n < lim ∧ r = nI n ∧ n' = n + 1 ∧ sy' = upd sy n s ∧ lf' = upd lf n a ∧ rt' = upd rt n b) ∨
    ((∀ t, t < n → ¬ qi_m sy lf rt s a b t) ∧ ¬ n < lim ∧ r = -3 ∧ n' = n ∧ sy' = sy ∧ lf' = lf ∧ rt' = rt) := by
  rcases qi_fd_spec (sy := sy) (lf := lf) (rt := rt) (s := s) (a := a) (b := b) n with ⟨h1, h2, h3⟩ | ⟨h1, h2⟩
  · rw [qi_in_f h1 h2 h3] at e
    cases e
    exact Or.inl ⟨_, h1, h2, rfl, rfl, rfl, rfl, rfl⟩
  · by_cases z : n < lim
    · rw [qi_in_n h2 z] at e
      cases e
      exact Or.inr (Or.inl ⟨h2, z, rfl, rfl, rfl, rfl, rfl⟩)
    · rw [qi_in_x h2 z] at e
      cases e
      exact Or.inr (Or.inr ⟨h2, z, rfl, rfl, rfl, rfl, rfl⟩)
theorem qi_keep {r : Int32} {n' : Nat} {sy' lf' rt' : Nat → Int32} (hl : lim ≤ 32) (hn : n ≤ lim) (g : ∀ t, t < n → qa_tok sy lf rt t) (sg : qa_sg n s a b) (e : (r, n', sy', lf', rt') = qi_in lim (n, sy, lf, rt) s a b) :
    n ≤ n' ∧ n' ≤ lim ∧ (∀ t, t < n' → qa_tok sy' lf' rt' t) ∧ (∀ t, t < n → sy' t = sy t ∧ lf' t = lf t ∧ rt' t = rt t) ∧ (r = -3 ∨ ∃ t, t < n' ∧ r = nI t ∧ qi_m sy' lf' rt' s a b t) := by
  rcases qi_cases e with ⟨t, ht, m, rfl, rfl, rfl, rfl, rfl⟩ | ⟨f, hl', rfl, rfl, rfl, rfl, rfl⟩ | ⟨f, hl', rfl, rfl, rfl, rfl, rfl⟩
  · exact ⟨Nat.le_refl _, hn, g, fun _ _ => ⟨rfl, rfl, rfl⟩, Or.inr ⟨t, ht, rfl, m⟩⟩
  · refine ⟨by omega, by omega, fun t ht => ?_, fun t ht => ⟨pk_un (by omega), pk_un (by omega), pk_un (by omega)⟩, Or.inr ⟨n, by omega, rfl, pk_us, pk_us, pk_us⟩⟩
    unfold qa_tok
    by_cases z : t = n
    · subst z; rw [pk_us, pk_us, pk_us]; exact sg
    · rw [pk_un z, pk_un z, pk_un z]; exact g t (by omega)
  · exact ⟨Nat.le_refl _, hn, g, fun _ _ => ⟨rfl, rfl, rfl⟩, Or.inl rfl⟩
end
def qx_ti (n : Nat) (sy lf rt ti : Nat → Int32) : Prop :=
  (∀ t, t < n → ti (qa_ky (sy t) (lf t) (rt t)).toNatClampNeg = nI (t + 1)) ∧
  (∀ k, k < 4232 → ti k = 0 ∨ ∃ t, t < n ∧ ti k = nI (t + 1) ∧ qa_ky (sy t) (lf t) (rt t) = nI k)
def qi_a (s a : Int32) : Int32 := if 8 ≤ s then a else -1
def qi_b (s b : Int32) : Int32 := if 12 ≤ s then b else -1
theorem qi_ky (s a b : Int32) : qa_ky s (qi_a s a) (qi_b s b) = qa_ky s a b := by
  unfold qa_ky qi_a qi_b
  by_cases h : 8 ≤ s
  · by_cases h2 : 12 ≤ s
    · rw [if_pos h, if_pos h2, if_pos h, if_pos h2, if_pos h, if_pos h2]
    · rw [if_pos h, if_neg h2, if_pos h, if_pos h, if_neg h2]
  · rw [if_neg h, if_neg h]
theorem qx_ti_new {n k : Nat} {sy lf rt ti : Nat → Int32} {s a b : Int32} (hn : n < 32) (g : ∀ t, t < n → qa_tok sy lf rt t) (sg : qa_sg n s a b) (h : qx_ti n sy lf rt ti) (ek : qa_ky s a b = nI k) (hk : k < 4232) (f : ∀ t, t < n → ¬ qi_m sy lf rt s a b t) :
    qx_ti (n + 1) (upd sy n s) (upd lf n a) (upd rt n b) (upd ti k (nI (n + 1))) := by
  have old : ∀ t, t < n → upd sy n s t = sy t ∧ upd lf n a t = lf t ∧ upd rt n b t = rt t := fun t ht => ⟨pk_un (by omega), pk_un (by omega), pk_un (by omega)⟩
  have ne : ∀ t, t < n → ¬ qa_ky (sy t) (lf t) (rt t) = nI k := by
    intro t ht e
    have := qa_ky_inj (qa_sg_mono (m' := 32) (by omega) (g t ht)) (qa_sg_mono (by omega) sg) (by rw [e, ek])
    exact f t ht this
  refine ⟨fun t ht => ?_, fun j hj => ?_⟩
  · by_cases z : t = n
    · subst z; rw [pk_us, pk_us, pk_us, ek, nI_clamp (by omega), pk_us]
    · have o := old t (by omega)
      rw [o.1, o.2.1, o.2.2]
      obtain ⟨k', hk', ek'⟩ := qa_ky_in (qa_sg_mono (m' := 32) (by omega) (g t (by omega)))
      have e1 := h.1 t (by omega)
      have n1 := ne t (by omega)
      rw [ek', nI_clamp (by omega)] at e1 ⊢
      rw [pk_un]
      · exact e1
      · rintro rfl; exact n1 ek'
  · by_cases z : j = k
    · subst z
      exact Or.inr ⟨n, by omega, pk_us, by rw [pk_us, pk_us, pk_us, ek]⟩
    · rw [pk_un z]
      rcases h.2 j hj with e | ⟨t, ht, e1, e2⟩
      · exact Or.inl e
      · have o := old t ht
        exact Or.inr ⟨t, by omega, e1, by rw [o.1, o.2.1, o.2.2]; exact e2⟩
section
variable {f_patternLimit f_ruleLimit f_eventLimit f_patternCount f_ruleCount f_eventCount f_closedTerms f_closedEvents f_classCount f_dirty f_matchPattern f_matchDepth f_levelCount f_groundLeft f_costsFresh f_settledClasses f_reachedClasses f_orderCount f_explainedCount : Int32} {a_patSymbol a_patLeft a_patRight a_patSubs a_patTop a_byTop a_patternIndex a_ruleLeft a_ruleRight a_eventLeft a_eventRight a_eventRule a_symbolWeight a_leader a_members a_users a_symbolTerms a_signTerm a_levelVar a_levelRest a_patValue a_standsFor a_order a_bestTerm a_gotTerm a_explainedEvent : Nat → Int32} {a_best a_treeCost : Nat → Int64}
variable {lim n : Nat} {sy lf rt ti : Nat → Int32} {s a b : Int32}
theorem qx_int74 {post : Int32 → SX → Prop} {k : Nat} {x y : Int32} (hn : n < 32) (hk : k < 4232) (K : post (nI n) (nI lim, f_patternLimit, f_ruleLimit, f_eventLimit, nI (n + 1), f_patternCount, f_ruleCount, f_eventCount, f_closedTerms, f_closedEvents, f_classCount, f_dirty, f_matchPattern, f_matchDepth, f_levelCount, f_groundLeft, f_costsFresh, f_settledClasses, f_reachedClasses, f_orderCount, f_explainedCount, sy, upd lf n x, upd rt n (qi_b s y), upd ti k (nI (n + 1)), a_patSymbol, a_patLeft, a_patRight, a_patSubs, a_patTop, a_byTop, a_patternIndex, a_ruleLeft, a_ruleRight, a_eventLeft, a_eventRight, a_eventRule, a_symbolWeight, a_leader, a_members, a_users, a_symbolTerms, a_signTerm, a_levelVar, a_levelRest, a_patValue, a_standsFor, a_order, a_best, a_bestTerm, a_gotTerm, a_treeCost, a_explainedEvent)) :
    wX_intern_74 post s y (nI k) (nI n) x (nI n) (nI lim) f_patternLimit f_ruleLimit f_eventLimit (nI n) f_patternCount f_ruleCount f_eventCount f_closedTerms f_closedEvents f_classCount f_dirty f_matchPattern f_matchDepth f_levelCount f_groundLeft f_costsFresh f_settledClasses f_reachedClasses f_orderCount f_explainedCount sy lf rt ti a_patSymbol a_patLeft a_patRight a_patSubs a_patTop a_byTop a_patternIndex a_ruleLeft a_ruleRight a_eventLeft a_eventRight a_eventRule a_symbolWeight a_leader a_members a_users a_symbolTerms a_signTerm a_levelVar a_levelRest a_patValue a_standsFor a_order a_best a_bestTerm a_gotTerm a_treeCost a_explainedEvent := by
  have i1 : vp_in (nI n) 32 := vp_in_nI hn (by omega)
  have c1 : (nI n).toNatClampNeg = n := nI_clamp (by omega)
  have c2 : (nI k).toNatClampNeg = k := nI_clamp (by omega)
  unfold wX_intern_74
  refine ⟨i1, nm_r (e' := upd lf n x) (by rw [c1]) ?_⟩
  unfold qi_b at K
  have fin : ∀ z, post (nI n) (nI lim, f_patternLimit, f_ruleLimit, f_eventLimit, nI (n + 1), f_patternCount, f_ruleCount, f_eventCount, f_closedTerms, f_closedEvents, f_classCount, f_dirty, f_matchPattern, f_matchDepth, f_levelCount, f_groundLeft, f_costsFresh, f_settledClasses, f_reachedClasses, f_orderCount, f_explainedCount, sy, upd lf n x, upd rt n z, upd ti k (nI (n + 1)), a_patSymbol, a_patLeft, a_patRight, a_patSubs, a_patTop, a_byTop, a_patternIndex, a_ruleLeft, a_ruleRight, a_eventLeft, a_eventRight, a_eventRule, a_symbolWeight, a_leader, a_members, a_users, a_symbolTerms, a_signTerm, a_levelVar, a_levelRest, a_patValue, a_standsFor, a_order, a_best, a_bestTerm, a_gotTerm, a_treeCost, a_explainedEvent) → wX_intern_92 post (nI k) (nI n) z (nI n) (nI lim) f_patternLimit f_ruleLimit f_eventLimit (nI n) f_patternCount f_ruleCount f_eventCount f_closedTerms f_closedEvents f_classCount f_dirty f_matchPattern f_matchDepth f_levelCount f_groundLeft f_costsFresh f_settledClasses f_reachedClasses f_orderCount f_explainedCount sy (upd lf n x) rt ti a_patSymbol a_patLeft a_patRight a_patSubs a_patTop a_byTop a_patternIndex a_ruleLeft a_ruleRight a_eventLeft a_eventRight a_eventRule a_symbolWeight a_leader a_members a_users a_symbolTerms a_signTerm a_levelVar a_levelRest a_patValue a_standsFor a_order a_best a_bestTerm a_gotTerm a_treeCost a_explainedEvent := by
    intro z K
    unfold wX_intern_92
    exact ⟨i1, nm_r (e' := upd rt n z) (by rw [c1]) ⟨vp_in_nI hk (by omega), nm_r (e' := upd ti k (nI (n + 1))) (by rw [c2, qx_bv (by omega)]) (nm_r (nI_1 n) K)⟩⟩
  refine br_c (fun h => fin _ ?_) (fun h => fin _ ?_)
  · rwa [if_neg (Int32.not_le.mpr h)] at K
  · rwa [if_pos (Int32.not_lt.mp h)] at K
theorem qx_intern {post : Int32 → SX → Prop} (hl : lim ≤ 32) (hn : n ≤ lim) (g : ∀ t, t < n → qa_tok sy lf rt t) (sg : qa_sg n s (qi_a s a) (qi_b s b)) (h : qx_ti n sy lf rt ti)
    (K : ∀ r n' sy' lf' rt' ti', (r, n', sy', lf', rt') = qi_in lim (n, sy, lf, rt) s (qi_a s a) (qi_b s b) → qx_ti n' sy' lf' rt' ti' → post r (nI lim, f_patternLimit, f_ruleLimit, f_eventLimit, nI n', f_patternCount, f_ruleCount, f_eventCount, f_closedTerms, f_closedEvents, f_classCount, f_dirty, f_matchPattern, f_matchDepth, f_levelCount, f_groundLeft, f_costsFresh, f_settledClasses, f_reachedClasses, f_orderCount, f_explainedCount, sy', lf', rt', ti', a_patSymbol, a_patLeft, a_patRight, a_patSubs, a_patTop, a_byTop, a_patternIndex, a_ruleLeft, a_ruleRight, a_eventLeft, a_eventRight, a_eventRule, a_symbolWeight, a_leader, a_members, a_users, a_symbolTerms, a_signTerm, a_levelVar, a_levelRest, a_patValue, a_standsFor, a_order, a_best, a_bestTerm, a_gotTerm, a_treeCost, a_explainedEvent)) :
    wpX_intern post (nI lim, f_patternLimit, f_ruleLimit, f_eventLimit, nI n, f_patternCount, f_ruleCount, f_eventCount, f_closedTerms, f_closedEvents, f_classCount, f_dirty, f_matchPattern, f_matchDepth, f_levelCount, f_groundLeft, f_costsFresh, f_settledClasses, f_reachedClasses, f_orderCount, f_explainedCount, sy, lf, rt, ti, a_patSymbol, a_patLeft, a_patRight, a_patSubs, a_patTop, a_byTop, a_patternIndex, a_ruleLeft, a_ruleRight, a_eventLeft, a_eventRight, a_eventRule, a_symbolWeight, a_leader, a_members, a_users, a_symbolTerms, a_signTerm, a_levelVar, a_levelRest, a_patValue, a_standsFor, a_order, a_best, a_bestTerm, a_gotTerm, a_treeCost, a_explainedEvent) s a b := by
  have sg32 := qa_sg_mono (m' := 32) (by omega) sg
  obtain ⟨k, hk, ek⟩ := qa_ky_in sg32
  have ik : vp_in (nI k) 4232 := vp_in_nI hk (by omega)
  have ck : (nI k).toNatClampNeg = k := nI_clamp (by omega)
  unfold wpX_intern
  refine qx_key ?_
  rw [← qi_ky, ek]
  refine ⟨ik, ?_⟩
  rw [ck]
  have hit : ∀ t, t < n → qi_m sy lf rt s (qi_a s a) (qi_b s b) t → ti k = nI (t + 1) := by
    intro t ht m
    have := h.1 t ht
    rwa [m.1, m.2.1, m.2.2, ek, ck] at this
  rcases h.2 k hk with e | ⟨t, ht, e1, e2⟩
  · have f : ∀ t, t < n → ¬ qi_m sy lf rt s (qi_a s a) (qi_b s b) t := by
      intro t ht m
      have := hit t ht m
      rw [e] at this
      exact absurd (qa_inj (a := 0) (by omega) (by omega) this) (by omega)
    refine br_t e (pk_lt n lim (fun lt => ⟨vp_in_nI (by omega) (by omega), nm_r (e' := upd sy n s) (by rw [nI_clamp (by omega)]) ?_⟩) (fun le => K _ _ _ _ _ _ (qi_in_x f (by omega)).symm h))
    have fin := K _ _ _ _ _ _ (qi_in_n f lt).symm (qx_ti_new (by omega) g sg h ek hk f)
    refine br_c (fun h8 => qx_int74 (by omega) hk ?_) (fun h8 => qx_int74 (by omega) hk ?_)
    · have e8 : qi_a s a = -1 := if_neg (Int32.not_le.mpr h8)
      rw [e8] at fin
      exact fin
    · have e8 : qi_a s a = a := if_pos (Int32.not_lt.mp h8)
      rw [e8] at fin
      exact fin
  · have m : qi_m sy lf rt s (qi_a s a) (qi_b s b) t := qa_ky_inj (qa_sg_mono (m' := 32) (by omega) (g t ht)) sg32 (by rw [e2, ek])
    have f : ∀ t', t' < t → ¬ qi_m sy lf rt s (qi_a s a) (qi_b s b) t' := by
      intro t' ht' m'
      have := hit t' (by omega) m'
      rw [e1] at this
      have := qa_inj (by omega) (by omega) this
      omega
    refine br_f (by rw [e1]; exact nI_ne0 (by omega) (by omega)) ⟨ik, ?_⟩
    rw [e1, nI_pred]
    exact K _ _ _ _ _ _ (qi_in_f ht m f).symm h
end
section
variable {f_termLimit f_patternLimit f_ruleLimit f_eventLimit f_patternCount f_ruleCount f_eventCount f_closedTerms f_closedEvents f_classCount f_dirty f_matchPattern f_matchDepth f_levelCount f_groundLeft f_costsFresh f_settledClasses f_reachedClasses f_orderCount f_explainedCount : Int32} {a_patSymbol a_patLeft a_patRight a_patSubs a_patTop a_byTop a_patternIndex a_ruleLeft a_ruleRight a_eventLeft a_eventRight a_eventRule a_symbolWeight a_leader a_members a_users a_symbolTerms a_signTerm a_levelVar a_levelRest a_patValue a_standsFor a_order a_bestTerm a_gotTerm a_explainedEvent : Nat → Int32} {a_best a_treeCost : Nat → Int64}
variable {f_termCount : Int32}
variable {mark n : Nat} {sy lf rt : Nat → Int32}
theorem qx_drop7 {post : SX → Prop} (hn : n ≤ 32) (g : ∀ t, t < n → qa_tok sy lf rt t) (K : ∀ ti, qx_ti mark sy lf rt ti → post (f_termLimit, f_patternLimit, f_ruleLimit, f_eventLimit, nI mark, f_patternCount, f_ruleCount, f_eventCount, f_closedTerms, f_closedEvents, f_classCount, f_dirty, f_matchPattern, f_matchDepth, f_levelCount, f_groundLeft, f_costsFresh, f_settledClasses, f_reachedClasses, f_orderCount, f_explainedCount, sy, lf, rt, ti, a_patSymbol, a_patLeft, a_patRight, a_patSubs, a_patTop, a_byTop, a_patternIndex, a_ruleLeft, a_ruleRight, a_eventLeft, a_eventRight, a_eventRule, a_symbolWeight, a_leader, a_members, a_users, a_symbolTerms, a_signTerm, a_levelVar, a_levelRest, a_patValue, a_standsFor, a_order, a_best, a_bestTerm, a_gotTerm, a_treeCost, a_explainedEvent)) :
    ∀ d k ti, mark ≤ d → d ≤ n → d < k + mark → qx_ti d sy lf rt ti → wX_dropTerms_7 post (nI mark) f_termLimit f_patternLimit f_ruleLimit f_eventLimit f_termCount f_patternCount f_ruleCount f_eventCount f_closedTerms f_closedEvents f_classCount f_dirty f_matchPattern f_matchDepth f_levelCount f_groundLeft f_costsFresh f_settledClasses f_reachedClasses f_orderCount f_explainedCount k (nI d - 1) sy lf rt ti a_patSymbol a_patLeft a_patRight a_patSubs a_patTop a_byTop a_patternIndex a_ruleLeft a_ruleRight a_eventLeft a_eventRight a_eventRule a_symbolWeight a_leader a_members a_users a_symbolTerms a_signTerm a_levelVar a_levelRest a_patValue a_standsFor a_order a_best a_bestTerm a_gotTerm a_treeCost a_explainedEvent := by
  intro d
  induction d with
  | zero =>
    intro k ti hm hd hk h
    cases k with
    | zero => omega
    | succ k =>
      have : mark = 0 := by omega
      subst this
      rw [wX_dropTerms_7]
      exact br_t (by decide) (K ti h)
  | succ d ih =>
    intro k ti hm hd hk h
    cases k with
    | zero => omega
    | succ k =>
      rw [wX_dropTerms_7, nI_pred]
      refine pk_lt d mark (fun lt => ?_) (fun le => ?_)
      · have : mark = d + 1 := by omega
        subst this
        exact K ti h
      · have i1 : vp_in (nI d) 32 := vp_in_nI (by omega) (by omega)
        have c1 : (nI d).toNatClampNeg = d := nI_clamp (by omega)
        obtain ⟨k', hk', ek'⟩ := qa_ky_in (qa_sg_mono (m' := 32) (by omega) (g d (by omega)))
        refine ⟨i1, i1, i1, qx_key ?_⟩
        rw [c1, ek']
        refine ⟨vp_in_nI hk' (by omega), nm_r (e' := upd ti k' 0) (by rw [nI_clamp (by omega)]; rfl) (nm_r (e' := nI d - 1) (by rw [Int32.sub_eq_add_neg]) (ih k _ (by omega) (by omega) (by omega) ⟨fun t ht => ?_, fun j hj => ?_⟩))⟩
        · obtain ⟨k2, hk2, ek2⟩ := qa_ky_in (qa_sg_mono (m' := 32) (by omega) (g t (by omega)))
          have e1 := h.1 t (by omega)
          rw [ek2, nI_clamp (by omega)] at e1 ⊢
          rw [pk_un]
          · exact e1
          · rintro rfl
            have e2 := h.1 d (by omega)
            rw [ek', nI_clamp (by omega), e1] at e2
            have := qa_inj (by omega) (by omega) e2
            omega
        · by_cases z : j = k'
          · subst z; exact Or.inl pk_us
          · rw [pk_un z]
            rcases h.2 j hj with e | ⟨t, ht, e1, e2⟩
            · exact Or.inl e
            · refine Or.inr ⟨t, ?_, e1, e2⟩
              refine Classical.byContradiction fun q => ?_
              have : t = d := by omega
              subst this
              rw [ek'] at e2
              exact z (qa_inj (by omega) (by omega) e2).symm
theorem qx_drop {post : SX → Prop} {ti : Nat → Int32} (hn : n ≤ 32) (hm : mark ≤ n) (g : ∀ t, t < n → qa_tok sy lf rt t) (h : qx_ti n sy lf rt ti) (K : ∀ ti, qx_ti mark sy lf rt ti → post (f_termLimit, f_patternLimit, f_ruleLimit, f_eventLimit, nI mark, f_patternCount, f_ruleCount, f_eventCount, f_closedTerms, f_closedEvents, f_classCount, f_dirty, f_matchPattern, f_matchDepth, f_levelCount, f_groundLeft, f_costsFresh, f_settledClasses, f_reachedClasses, f_orderCount, f_explainedCount, sy, lf, rt, ti, a_patSymbol, a_patLeft, a_patRight, a_patSubs, a_patTop, a_byTop, a_patternIndex, a_ruleLeft, a_ruleRight, a_eventLeft, a_eventRight, a_eventRule, a_symbolWeight, a_leader, a_members, a_users, a_symbolTerms, a_signTerm, a_levelVar, a_levelRest, a_patValue, a_standsFor, a_order, a_best, a_bestTerm, a_gotTerm, a_treeCost, a_explainedEvent)) :
    wpX_dropTerms post (f_termLimit, f_patternLimit, f_ruleLimit, f_eventLimit, nI n, f_patternCount, f_ruleCount, f_eventCount, f_closedTerms, f_closedEvents, f_classCount, f_dirty, f_matchPattern, f_matchDepth, f_levelCount, f_groundLeft, f_costsFresh, f_settledClasses, f_reachedClasses, f_orderCount, f_explainedCount, sy, lf, rt, ti, a_patSymbol, a_patLeft, a_patRight, a_patSubs, a_patTop, a_byTop, a_patternIndex, a_ruleLeft, a_ruleRight, a_eventLeft, a_eventRight, a_eventRule, a_symbolWeight, a_leader, a_members, a_users, a_symbolTerms, a_signTerm, a_levelVar, a_levelRest, a_patValue, a_standsFor, a_order, a_best, a_bestTerm, a_gotTerm, a_treeCost, a_explainedEvent) (nI mark) := by
  unfold wpX_dropTerms
  exact nm_e ⟨n + 1, qx_drop7 hn g K n (n + 1) ti hm (Nat.le_refl _) (by omega) h⟩
end
section
variable {g_maxPats g_maxRules g_maxEvents g_nPats g_nRules g_nEvents g_nKept g_labN : Int32} {b_psym b_pl b_pr b_rl b_rr b_el b_er b_eRule b_kept b_w b_in b_lab b_sub b_val b_stand b_needed b_pick b_got : Nat → Int32} {b_cost b_best : Nat → Int64}
variable {lim n : Nat} {sy lf rt : Nat → Int32} {s a b : Int32}
theorem qy_int29 {post : Int32 → SY → Prop} (hl : lim ≤ 32) (hn : n ≤ lim)
    (K : ∀ r n' sy' lf' rt', (r, n', sy', lf', rt') = qi_in lim (n, sy, lf, rt) s a b → post r (nI lim, g_maxPats, g_maxRules, g_maxEvents, nI n', g_nPats, g_nRules, g_nEvents, g_nKept, g_labN, sy', lf', rt', b_psym, b_pl, b_pr, b_rl, b_rr, b_el, b_er, b_eRule, b_kept, b_w, b_in, b_lab, b_sub, b_val, b_stand, b_cost, b_best, b_needed, b_pick, b_got)) :
    ∃ k, wY_intern_29 post s a b (nI lim) g_maxPats g_maxRules g_maxEvents (nI n) g_nPats g_nRules g_nEvents g_nKept g_labN sy lf rt b_psym b_pl b_pr b_rl b_rr b_el b_er b_eRule b_kept b_w b_in b_lab b_sub b_val b_stand b_cost b_best b_needed b_pick b_got k 0 := by
  refine loop_0 (fun k i (_ : Unit) => wY_intern_29 post s a b (nI lim) g_maxPats g_maxRules g_maxEvents (nI n) g_nPats g_nRules g_nEvents g_nKept g_labN sy lf rt b_psym b_pl b_pr b_rl b_rr b_el b_er b_eRule b_kept b_w b_in b_lab b_sub b_val b_stand b_cost b_best b_needed b_pick b_got k (nI i)) (fun i _ => ∀ t, t < i → ¬ qi_m sy lf rt s a b t) n () (fun t h => absurd h (Nat.not_lt_zero _)) ?_ ?_
  · intro k _ f
    rw [wY_intern_29]
    refine br_t (nI_le (Nat.le_refl _) (by omega)) (pk_lt n lim (fun lt => ?_) (fun le => K _ _ _ _ _ (qi_in_x f (by omega)).symm))
    have i1 : vp_in (nI n) 32 := vp_in_nI (by omega) (by omega)
    have c1 : (nI n).toNatClampNeg = n := nI_clamp (by omega)
    refine ⟨i1, nm_r (e' := upd sy n s) (by rw [c1]) ⟨i1, nm_r (e' := upd lf n a) (by rw [c1]) ⟨i1, nm_r (e' := upd rt n b) (by rw [c1]) (nm_r (nI_1 n) ?_)⟩⟩⟩
    rw [nI_pred]
    exact K _ _ _ _ _ (qi_in_n f lt).symm
  · intro k t _ ht f Kn
    rw [wY_intern_29]
    have it : vp_in (nI t) 32 := vp_in_nI (by omega) (by omega)
    refine br_f (nI_ge ht (by omega)) ⟨it, ?_⟩
    rw [show (nI t).toNatClampNeg = t from nI_clamp (by omega)]
    have no : ¬ qi_m sy lf rt s a b t → ∀ x, x = nI t + 1 → wY_intern_29 post s a b (nI lim) g_maxPats g_maxRules g_maxEvents (nI n) g_nPats g_nRules g_nEvents g_nKept g_labN sy lf rt b_psym b_pl b_pr b_rl b_rr b_el b_er b_eRule b_kept b_w b_in b_lab b_sub b_val b_stand b_cost b_best b_needed b_pick b_got k x := by
      intro h
      refine nm_r (nI_1 t) (Kn () fun t' ht' => ?_)
      by_cases z : t' = t
      · subst z; exact h
      · exact f t' (by omega)
    refine br_c (fun e1 => ⟨it, br_c (fun e2 => ⟨it, br_c (fun e3 => K _ _ _ _ _ (qi_in_f ht ⟨e1, e2, e3⟩ f).symm) (fun e3 => no (fun z => e3 z.2.2))⟩) (fun e2 => no (fun z => e2 z.2.1))⟩) (fun e1 => no (fun z => e1 z.1))
theorem qy_intern {post : Int32 → SY → Prop} (hl : lim ≤ 32) (hn : n ≤ lim)
    (K : ∀ r n' sy' lf' rt', (r, n', sy', lf', rt') = qi_in lim (n, sy, lf, rt) s (qi_a s a) (qi_b s b) → post r (nI lim, g_maxPats, g_maxRules, g_maxEvents, nI n', g_nPats, g_nRules, g_nEvents, g_nKept, g_labN, sy', lf', rt', b_psym, b_pl, b_pr, b_rl, b_rr, b_el, b_er, b_eRule, b_kept, b_w, b_in, b_lab, b_sub, b_val, b_stand, b_cost, b_best, b_needed, b_pick, b_got)) :
    wpY_intern post (nI lim, g_maxPats, g_maxRules, g_maxEvents, nI n, g_nPats, g_nRules, g_nEvents, g_nKept, g_labN, sy, lf, rt, b_psym, b_pl, b_pr, b_rl, b_rr, b_el, b_er, b_eRule, b_kept, b_w, b_in, b_lab, b_sub, b_val, b_stand, b_cost, b_best, b_needed, b_pick, b_got) s a b := by
  unfold wpY_intern
  refine br_c (fun h8 => ?_) (fun h8 => ?_)
  · rw [show qi_a s a = a from if_pos h8] at K
    unfold wY_intern_11
    refine br_c (fun h12 => ?_) (fun h12 => ?_)
    · rw [show qi_b s b = b from if_pos h12] at K
      exact qy_int29 hl hn K
    · rw [show qi_b s b = -1 from if_neg h12] at K
      exact qy_int29 hl hn K
  · rw [show qi_a s a = -1 from if_neg h8] at K
    unfold wY_intern_11
    refine br_c (fun h12 => ?_) (fun h12 => ?_)
    · rw [show qi_b s b = b from if_pos h12] at K
      exact qy_int29 hl hn K
    · rw [show qi_b s b = -1 from if_neg h12] at K
      exact qy_int29 hl hn K
end
end
section
def qi_st (lim : Nat) (psy pl pr : Nat → Int32) (q : Nat) (G : QG) (st : Nat → Int32) : Bool × QG × (Nat → Int32) :=
  if (qi_in lim G (psy q) (qc_lb st (pl q)) (qc_lb st (pr q))).1 = -3 then (false, (qi_in lim G (psy q) (qc_lb st (pl q)) (qc_lb st (pr q))).2, st)
  else (true, (qi_in lim G (psy q) (qc_lb st (pl q)) (qc_lb st (pr q))).2, upd st q (qi_in lim G (psy q) (qc_lb st (pl q)) (qc_lb st (pr q))).1)
def qi_bd (lim : Nat) (psy pl pr : Nat → Int32) (F : Nat → Bool) (G : QG) (st : Nat → Int32) : Nat → Bool × QG × (Nat → Int32)
  | 0 => (true, G, st)
  | q + 1 => if (qi_bd lim psy pl pr F G st q).1 = true then
      (if F q = true then qi_st lim psy pl pr q (qi_bd lim psy pl pr F G st q).2.1 (qi_bd lim psy pl pr F G st q).2.2 else qi_bd lim psy pl pr F G st q)
    else qi_bd lim psy pl pr F G st q
def qi_un (G : QG) : Prop := ∀ t t', t < G.1 → t' < G.1 → G.2.1 t = G.2.1 t' → G.2.2.1 t = G.2.2.1 t' → G.2.2.2 t = G.2.2.2 t' → t = t'
def qi_gk (lim : Nat) (G : QG) : Prop := G.1 ≤ lim ∧ (∀ t, t < G.1 → qa_tok G.2.1 G.2.2.1 G.2.2.2 t) ∧ qi_un G
def qi_ge (G G' : QG) : Prop := G.1 ≤ G'.1 ∧ ∀ t, t < G.1 → G'.2.1 t = G.2.1 t ∧ G'.2.2.1 t = G.2.2.1 t ∧ G'.2.2.2 t = G.2.2.2 t
theorem qi_ge_rf (G : QG) : qi_ge G G := ⟨Nat.le_refl _, fun _ _ => ⟨rfl, rfl, rfl⟩⟩
theorem qi_ge_tr {G H L : QG} (h : qi_ge G H) (k : qi_ge H L) : qi_ge G L :=
  ⟨Nat.le_trans h.1 k.1, fun t ht => by
    have a := h.2 t ht
    have b := k.2 t (Nat.lt_of_lt_of_le ht h.1)
    exact ⟨b.1.trans a.1, b.2.1.trans a.2.1, b.2.2.trans a.2.2⟩⟩
theorem qi_ti_un {n : Nat} {sy lf rt ti : Nat → Int32} (hn : n ≤ 32) (h : qx_ti n sy lf rt ti) : qi_un (n, sy, lf, rt) := by
  intro t t' ht ht' e1 e2 e3
  dsimp only at ht ht' e1 e2 e3
  have a := h.1 t ht
  have b := h.1 t' ht'
  rw [e1, e2, e3, b] at a
  have := qa_inj (by omega) (by omega) a
  omega
theorem qi_in_k {lim : Nat} {G : QG} {s a b : Int32} (hl : lim ≤ 32) (h : qi_gk lim G) (sg : qa_sg G.1 s a b) :
    qi_gk lim (qi_in lim G s a b).2 ∧ qi_ge G (qi_in lim G s a b).2 ∧ ((qi_in lim G s a b).1 = -3 ∨ ∃ t, t < (qi_in lim G s a b).2.1 ∧ (qi_in lim G s a b).1 = nI t ∧ qi_m (qi_in lim G s a b).2.2.1 (qi_in lim G s a b).2.2.2.1 (qi_in lim G s a b).2.2.2.2 s a b t) := by
  obtain ⟨n, sy, lf, rt⟩ := G
  obtain ⟨hn, g, un⟩ := h
  dsimp only at hn g sg
  generalize ho : qi_in lim (n, sy, lf, rt) s a b = o
  obtain ⟨r, n', sy', lf', rt'⟩ := o
  have k := qi_keep hl hn g sg ho.symm
  refine ⟨⟨k.2.1, k.2.2.1, ?_⟩, ⟨k.1, k.2.2.2.1⟩, k.2.2.2.2⟩
  rcases qi_cases ho.symm with ⟨t, ht, m, rfl, rfl, rfl, rfl, rfl⟩ | ⟨f, hl', rfl, rfl, rfl, rfl, rfl⟩ | ⟨f, hl', rfl, rfl, rfl, rfl, rfl⟩
  · exact un
  · intro t t' ht ht' e1 e2 e3
    dsimp only at ht ht' e1 e2 e3
    by_cases z : t = n
    · by_cases z' : t' = n
      · omega
      · subst z
        rw [pk_us, pk_un z'] at e1 e2 e3
        exact (f t' (by omega) ⟨e1.symm, e2.symm, e3.symm⟩).elim
    · by_cases z' : t' = n
      · subst z'
        rw [pk_us, pk_un z] at e1 e2 e3
        exact (f t (by omega) ⟨e1, e2, e3⟩).elim
      · rw [pk_un z, pk_un z'] at e1 e2 e3
        exact un t t' (by show t < n; omega) (by show t' < n; omega) e1 e2 e3
  · exact un
theorem qi_in_there {lim : Nat} {G : QG} {s a b : Int32} {t : Nat} (un : qi_un G) (ht : t < G.1) (m : qi_m G.2.1 G.2.2.1 G.2.2.2 s a b t) : qi_in lim G s a b = (nI t, G) := by
  obtain ⟨n, sy, lf, rt⟩ := G
  refine qi_in_f ht m fun t' ht' m' => ?_
  have := un t t' ht (by show t' < n; have : t < n := ht; omega) (m.1.trans m'.1.symm) (m.2.1.trans m'.2.1.symm) (m.2.2.trans m'.2.2.symm)
  omega
section
variable {lim np : Nat} {psy pl pr ps : Nat → Int32} {F : Nat → Bool} {G : QG} {st : Nat → Int32}
def qi_pre (np : Nat) (pl pr : Nat → Int32) (F : Nat → Bool) (n : Nat) (st : Nat → Int32) : Prop :=
  (∀ q, F q = true → 3 ≤ q ∧ q < np) ∧ (∀ q x, F q = true → qp_cd pl pr q x → F x = true ∨ ∃ j, j < n ∧ st x = nI j)
def qi_bi (lim : Nat) (psy pl pr : Nat → Int32) (F : Nat → Bool) (G : QG) (st : Nat → Int32) (i : Nat) (o : Bool × QG × (Nat → Int32)) : Prop :=
  qi_gk lim o.2.1 ∧ qi_ge G o.2.1 ∧ (∀ x, (i ≤ x ∨ F x = false) → o.2.2 x = st x) ∧
  (o.1 = true → ∀ q, q < i → F q = true → ∃ t, t < o.2.1.1 ∧ o.2.2 q = nI t ∧ qi_m o.2.1.2.1 o.2.1.2.2.1 o.2.1.2.2.2 (psy q) (qc_lb o.2.2 (pl q)) (qc_lb o.2.2 (pr q)) t)
theorem qi_sg (h : qp_ok np psy pl pr ps) {st : Nat → Int32} {q n : Nat} (h3 : 3 ≤ q) (hq : q < np) (hx : ∀ x, qp_cd pl pr q x → ∃ j, j < n ∧ st x = nI j) : qa_sg n (psy q) (qc_lb st (pl q)) (qc_lb st (pr q)) := by
  have h32 := h.2.1
  obtain ⟨kk, hk, ek, ck⟩ := h.2.2.2.1 q h3 hq
  refine ⟨kk, hk, ek, ?_⟩
  rcases ck with ⟨a1, a2, a3⟩ | ⟨a1, a2, ⟨x, hx', a3⟩, a4⟩ | ⟨a1, ⟨x, hx', a3⟩, ⟨y, hy', a4⟩⟩
  · rw [a2, a3, qc_lb1]; exact Or.inl ⟨a1, rfl, rfl⟩
  · rw [a3, a4, qc_lb1, qc_lbN _ (by omega)]; exact Or.inr (Or.inl ⟨a1, a2, hx x ⟨by omega, Or.inl a3⟩, rfl⟩)
  · rw [a3, a4, qc_lbN _ (by omega), qc_lbN _ (by omega)]; exact Or.inr (Or.inr ⟨a1, hx x ⟨by omega, Or.inl a3⟩, hx y ⟨by omega, Or.inr a4⟩⟩)
theorem qi_bi_ch (h : qp_ok np psy pl pr ps) (pre : qi_pre np pl pr F G.1 st) {i : Nat} {o : Bool × QG × (Nat → Int32)} (ok : o.1 = true) (b : qi_bi lim psy pl pr F G st i o) (fi : F i = true) : ∀ x, qp_cd pl pr i x → ∃ j, j < o.2.1.1 ∧ o.2.2 x = nI j := by
  intro x cx
  have lt := (qp_cd_lt h (pre.1 i fi).2 cx).1
  cases fx : F x
  · rw [b.2.2.1 x (Or.inr fx)]
    rcases pre.2 i x fi cx with z | ⟨j, hj, e⟩
    · rw [fx] at z; exact absurd z (by decide)
    · exact ⟨j, Nat.lt_of_lt_of_le hj b.2.1.1, e⟩
  · obtain ⟨t, ht, e, _⟩ := b.2.2.2 ok x lt fx
    exact ⟨t, ht, e⟩
theorem qi_lb_eq (h : qp_ok np psy pl pr ps) {q : Nat} (hq : q < np) {f f' : Nat → Int32} (e : ∀ x, qp_cd pl pr q x → f' x = f x) : qc_lb f' (pl q) = qc_lb f (pl q) ∧ qc_lb f' (pr q) = qc_lb f (pr q) := by
  have h32 := h.2.1
  have k := qp_ch h hq
  constructor
  · rcases k.1 with z | ⟨j, hj, z⟩
    · rw [z, qc_lb1, qc_lb1]
    · rw [z, qc_lbN _ (by omega), qc_lbN _ (by omega)]; exact e j ⟨by omega, Or.inl z⟩
  · rcases k.2 with z | ⟨j, hj, z⟩
    · rw [z, qc_lb1, qc_lb1]
    · rw [z, qc_lbN _ (by omega), qc_lbN _ (by omega)]; exact e j ⟨by omega, Or.inr z⟩
theorem qi_bd_i (hl : lim ≤ 32) (h : qp_ok np psy pl pr ps) (pre : qi_pre np pl pr F G.1 st) (gk : qi_gk lim G) : ∀ i, qi_bi lim psy pl pr F G st i (qi_bd lim psy pl pr F G st i)
  | 0 => ⟨gk, qi_ge_rf G, fun _ _ => rfl, fun _ q hq => absurd hq (Nat.not_lt_zero _)⟩
  | i + 1 => by
    have ih := qi_bd_i hl h pre gk i
    rw [qi_bd]
    generalize qi_bd lim psy pl pr F G st i = o at ih
    by_cases ok : o.1 = true
    · rw [if_pos ok]
      by_cases fi : F i = true
      · rw [if_pos fi]
        have h3 := pre.1 i fi
        have sg := qi_sg h h3.1 h3.2 (qi_bi_ch h pre ok ih fi)
        have k := qi_in_k hl ih.1 sg
        unfold qi_st
        generalize qi_in lim o.2.1 (psy i) (qc_lb o.2.2 (pl i)) (qc_lb o.2.2 (pr i)) = w at k
        by_cases z : w.1 = -3
        · rw [if_pos z]
          exact ⟨k.1, qi_ge_tr ih.2.1 k.2.1, fun x hx => ih.2.2.1 x (hx.elim (fun z => Or.inl (by omega)) Or.inr), fun z => Bool.noConfusion z⟩
        · rw [if_neg z]
          refine ⟨k.1, qi_ge_tr ih.2.1 k.2.1, fun x hx => ?_, fun _ q hq fq => ?_⟩
          · have : x ≠ i := by
              rintro rfl
              rcases hx with q | q
              · omega
              · rw [fi] at q; exact absurd q (by decide)
            show upd o.2.2 i w.1 x = st x
            rw [pk_un this]
            exact ih.2.2.1 x (hx.elim (fun z => Or.inl (by omega)) Or.inr)
          · show ∃ t, t < w.2.1 ∧ upd o.2.2 i w.1 q = nI t ∧ qi_m w.2.2.1 w.2.2.2.1 w.2.2.2.2 (psy q) (qc_lb (upd o.2.2 i w.1) (pl q)) (qc_lb (upd o.2.2 i w.1) (pr q)) t
            have qn := (pre.1 q fq).2
            have le := qi_lb_eq h qn (f := o.2.2) (f' := upd o.2.2 i w.1) (fun x cx => pk_un (by have := (qp_cd_lt h qn cx).1; omega))
            rw [le.1, le.2]
            by_cases e : q = i
            · subst e
              rw [pk_us]
              rcases k.2.2 with w' | w'
              · exact (z w').elim
              · exact w'
            · rw [pk_un e]
              obtain ⟨t, ht, e1, e2⟩ := ih.2.2.2 ok q (by omega) fq
              have a := k.2.1.2 t ht
              exact ⟨t, Nat.lt_of_lt_of_le ht k.2.1.1, e1, a.1.trans e2.1, a.2.1.trans e2.2.1, a.2.2.trans e2.2.2⟩
      · rw [if_neg fi]
        refine ⟨ih.1, ih.2.1, fun x hx => ih.2.2.1 x ?_, fun ok q hq fq => ih.2.2.2 ok q ?_ fq⟩
        · rcases hx with z | z
          · exact Or.inl (by omega)
          · exact Or.inr z
        · refine Classical.byContradiction fun z => ?_
          have : q = i := by omega
          subst this; exact fi fq
    · rw [if_neg ok]
      exact ⟨ih.1, ih.2.1, fun x hx => ih.2.2.1 x (hx.elim (fun z => Or.inl (by omega)) Or.inr), fun z => (ok z).elim⟩
theorem qi_bd_ext {i : Nat} : ∀ d, (∀ q, i ≤ q → q < i + d → F q = false) → qi_bd lim psy pl pr F G st (i + d) = qi_bd lim psy pl pr F G st i
  | 0, _ => rfl
  | d + 1, h => by
    show qi_bd lim psy pl pr F G st (i + d + 1) = _
    rw [qi_bd, h (i + d) (by omega) (by omega), qi_bd_ext d (fun q h1 h2 => h q h1 (by omega))]
    by_cases z : (qi_bd lim psy pl pr F G st i).1 = true
    · rw [if_pos z, if_neg (by decide)]
    · rw [if_neg z]
theorem qi_bd_bad {i : Nat} (h : (qi_bd lim psy pl pr F G st i).1 = false) : ∀ d, qi_bd lim psy pl pr F G st (i + d) = qi_bd lim psy pl pr F G st i
  | 0 => rfl
  | d + 1 => by
    show qi_bd lim psy pl pr F G st (i + d + 1) = _
    rw [qi_bd, qi_bd_bad h d, if_neg (by rw [h]; decide)]
theorem qi_bd_again (hl : lim ≤ 32) (h : qp_ok np psy pl pr ps) {F2 : Nat → Bool} (pre1 : qi_pre np pl pr F G.1 st) (gk : qi_gk lim G) (ok : (qi_bd lim psy pl pr F G st 32).1 = true)
    (cl : ∀ q x, F q = true → qp_cd pl pr q x → F x = true ∨ x < 3) (pre2 : ∀ q, F2 q = true → 3 ≤ q ∧ q < np) (ch2 : ∀ q x, F2 q = true → qp_cd pl pr q x → F2 x = true ∨ F x = true ∨ ∃ j, j < G.1 ∧ st x = nI j) :
    ∀ i, qi_bd lim psy pl pr F2 (qi_bd lim psy pl pr F G st 32).2.1 (qi_bd lim psy pl pr F G st 32).2.2 i = qi_bd lim psy pl pr (fun q => F2 q && !F q) (qi_bd lim psy pl pr F G st 32).2.1 (qi_bd lim psy pl pr F G st 32).2.2 i := by
  have b1 := qi_bd_i hl h pre1 gk 32
  generalize qi_bd lim psy pl pr F G st 32 = o1 at b1 ok
  have h32 := h.2.1
  have pre' : qi_pre np pl pr (fun q => F2 q && !F q) o1.2.1.1 o1.2.2 := by
    refine ⟨fun q e => ?_, fun q x e cx => ?_⟩
    · rw [Bool.and_eq_true] at e; exact pre2 q e.1
    · rw [Bool.and_eq_true] at e
      cases fx : F x
      · rcases ch2 q x e.1 cx with z | z | ⟨j, hj, z⟩
        · left; show (F2 x && !F x) = true; rw [z, fx]; rfl
        · rw [fx] at z; exact absurd z (by decide)
        · right; exact ⟨j, Nat.lt_of_lt_of_le hj b1.2.1.1, by rw [b1.2.2.1 x (Or.inr fx)]; exact z⟩
      · obtain ⟨t, ht, e1, _⟩ := b1.2.2.2 ok x (by have := (pre1.1 x fx).2; omega) fx
        exact Or.inr ⟨t, ht, e1⟩
  intro i
  induction i with
  | zero => rfl
  | succ i ih =>
    rw [qi_bd, qi_bd, ih]
    have b2 := qi_bd_i hl h pre' b1.1 i
    generalize qi_bd lim psy pl pr (fun q => F2 q && !F q) o1.2.1 o1.2.2 i = o at b2
    by_cases z : o.1 = true
    · rw [if_pos z, if_pos z]
      cases f2 : F2 i
      · rfl
      · cases f1 : F i
        · rfl
        · have q3 := pre1.1 i f1
          obtain ⟨t, ht, e1, m⟩ := b1.2.2.2 ok i (by omega) f1
          have keep : ∀ x, F x = true ∨ ¬ 3 ≤ x → o.2.2 x = o1.2.2 x := by
            intro x hx
            refine b2.2.2.1 x (Or.inr ?_)
            show (F2 x && !F x) = false
            rcases hx with hx | hx
            · rw [hx, Bool.not_true, Bool.and_false]
            · cases z : F2 x
              · rfl
              · exact (hx (pre2 x z).1).elim
          have le := qi_lb_eq h q3.2 (f := o1.2.2) (f' := o.2.2) (fun x cx => (cl i x f1 cx).elim (fun z => keep x (Or.inl z)) (fun z => keep x (Or.inr (by omega))))
          have a := b2.2.1.2 t ht
          have e := qi_in_there (lim := lim) b2.1.2.2 (Nat.lt_of_lt_of_le ht b2.2.1.1) (show qi_m o.2.1.2.1 o.2.1.2.2.1 o.2.1.2.2.2 (psy i) (qc_lb o.2.2 (pl i)) (qc_lb o.2.2 (pr i)) t from ⟨a.1.trans m.1, by rw [le.1]; exact a.2.1.trans m.2.1, by rw [le.2]; exact a.2.2.trans m.2.2⟩)
          rw [if_pos rfl, if_neg (show ¬ (true && !true) = true by decide)]
          unfold qi_st
          rw [e, if_neg (qa_ne3 (by have := b2.1.1; have := Nat.lt_of_lt_of_le ht b2.2.1.1; omega))]
          obtain ⟨ob, oG, ost⟩ := o
          dsimp only at z
          subst z
          show (true, oG, upd ost i (nI t)) = (true, oG, ost)
          have : upd ost i (nI t) = ost := by
            funext j
            by_cases w : j = i
            · subst w; rw [pk_us, ← e1]; exact (keep j (Or.inl f1)).symm
            · rw [pk_un w]
          rw [this]
    · rw [if_neg z, if_neg z]
theorem qi_bd_st (h : qp_ok np psy pl pr ps) {D : Nat → Prop} {st' : Nat → Int32} (hF : ∀ q, F q = true → q < np ∧ ∀ x, qp_cd pl pr q x → D x ∨ F x = true) (e : ∀ x, D x → st x = st' x) :
    ∀ i, (qi_bd lim psy pl pr F G st i).1 = (qi_bd lim psy pl pr F G st' i).1 ∧ (qi_bd lim psy pl pr F G st i).2.1 = (qi_bd lim psy pl pr F G st' i).2.1 ∧ (∀ x, (D x ∨ (x < i ∧ F x = true ∧ (qi_bd lim psy pl pr F G st i).1 = true)) → (qi_bd lim psy pl pr F G st i).2.2 x = (qi_bd lim psy pl pr F G st' i).2.2 x) := by
  intro i
  induction i with
  | zero => exact ⟨rfl, rfl, fun x hx => hx.elim (e x) (fun z => absurd z.1 (Nat.not_lt_zero _))⟩
  | succ i ih =>
    rw [qi_bd, qi_bd]
    generalize qi_bd lim psy pl pr F G st i = o at ih
    generalize qi_bd lim psy pl pr F G st' i = o' at ih
    obtain ⟨i1, i2, i3⟩ := ih
    by_cases z : o.1 = true
    · have z' : o'.1 = true := by rw [← i1]; exact z
      rw [if_pos z, if_pos z']
      by_cases fi : F i = true
      · rw [if_pos fi, if_pos fi]
        have k := hF i fi
        have le := qi_lb_eq h k.1 (f := o'.2.2) (f' := o.2.2) (fun x cx => i3 x ((k.2 x cx).elim Or.inl (fun fx => Or.inr ⟨(qp_cd_lt h k.1 cx).1, fx, z⟩)))
        unfold qi_st
        rw [le.1, le.2, i2]
        by_cases w : (qi_in lim o'.2.1 (psy i) (qc_lb o'.2.2 (pl i)) (qc_lb o'.2.2 (pr i))).1 = -3
        · rw [if_pos w, if_pos w]
          exact ⟨rfl, rfl, fun x hx => hx.elim (fun d => i3 x (Or.inl d)) (fun d => Bool.noConfusion d.2.2)⟩
        · rw [if_neg w, if_neg w]
          refine ⟨rfl, rfl, fun x hx => ?_⟩
          show upd o.2.2 i _ x = upd o'.2.2 i _ x
          by_cases q : x = i
          · subst q; rw [pk_us, pk_us]
          · rw [pk_un q, pk_un q]
            exact i3 x (hx.elim Or.inl (fun d => Or.inr ⟨by have := d.1; omega, d.2.1, z⟩))
      · rw [if_neg fi, if_neg fi]
        refine ⟨i1, i2, fun x hx => i3 x (hx.elim Or.inl (fun d => Or.inr ⟨?_, d.2⟩))⟩
        refine Classical.byContradiction fun w => ?_
        have : x = i := by have := d.1; omega
        subst this; exact fi d.2.1
    · have z' : ¬ o'.1 = true := by rw [← i1]; exact z
      rw [if_neg z, if_neg z']
      exact ⟨i1, i2, fun x hx => i3 x (hx.elim Or.inl (fun d => (z d.2.2).elim))⟩
end
end
section
theorem qi_ab {m : Nat} {s a b : Int32} (g : qa_sg m s a b) : qi_a s a = a ∧ qi_b s b = b := by
  obtain ⟨k, hk, rfl, g⟩ := g
  unfold qi_a qi_b
  rcases g with ⟨h1, rfl, rfl⟩ | ⟨h1, h2, h3, rfl⟩ | ⟨h1, h3, h4⟩
  · exact ⟨by by_cases z : 8 ≤ nI k <;> simp [z], by by_cases z : 12 ≤ nI k <;> simp [z]⟩
  · exact ⟨if_pos (by rw [qa_8]; exact nI_le h1 (by omega)), by by_cases z : 12 ≤ nI k <;> simp [z]⟩
  · exact ⟨if_pos (by rw [qa_8]; exact nI_le (by omega) (by omega)), if_pos (by rw [qa_12]; exact nI_le h1 (by omega))⟩
def qi_S (ps : Nat → Int32) (l : Nat) : Int32 := ps l &&& (-8)
def qi_S' (ps : Nat → Int32) (r l : Nat) : Int32 := (ps r &&& (ps l ^^^ (-1))) &&& (-8)
theorem qi_S_b (ps : Nat → Int32) (l q : Nat) : bt (qi_S ps l) q = (bt (ps l) q && decide (3 ≤ q)) := by
  unfold qi_S
  rcases Nat.lt_or_ge q 32 with h | h
  · rw [b_and, qb_bm8 q h]
  · rw [b_big h, b_big h]; rfl
theorem qi_S'_b (ps : Nat → Int32) (r l q : Nat) : bt (qi_S' ps r l) q = (bt (qi_S ps r) q && !bt (qi_S ps l) q) := by
  unfold qi_S'
  rcases Nat.lt_or_ge q 32 with h | h
  · rw [b_and, b_and, qb_not _ h, qb_bm8 q h, qi_S_b, qi_S_b]
    cases bt (ps r) q <;> cases bt (ps l) q <;> by_cases z : 3 ≤ q <;> simp [z]
  · rw [b_big h, b_big h]; rfl
def qi_co (lim lme : Nat) (psy pl pr ps : Nat → Int32) (l r : Nat) (ru : Int32) (st : Nat → Int32) (s : QG × QG) : Bool × QG × QG :=
  if s.2.1 < lme then
    (if (qi_bd lim psy pl pr (bt (qi_S ps l)) s.1 st 32).1 = true then
      (if (qi_bd lim psy pl pr (bt (qi_S' ps r l)) (qi_bd lim psy pl pr (bt (qi_S ps l)) s.1 st 32).2.1 (qi_bd lim psy pl pr (bt (qi_S ps l)) s.1 st 32).2.2 32).1 = true then
        (true, (qi_bd lim psy pl pr (bt (qi_S' ps r l)) (qi_bd lim psy pl pr (bt (qi_S ps l)) s.1 st 32).2.1 (qi_bd lim psy pl pr (bt (qi_S ps l)) s.1 st 32).2.2 32).2.1,
          (s.2.1 + 1, upd s.2.2.1 s.2.1 ((qi_bd lim psy pl pr (bt (qi_S' ps r l)) (qi_bd lim psy pl pr (bt (qi_S ps l)) s.1 st 32).2.1 (qi_bd lim psy pl pr (bt (qi_S ps l)) s.1 st 32).2.2 32).2.2 l), upd s.2.2.2.1 s.2.1 ((qi_bd lim psy pl pr (bt (qi_S' ps r l)) (qi_bd lim psy pl pr (bt (qi_S ps l)) s.1 st 32).2.1 (qi_bd lim psy pl pr (bt (qi_S ps l)) s.1 st 32).2.2 32).2.2 r), upd s.2.2.2.2 s.2.1 ru))
      else (false, (s.1.1, (qi_bd lim psy pl pr (bt (qi_S' ps r l)) (qi_bd lim psy pl pr (bt (qi_S ps l)) s.1 st 32).2.1 (qi_bd lim psy pl pr (bt (qi_S ps l)) s.1 st 32).2.2 32).2.1.2), s.2))
    else (false, (s.1.1, (qi_bd lim psy pl pr (bt (qi_S ps l)) s.1 st 32).2.1.2), s.2))
  else (false, s)
def qi_cp (np n : Nat) (ps : Nat → Int32) (l r : Nat) (st : Nat → Int32) : Prop :=
  3 ≤ l ∧ l < np ∧ r < np ∧ (∀ v, v < 3 → bt (ps r) v = true → bt (ps l) v = true) ∧ (∀ v, v < 3 → bt (ps l) v = true → ∃ j, j < n ∧ st v = nI j)
section
variable {lim np : Nat} {psy pl pr ps : Nat → Int32} {G : QG} {st : Nat → Int32} {l r : Nat}
theorem qi_S_t (h : qp_ok np psy pl pr ps) {q : Nat} (hl : l < np) : bt (qi_S ps l) q = true ↔ bt (ps l) q = true ∧ 3 ≤ q := by
  rw [qi_S_b, Bool.and_eq_true, decide_eq_true_eq]
theorem qi_S_cl (h : qp_ok np psy pl pr ps) (hl : l < np) : ∀ q x, bt (qi_S ps l) q = true → qp_cd pl pr q x → bt (qi_S ps l) x = true ∨ x < 3 := by
  intro q x b c
  rw [qi_S_t h hl] at b
  by_cases z : x < 3
  · exact Or.inr z
  · exact Or.inl ((qi_S_t h hl).mpr ⟨qp_dn h l hl q x b.1 c, by omega⟩)
theorem qi_S_pre (h : qp_ok np psy pl pr ps) (c : qi_cp np G.1 ps l r st) : qi_pre np pl pr (bt (qi_S ps l)) G.1 st := by
  refine ⟨fun q b => ?_, fun q x b cx => ?_⟩
  · rw [qi_S_t h c.2.1] at b
    have := qp_le h l c.2.1 q b.1
    exact ⟨b.2, by have := c.2.1; omega⟩
  · by_cases z : x < 3
    · rw [qi_S_t h c.2.1] at b
      exact Or.inr (c.2.2.2.2 x z (qp_dn h l c.2.1 q x b.1 cx))
    · exact (qi_S_cl h c.2.1 q x b cx).elim Or.inl (fun w => (z w).elim)
theorem qi_S'_pre (hl : lim ≤ 32) (h : qp_ok np psy pl pr ps) (gk : qi_gk lim G) (c : qi_cp np G.1 ps l r st) (ok : (qi_bd lim psy pl pr (bt (qi_S ps l)) G st 32).1 = true) :
    qi_pre np pl pr (bt (qi_S' ps r l)) (qi_bd lim psy pl pr (bt (qi_S ps l)) G st 32).2.1.1 (qi_bd lim psy pl pr (bt (qi_S ps l)) G st 32).2.2 := by
  have b1 := qi_bd_i hl h (qi_S_pre h c) gk 32
  have hr := c.2.2.1
  have h32 := h.2.1
  refine ⟨fun q b => ?_, fun q x b cx => ?_⟩
  · rw [qi_S'_b, Bool.and_eq_true, qi_S_t h hr] at b
    have := qp_le h r hr q b.1.1
    exact ⟨b.1.2, by omega⟩
  · rw [qi_S'_b, Bool.and_eq_true, qi_S_t h hr] at b
    have xr := qp_dn h r hr q x b.1.1 cx
    by_cases z : x < 3
    · obtain ⟨j, hj, e⟩ := c.2.2.2.2 x z (c.2.2.2.1 x z xr)
      right
      refine ⟨j, Nat.lt_of_lt_of_le hj b1.2.1.1, ?_⟩
      rw [b1.2.2.1 x (Or.inr (by rw [qi_S_b, decide_eq_false (by omega), Bool.and_false]))]
      exact e
    · cases w : bt (qi_S ps l) x
      · left
        rw [qi_S'_b, w, (qi_S_t h hr).mpr ⟨xr, by omega⟩]; rfl
      · obtain ⟨t, ht, e, _⟩ := b1.2.2.2 ok x (by have := ((qi_S_pre h c).1 x w).2; omega) w
        exact Or.inr ⟨t, ht, e⟩
theorem qi_S'_eq (hl : lim ≤ 32) (h : qp_ok np psy pl pr ps) (gk : qi_gk lim G) (c : qi_cp np G.1 ps l r st) (ok : (qi_bd lim psy pl pr (bt (qi_S ps l)) G st 32).1 = true) :
    qi_bd lim psy pl pr (bt (qi_S ps r)) (qi_bd lim psy pl pr (bt (qi_S ps l)) G st 32).2.1 (qi_bd lim psy pl pr (bt (qi_S ps l)) G st 32).2.2 32 =
    qi_bd lim psy pl pr (bt (qi_S' ps r l)) (qi_bd lim psy pl pr (bt (qi_S ps l)) G st 32).2.1 (qi_bd lim psy pl pr (bt (qi_S ps l)) G st 32).2.2 32 := by
  have hr := c.2.2.1
  have e : bt (qi_S' ps r l) = fun q => bt (qi_S ps r) q && !bt (qi_S ps l) q := funext fun q => qi_S'_b ps r l q
  rw [e]
  refine qi_bd_again hl h (qi_S_pre h c) gk ok (qi_S_cl h c.2.1) (fun q b => ?_) (fun q x b cx => ?_) 32
  · rw [qi_S_t h hr] at b
    have := qp_le h r hr q b.1
    exact ⟨b.2, by omega⟩
  · rw [qi_S_t h hr] at b
    have xr := qp_dn h r hr q x b.1 cx
    by_cases z : x < 3
    · exact Or.inr (Or.inr (c.2.2.2.2 x z (c.2.2.2.1 x z xr)))
    · exact Or.inl ((qi_S_t h hr).mpr ⟨xr, by omega⟩)
end
section
variable {f_patternLimit f_ruleLimit f_eventLimit f_patternCount f_ruleCount f_eventCount f_closedTerms f_closedEvents f_classCount f_dirty f_matchPattern f_matchDepth f_levelCount f_groundLeft f_costsFresh f_settledClasses f_reachedClasses f_orderCount f_explainedCount : Int32} {a_patSubs a_patTop a_byTop a_patternIndex a_ruleLeft a_ruleRight a_eventLeft a_eventRight a_eventRule a_symbolWeight a_leader a_members a_users a_symbolTerms a_signTerm a_levelVar a_levelRest a_patValue a_order a_bestTerm a_gotTerm a_explainedEvent : Nat → Int32} {a_best a_treeCost : Nat → Int64}
variable {lim np n : Nat} {sy lf rt ti psy pl pr ps st : Nat → Int32}
theorem qx_bd58 {post : Int32 → SX → Prop} {J2 : Int32 → Int32 → Int32 → Int32 → Int32 → Int32 → Int32 → Int32 → Int32 → Int32 → Int32 → Int32 → Int32 → Int32 → Int32 → Int32 → Int32 → Int32 → Int32 → Int32 → Int32 → Int32 → (Nat → Int32) → (Nat → Int32) → (Nat → Int32) → (Nat → Int32) → (Nat → Int32) → (Nat → Int32) → (Nat → Int32) → (Nat → Int32) → (Nat → Int32) → (Nat → Int32) → (Nat → Int32) → (Nat → Int32) → (Nat → Int32) → (Nat → Int32) → (Nat → Int32) → (Nat → Int32) → (Nat → Int32) → (Nat → Int32) → (Nat → Int32) → (Nat → Int32) → (Nat → Int32) → (Nat → Int32) → (Nat → Int32) → (Nat → Int32) → (Nat → Int32) → (Nat → Int32) → (Nat → Int32) → (Nat → Int64) → (Nat → Int32) → (Nat → Int32) → (Nat → Int64) → (Nat → Int32) → Prop} {x2 a b : Int32} {q : Nat} (hl : lim ≤ 32) (hn : n ≤ lim) (g : ∀ t, t < n → qa_tok sy lf rt t) (h : qx_ti n sy lf rt ti) (hq : q < 32) (sg : qa_sg n (psy q) a b)
    (K : ∀ r n' sy' lf' rt' ti', (r, n', sy', lf', rt') = qi_in lim (n, sy, lf, rt) (psy q) a b → qx_ti n' sy' lf' rt' ti' → (r = -3 → post 0 (nI lim, f_patternLimit, f_ruleLimit, f_eventLimit, nI n', f_patternCount, f_ruleCount, f_eventCount, f_closedTerms, f_closedEvents, f_classCount, f_dirty, f_matchPattern, f_matchDepth, f_levelCount, f_groundLeft, f_costsFresh, f_settledClasses, f_reachedClasses, f_orderCount, f_explainedCount, sy', lf', rt', ti', psy, pl, pr, a_patSubs, a_patTop, a_byTop, a_patternIndex, a_ruleLeft, a_ruleRight, a_eventLeft, a_eventRight, a_eventRule, a_symbolWeight, a_leader, a_members, a_users, a_symbolTerms, a_signTerm, a_levelVar, a_levelRest, a_patValue, st, a_order, a_best, a_bestTerm, a_gotTerm, a_treeCost, a_explainedEvent)) ∧ (¬ r = -3 → J2 (x2 &&& (x2 - 1)) (nI lim) f_patternLimit f_ruleLimit f_eventLimit (nI n') f_patternCount f_ruleCount f_eventCount f_closedTerms f_closedEvents f_classCount f_dirty f_matchPattern f_matchDepth f_levelCount f_groundLeft f_costsFresh f_settledClasses f_reachedClasses f_orderCount f_explainedCount sy' lf' rt' ti' psy pl pr a_patSubs a_patTop a_byTop a_patternIndex a_ruleLeft a_ruleRight a_eventLeft a_eventRight a_eventRule a_symbolWeight a_leader a_members a_users a_symbolTerms a_signTerm a_levelVar a_levelRest a_patValue (upd st q r) a_order a_best a_bestTerm a_gotTerm a_treeCost a_explainedEvent)) :
    wX_build_58 post J2 x2 (nI q) a b (nI lim) f_patternLimit f_ruleLimit f_eventLimit (nI n) f_patternCount f_ruleCount f_eventCount f_closedTerms f_closedEvents f_classCount f_dirty f_matchPattern f_matchDepth f_levelCount f_groundLeft f_costsFresh f_settledClasses f_reachedClasses f_orderCount f_explainedCount sy lf rt ti psy pl pr a_patSubs a_patTop a_byTop a_patternIndex a_ruleLeft a_ruleRight a_eventLeft a_eventRight a_eventRule a_symbolWeight a_leader a_members a_users a_symbolTerms a_signTerm a_levelVar a_levelRest a_patValue st a_order a_best a_bestTerm a_gotTerm a_treeCost a_explainedEvent := by
  have iq : vp_in (nI q) 32 := vp_in_nI hq (by omega)
  have ab := qi_ab sg
  unfold wX_build_58
  refine ⟨iq, ?_⟩
  rw [show (nI q).toNatClampNeg = q from nI_clamp (by omega)]
  refine qx_intern hl hn g (by rw [ab.1, ab.2]; exact sg) h ?_
  intro r n' sy' lf' rt' ti' e h'
  rw [ab.1, ab.2] at e
  have k := K r n' sy' lf' rt' ti' e h'
  exact br_c k.1 (fun z => ⟨iq, nm_e (nm_e (k.2 z))⟩)
theorem qx_bd43 {post : Int32 → SX → Prop} {J2 : Int32 → Int32 → Int32 → Int32 → Int32 → Int32 → Int32 → Int32 → Int32 → Int32 → Int32 → Int32 → Int32 → Int32 → Int32 → Int32 → Int32 → Int32 → Int32 → Int32 → Int32 → Int32 → (Nat → Int32) → (Nat → Int32) → (Nat → Int32) → (Nat → Int32) → (Nat → Int32) → (Nat → Int32) → (Nat → Int32) → (Nat → Int32) → (Nat → Int32) → (Nat → Int32) → (Nat → Int32) → (Nat → Int32) → (Nat → Int32) → (Nat → Int32) → (Nat → Int32) → (Nat → Int32) → (Nat → Int32) → (Nat → Int32) → (Nat → Int32) → (Nat → Int32) → (Nat → Int32) → (Nat → Int32) → (Nat → Int32) → (Nat → Int32) → (Nat → Int32) → (Nat → Int32) → (Nat → Int32) → (Nat → Int64) → (Nat → Int32) → (Nat → Int32) → (Nat → Int64) → (Nat → Int32) → Prop} {x2 a : Int32} {q : Nat} (hl : lim ≤ 32) (hn : n ≤ lim) (g : ∀ t, t < n → qa_tok sy lf rt t) (h : qx_ti n sy lf rt ti) (hq : q < 32) (hr : pr q = -1 ∨ ∃ j, j < 32 ∧ pr q = nI j) (sg : qa_sg n (psy q) a (qc_lb st (pr q)))
    (K : ∀ r n' sy' lf' rt' ti', (r, n', sy', lf', rt') = qi_in lim (n, sy, lf, rt) (psy q) a (qc_lb st (pr q)) → qx_ti n' sy' lf' rt' ti' → (r = -3 → post 0 (nI lim, f_patternLimit, f_ruleLimit, f_eventLimit, nI n', f_patternCount, f_ruleCount, f_eventCount, f_closedTerms, f_closedEvents, f_classCount, f_dirty, f_matchPattern, f_matchDepth, f_levelCount, f_groundLeft, f_costsFresh, f_settledClasses, f_reachedClasses, f_orderCount, f_explainedCount, sy', lf', rt', ti', psy, pl, pr, a_patSubs, a_patTop, a_byTop, a_patternIndex, a_ruleLeft, a_ruleRight, a_eventLeft, a_eventRight, a_eventRule, a_symbolWeight, a_leader, a_members, a_users, a_symbolTerms, a_signTerm, a_levelVar, a_levelRest, a_patValue, st, a_order, a_best, a_bestTerm, a_gotTerm, a_treeCost, a_explainedEvent)) ∧ (¬ r = -3 → J2 (x2 &&& (x2 - 1)) (nI lim) f_patternLimit f_ruleLimit f_eventLimit (nI n') f_patternCount f_ruleCount f_eventCount f_closedTerms f_closedEvents f_classCount f_dirty f_matchPattern f_matchDepth f_levelCount f_groundLeft f_costsFresh f_settledClasses f_reachedClasses f_orderCount f_explainedCount sy' lf' rt' ti' psy pl pr a_patSubs a_patTop a_byTop a_patternIndex a_ruleLeft a_ruleRight a_eventLeft a_eventRight a_eventRule a_symbolWeight a_leader a_members a_users a_symbolTerms a_signTerm a_levelVar a_levelRest a_patValue (upd st q r) a_order a_best a_bestTerm a_gotTerm a_treeCost a_explainedEvent)) :
    wX_build_43 post J2 x2 (nI q) a (pr q) (nI lim) f_patternLimit f_ruleLimit f_eventLimit (nI n) f_patternCount f_ruleCount f_eventCount f_closedTerms f_closedEvents f_classCount f_dirty f_matchPattern f_matchDepth f_levelCount f_groundLeft f_costsFresh f_settledClasses f_reachedClasses f_orderCount f_explainedCount sy lf rt ti psy pl pr a_patSubs a_patTop a_byTop a_patternIndex a_ruleLeft a_ruleRight a_eventLeft a_eventRight a_eventRule a_symbolWeight a_leader a_members a_users a_symbolTerms a_signTerm a_levelVar a_levelRest a_patValue st a_order a_best a_bestTerm a_gotTerm a_treeCost a_explainedEvent := by
  unfold wX_build_43
  rcases hr with e | ⟨j, hj, e⟩
  · rw [e, qc_lb1] at sg K
    rw [e]
    exact br_t rfl (qx_bd58 hl hn g h hq sg K)
  · rw [e, qc_lbN _ (by omega)] at sg K
    rw [e]
    exact br_f (qa_ne1 (by omega)) ⟨vp_in_nI hj (by omega), nm_r (e' := st j) (by rw [nI_clamp (by omega)]) (qx_bd58 hl hn g h hq sg K)⟩
theorem qx_build {post : Int32 → SX → Prop} {S : Int32} (hl : lim ≤ 32) (hp : qp_ok np psy pl pr ps) (gk : qi_gk lim (n, sy, lf, rt)) (h : qx_ti n sy lf rt ti) (pre : qi_pre np pl pr (bt S) n st)
    (K1 : ∀ n' sy' lf' rt' ti' st', qi_bd lim psy pl pr (bt S) (n, sy, lf, rt) st 32 = (true, (n', sy', lf', rt'), st') → qx_ti n' sy' lf' rt' ti' → post 1 (nI lim, f_patternLimit, f_ruleLimit, f_eventLimit, nI n', f_patternCount, f_ruleCount, f_eventCount, f_closedTerms, f_closedEvents, f_classCount, f_dirty, f_matchPattern, f_matchDepth, f_levelCount, f_groundLeft, f_costsFresh, f_settledClasses, f_reachedClasses, f_orderCount, f_explainedCount, sy', lf', rt', ti', psy, pl, pr, a_patSubs, a_patTop, a_byTop, a_patternIndex, a_ruleLeft, a_ruleRight, a_eventLeft, a_eventRight, a_eventRule, a_symbolWeight, a_leader, a_members, a_users, a_symbolTerms, a_signTerm, a_levelVar, a_levelRest, a_patValue, st', a_order, a_best, a_bestTerm, a_gotTerm, a_treeCost, a_explainedEvent))
    (K0 : ∀ n' sy' lf' rt' ti' st', qi_bd lim psy pl pr (bt S) (n, sy, lf, rt) st 32 = (false, (n', sy', lf', rt'), st') → qx_ti n' sy' lf' rt' ti' → post 0 (nI lim, f_patternLimit, f_ruleLimit, f_eventLimit, nI n', f_patternCount, f_ruleCount, f_eventCount, f_closedTerms, f_closedEvents, f_classCount, f_dirty, f_matchPattern, f_matchDepth, f_levelCount, f_groundLeft, f_costsFresh, f_settledClasses, f_reachedClasses, f_orderCount, f_explainedCount, sy', lf', rt', ti', psy, pl, pr, a_patSubs, a_patTop, a_byTop, a_patternIndex, a_ruleLeft, a_ruleRight, a_eventLeft, a_eventRight, a_eventRule, a_symbolWeight, a_leader, a_members, a_users, a_symbolTerms, a_signTerm, a_levelVar, a_levelRest, a_patValue, st', a_order, a_best, a_bestTerm, a_gotTerm, a_treeCost, a_explainedEvent)) :
    wpX_build post (nI lim, f_patternLimit, f_ruleLimit, f_eventLimit, nI n, f_patternCount, f_ruleCount, f_eventCount, f_closedTerms, f_closedEvents, f_classCount, f_dirty, f_matchPattern, f_matchDepth, f_levelCount, f_groundLeft, f_costsFresh, f_settledClasses, f_reachedClasses, f_orderCount, f_explainedCount, sy, lf, rt, ti, psy, pl, pr, a_patSubs, a_patTop, a_byTop, a_patternIndex, a_ruleLeft, a_ruleRight, a_eventLeft, a_eventRight, a_eventRule, a_symbolWeight, a_leader, a_members, a_users, a_symbolTerms, a_signTerm, a_levelVar, a_levelRest, a_patValue, st, a_order, a_best, a_bestTerm, a_gotTerm, a_treeCost, a_explainedEvent) S := by
  have h32 := hp.2.1
  unfold wpX_build
  refine ⟨33, qb_loop (σ := QG × (Nat → Int32) × (Nat → Int32)) (fun k r s => wX_build_2 post k r (nI lim) f_patternLimit f_ruleLimit f_eventLimit (nI s.1.1) f_patternCount f_ruleCount f_eventCount f_closedTerms f_closedEvents f_classCount f_dirty f_matchPattern f_matchDepth f_levelCount f_groundLeft f_costsFresh f_settledClasses f_reachedClasses f_orderCount f_explainedCount s.1.2.1 s.1.2.2.1 s.1.2.2.2 s.2.1 psy pl pr a_patSubs a_patTop a_byTop a_patternIndex a_ruleLeft a_ruleRight a_eventLeft a_eventRight a_eventRule a_symbolWeight a_leader a_members a_users a_symbolTerms a_signTerm a_levelVar a_levelRest a_patValue s.2.2 a_order a_best a_bestTerm a_gotTerm a_treeCost a_explainedEvent) S (fun i s => qi_bd lim psy pl pr (bt S) (n, sy, lf, rt) st i = (true, s.1, s.2.2) ∧ qx_ti s.1.1 s.1.2.1 s.1.2.2.1 s.1.2.2.2 s.2.1) ?_ ?_ ?_ ((n, sy, lf, rt), ti, st) ⟨rfl, h⟩⟩
  · rintro k ⟨⟨n', sy', lf', rt'⟩, ti', st'⟩ hs
    dsimp only at hs
    dsimp only
    rw [wX_build_2]
    exact br_t rfl (K1 n' sy' lf' rt' ti' st' hs.1 hs.2)
  · intro i s hi bi hs
    refine ⟨?_, hs.2⟩
    rw [qi_bd, hs.1, bi, if_pos rfl, if_neg (by decide)]
  · rintro k i r ⟨⟨n', sy', lf', rt'⟩, ti', st'⟩ hr lo bi hs Kn
    dsimp only at hs
    dsimp only
    have b := qi_bd_i hl hp pre gk i
    rw [hs.1] at b
    have q3 := pre.1 i bi
    have sg := qi_sg hp q3.1 q3.2 (qi_bi_ch hp pre (o := (true, (n', sy', lf', rt'), st')) rfl b bi)
    have i32 := lo.1
    have ii : vp_in (nI i) 32 := vp_in_nI i32 (by omega)
    have ci : (nI i).toNatClampNeg = i := nI_clamp (by omega)
    have ch := qp_ch hp q3.2
    have hn' : n' ≤ lim := b.1.1
    have w32 : ∀ {x : Int32}, (x = -1 ∨ ∃ j, j < i ∧ x = nI j) → (x = -1 ∨ ∃ j, j < 32 ∧ x = nI j) := fun hx => hx.elim Or.inl (fun ⟨j, hj, e⟩ => Or.inr ⟨j, by omega, e⟩)
    have KK : ∀ r2 n2 sy2 lf2 rt2 ti2, (r2, n2, sy2, lf2, rt2) = qi_in lim (n', sy', lf', rt') (psy i) (qc_lb st' (pl i)) (qc_lb st' (pr i)) → qx_ti n2 sy2 lf2 rt2 ti2 → (r2 = -3 → post 0 (nI lim, f_patternLimit, f_ruleLimit, f_eventLimit, nI n2, f_patternCount, f_ruleCount, f_eventCount, f_closedTerms, f_closedEvents, f_classCount, f_dirty, f_matchPattern, f_matchDepth, f_levelCount, f_groundLeft, f_costsFresh, f_settledClasses, f_reachedClasses, f_orderCount, f_explainedCount, sy2, lf2, rt2, ti2, psy, pl, pr, a_patSubs, a_patTop, a_byTop, a_patternIndex, a_ruleLeft, a_ruleRight, a_eventLeft, a_eventRight, a_eventRule, a_symbolWeight, a_leader, a_members, a_users, a_symbolTerms, a_signTerm, a_levelVar, a_levelRest, a_patValue, st', a_order, a_best, a_bestTerm, a_gotTerm, a_treeCost, a_explainedEvent)) ∧ (¬ r2 = -3 → wX_build_2 post k (r &&& (r - 1)) (nI lim) f_patternLimit f_ruleLimit f_eventLimit (nI n2) f_patternCount f_ruleCount f_eventCount f_closedTerms f_closedEvents f_classCount f_dirty f_matchPattern f_matchDepth f_levelCount f_groundLeft f_costsFresh f_settledClasses f_reachedClasses f_orderCount f_explainedCount sy2 lf2 rt2 ti2 psy pl pr a_patSubs a_patTop a_byTop a_patternIndex a_ruleLeft a_ruleRight a_eventLeft a_eventRight a_eventRule a_symbolWeight a_leader a_members a_users a_symbolTerms a_signTerm a_levelVar a_levelRest a_patValue (upd st' i r2) a_order a_best a_bestTerm a_gotTerm a_treeCost a_explainedEvent) := by
      intro r2 n2 sy2 lf2 rt2 ti2 e h2
      have stp : qi_bd lim psy pl pr (bt S) (n, sy, lf, rt) st (i + 1) = qi_st lim psy pl pr i (n', sy', lf', rt') st' := by
        rw [qi_bd, hs.1, bi, if_pos rfl, if_pos rfl]
      unfold qi_st at stp
      rw [← e] at stp
      refine ⟨fun z => ?_, fun z => ?_⟩
      · rw [if_pos z] at stp
        refine K0 n2 sy2 lf2 rt2 ti2 st' ?_ h2
        have := qi_bd_bad (lim := lim) (psy := psy) (pl := pl) (pr := pr) (F := bt S) (G := (n, sy, lf, rt)) (st := st) (i := i + 1) (by rw [stp]) (32 - (i + 1))
        rw [show i + 1 + (32 - (i + 1)) = 32 by omega, stp] at this
        exact this
      · rw [if_neg z] at stp
        exact Kn ((n2, sy2, lf2, rt2), ti2, upd st' i r2) ⟨stp, h2⟩
    rw [wX_build_2]
    refine br_f hr (qx_low lo ⟨ii, nm_r (e' := pl i) (by rw [ci]) ⟨ii, nm_r (e' := pr i) (by rw [ci]) ?_⟩⟩)
    rcases ch.1 with e | ⟨j, hj, e⟩
    · rw [e, qc_lb1] at sg KK
      rw [e]
      exact br_t rfl (qx_bd43 hl hn' b.1.2.1 hs.2 i32 (w32 ch.2) sg KK)
    · rw [e, qc_lbN _ (by omega)] at sg KK
      rw [e]
      exact br_f (qa_ne1 (by omega)) ⟨vp_in_nI (by omega) (by omega), nm_r (e' := st' j) (by rw [nI_clamp (by omega)]) (qx_bd43 hl hn' b.1.2.1 hs.2 i32 (w32 ch.2) sg KK)⟩
end
end
section
section
variable {lim lme np : Nat} {psy pl pr ps : Nat → Int32} {G : QG} {st st' : Nat → Int32} {l r : Nat} {ru : Int32} {s : QG × QG}
theorem qi_co_st (h : qp_ok np psy pl pr ps) (h3 : 3 ≤ l) (hl : l < np) (hr : r < np) (hv : ∀ v, v < 3 → bt (ps r) v = true → bt (ps l) v = true) (e : ∀ v, v < 3 → bt (ps l) v = true → st v = st' v) :
    qi_co lim lme psy pl pr ps l r ru st s = qi_co lim lme psy pl pr ps l r ru st' s := by
  have h32 := h.2.1
  have a := qi_bd_st (lim := lim) (G := s.1) h (F := bt (qi_S ps l)) (D := fun x => x < 3 ∧ bt (ps l) x = true) (st := st) (st' := st') (fun q b => by
    have b' := (qi_S_t h hl).mp b
    refine ⟨by have := qp_le h l hl q b'.1; omega, fun x cx => ?_⟩
    rcases qi_S_cl h hl q x b cx with z | z
    · exact Or.inr z
    · exact Or.inl ⟨z, qp_dn h l hl q x b'.1 cx⟩) (fun x d => e x d.1 d.2) 32
  unfold qi_co
  obtain ⟨a1, a2, a3⟩ := a
  rw [← a1, ← a2]
  by_cases z : (qi_bd lim psy pl pr (bt (qi_S ps l)) s.1 st 32).1 = true
  · have b := qi_bd_st (lim := lim) (G := (qi_bd lim psy pl pr (bt (qi_S ps l)) s.1 st 32).2.1) h (F := bt (qi_S' ps r l)) (D := fun x => (x < 3 ∧ bt (ps l) x = true) ∨ bt (qi_S ps l) x = true) (st := (qi_bd lim psy pl pr (bt (qi_S ps l)) s.1 st 32).2.2) (st' := (qi_bd lim psy pl pr (bt (qi_S ps l)) s.1 st' 32).2.2) (fun q b => by
      rw [qi_S'_b, Bool.and_eq_true, qi_S_t h hr] at b
      refine ⟨by have := qp_le h r hr q b.1.1; omega, fun x cx => ?_⟩
      have xr := qp_dn h r hr q x b.1.1 cx
      by_cases w : x < 3
      · exact Or.inl (Or.inl ⟨w, hv x w xr⟩)
      · cases y : bt (qi_S ps l) x
        · right
          rw [qi_S'_b, y, (qi_S_t h hr).mpr ⟨xr, by omega⟩]; rfl
        · exact Or.inl (Or.inr rfl)) (fun x d => a3 x (d.elim Or.inl (fun d => Or.inr ⟨by have := qp_le h l hl x ((qi_S_t h hl).mp d).1; omega, d, z⟩))) 32
    obtain ⟨b1, b2, b3⟩ := b
    rw [← b1, ← b2]
    by_cases w : (qi_bd lim psy pl pr (bt (qi_S' ps r l)) (qi_bd lim psy pl pr (bt (qi_S ps l)) s.1 st 32).2.1 (qi_bd lim psy pl pr (bt (qi_S ps l)) s.1 st 32).2.2 32).1 = true
    · have el := b3 l (Or.inl (Or.inr ((qi_S_t h hl).mpr ⟨qp_self h hl, h3⟩)))
      have er := b3 r (by
        by_cases y : r < 3
        · exact Or.inl (Or.inl ⟨y, hv r y (qp_self h hr)⟩)
        · cases u : bt (qi_S ps l) r
          · refine Or.inr ⟨by omega, ?_, w⟩
            rw [qi_S'_b, u, (qi_S_t h hr).mpr ⟨qp_self h hr, by omega⟩]; rfl
          · exact Or.inl (Or.inr rfl))
      rw [el, er]
    · rw [if_neg w, if_neg w]
  · rw [if_neg z, if_neg z]
end
section
variable {f_patternLimit f_ruleLimit f_patternCount f_ruleCount f_closedTerms f_closedEvents f_classCount f_dirty f_matchPattern f_matchDepth f_levelCount f_groundLeft f_costsFresh f_settledClasses f_reachedClasses f_orderCount f_explainedCount : Int32} {a_patTop a_byTop a_patternIndex a_symbolWeight a_leader a_members a_users a_symbolTerms a_signTerm a_levelVar a_levelRest a_order a_bestTerm a_gotTerm a_explainedEvent : Nat → Int32} {a_best a_treeCost : Nat → Int64}
variable {lim lme np n m ru l r : Nat} {sy lf rt ti psy pl pr ps rl rr el er eru pv st A : Nat → Int32}
theorem qx_addEv {post : SX → Prop} {a b c : Int32} (hm : m < 64) (K : post (nI lim, f_patternLimit, f_ruleLimit, nI lme, nI n, f_patternCount, f_ruleCount, nI (m + 1), f_closedTerms, f_closedEvents, f_classCount, f_dirty, f_matchPattern, f_matchDepth, f_levelCount, f_groundLeft, f_costsFresh, f_settledClasses, f_reachedClasses, f_orderCount, f_explainedCount, sy, lf, rt, ti, psy, pl, pr, ps, a_patTop, a_byTop, a_patternIndex, rl, rr, upd el m a, upd er m b, upd eru m c, a_symbolWeight, a_leader, a_members, a_users, a_symbolTerms, a_signTerm, a_levelVar, a_levelRest, pv, st, a_order, a_best, a_bestTerm, a_gotTerm, a_treeCost, a_explainedEvent)) : wpX_addEvent post (nI lim, f_patternLimit, f_ruleLimit, nI lme, nI n, f_patternCount, f_ruleCount, nI m, f_closedTerms, f_closedEvents, f_classCount, f_dirty, f_matchPattern, f_matchDepth, f_levelCount, f_groundLeft, f_costsFresh, f_settledClasses, f_reachedClasses, f_orderCount, f_explainedCount, sy, lf, rt, ti, psy, pl, pr, ps, a_patTop, a_byTop, a_patternIndex, rl, rr, el, er, eru, a_symbolWeight, a_leader, a_members, a_users, a_symbolTerms, a_signTerm, a_levelVar, a_levelRest, pv, st, a_order, a_best, a_bestTerm, a_gotTerm, a_treeCost, a_explainedEvent) a b c := by
  have i1 : vp_in (nI m) 64 := vp_in_nI hm (by omega)
  have c1 : (nI m).toNatClampNeg = m := nI_clamp (by omega)
  unfold wpX_addEvent
  exact ⟨i1, nm_r (e' := upd el m a) (by rw [c1]) ⟨i1, nm_r (e' := upd er m b) (by rw [c1]) ⟨i1, nm_r (e' := upd eru m c) (by rw [c1]) (nm_r (nI_1 m) K)⟩⟩⟩
theorem qx_carry {post : Int32 → SX → Prop} (hru : ru < 6) (erl : rl ru = nI l) (err : rr ru = nI r) (hl : lim ≤ 32) (hle : lme ≤ 64) (hp : qp_ok np psy pl pr ps) (gk : qi_gk lim (n, sy, lf, rt)) (h : qx_ti n sy lf rt ti) (cp : qi_cp np n ps l r A)
    (hA : ∀ v, v < 3 → bt (ps l) v = true → pv v = A v)
    (K : ∀ ok n' sy' lf' rt' m' el' er' eru' ti' st', qi_co lim lme psy pl pr ps l r (nI ru) A ((n, sy, lf, rt), (m, el, er, eru)) = (ok, (n', sy', lf', rt'), (m', el', er', eru')) → qx_ti n' sy' lf' rt' ti' →
      post (if ok = true then 1 else 0) (nI lim, f_patternLimit, f_ruleLimit, nI lme, nI n', f_patternCount, f_ruleCount, nI m', f_closedTerms, f_closedEvents, f_classCount, f_dirty, f_matchPattern, f_matchDepth, f_levelCount, f_groundLeft, f_costsFresh, f_settledClasses, f_reachedClasses, f_orderCount, f_explainedCount, sy', lf', rt', ti', psy, pl, pr, ps, a_patTop, a_byTop, a_patternIndex, rl, rr, el', er', eru', a_symbolWeight, a_leader, a_members, a_users, a_symbolTerms, a_signTerm, a_levelVar, a_levelRest, pv, st', a_order, a_best, a_bestTerm, a_gotTerm, a_treeCost, a_explainedEvent)) (hm : m ≤ lme) :
    wpX_carryOut post (nI lim, f_patternLimit, f_ruleLimit, nI lme, nI n, f_patternCount, f_ruleCount, nI m, f_closedTerms, f_closedEvents, f_classCount, f_dirty, f_matchPattern, f_matchDepth, f_levelCount, f_groundLeft, f_costsFresh, f_settledClasses, f_reachedClasses, f_orderCount, f_explainedCount, sy, lf, rt, ti, psy, pl, pr, ps, a_patTop, a_byTop, a_patternIndex, rl, rr, el, er, eru, a_symbolWeight, a_leader, a_members, a_users, a_symbolTerms, a_signTerm, a_levelVar, a_levelRest, pv, st, a_order, a_best, a_bestTerm, a_gotTerm, a_treeCost, a_explainedEvent) (nI ru) := by
  have h32 := hp.2.1
  obtain ⟨l3, lnp, rnp, hv, hj⟩ := cp
  have ir : vp_in (nI ru) 6 := vp_in_nI hru (by omega)
  have cr : (nI ru).toNatClampNeg = ru := nI_clamp (by omega)
  have il : vp_in (nI l) 32 := vp_in_nI (by omega) (by omega)
  have ir' : vp_in (nI r) 32 := vp_in_nI (by omega) (by omega)
  have cl : (nI l).toNatClampNeg = l := nI_clamp (by omega)
  have cr' : (nI r).toNatClampNeg = r := nI_clamp (by omega)
  unfold wpX_carryOut
  refine pk_lt m lme (fun lt => ⟨ir, nm_r (e' := nI l) (by rw [cr, erl]) ⟨ir, nm_r (e' := nI r) (by rw [cr, err]) ?_⟩⟩) (fun le => ?_)
  · refine loop_0 (fun k i s => wX_carryOut_36 post (nI ru) (nI l) (nI r) (nI n) (nI lim) f_patternLimit f_ruleLimit (nI lme) (nI n) f_patternCount f_ruleCount (nI m) f_closedTerms f_closedEvents f_classCount f_dirty f_matchPattern f_matchDepth f_levelCount f_groundLeft f_costsFresh f_settledClasses f_reachedClasses f_orderCount f_explainedCount k (nI i) sy lf rt ti psy pl pr ps a_patTop a_byTop a_patternIndex rl rr el er eru a_symbolWeight a_leader a_members a_users a_symbolTerms a_signTerm a_levelVar a_levelRest pv s a_order a_best a_bestTerm a_gotTerm a_treeCost a_explainedEvent) (fun i s => ∀ v, v < i → s v = pv v) 3 st (fun v hv => absurd hv (Nat.not_lt_zero _)) ?_ ?_
    · intro k s hs
      rw [wX_carryOut_36]
      refine br_t (by decide) ⟨il, ?_⟩
      rw [cl]
      have hsA : ∀ v, v < 3 → bt (ps l) v = true → s v = A v := fun v h1 h2 => (hs v h1).trans (hA v h1 h2)
      have ce := qi_co_st (lim := lim) (lme := lme) (ru := nI ru) (s := ((n, sy, lf, rt), (m, el, er, eru))) hp l3 lnp rnp hv hsA
      have cp' : qi_cp np n ps l r s := ⟨l3, lnp, rnp, hv, fun v h1 h2 => by rw [hsA v h1 h2]; exact hj v h1 h2⟩
      have b1 := qi_bd_i hl hp (qi_S_pre (G := (n, sy, lf, rt)) hp cp') gk 32
      have drop : ∀ n1 sy1 lf1 rt1 ti1 st1, n ≤ n1 → qi_gk lim (n1, sy1, lf1, rt1) → qx_ti n1 sy1 lf1 rt1 ti1 → qi_co lim lme psy pl pr ps l r (nI ru) s ((n, sy, lf, rt), (m, el, er, eru)) = (false, (n, sy1, lf1, rt1), (m, el, er, eru)) →
          wX_carryOut_106 post (nI ru) (nI l) (nI r) (nI n) 0 (nI lim) f_patternLimit f_ruleLimit (nI lme) (nI n1) f_patternCount f_ruleCount (nI m) f_closedTerms f_closedEvents f_classCount f_dirty f_matchPattern f_matchDepth f_levelCount f_groundLeft f_costsFresh f_settledClasses f_reachedClasses f_orderCount f_explainedCount sy1 lf1 rt1 ti1 psy pl pr ps a_patTop a_byTop a_patternIndex rl rr el er eru a_symbolWeight a_leader a_members a_users a_symbolTerms a_signTerm a_levelVar a_levelRest pv st1 a_order a_best a_bestTerm a_gotTerm a_treeCost a_explainedEvent := by
        intro n1 sy1 lf1 rt1 ti1 st1 hn1 gk1 t1 e
        unfold wX_carryOut_106
        refine br_t rfl (qx_drop (by have := gk1.1; dsimp only at this; omega) hn1 gk1.2.1 t1 fun ti2 t2 => ?_)
        exact K false n sy1 lf1 rt1 m el er eru ti2 st1 (by rw [← ce]; exact e) t2
      refine qx_build (S := qi_S ps l) hl hp gk h (qi_S_pre (G := (n, sy, lf, rt)) hp cp') ?_ ?_
      · intro n1 sy1 lf1 rt1 ti1 st1 e1 t1
        rw [e1] at b1
        have ok1 : (qi_bd lim psy pl pr (bt (qi_S ps l)) (n, sy, lf, rt) s 32).1 = true := by rw [e1]
        have pre2 := qi_S'_pre hl hp gk cp' ok1
        rw [e1] at pre2
        have b2 := qi_bd_i hl hp pre2 b1.1 32
        refine br_f (by decide) ⟨ir', il, ?_⟩
        rw [cr']
        refine qx_build (S := qi_S' ps r l) hl hp b1.1 t1 pre2 ?_ ?_
        · intro n2 sy2 lf2 rt2 ti2 st2 e2 t2
          unfold wX_carryOut_106
          refine br_f (by decide) ⟨il, ir', ?_⟩
          rw [cl, cr']
          refine qx_addEv (by omega) (K true n2 sy2 lf2 rt2 (m + 1) _ _ _ ti2 st2 ?_ t2)
          rw [← ce]
          unfold qi_co
          dsimp only
          rw [e1]
          dsimp only
          rw [e2, if_pos lt, if_pos rfl, if_pos rfl]
        · intro n2 sy2 lf2 rt2 ti2 st2 e2 t2
          rw [e2] at b2
          refine drop n2 sy2 lf2 rt2 ti2 st2 (Nat.le_trans b1.2.1.1 b2.2.1.1) b2.1 t2 ?_
          unfold qi_co
          dsimp only
          rw [e1]
          dsimp only
          rw [e2, if_pos lt, if_pos rfl, if_neg Bool.false_ne_true]
      · intro n1 sy1 lf1 rt1 ti1 st1 e1 t1
        rw [e1] at b1
        refine br_t rfl (drop n1 sy1 lf1 rt1 ti1 st1 b1.2.1.1 b1.1 t1 ?_)
        unfold qi_co
        dsimp only
        rw [e1]
        dsimp only
        rw [if_pos lt, if_neg (by decide)]
    · intro k i s hi hs Kn
      rw [wX_carryOut_36]
      have ii : vp_in (nI i) 32 := vp_in_nI (by omega) (by omega)
      refine br_f (nI_ge (b := 3) hi (by decide)) ⟨ii, ii, nm_r (e' := upd s i (pv i)) (by rw [nI_clamp (by omega)]) (nm_r (nI_1 i) (Kn _ fun v hv => ?_))⟩
      by_cases z : v = i
      · subst z; exact pk_us
      · rw [pk_un z]; exact hs v (by omega)
  · refine K false n sy lf rt m el er eru ti st ?_ h
    unfold qi_co
    dsimp only
    rw [if_neg (by omega)]
end
section
variable {g_maxPats g_maxRules g_maxEvents g_nPats g_nRules g_nEvents g_nKept g_labN : Int32} {b_rl b_rr b_el b_er b_eRule b_kept b_w b_in b_lab b_val b_needed b_pick b_got : Nat → Int32} {b_cost b_best : Nat → Int64}
variable {lim np n p : Nat} {sy lf rt psy pl pr ps sb st : Nat → Int32}
theorem qy_bd70 {post : Int32 → SY → Prop} {J7 : Int32 → Int32 → Int32 → Int32 → Int32 → Int32 → Int32 → Int32 → Int32 → Int32 → Int32 → (Nat → Int32) → (Nat → Int32) → (Nat → Int32) → (Nat → Int32) → (Nat → Int32) → (Nat → Int32) → (Nat → Int32) → (Nat → Int32) → (Nat → Int32) → (Nat → Int32) → (Nat → Int32) → (Nat → Int32) → (Nat → Int32) → (Nat → Int32) → (Nat → Int32) → (Nat → Int32) → (Nat → Int32) → (Nat → Int32) → (Nat → Int64) → (Nat → Int64) → (Nat → Int32) → (Nat → Int32) → (Nat → Int32) → Prop} {x1 a b : Int32} {q : Nat} (hl : lim ≤ 32) (hn : n ≤ lim) (g : ∀ t, t < n → qa_tok sy lf rt t) (hq : q < 32) (sg : qa_sg n (psy q) a b)
    (K : ∀ r n' sy' lf' rt', (r, n', sy', lf', rt') = qi_in lim (n, sy, lf, rt) (psy q) a b → (r = -3 → post 0 (nI lim, g_maxPats, g_maxRules, g_maxEvents, nI n', g_nPats, g_nRules, g_nEvents, g_nKept, g_labN, sy', lf', rt', psy, pl, pr, b_rl, b_rr, b_el, b_er, b_eRule, b_kept, b_w, b_in, b_lab, sb, b_val, upd st q r, b_cost, b_best, b_needed, b_pick, b_got)) ∧ (¬ r = -3 → J7 (nI (q + 1)) (nI lim) g_maxPats g_maxRules g_maxEvents (nI n') g_nPats g_nRules g_nEvents g_nKept g_labN sy' lf' rt' psy pl pr b_rl b_rr b_el b_er b_eRule b_kept b_w b_in b_lab sb b_val (upd st q r) b_cost b_best b_needed b_pick b_got)) :
    wY_build_70 post J7 x1 (nI q) a b (nI lim) g_maxPats g_maxRules g_maxEvents (nI n) g_nPats g_nRules g_nEvents g_nKept g_labN sy lf rt psy pl pr b_rl b_rr b_el b_er b_eRule b_kept b_w b_in b_lab sb b_val st b_cost b_best b_needed b_pick b_got := by
  have iq : vp_in (nI q) 32 := vp_in_nI hq (by omega)
  have cq : (nI q).toNatClampNeg = q := nI_clamp (by omega)
  have ab := qi_ab sg
  unfold wY_build_70
  refine ⟨iq, ?_⟩
  rw [cq]
  refine qy_intern hl hn ?_
  intro r n' sy' lf' rt' e
  rw [ab.1, ab.2] at e
  have k := K r n' sy' lf' rt' e
  have kp := qi_keep hl hn g sg e
  refine ⟨iq, nm_e ⟨iq, ?_⟩⟩
  rw [pk_us]
  rcases kp.2.2.2.2 with z | ⟨t, ht, z, _⟩
  · exact br_f (by rw [z]; decide) (k.1 z)
  · refine br_t (by rw [z]; exact qa_0le (by omega)) (nm_r (nI_1 q) (k.2 ?_))
    rw [z]; exact qa_ne3 (by omega)
theorem qy_bd45 {post : Int32 → SY → Prop} {J7 : Int32 → Int32 → Int32 → Int32 → Int32 → Int32 → Int32 → Int32 → Int32 → Int32 → Int32 → (Nat → Int32) → (Nat → Int32) → (Nat → Int32) → (Nat → Int32) → (Nat → Int32) → (Nat → Int32) → (Nat → Int32) → (Nat → Int32) → (Nat → Int32) → (Nat → Int32) → (Nat → Int32) → (Nat → Int32) → (Nat → Int32) → (Nat → Int32) → (Nat → Int32) → (Nat → Int32) → (Nat → Int32) → (Nat → Int32) → (Nat → Int64) → (Nat → Int64) → (Nat → Int32) → (Nat → Int32) → (Nat → Int32) → Prop} {x1 a : Int32} {q : Nat} (hl : lim ≤ 32) (hn : n ≤ lim) (g : ∀ t, t < n → qa_tok sy lf rt t) (hq : q < 32) (hr : pr q = -1 ∨ ∃ j, j < 32 ∧ pr q = nI j) (sg : qa_sg n (psy q) a (qc_lb st (pr q)))
    (K : ∀ r n' sy' lf' rt', (r, n', sy', lf', rt') = qi_in lim (n, sy, lf, rt) (psy q) a (qc_lb st (pr q)) → (r = -3 → post 0 (nI lim, g_maxPats, g_maxRules, g_maxEvents, nI n', g_nPats, g_nRules, g_nEvents, g_nKept, g_labN, sy', lf', rt', psy, pl, pr, b_rl, b_rr, b_el, b_er, b_eRule, b_kept, b_w, b_in, b_lab, sb, b_val, upd st q r, b_cost, b_best, b_needed, b_pick, b_got)) ∧ (¬ r = -3 → J7 (nI (q + 1)) (nI lim) g_maxPats g_maxRules g_maxEvents (nI n') g_nPats g_nRules g_nEvents g_nKept g_labN sy' lf' rt' psy pl pr b_rl b_rr b_el b_er b_eRule b_kept b_w b_in b_lab sb b_val (upd st q r) b_cost b_best b_needed b_pick b_got)) :
    wY_build_45 post J7 x1 (nI q) a (nI lim) g_maxPats g_maxRules g_maxEvents (nI n) g_nPats g_nRules g_nEvents g_nKept g_labN sy lf rt psy pl pr b_rl b_rr b_el b_er b_eRule b_kept b_w b_in b_lab sb b_val st b_cost b_best b_needed b_pick b_got := by
  have iq : vp_in (nI q) 32 := vp_in_nI hq (by omega)
  unfold wY_build_45
  refine ⟨iq, ?_⟩
  rw [show (nI q).toNatClampNeg = q from nI_clamp (by omega)]
  rcases hr with e | ⟨j, hj, e⟩
  · rw [e, qc_lb1] at sg K
    rw [e]
    exact br_f qa_n0le (qy_bd70 hl hn g hq sg K)
  · rw [e, qc_lbN _ (by omega)] at sg K
    rw [e, show (nI j).toNatClampNeg = j from nI_clamp (by omega)]
    exact br_t (qa_0le (by omega)) ⟨iq, vp_in_nI hj (by omega), qy_bd70 hl hn g hq sg K⟩
theorem qy_bd7 {post : Int32 → SY → Prop} {G : QG} {st0 : Nat → Int32} (hl : lim ≤ 32) (hp : qp_ok np psy pl pr ps) (hpn : p < np) (gk : qi_gk lim G) (pre : qi_pre np pl pr (bt (qi_S ps p)) G.1 st0) (hsb : ∀ x, x < 32 → sb x = if bt (ps p) x = true then 1 else 0)
    (K1 : ∀ n sy lf rt st, qi_bd lim psy pl pr (bt (qi_S ps p)) G st0 32 = (true, (n, sy, lf, rt), st) → post 1 (nI lim, g_maxPats, g_maxRules, g_maxEvents, nI n, g_nPats, g_nRules, g_nEvents, g_nKept, g_labN, sy, lf, rt, psy, pl, pr, b_rl, b_rr, b_el, b_er, b_eRule, b_kept, b_w, b_in, b_lab, sb, b_val, st, b_cost, b_best, b_needed, b_pick, b_got))
    (K0 : ∀ n sy lf rt st st', qi_bd lim psy pl pr (bt (qi_S ps p)) G st0 32 = (false, (n, sy, lf, rt), st) → post 0 (nI lim, g_maxPats, g_maxRules, g_maxEvents, nI n, g_nPats, g_nRules, g_nEvents, g_nKept, g_labN, sy, lf, rt, psy, pl, pr, b_rl, b_rr, b_el, b_er, b_eRule, b_kept, b_w, b_in, b_lab, sb, b_val, st', b_cost, b_best, b_needed, b_pick, b_got)) :
    ∀ k q n sy lf rt st, 0 < k → q ≤ 32 → 3 ≤ q → p + 2 ≤ k + q → qi_bd lim psy pl pr (bt (qi_S ps p)) G st0 q = (true, (n, sy, lf, rt), st) → wY_build_7 post (nI p) k (nI q) (nI lim) g_maxPats g_maxRules g_maxEvents (nI n) g_nPats g_nRules g_nEvents g_nKept g_labN sy lf rt psy pl pr b_rl b_rr b_el b_er b_eRule b_kept b_w b_in b_lab sb b_val st b_cost b_best b_needed b_pick b_got := by
  have h32 := hp.2.1
  intro k
  induction k with
  | zero => intro q n sy lf rt st h0; omega
  | succ k ih =>
    intro q n sy lf rt st _ hq32 h3 hk e
    rw [wY_build_7]
    refine pk_lt p q (fun lt => K1 n sy lf rt st ?_) (fun le => ?_)
    · have := qi_bd_ext (lim := lim) (psy := psy) (pl := pl) (pr := pr) (F := bt (qi_S ps p)) (G := G) (st := st0) (i := q) (32 - q) (fun x h1 h2 => by
        cases z : bt (qi_S ps p) x
        · rfl
        · have := qp_le hp p hpn x ((qi_S_t hp hpn).mp z).1; omega)
      rw [show q + (32 - q) = 32 by omega] at this
      rw [this]; exact e
    · have iq : vp_in (nI q) 32 := vp_in_nI (by omega) (by omega)
      refine ⟨iq, ?_⟩
      rw [show (nI q).toNatClampNeg = q from nI_clamp (by omega), hsb q (by omega)]
      by_cases b : bt (ps p) q = true
      · have fq : bt (qi_S ps p) q = true := (qi_S_t hp hpn).mpr ⟨b, h3⟩
        have bi := qi_bd_i hl hp pre gk q
        rw [e] at bi
        have q3 := pre.1 q fq
        have sg := qi_sg hp q3.1 q3.2 (qi_bi_ch hp pre (o := (true, (n, sy, lf, rt), st)) rfl bi fq)
        have ch := qp_ch hp q3.2
        have w32 : ∀ {x : Int32}, (x = -1 ∨ ∃ j, j < q ∧ x = nI j) → (x = -1 ∨ ∃ j, j < 32 ∧ x = nI j) := fun hx => hx.elim Or.inl (fun ⟨j, hj, e⟩ => Or.inr ⟨j, by omega, e⟩)
        have hn' : n ≤ lim := bi.1.1
        have KK : ∀ r n' sy' lf' rt', (r, n', sy', lf', rt') = qi_in lim (n, sy, lf, rt) (psy q) (qc_lb st (pl q)) (qc_lb st (pr q)) → (r = -3 → post 0 (nI lim, g_maxPats, g_maxRules, g_maxEvents, nI n', g_nPats, g_nRules, g_nEvents, g_nKept, g_labN, sy', lf', rt', psy, pl, pr, b_rl, b_rr, b_el, b_er, b_eRule, b_kept, b_w, b_in, b_lab, sb, b_val, upd st q r, b_cost, b_best, b_needed, b_pick, b_got)) ∧ (¬ r = -3 → wY_build_7 post (nI p) k (nI (q + 1)) (nI lim) g_maxPats g_maxRules g_maxEvents (nI n') g_nPats g_nRules g_nEvents g_nKept g_labN sy' lf' rt' psy pl pr b_rl b_rr b_el b_er b_eRule b_kept b_w b_in b_lab sb b_val (upd st q r) b_cost b_best b_needed b_pick b_got) := by
          intro r n2 sy2 lf2 rt2 ee
          have stp : qi_bd lim psy pl pr (bt (qi_S ps p)) G st0 (q + 1) = qi_st lim psy pl pr q (n, sy, lf, rt) st := by
            rw [qi_bd, e, fq, if_pos rfl, if_pos rfl]
          unfold qi_st at stp
          rw [← ee] at stp
          refine ⟨fun z => ?_, fun z => ?_⟩
          · rw [if_pos z] at stp
            refine K0 n2 sy2 lf2 rt2 st _ ?_
            have := qi_bd_bad (lim := lim) (psy := psy) (pl := pl) (pr := pr) (F := bt (qi_S ps p)) (G := G) (st := st0) (i := q + 1) (by rw [stp]) (32 - (q + 1))
            rw [show q + 1 + (32 - (q + 1)) = 32 by omega, stp] at this
            exact this
          · rw [if_neg z] at stp
            exact ih (q + 1) n2 sy2 lf2 rt2 _ (by omega) (by omega) (by omega) (by omega) stp
        rw [if_pos b]
        refine br_f (by decide) ⟨iq, ?_⟩
        rcases ch.1 with z | ⟨j, hj, z⟩
        · rw [z, qc_lb1] at sg KK
          rw [z]
          exact br_f qa_n0le (qy_bd45 hl hn' bi.1.2.1 (by omega) (w32 ch.2) sg KK)
        · rw [z, qc_lbN _ (by omega)] at sg KK
          rw [z, show (nI j).toNatClampNeg = j from nI_clamp (by omega)]
          exact br_t (qa_0le (by omega)) ⟨iq, vp_in_nI (by omega) (by omega), qy_bd45 hl hn' bi.1.2.1 (by omega) (w32 ch.2) sg KK⟩
      · rw [if_neg b]
        refine br_t rfl (nm_r (nI_1 q) (ih (q + 1) n sy lf rt st (by omega) (by omega) (by omega) (by omega) ?_))
        have fq : bt (qi_S ps p) q = false := by
          rw [qi_S_b]
          cases z : bt (ps p) q
          · rfl
          · exact (b z).elim
        rw [qi_bd, e, fq, if_pos rfl, if_neg (by decide)]
theorem qy_build {post : Int32 → SY → Prop} (hl : lim ≤ 32) (hp : qp_ok np psy pl pr ps) (hpn : p < np) (gk : qi_gk lim (n, sy, lf, rt)) (pre : qi_pre np pl pr (bt (qi_S ps p)) n st)
    (K1 : ∀ n' sy' lf' rt' st' sb, qi_bd lim psy pl pr (bt (qi_S ps p)) (n, sy, lf, rt) st 32 = (true, (n', sy', lf', rt'), st') → post 1 (nI lim, g_maxPats, g_maxRules, g_maxEvents, nI n', g_nPats, g_nRules, g_nEvents, g_nKept, g_labN, sy', lf', rt', psy, pl, pr, b_rl, b_rr, b_el, b_er, b_eRule, b_kept, b_w, b_in, b_lab, sb, b_val, st', b_cost, b_best, b_needed, b_pick, b_got))
    (K0 : ∀ n' sy' lf' rt' st' st'' sb, qi_bd lim psy pl pr (bt (qi_S ps p)) (n, sy, lf, rt) st 32 = (false, (n', sy', lf', rt'), st') → post 0 (nI lim, g_maxPats, g_maxRules, g_maxEvents, nI n', g_nPats, g_nRules, g_nEvents, g_nKept, g_labN, sy', lf', rt', psy, pl, pr, b_rl, b_rr, b_el, b_er, b_eRule, b_kept, b_w, b_in, b_lab, sb, b_val, st'', b_cost, b_best, b_needed, b_pick, b_got)) : wpY_build post (nI lim, g_maxPats, g_maxRules, g_maxEvents, nI n, g_nPats, g_nRules, g_nEvents, g_nKept, g_labN, sy, lf, rt, psy, pl, pr, b_rl, b_rr, b_el, b_er, b_eRule, b_kept, b_w, b_in, b_lab, sb, b_val, st, b_cost, b_best, b_needed, b_pick, b_got) (nI p) := by
  have h32 := hp.2.1
  unfold wpY_build
  refine qy_mark hp hpn ?_
  intro sb' hsb
  refine ⟨p + 2, qy_bd7 (G := (n, sy, lf, rt)) (st0 := st) hl hp hpn gk pre hsb (fun n' sy' lf' rt' st' e => K1 n' sy' lf' rt' st' sb' e) (fun n' sy' lf' rt' st' st'' e => K0 n' sy' lf' rt' st' st'' sb' e) (p + 2) 3 n sy lf rt st (by omega) (by omega) (by omega) (by omega) ?_⟩
  exact qi_bd_ext (i := 0) 3 (fun x h1 h2 => by rw [qi_S_b, decide_eq_false (by omega), Bool.and_false])
end
section
variable {g_maxPats g_maxRules g_nPats g_nRules g_nKept g_labN : Int32} {b_kept b_w b_in b_lab b_val b_needed b_pick b_got : Nat → Int32} {b_cost b_best : Nat → Int64}
variable {lim lme np n m ru l r : Nat} {sy lf rt psy pl pr ps rl rr el er eru sb st : Nat → Int32}
theorem qy_addEv {post : Int32 → SY → Prop} {a b c : Int32} (hm : m < 64) (K : post (nI m) (nI lim, g_maxPats, g_maxRules, nI lme, nI n, g_nPats, g_nRules, nI (m + 1), g_nKept, g_labN, sy, lf, rt, psy, pl, pr, rl, rr, upd el m a, upd er m b, upd eru m c, b_kept, b_w, b_in, b_lab, sb, b_val, st, b_cost, b_best, b_needed, b_pick, b_got)) : wpY_addEvent post (nI lim, g_maxPats, g_maxRules, nI lme, nI n, g_nPats, g_nRules, nI m, g_nKept, g_labN, sy, lf, rt, psy, pl, pr, rl, rr, el, er, eru, b_kept, b_w, b_in, b_lab, sb, b_val, st, b_cost, b_best, b_needed, b_pick, b_got) a b c := by
  have i1 : vp_in (nI m) 64 := vp_in_nI hm (by omega)
  have c1 : (nI m).toNatClampNeg = m := nI_clamp (by omega)
  unfold wpY_addEvent
  refine ⟨i1, nm_r (e' := upd el m a) (by rw [c1]) ⟨i1, nm_r (e' := upd er m b) (by rw [c1]) ⟨i1, nm_r (e' := upd eru m c) (by rw [c1]) (nm_r (nI_1 m) ?_)⟩⟩⟩
  rw [nI_pred]; exact K
theorem qy_carry {post : Int32 → SY → Prop} {x y z : Int32} (hru : ru < 6) (erl : rl ru = nI l) (err : rr ru = nI r) (hl : lim ≤ 32) (hle : lme ≤ 64) (hp : qp_ok np psy pl pr ps) (gk : qi_gk lim (n, sy, lf, rt)) (cp : qi_cp np n ps l r (qm_A x y z))
    (K : ∀ ok n' sy' lf' rt' m' el' er' eru' sb' st', qi_co lim lme psy pl pr ps l r (nI ru) (qm_A x y z) ((n, sy, lf, rt), (m, el, er, eru)) = (ok, (n', sy', lf', rt'), (m', el', er', eru')) →
      post (if ok = true then 1 else 0) (nI lim, g_maxPats, g_maxRules, nI lme, nI n', g_nPats, g_nRules, nI m', g_nKept, g_labN, sy', lf', rt', psy, pl, pr, rl, rr, el', er', eru', b_kept, b_w, b_in, b_lab, sb', b_val, st', b_cost, b_best, b_needed, b_pick, b_got)) (hm : m ≤ lme) :
    wpY_carryOut post (nI lim, g_maxPats, g_maxRules, nI lme, nI n, g_nPats, g_nRules, nI m, g_nKept, g_labN, sy, lf, rt, psy, pl, pr, rl, rr, el, er, eru, b_kept, b_w, b_in, b_lab, sb, b_val, st, b_cost, b_best, b_needed, b_pick, b_got) (nI ru) x y z := by
  have h32 := hp.2.1
  obtain ⟨l3, lnp, rnp, hv, hj⟩ := cp
  have ir : vp_in (nI ru) 6 := vp_in_nI hru (by omega)
  have cr : (nI ru).toNatClampNeg = ru := nI_clamp (by omega)
  have il : vp_in (nI l) 32 := vp_in_nI (by omega) (by omega)
  have ir' : vp_in (nI r) 32 := vp_in_nI (by omega) (by omega)
  have cl : (nI l).toNatClampNeg = l := nI_clamp (by omega)
  have cr' : (nI r).toNatClampNeg = r := nI_clamp (by omega)
  unfold wpY_carryOut
  refine pk_lt m lme (fun lt => nm_e (nm_e (nm_e ⟨ir, ?_⟩))) (fun le => ?_)
  · rw [cr, erl]
    have hsA : ∀ v, v < 3 → bt (ps l) v = true → upd (upd (upd st 0 x) 1 y) 2 z v = qm_A x y z v := by
      intro v h1 _
      unfold qm_A
      match v, h1 with
      | 0, _ => rw [pk_un (by omega), pk_un (by omega), pk_us]; rfl
      | 1, _ => rw [pk_un (by omega), pk_us]; rfl
      | 2, _ => rw [pk_us]; rfl
    generalize upd (upd (upd st 0 x) 1 y) 2 z = s at hsA
    have ce := qi_co_st (lim := lim) (lme := lme) (ru := nI ru) (s := ((n, sy, lf, rt), (m, el, er, eru))) hp l3 lnp rnp hv hsA
    have cp' : qi_cp np n ps l r s := ⟨l3, lnp, rnp, hv, fun v h1 h2 => by rw [hsA v h1 h2]; exact hj v h1 h2⟩
    have b1 := qi_bd_i hl hp (qi_S_pre (G := (n, sy, lf, rt)) hp cp') gk 32
    refine qy_build hl hp lnp gk (qi_S_pre (G := (n, sy, lf, rt)) hp cp') ?_ ?_
    · intro n1 sy1 lf1 rt1 st1 sb1 e1
      rw [e1] at b1
      have ok1 : (qi_bd lim psy pl pr (bt (qi_S ps l)) (n, sy, lf, rt) s 32).1 = true := by rw [e1]
      have se := qi_S'_eq hl hp gk cp' ok1
      rw [e1] at se
      dsimp only at se
      have pre2 : qi_pre np pl pr (bt (qi_S ps r)) n1 st1 := by
        have pr' := qi_S'_pre hl hp gk cp' ok1
        rw [e1] at pr'
        refine ⟨fun q b => ?_, fun q w b cw => ?_⟩
        · rw [qi_S_t hp rnp] at b
          have := qp_le hp r rnp q b.1
          exact ⟨b.2, by omega⟩
        · cases f : bt (qi_S ps l) q
          · rcases pr'.2 q w (by rw [qi_S'_b, b, f]; rfl) cw with u | u
            · rw [qi_S'_b, Bool.and_eq_true] at u; exact Or.inl u.1
            · exact Or.inr u
          · have wr := qp_dn hp r rnp q w ((qi_S_t hp rnp).mp b).1 cw
            by_cases w3 : w < 3
            · obtain ⟨j, hj', e⟩ := cp'.2.2.2.2 w w3 (hv w w3 wr)
              right
              refine ⟨j, Nat.lt_of_lt_of_le hj' b1.2.1.1, ?_⟩
              have := b1.2.2.1 w (Or.inr (by rw [qi_S_b, decide_eq_false (by omega), Bool.and_false]))
              exact this.trans e
            · exact Or.inl ((qi_S_t hp rnp).mpr ⟨wr, by omega⟩)
      refine br_f (by decide) ⟨ir, ?_⟩
      rw [err]
      refine qy_build hl hp rnp b1.1 pre2 ?_ ?_
      · intro n2 sy2 lf2 rt2 st2 sb2 e2
        refine br_f (by decide) ⟨ir, ?_⟩
        rw [erl]
        refine ⟨il, ir, ?_⟩
        rw [err]
        refine ⟨ir', ?_⟩
        rw [cl, cr']
        refine qy_addEv (by omega) (K true n2 sy2 lf2 rt2 (m + 1) _ _ _ sb2 st2 ?_)
        rw [← ce]
        unfold qi_co
        dsimp only
        rw [e1]
        dsimp only
        rw [← se, e2, if_pos lt, if_pos rfl, if_pos rfl]
      · intro n2 sy2 lf2 rt2 st2 st3 sb2 e2
        refine br_t rfl (K false n sy2 lf2 rt2 m el er eru sb2 st3 ?_)
        rw [← ce]
        unfold qi_co
        dsimp only
        rw [e1]
        dsimp only
        rw [← se, e2, if_pos lt, if_pos rfl, if_neg Bool.false_ne_true]
    · intro n1 sy1 lf1 rt1 st1 st2 sb1 e1
      refine br_t rfl (K false n sy1 lf1 rt1 m el er eru sb1 st2 ?_)
      rw [← ce]
      unfold qi_co
      dsimp only
      rw [e1]
      dsimp only
      rw [if_pos lt, if_neg (by decide)]
  · refine K false n sy lf rt m el er eru sb st ?_
    unfold qi_co
    dsimp only
    rw [if_neg (by omega)]
end
end
section
theorem qa_sg_ax {m m' : Nat} {s a b a' b' : Int32} (g : qa_sg m s a b) (g' : qa_sg m' s a' b') (h : ¬ a = -1) : ∃ j, j < m' ∧ a' = nI j := by
  obtain ⟨k, hk, rfl, g⟩ := g
  obtain ⟨k', hk', e, g'⟩ := g'
  have := qa_inj (by omega) (by omega) e
  subst this
  rcases g' with ⟨h1, rfl, rfl⟩ | ⟨h1, h2, h3, rfl⟩ | ⟨h1, h3, h4⟩
  · rcases g with ⟨_, e, _⟩ | ⟨h1', _, _, _⟩ | ⟨h1', _, _⟩
    · exact (h e).elim
    · omega
    · omega
  · exact h3
  · exact h3
theorem qa_sg_bx {m m' : Nat} {s a b a' b' : Int32} (g : qa_sg m s a b) (g' : qa_sg m' s a' b') (h : ¬ b = -1) : ∃ j, j < m' ∧ b' = nI j := by
  obtain ⟨k, hk, rfl, g⟩ := g
  obtain ⟨k', hk', e, g'⟩ := g'
  have := qa_inj (by omega) (by omega) e
  subst this
  rcases g' with ⟨h1, rfl, rfl⟩ | ⟨h1, h2, h3, rfl⟩ | ⟨h1, h3, h4⟩
  · rcases g with ⟨_, _, e⟩ | ⟨h1', _, _, e⟩ | ⟨h1', _, _⟩
    · exact (h e).elim
    · exact (h e).elim
    · omega
  · rcases g with ⟨_, _, e⟩ | ⟨h1', _, _, e⟩ | ⟨h1', _, _⟩
    · exact (h e).elim
    · exact (h e).elim
    · omega
  · exact h4
theorem qa_sg_s {m : Nat} {s a b : Int32} (g : qa_sg m s a b) : ∃ k, k < 16 ∧ s = nI k := by
  obtain ⟨k, hk, e, _⟩ := g
  exact ⟨k, hk, e⟩
section
variable {f_termLimit f_patternLimit f_ruleLimit f_eventLimit f_termCount f_patternCount f_ruleCount f_eventCount f_closedTerms f_closedEvents f_classCount f_dirty f_matchPattern f_matchDepth f_levelCount f_groundLeft f_costsFresh f_settledClasses f_reachedClasses f_orderCount f_explainedCount : Int32} {a_termIndex a_byTop a_patternIndex a_ruleLeft a_ruleRight a_eventLeft a_eventRight a_eventRule a_symbolWeight a_members a_signTerm a_levelVar a_levelRest a_standsFor a_order a_bestTerm a_gotTerm a_explainedEvent : Nat → Int32} {a_best a_treeCost : Nat → Int64}
variable {c np : Nat} {sy lf rt ld mem usr syt sgt psy pl pr ps ptop pv : Nat → Int32} {cc : Int32} {tp : Nat → Nat}
theorem qx_c184 {post : Int32 → Prop} {J : Int32 → Int32 → Prop} {x2 x6 x7 x8 : Int32} {j l : Nat} (hj : j < 32) (e : ld j = nI l) (K : J (x7 ||| ((1 : Int32) <<< (nI l &&& 31))) (x8 &&& (x8 - 1))) : wX_childClasses_184 post J x2 x6 x7 x8 (nI j) f_termLimit f_patternLimit f_ruleLimit f_eventLimit f_termCount f_patternCount f_ruleCount f_eventCount f_closedTerms f_closedEvents f_classCount f_dirty f_matchPattern f_matchDepth f_levelCount f_groundLeft f_costsFresh f_settledClasses f_reachedClasses f_orderCount f_explainedCount sy lf rt a_termIndex psy pl pr ps ptop a_byTop a_patternIndex a_ruleLeft a_ruleRight a_eventLeft a_eventRight a_eventRule a_symbolWeight ld a_members usr syt a_signTerm a_levelVar a_levelRest pv a_standsFor a_order a_best a_bestTerm a_gotTerm a_treeCost a_explainedEvent := by
  unfold wX_childClasses_184
  exact ⟨vp_in_nI hj (by omega), nm_r (e' := x7 ||| ((1 : Int32) <<< (nI l &&& 31))) (by rw [nI_clamp (by omega), e]) (nm_e K)⟩
theorem qx_c164 {post : Int32 → Prop} {J : Int32 → Int32 → Prop} {x2 x6 x7 x8 y : Int32} {j l : Nat} (hj : j < 32) (e : ld j = nI l) (hy : ¬ x6 = -1 → ∃ i, i < 32 ∧ y = nI i)
    (K1 : (x6 = -1 ∨ qc_lb ld y = x6) → J (x7 ||| ((1 : Int32) <<< (nI l &&& 31))) (x8 &&& (x8 - 1))) (K0 : ¬ (x6 = -1 ∨ qc_lb ld y = x6) → J x7 (x8 &&& (x8 - 1))) : wX_childClasses_164 post J x2 x6 x7 x8 (nI j) y f_termLimit f_patternLimit f_ruleLimit f_eventLimit f_termCount f_patternCount f_ruleCount f_eventCount f_closedTerms f_closedEvents f_classCount f_dirty f_matchPattern f_matchDepth f_levelCount f_groundLeft f_costsFresh f_settledClasses f_reachedClasses f_orderCount f_explainedCount sy lf rt a_termIndex psy pl pr ps ptop a_byTop a_patternIndex a_ruleLeft a_ruleRight a_eventLeft a_eventRight a_eventRule a_symbolWeight ld a_members usr syt a_signTerm a_levelVar a_levelRest pv a_standsFor a_order a_best a_bestTerm a_gotTerm a_treeCost a_explainedEvent := by
  unfold wX_childClasses_164
  refine br_c (fun z => qx_c184 hj e (K1 (Or.inl z))) (fun z => ?_)
  obtain ⟨i, hi, rfl⟩ := hy z
  rw [qc_lbN _ (by omega)] at K1 K0
  refine ⟨vp_in_nI hi (by omega), ?_⟩
  rw [nI_clamp (by omega)]
  exact br_c (fun w => qx_c184 hj e (K1 (Or.inr w))) (fun w => nm_e (K0 (fun q => q.elim z w)))
theorem qx_c107 {post : Int32 → Prop} {x2 x6 S : Int32} {cw ow : Nat → Int32} (hc : c ≤ 32) (nm : qc_nm c ld) (side : (x2 = 0 ∧ cw = rt ∧ ow = lf) ∨ (¬ x2 = 0 ∧ cw = lf ∧ ow = rt))
    (hS : ∀ t, bt S t = true → t < c ∧ (∃ j, j < c ∧ cw t = nI j) ∧ (¬ x6 = -1 → ∃ i, i < 32 ∧ ow t = nI i))
    (K : ∀ C, (∀ b, b < 32 → (bt C b = true ↔ ∃ t, bt S t = true ∧ (x6 = -1 ∨ qc_lb ld (ow t) = x6) ∧ qc_lb ld (cw t) = nI b)) → post C) :
    ∃ k, wX_childClasses_107 post x2 x6 f_termLimit f_patternLimit f_ruleLimit f_eventLimit f_termCount f_patternCount f_ruleCount f_eventCount f_closedTerms f_closedEvents f_classCount f_dirty f_matchPattern f_matchDepth f_levelCount f_groundLeft f_costsFresh f_settledClasses f_reachedClasses f_orderCount f_explainedCount sy lf rt a_termIndex psy pl pr ps ptop a_byTop a_patternIndex a_ruleLeft a_ruleRight a_eventLeft a_eventRight a_eventRule a_symbolWeight ld a_members usr syt a_signTerm a_levelVar a_levelRest pv a_standsFor a_order a_best a_bestTerm a_gotTerm a_treeCost a_explainedEvent k 0 S := by
  refine ⟨33, qb_loop (fun k r s => wX_childClasses_107 post x2 x6 f_termLimit f_patternLimit f_ruleLimit f_eventLimit f_termCount f_patternCount f_ruleCount f_eventCount f_closedTerms f_closedEvents f_classCount f_dirty f_matchPattern f_matchDepth f_levelCount f_groundLeft f_costsFresh f_settledClasses f_reachedClasses f_orderCount f_explainedCount sy lf rt a_termIndex psy pl pr ps ptop a_byTop a_patternIndex a_ruleLeft a_ruleRight a_eventLeft a_eventRight a_eventRule a_symbolWeight ld a_members usr syt a_signTerm a_levelVar a_levelRest pv a_standsFor a_order a_best a_bestTerm a_gotTerm a_treeCost a_explainedEvent k s r) S (fun i s => ∀ b, b < 32 → (bt s b = true ↔ ∃ t, t < i ∧ bt S t = true ∧ (x6 = -1 ∨ qc_lb ld (ow t) = x6) ∧ qc_lb ld (cw t) = nI b)) ?_ ?_ ?_ 0 (fun b hb => ?_)⟩
  · intro k s hs
    rw [wX_childClasses_107]
    refine br_t rfl (K s fun b hb => (hs b hb).trans ⟨fun ⟨t, ht, z⟩ => ⟨t, z⟩, fun ⟨t, z⟩ => ⟨t, ?_, z⟩⟩)
    have := (hS t z.1).1
    omega
  · intro i s hi bi hs b hb
    refine (hs b hb).trans ⟨fun ⟨t, ht, z⟩ => ⟨t, by omega, z⟩, fun ⟨t, ht, z⟩ => ⟨t, ?_, z⟩⟩
    refine Classical.byContradiction fun w => ?_
    have : t = i := by omega
    subst this
    rw [bi] at z
    exact absurd z.1 (by decide)
  · intro k i r s hr lo bi hs Kn
    have i32 := lo.1
    have ii : vp_in (nI i) 32 := vp_in_nI i32 (by omega)
    have ci : (nI i).toNatClampNeg = i := nI_clamp (by omega)
    obtain ⟨tc, ⟨j, hj, ej⟩, ho⟩ := hS i bi
    obtain ⟨l, hl, el, _⟩ := nm j hj
    have lbe : qc_lb ld (cw i) = nI l := by rw [ej, qc_lbN _ (by omega), el]
    have k1 : (x6 = -1 ∨ qc_lb ld (ow i) = x6) → wX_childClasses_107 post x2 x6 f_termLimit f_patternLimit f_ruleLimit f_eventLimit f_termCount f_patternCount f_ruleCount f_eventCount f_closedTerms f_closedEvents f_classCount f_dirty f_matchPattern f_matchDepth f_levelCount f_groundLeft f_costsFresh f_settledClasses f_reachedClasses f_orderCount f_explainedCount sy lf rt a_termIndex psy pl pr ps ptop a_byTop a_patternIndex a_ruleLeft a_ruleRight a_eventLeft a_eventRight a_eventRule a_symbolWeight ld a_members usr syt a_signTerm a_levelVar a_levelRest pv a_standsFor a_order a_best a_bestTerm a_gotTerm a_treeCost a_explainedEvent k (s ||| ((1 : Int32) <<< (nI l &&& 31))) (r &&& (r - 1)) := by
      intro cd
      refine Kn _ fun b hb => ?_
      rw [b_or, Bool.or_eq_true, hs b hb, qb_s (by omega) hb, decide_eq_true_eq]
      constructor
      · rintro (⟨t, ht, z⟩ | z)
        · exact ⟨t, by omega, z⟩
        · subst z; exact ⟨i, by omega, bi, cd, lbe⟩
      · rintro ⟨t, ht, z⟩
        by_cases w : t = i
        · subst w
          right
          have := z.2.2
          rw [lbe] at this
          exact (qa_inj (by omega) (by omega) this).symm
        · exact Or.inl ⟨t, by omega, z⟩
    have k0 : ¬ (x6 = -1 ∨ qc_lb ld (ow i) = x6) → wX_childClasses_107 post x2 x6 f_termLimit f_patternLimit f_ruleLimit f_eventLimit f_termCount f_patternCount f_ruleCount f_eventCount f_closedTerms f_closedEvents f_classCount f_dirty f_matchPattern f_matchDepth f_levelCount f_groundLeft f_costsFresh f_settledClasses f_reachedClasses f_orderCount f_explainedCount sy lf rt a_termIndex psy pl pr ps ptop a_byTop a_patternIndex a_ruleLeft a_ruleRight a_eventLeft a_eventRight a_eventRule a_symbolWeight ld a_members usr syt a_signTerm a_levelVar a_levelRest pv a_standsFor a_order a_best a_bestTerm a_gotTerm a_treeCost a_explainedEvent k s (r &&& (r - 1)) := by
      intro cd
      refine Kn _ fun b hb => ?_
      rw [hs b hb]
      constructor
      · rintro ⟨t, ht, z⟩; exact ⟨t, by omega, z⟩
      · rintro ⟨t, ht, z⟩
        by_cases w : t = i
        · subst w; exact (cd z.2.1).elim
        · exact ⟨t, by omega, z⟩
    rw [wX_childClasses_107]
    refine br_f hr (qx_low lo ?_)
    rcases side with ⟨s0, rfl, rfl⟩ | ⟨s0, rfl, rfl⟩
    · refine br_t s0 ⟨ii, ?_⟩
      unfold wX_childClasses_141
      refine br_t s0 ⟨ii, ?_⟩
      rw [ci, ej]
      exact qx_c164 (by omega) el ho k1 k0
    · refine br_f s0 ⟨ii, ?_⟩
      unfold wX_childClasses_141
      refine br_f s0 ⟨ii, ?_⟩
      rw [ci, ej]
      exact qx_c164 (by omega) el ho k1 k0
  · rw [b_0]
    exact ⟨fun z => absurd z (by decide), fun ⟨t, ht, _⟩ => absurd ht (Nat.not_lt_zero _)⟩
def qm_cc (c : Nat) (sy ld psy pv : Nat → Int32) (tp : Nat → Nat) (cw ow sib : Nat → Int32) (v q b : Nat) : Prop :=
  ∃ t, t < c ∧ sy t = psy q ∧ qc_lb ld (cw t) = nI b ∧ (∀ j, j < 32 → sib q = nI j → tp j < tp v → qc_lb ld (ow t) = pv j)
theorem qx_c39 {post : Int32 → Prop} {x2 : Int32} {q v : Nat} {cw ow own sib : Nat → Int32} (hC : qx_cs c sy lf rt ld mem usr syt sgt cc) (hp : qp_ok np psy pl pr ps) (htop : ∀ q, q < np → ptop q = nI (tp q)) (htp : qp_tops np pl pr tp)
    (side : (x2 = 0 ∧ cw = rt ∧ ow = lf ∧ own = pr ∧ sib = pl) ∨ (¬ x2 = 0 ∧ cw = lf ∧ ow = rt ∧ own = pl ∧ sib = pr)) (h3 : 3 ≤ q) (hq : q < np) (hv : v < q) (ev : own q = nI v)
    (hpv : ∀ j, j < 32 → sib q = nI j → tp j < tp v → ∃ k, k < c ∧ pv j = nI k ∧ ld k = nI k)
    (K : ∀ C, (∀ b, b < 32 → (bt C b = true ↔ qm_cc c sy ld psy pv tp cw ow sib v q b)) → post C) :
    wX_childClasses_39 post (nI q) x2 (nI v) (sib q) f_termLimit f_patternLimit f_ruleLimit f_eventLimit f_termCount f_patternCount f_ruleCount f_eventCount f_closedTerms f_closedEvents f_classCount f_dirty f_matchPattern f_matchDepth f_levelCount f_groundLeft f_costsFresh f_settledClasses f_reachedClasses f_orderCount f_explainedCount sy lf rt a_termIndex psy pl pr ps ptop a_byTop a_patternIndex a_ruleLeft a_ruleRight a_eventLeft a_eventRight a_eventRule a_symbolWeight ld a_members usr syt a_signTerm a_levelVar a_levelRest pv a_standsFor a_order a_best a_bestTerm a_gotTerm a_treeCost a_explainedEvent := by
  have hc := hC.1
  have g := hC.2.1
  have nm := hC.2.2.1
  have h32 := hp.2.1
  have iq : vp_in (nI q) 32 := vp_in_nI (by omega) (by omega)
  have cq : (nI q).toNatClampNeg = q := nI_clamp (by omega)
  have tok := hp.2.2.2.1 q h3 hq
  obtain ⟨k, hk, ek⟩ := qa_sg_s tok
  have ch := qp_ch hp hq
  have side' : (x2 = 0 ∧ cw = rt ∧ ow = lf) ∨ (¬ x2 = 0 ∧ cw = lf ∧ ow = rt) := side.elim (fun z => Or.inl ⟨z.1, z.2.1, z.2.2.1⟩) (fun z => Or.inr ⟨z.1, z.2.1, z.2.2.1⟩)
  have sibch : sib q = -1 ∨ ∃ j, j < q ∧ sib q = nI j := by
    rcases side with ⟨_, _, _, _, rfl⟩ | ⟨_, _, _, _, rfl⟩
    · exact ch.1
    · exact ch.2
  have own1 : ∀ t, t < c → sy t = psy q → ∃ j, j < c ∧ cw t = nI j := by
    intro t ht et
    have gt : qa_sg c (psy q) (lf t) (rt t) := by rw [← et]; exact qa_sg_mono (by omega) (g t ht)
    rcases side with ⟨_, rfl, _, rfl, _⟩ | ⟨_, rfl, _, rfl, _⟩
    · exact qa_sg_bx tok gt (by rw [ev]; exact qa_ne1 (by omega))
    · exact qa_sg_ax tok gt (by rw [ev]; exact qa_ne1 (by omega))
  have sib1 : ∀ t, t < c → sy t = psy q → ¬ sib q = -1 → ∃ j, j < c ∧ ow t = nI j := by
    intro t ht et hs
    have gt : qa_sg c (psy q) (lf t) (rt t) := by rw [← et]; exact qa_sg_mono (by omega) (g t ht)
    rcases side with ⟨_, _, rfl, _, rfl⟩ | ⟨_, _, rfl, _, rfl⟩
    · exact qa_sg_ax tok gt hs
    · exact qa_sg_bx tok gt hs
  have syb : ∀ t, bt (syt k) t = true ↔ t < c ∧ sy t = psy q := by
    intro t
    rcases Nat.lt_or_ge t 32 with h | h
    · rw [hC.2.2.2.2.2.1 k t hk h, ek]
    · rw [b_big h]; exact ⟨fun z => absurd z (by decide), fun z => by omega⟩
  unfold wX_childClasses_39
  refine ⟨iq, ?_⟩
  rw [cq, ek]
  refine ⟨vp_in_nI hk (by omega), nm_r (e' := syt k) (by rw [nI_clamp (by omega)]) ?_⟩
  have plain : (∀ j, j < 32 → sib q = nI j → ¬ tp j < tp v) → ∃ n107, wX_childClasses_107 post x2 (-1) f_termLimit f_patternLimit f_ruleLimit f_eventLimit f_termCount f_patternCount f_ruleCount f_eventCount f_closedTerms f_closedEvents f_classCount f_dirty f_matchPattern f_matchDepth f_levelCount f_groundLeft f_costsFresh f_settledClasses f_reachedClasses f_orderCount f_explainedCount sy lf rt a_termIndex psy pl pr ps ptop a_byTop a_patternIndex a_ruleLeft a_ruleRight a_eventLeft a_eventRight a_eventRule a_symbolWeight ld a_members usr syt a_signTerm a_levelVar a_levelRest pv a_standsFor a_order a_best a_bestTerm a_gotTerm a_treeCost a_explainedEvent n107 0 (syt k) := by
    intro no
    refine qx_c107 hc nm side' (fun t b => ?_) (fun C hCb => K C fun b hb => (hCb b hb).trans ⟨?_, ?_⟩)
    · rw [syb] at b
      exact ⟨b.1, own1 t b.1 b.2, fun z => (z rfl).elim⟩
    · rintro ⟨t, z, _, w⟩
      rw [syb] at z
      exact ⟨t, z.1, z.2, w, fun j hj ej tj => (no j hj ej tj).elim⟩
    · rintro ⟨t, ht, et, w, _⟩
      exact ⟨t, (syb t).mpr ⟨ht, et⟩, Or.inl rfl, w⟩
  rcases sibch with e | ⟨j, hj, e⟩
  · rw [e]
    refine br_t rfl (plain fun j hj ej => ?_)
    rw [e] at ej
    exact (qa_1ne (by omega) ej).elim
  · rw [e]
    refine br_f (qa_ne1 (by omega)) ⟨vp_in_nI (by omega) (by omega), vp_in_nI (by omega) (by omega), ?_⟩
    have t1 := qp_tp3 hp htp v (by omega)
    have t2 := qp_tp3 hp htp j (by omega)
    rw [show (nI j).toNatClampNeg = j from nI_clamp (by omega), show (nI v).toNatClampNeg = v from nI_clamp (by omega), htop v (by omega), htop j (by omega)]
    refine pk_le (tp v) (tp j) (fun le => plain fun j' hj' ej' => ?_) (fun lt => ?_)
    · have : j = j' := qa_inj (by omega) (by omega) (e.symm.trans ej')
      subst this; omega
    · obtain ⟨x, hx, ex, rx⟩ := hpv j (by omega) e lt
      refine ⟨vp_in_nI (by omega) (by omega), nm_r ex ⟨vp_in_nI (by omega) (by omega), nm_r (e' := syt k &&& usr x) (by rw [nI_clamp (by omega)]) ?_⟩⟩
      have usb : ∀ t, t < c → qc_lb ld (ow t) = nI x → bt (usr x) t = true := by
        intro t ht et
        refine (hC.2.2.2.2.1 x t hx rx (by omega)).mpr ⟨ht, ?_⟩
        rcases side' with ⟨_, _, rfl⟩ | ⟨_, _, rfl⟩
        · exact Or.inl et
        · exact Or.inr et
      refine qx_c107 hc nm side' (fun t b => ?_) (fun C hCb => K C fun b hb => (hCb b hb).trans ⟨?_, ?_⟩)
      · rw [b_and, Bool.and_eq_true, syb] at b
        obtain ⟨i, hi, ei⟩ := sib1 t b.1.1 b.1.2 (by rw [e]; exact qa_ne1 (by omega))
        exact ⟨b.1.1, own1 t b.1.1 b.1.2, fun _ => ⟨i, by omega, ei⟩⟩
      · rintro ⟨t, z, cd, w⟩
        rw [b_and, Bool.and_eq_true, syb] at z
        refine ⟨t, z.1.1, z.1.2, w, fun j' hj' ej' _ => ?_⟩
        have : j = j' := qa_inj (by omega) (by omega) (e.symm.trans ej')
        subst this
        rw [ex]
        exact cd.elim (fun z => (qa_ne1 (by omega) z).elim) id
      · rintro ⟨t, ht, et, w, cd⟩
        have cd' := cd j (by omega) e lt
        rw [ex] at cd'
        exact ⟨t, by rw [b_and, Bool.and_eq_true]; exact ⟨(syb t).mpr ⟨ht, et⟩, usb t ht cd'⟩, Or.inr cd', w⟩
theorem qx_chL {post : Int32 → Prop} {q v : Nat} (hC : qx_cs c sy lf rt ld mem usr syt sgt cc) (hp : qp_ok np psy pl pr ps) (htop : ∀ q, q < np → ptop q = nI (tp q)) (htp : qp_tops np pl pr tp)
    (h3 : 3 ≤ q) (hq : q < np) (hv : v < q) (ev : pl q = nI v) (hpv : ∀ j, j < 32 → pr q = nI j → tp j < tp v → ∃ k, k < c ∧ pv j = nI k ∧ ld k = nI k)
    (K : ∀ C, (∀ b, b < 32 → (bt C b = true ↔ qm_cc c sy ld psy pv tp lf rt pr v q b)) → post C) : wpX_childClasses post (f_termLimit, f_patternLimit, f_ruleLimit, f_eventLimit, f_termCount, f_patternCount, f_ruleCount, f_eventCount, f_closedTerms, f_closedEvents, f_classCount, f_dirty, f_matchPattern, f_matchDepth, f_levelCount, f_groundLeft, f_costsFresh, f_settledClasses, f_reachedClasses, f_orderCount, f_explainedCount, sy, lf, rt, a_termIndex, psy, pl, pr, ps, ptop, a_byTop, a_patternIndex, a_ruleLeft, a_ruleRight, a_eventLeft, a_eventRight, a_eventRule, a_symbolWeight, ld, a_members, usr, syt, a_signTerm, a_levelVar, a_levelRest, pv, a_standsFor, a_order, a_best, a_bestTerm, a_gotTerm, a_treeCost, a_explainedEvent) (nI q) 1 := by
  have h32 := hp.2.1
  have iq : vp_in (nI q) 32 := vp_in_nI (by omega) (by omega)
  unfold wpX_childClasses
  refine br_f (by decide) ⟨iq, ?_⟩
  unfold wX_childClasses_19
  refine br_f (by decide) ⟨iq, ?_⟩
  rw [show (nI q).toNatClampNeg = q from nI_clamp (by omega), ev]
  exact qx_c39 (own := pl) hC hp htop htp (Or.inr ⟨by decide, rfl, rfl, rfl, rfl⟩) h3 hq hv ev hpv K
theorem qx_chR {post : Int32 → Prop} {q v : Nat} (hC : qx_cs c sy lf rt ld mem usr syt sgt cc) (hp : qp_ok np psy pl pr ps) (htop : ∀ q, q < np → ptop q = nI (tp q)) (htp : qp_tops np pl pr tp)
    (h3 : 3 ≤ q) (hq : q < np) (hv : v < q) (ev : pr q = nI v) (hpv : ∀ j, j < 32 → pl q = nI j → tp j < tp v → ∃ k, k < c ∧ pv j = nI k ∧ ld k = nI k)
    (K : ∀ C, (∀ b, b < 32 → (bt C b = true ↔ qm_cc c sy ld psy pv tp rt lf pl v q b)) → post C) : wpX_childClasses post (f_termLimit, f_patternLimit, f_ruleLimit, f_eventLimit, f_termCount, f_patternCount, f_ruleCount, f_eventCount, f_closedTerms, f_closedEvents, f_classCount, f_dirty, f_matchPattern, f_matchDepth, f_levelCount, f_groundLeft, f_costsFresh, f_settledClasses, f_reachedClasses, f_orderCount, f_explainedCount, sy, lf, rt, a_termIndex, psy, pl, pr, ps, ptop, a_byTop, a_patternIndex, a_ruleLeft, a_ruleRight, a_eventLeft, a_eventRight, a_eventRule, a_symbolWeight, ld, a_members, usr, syt, a_signTerm, a_levelVar, a_levelRest, pv, a_standsFor, a_order, a_best, a_bestTerm, a_gotTerm, a_treeCost, a_explainedEvent) (nI q) 0 := by
  have h32 := hp.2.1
  have iq : vp_in (nI q) 32 := vp_in_nI (by omega) (by omega)
  unfold wpX_childClasses
  refine br_t rfl ⟨iq, ?_⟩
  unfold wX_childClasses_19
  refine br_t rfl ⟨iq, ?_⟩
  rw [show (nI q).toNatClampNeg = q from nI_clamp (by omega), ev]
  exact qx_c39 (own := pr) hC hp htop htp (Or.inl ⟨rfl, rfl, rfl, rfl, rfl⟩) h3 hq hv ev hpv K
def qm_cq (c : Nat) (sy lf rt ld psy pl pr pv : Nat → Int32) (tp : Nat → Nat) (v q b : Nat) : Prop :=
  (pl q = nI v → qm_cc c sy ld psy pv tp lf rt pr v q b) ∧ (pr q = nI v → qm_cc c sy ld psy pv tp rt lf pl v q b)
end
section
variable {f_termLimit f_patternLimit f_ruleLimit f_eventLimit f_termCount f_patternCount f_ruleCount f_eventCount f_closedTerms f_closedEvents f_classCount f_dirty f_matchDepth f_levelCount f_groundLeft f_costsFresh f_settledClasses f_reachedClasses f_orderCount f_explainedCount : Int32} {a_termIndex a_byTop a_patternIndex a_ruleLeft a_ruleRight a_eventLeft a_eventRight a_eventRule a_symbolWeight a_members a_signTerm a_levelVar a_levelRest a_standsFor a_order a_bestTerm a_gotTerm a_explainedEvent : Nat → Int32} {a_best a_treeCost : Nat → Int64}
variable {c np p v : Nat} {sy lf rt ld mem usr syt sgt psy pl pr ps ptop pv : Nat → Int32} {cc : Int32} {tp : Nat → Nat}
theorem qx_cand {post : Int32 → Prop} (hC : qx_cs c sy lf rt ld mem usr syt sgt cc) (hp : qp_ok np psy pl pr ps) (htop : ∀ q, q < np → ptop q = nI (tp q)) (htp : qp_tops np pl pr tp) (hpn : p < np) (hv : v < 3)
    (hpv : ∀ q j, bt (ps p) q = true → qp_cd pl pr q j → tp j < tp v → ∃ k, k < c ∧ pv j = nI k ∧ ld k = nI k)
    (K : ∀ C, (∀ b, b < 32 → (bt C b = true ↔ ∀ q, bt (ps p) q = true → 3 ≤ q → qm_cq c sy lf rt ld psy pl pr pv tp v q b)) → post C) : wpX_candidates post (f_termLimit, f_patternLimit, f_ruleLimit, f_eventLimit, f_termCount, f_patternCount, f_ruleCount, f_eventCount, f_closedTerms, f_closedEvents, f_classCount, f_dirty, nI p, f_matchDepth, f_levelCount, f_groundLeft, f_costsFresh, f_settledClasses, f_reachedClasses, f_orderCount, f_explainedCount, sy, lf, rt, a_termIndex, psy, pl, pr, ps, ptop, a_byTop, a_patternIndex, a_ruleLeft, a_ruleRight, a_eventLeft, a_eventRight, a_eventRule, a_symbolWeight, ld, a_members, usr, syt, a_signTerm, a_levelVar, a_levelRest, pv, a_standsFor, a_order, a_best, a_bestTerm, a_gotTerm, a_treeCost, a_explainedEvent) (nI v) := by
  have h32 := hp.2.1
  unfold wpX_candidates
  refine ⟨vp_in_nI (by omega) (by omega), nm_r (e' := qi_S ps p) (by rw [nI_clamp (by omega)]; rfl) ⟨33, qb_loop (fun k r s => wX_candidates_15 post (nI v) f_termLimit f_patternLimit f_ruleLimit f_eventLimit f_termCount f_patternCount f_ruleCount f_eventCount f_closedTerms f_closedEvents f_classCount f_dirty (nI p) f_matchDepth f_levelCount f_groundLeft f_costsFresh f_settledClasses f_reachedClasses f_orderCount f_explainedCount sy lf rt a_termIndex psy pl pr ps ptop a_byTop a_patternIndex a_ruleLeft a_ruleRight a_eventLeft a_eventRight a_eventRule a_symbolWeight ld a_members usr syt a_signTerm a_levelVar a_levelRest pv a_standsFor a_order a_best a_bestTerm a_gotTerm a_treeCost a_explainedEvent k s r) (qi_S ps p) (fun i s => ∀ b, b < 32 → (bt s b = true ↔ ∀ q, q < i → bt (ps p) q = true → 3 ≤ q → qm_cq c sy lf rt ld psy pl pr pv tp v q b)) ?_ ?_ ?_ (-1) (fun b hb => ?_)⟩⟩
  · intro k s hs
    rw [wX_candidates_15]
    refine br_t rfl (K s fun b hb => (hs b hb).trans ⟨fun z q bq h3 => z q ?_ bq h3, fun z q _ bq h3 => z q bq h3⟩)
    have := qp_le hp p hpn q bq
    omega
  · intro i s hi bi hs b hb
    refine (hs b hb).trans ⟨fun z q hq bq h3 => z q ?_ bq h3, fun z q hq bq h3 => z q (by omega) bq h3⟩
    refine Classical.byContradiction fun w => ?_
    have : q = i := by omega
    subst this
    rw [(qi_S_t hp hpn).mpr ⟨bq, h3⟩] at bi
    exact absurd bi (by decide)
  · intro k i r s hr lo bi hs Kn
    have i32 := lo.1
    have ii : vp_in (nI i) 32 := vp_in_nI i32 (by omega)
    have ci : (nI i).toNatClampNeg = i := nI_clamp (by omega)
    have b := (qi_S_t hp hpn).mp bi
    have inp : i < np := by have := qp_le hp p hpn i b.1; omega
    have step : ∀ s', (∀ x, x < 32 → (bt s' x = true ↔ bt s x = true ∧ qm_cq c sy lf rt ld psy pl pr pv tp v i x)) → wX_candidates_15 post (nI v) f_termLimit f_patternLimit f_ruleLimit f_eventLimit f_termCount f_patternCount f_ruleCount f_eventCount f_closedTerms f_closedEvents f_classCount f_dirty (nI p) f_matchDepth f_levelCount f_groundLeft f_costsFresh f_settledClasses f_reachedClasses f_orderCount f_explainedCount sy lf rt a_termIndex psy pl pr ps ptop a_byTop a_patternIndex a_ruleLeft a_ruleRight a_eventLeft a_eventRight a_eventRule a_symbolWeight ld a_members usr syt a_signTerm a_levelVar a_levelRest pv a_standsFor a_order a_best a_bestTerm a_gotTerm a_treeCost a_explainedEvent k s' (r &&& (r - 1)) := by
      intro s' h'
      refine Kn s' fun x hx => (h' x hx).trans ⟨fun z q hq bq h3 => ?_, fun z => ⟨(hs x hx).mpr fun q hq bq h3 => z q (by omega) bq h3, z i (by omega) b.1 b.2⟩⟩
      by_cases w : q = i
      · subst w; exact z.2
      · exact (hs x hx).mp z.1 q (by omega) bq h3
    have right : ∀ s1, (∀ x, x < 32 → (bt s1 x = true ↔ bt s x = true ∧ (pl i = nI v → qm_cc c sy ld psy pv tp lf rt pr v i x))) → wX_candidates_47 post (wX_candidates_15 post (nI v) f_termLimit f_patternLimit f_ruleLimit f_eventLimit f_termCount f_patternCount f_ruleCount f_eventCount f_closedTerms f_closedEvents f_classCount f_dirty (nI p) f_matchDepth f_levelCount f_groundLeft f_costsFresh f_settledClasses f_reachedClasses f_orderCount f_explainedCount sy lf rt a_termIndex psy pl pr ps ptop a_byTop a_patternIndex a_ruleLeft a_ruleRight a_eventLeft a_eventRight a_eventRule a_symbolWeight ld a_members usr syt a_signTerm a_levelVar a_levelRest pv a_standsFor a_order a_best a_bestTerm a_gotTerm a_treeCost a_explainedEvent k) (nI v) s1 r (nI i) f_termLimit f_patternLimit f_ruleLimit f_eventLimit f_termCount f_patternCount f_ruleCount f_eventCount f_closedTerms f_closedEvents f_classCount f_dirty (nI p) f_matchDepth f_levelCount f_groundLeft f_costsFresh f_settledClasses f_reachedClasses f_orderCount f_explainedCount sy lf rt a_termIndex psy pl pr ps ptop a_byTop a_patternIndex a_ruleLeft a_ruleRight a_eventLeft a_eventRight a_eventRule a_symbolWeight ld a_members usr syt a_signTerm a_levelVar a_levelRest pv a_standsFor a_order a_best a_bestTerm a_gotTerm a_treeCost a_explainedEvent := by
      intro s1 h1
      unfold wX_candidates_47
      refine ⟨ii, ?_⟩
      rw [ci]
      refine br_c (fun e => ?_) (fun e => nm_e (step s1 fun x hx => ?_))
      · refine qx_chR hC hp htop htp b.2 inp (by omega) e (fun j hj ej tj => hpv i j b.1 ⟨hj, Or.inl ej⟩ tj) (fun C hCb => nm_e (nm_e (step _ fun x hx => ?_)))
        rw [b_and, Bool.and_eq_true, h1 x hx, hCb x hx]
        exact ⟨fun z => ⟨z.1.1, z.1.2, fun _ => z.2⟩, fun z => ⟨⟨z.1, z.2.1⟩, z.2.2 e⟩⟩
      · rw [h1 x hx]
        exact ⟨fun z => ⟨z.1, z.2, fun w => (e w).elim⟩, fun z => ⟨z.1, z.2.1⟩⟩
    rw [wX_candidates_15]
    refine br_f hr (qx_low lo ⟨ii, ?_⟩)
    rw [ci]
    refine br_c (fun e => ?_) (fun e => right s fun x hx => ⟨fun z => ⟨z, fun w => (e w).elim⟩, fun z => z.1⟩)
    refine qx_chL hC hp htop htp b.2 inp (by omega) e (fun j hj ej tj => hpv i j b.1 ⟨hj, Or.inr ej⟩ tj) (fun C hCb => nm_e (right _ fun x hx => ?_))
    rw [b_and, Bool.and_eq_true, hCb x hx]
    exact ⟨fun z => ⟨z.1, fun _ => z.2⟩, fun z => ⟨z.1, z.2 e⟩⟩
  · rw [b_m1 b hb]
    exact ⟨fun _ q hq => absurd hq (Nat.not_lt_zero _), fun _ => rfl⟩
end
end
section
def qm_cx (v m : Nat) : Nat := if v = 0 then m / 1024 else if v = 1 then m / 32 % 32 else m % 32
def qm_AA (m v : Nat) : Int32 := nI (qm_cx v m)
def qm_AF (f : Nat → Nat) (v : Nat) : Int32 := nI (f v)
def qm_code (f : Nat → Nat) : Nat := (f 0 * 32 + f 1) * 32 + f 2
theorem qm_cx_code {f : Nat → Nat} (h : ∀ v, v < 3 → f v < 32) : ∀ v, v < 3 → qm_cx v (qm_code f) = f v := by
  intro v hv
  have h0 := h 0 (by omega)
  have h1 := h 1 (by omega)
  have h2 := h 2 (by omega)
  unfold qm_cx qm_code
  match v, hv with
  | 0, _ => simp only [if_true]; omega
  | 1, _ => rw [if_neg (by decide), if_pos rfl]; omega
  | 2, _ => rw [if_neg (by decide), if_neg (by decide)]; omega
theorem qm_code_lt {f : Nat → Nat} (h : ∀ v, v < 3 → f v < 32) : qm_code f < 32768 := by
  have h0 := h 0 (by omega)
  have h1 := h 1 (by omega)
  have h2 := h 2 (by omega)
  unfold qm_code; omega
theorem qm_lex {m m' v : Nat} (hv : v < 3) (h : ∀ v', v' < v → qm_cx v' m = qm_cx v' m') (lt : qm_cx v m < qm_cx v m') : m < m' := by
  match v, hv with
  | 0, _ => unfold qm_cx at lt; simp only [if_true] at lt; omega
  | 1, _ =>
    have h0 := h 0 (by omega)
    unfold qm_cx at lt h0
    simp only [if_true] at h0
    rw [if_neg (by decide), if_pos rfl, if_neg (by decide), if_pos rfl] at lt; omega
  | 2, _ =>
    have h0 := h 0 (by omega)
    have h1 := h 1 (by omega)
    unfold qm_cx at lt h0 h1
    simp only [if_true] at h0
    rw [if_neg (by decide), if_pos rfl, if_neg (by decide), if_pos rfl] at h1
    rw [if_neg (by decide), if_neg (by decide), if_neg (by decide), if_neg (by decide)] at lt; omega
theorem qm_cx_inj {m m' : Nat} (h : ∀ v, v < 3 → qm_cx v m = qm_cx v m') : m = m' := by
  have h0 := h 0 (by omega)
  have h1 := h 1 (by omega)
  have h2 := h 2 (by omega)
  unfold qm_cx at h0 h1 h2
  simp only [if_true] at h0
  rw [if_neg (by decide), if_pos rfl, if_neg (by decide), if_pos rfl] at h1
  rw [if_neg (by decide), if_neg (by decide), if_neg (by decide), if_neg (by decide)] at h2
  omega
def qm_Ma (c : Nat) (sy lf rt ld psy pl pr ps : Nat → Int32) (p m : Nat) : Prop :=
  m < 32768 ∧ (∀ v, v < 3 → bt (ps p) v = true → qm_cx v m < c ∧ ld (qm_cx v m) = nI (qm_cx v m)) ∧ (∀ v, v < 3 → bt (ps p) v = false → qm_cx v m = 0) ∧
  ¬ qm_v c sy lf rt ld psy pl pr (qm_AA m) p = -1
def qm_lv (u : Nat → Bool) (lc : Nat) (lv : Nat → Nat) : Prop :=
  lc ≤ 3 ∧ (∀ d, d < lc → lv d < 3 ∧ u (lv d) = true) ∧ (∀ d d', d < d' → d' < lc → lv d < lv d') ∧ (∀ v, v < 3 → u v = true → ∃ d, d < lc ∧ lv d = v)
def qm_T (lv : Nat → Nat) : Nat → Nat
  | 0 => 0
  | d + 1 => lv d + 1
def qm_ctx (c np p : Nat) (sy lf rt ld mem usr syt sgt psy pl pr ps ptop btp : Nat → Int32) (cc : Int32) (tp : Nat → Nat) (lc : Nat) (lv : Nat → Nat) (lva : Nat → Int32) : Prop :=
  qx_cs c sy lf rt ld mem usr syt sgt cc ∧ qx_dt c sy lf rt ld sgt 0 99 ∧ qp_ok np psy pl pr ps ∧ (∀ q, q < np → ptop q = nI (tp q)) ∧ qp_tops np pl pr tp ∧
  (∀ k q, k < 4 → q < 32 → (bt (btp k) q = true ↔ 3 ≤ q ∧ q < np ∧ tp q = k)) ∧ 3 ≤ p ∧ p < np ∧ qm_lv (bt (ps p)) lc lv ∧ (∀ d, d < lc → lva d = nI (lv d))
def qm_rm (lv : Nat → Nat) (d : Nat) (f : Nat → Nat) (rest : Nat → Int32) (m : Nat) : Prop :=
  ∃ l, l ≤ d ∧ (∀ l', l' < l → qm_cx (lv l') m = f (lv l')) ∧ bt (rest l) (qm_cx (lv l) m) = true
def qm_iv (c : Nat) (sy lf rt ld psy pl pr ps : Nat → Int32) (p : Nat) (tp lv : Nat → Nat) (M d : Nat) (f : Nat → Nat) (rest pv : Nat → Int32) : Prop :=
  (∀ m, qm_Ma c sy lf rt ld psy pl pr ps p m → (M ≤ m ↔ qm_rm lv d f rest m)) ∧
  (∀ l, l < d → f (lv l) < c ∧ ld (f (lv l)) = nI (f (lv l)) ∧ ∀ x, bt (rest l) x = true → f (lv l) < x) ∧
  (∀ l x, l ≤ d → bt (rest l) x = true → x < c ∧ ld x = nI x) ∧
  (∀ q, bt (ps p) q = true → tp q ≤ qm_T lv d → pv q = qm_v c sy lf rt ld psy pl pr (qm_AF f) q ∧ ∃ k, k < c ∧ pv q = nI k ∧ ld k = nI k)
theorem qp_tr {np : Nat} {psy pl pr ps : Nat → Int32} (h : qp_ok np psy pl pr ps) {p : Nat} (hp : p < np) : ∀ q, bt (ps p) q = true → ∀ x, bt (ps q) x = true → bt (ps p) x = true := by
  intro q
  induction q using Nat.strongRecOn with
  | ind q ih =>
    intro bq x bx
    have qn : q < np := by have := qp_le h p hp q bq; omega
    rcases (qp_rec h qn).mp bx with z | ⟨y, cy, b⟩
    · subst z; exact bq
    · exact ih y (qp_cd_lt h qn cy).1 (qp_dn h p hp q y bq cy) x b
section
variable {c np p lc d : Nat} {sy lf rt ld mem usr syt sgt psy pl pr ps ptop btp lva : Nat → Int32} {cc : Int32} {tp lv : Nat → Nat}
theorem qm_tT (X : qm_ctx c np p sy lf rt ld mem usr syt sgt psy pl pr ps ptop btp cc tp lc lv lva) (hd : d < lc) {q : Nat} (bq : bt (ps p) q = true) (h : tp q ≤ lv d) : tp q ≤ qm_T lv d := by
  obtain ⟨hC, hdt, hp, htop, htp, hby, p3, pn, L, hlva⟩ := X
  have qn : q < np := by have := qp_le hp p pn q bq; omega
  cases z : tp q with
  | zero => omega
  | succ u =>
    have b := (qp_tpv hp htp q qn).2 u z
    have u3 := qp_tp3 hp htp q qn
    obtain ⟨e, he, ee⟩ := L.2.2.2 u (by omega) (qp_tr hp pn q bq u b)
    have ed : e < d := by
      refine Classical.byContradiction fun w => ?_
      rcases Nat.lt_or_ge d e with q | q
      · have := L.2.2.1 d e q he; omega
      · have : e = d := by omega
        subst this; omega
    cases d with
    | zero => omega
    | succ d =>
      show u + 1 ≤ lv d + 1
      rcases Nat.lt_or_ge e d with q | q
      · have := L.2.2.1 e d q (by omega); omega
      · have : e = d := by omega
        subst this; omega
theorem qm_vA (X : qm_ctx c np p sy lf rt ld mem usr syt sgt psy pl pr ps ptop btp cc tp lc lv lva) {A B : Nat → Int32} {q : Nat} (bq : bt (ps p) q = true) (h : ∀ v, v < 3 → bt (ps p) v = true → v < tp q → A v = B v) :
    qm_v c sy lf rt ld psy pl pr A q = qm_v c sy lf rt ld psy pl pr B q := by
  obtain ⟨hC, hdt, hp, htop, htp, hby, p3, pn, L, hlva⟩ := X
  have qn : q < np := by have := qp_le hp p pn q bq; omega
  exact qm_v_A hp q qn fun v hv b => h v hv (qp_tr hp pn q bq v b) ((qp_tpv hp htp q qn).1 v hv b)
theorem qm_sub (X : qm_ctx c np p sy lf rt ld mem usr syt sgt psy pl pr ps ptop btp cc tp lc lv lva) {A : Nat → Int32} {q : Nat} (bq : bt (ps p) q = true) (e : qm_v c sy lf rt ld psy pl pr A q = -1) : qm_v c sy lf rt ld psy pl pr A p = -1 :=
  qm_v_sub X.2.2.1 X.1.1 X.1.2.1 X.1.2.2.1 p X.2.2.2.2.2.2.2.1 q bq e
theorem qm_lvl (L : qm_lv (bt (ps p)) lc lv) (hd : d < lc) {v : Nat} (hv : v < 3) (u : bt (ps p) v = true) (h : v < lv d) : ∃ e, e < d ∧ lv e = v := by
  obtain ⟨e, he, ee⟩ := L.2.2.2 v hv u
  refine ⟨e, ?_, ee⟩
  refine Classical.byContradiction fun w => ?_
  rcases Nat.lt_or_ge d e with q | q
  · have := L.2.2.1 d e q he; omega
  · have : e = d := by omega
    subst this; omega
theorem qm_lt (X : qm_ctx c np p sy lf rt ld mem usr syt sgt psy pl pr ps ptop btp cc tp lc lv lva) (hd : d < lc) {m m' : Nat} (h : qm_Ma c sy lf rt ld psy pl pr ps p m) (h' : qm_Ma c sy lf rt ld psy pl pr ps p m') (e : ∀ l, l < d → qm_cx (lv l) m = qm_cx (lv l) m') (lt : qm_cx (lv d) m < qm_cx (lv d) m') : m < m' := by
  have L := X.2.2.2.2.2.2.2.2.1
  refine qm_lex (L.2.1 d hd).1 (fun v hv => ?_) lt
  have v3 : v < 3 := by have := (L.2.1 d hd).1; omega
  cases u : bt (ps p) v
  · rw [h.2.2.1 v v3 u, h'.2.2.1 v v3 u]
  · obtain ⟨l, hl, el⟩ := qm_lvl L hd v3 u hv
    rw [← el]; exact e l hl
def qm_f1 (f : Nat → Nat) (v i : Nat) : Nat → Nat := fun x => if x = v then i else f x
theorem qm_f1s {f : Nat → Nat} {v i : Nat} : qm_f1 f v i v = i := if_pos rfl
theorem qm_f1n {f : Nat → Nat} {v i x : Nat} (h : x ≠ v) : qm_f1 f v i x = f x := if_neg h
theorem qm_evch (X : qm_ctx c np p sy lf rt ld mem usr syt sgt psy pl pr ps ptop btp cc tp lc lv lva) (hd : d < lc) {M i : Nat} {f : Nat → Nat} {rest pv : Nat → Int32} (I : qm_iv c sy lf rt ld psy pl pr ps p tp lv M d f rest pv) (hi : i < c ∧ ld i = nI i) :
    ∀ q, bt (ps p) q = true → tp q ≤ lv d → q ≠ lv d ∧ pv q = qm_v c sy lf rt ld psy pl pr (qm_AF (qm_f1 f (lv d) i)) q ∧ ∃ k, k < c ∧ pv q = nI k ∧ ld k = nI k := by
  intro q bq tq
  have L := X.2.2.2.2.2.2.2.2.1
  have htp := X.2.2.2.2.1
  have ne : q ≠ lv d := by
    intro e
    have := htp.1 (lv d) (L.2.1 d hd).1
    rw [← e] at this; omega
  refine ⟨ne, ?_⟩
  have k := I.2.2.2 q bq (qm_tT X hd bq tq)
  refine ⟨k.1.trans (qm_vA X bq fun v hv _ lt => ?_), k.2⟩
  unfold qm_AF
  rw [qm_f1n (by omega)]
theorem qm_evok (X : qm_ctx c np p sy lf rt ld mem usr syt sgt psy pl pr ps ptop btp cc tp lc lv lva) (hd : d < lc) {M i : Nat} {f : Nat → Nat} {rest pv pv2 : Nat → Int32} (I : qm_iv c sy lf rt ld psy pl pr ps p tp lv M d f rest pv) (hi : i < c ∧ ld i = nI i)
    (h1 : ∀ q, bt (ps p &&& btp (lv d + 1)) q = true → pv2 q = qm_v c sy lf rt ld psy pl pr (qm_AF (qm_f1 f (lv d) i)) q ∧ ∃ j, j < c ∧ pv2 q = nI j)
    (h2 : ∀ q, bt (ps p &&& btp (lv d + 1)) q = false → pv2 q = upd pv (lv d) (nI i) q) :
    ∀ q, bt (ps p) q = true → tp q ≤ lv d + 1 → pv2 q = qm_v c sy lf rt ld psy pl pr (qm_AF (qm_f1 f (lv d) i)) q ∧ ∃ k, k < c ∧ pv2 q = nI k ∧ ld k = nI k := by
  intro q bq tq
  have hp := X.2.2.1
  have pn := X.2.2.2.2.2.2.2.1
  have L := X.2.2.2.2.2.2.2.2.1
  have htp := X.2.2.2.2.1
  have hby := X.2.2.2.2.2.1
  have qn : q < np := by have := qp_le hp p pn q bq; omega
  have h32 := hp.2.1
  have v3 := (L.2.1 d hd).1
  by_cases z : tp q = lv d + 1
  · by_cases q3 : 3 ≤ q
    · have bs : bt (ps p &&& btp (lv d + 1)) q = true := by
        rw [b_and, Bool.and_eq_true]
        exact ⟨bq, (hby (lv d + 1) q (by omega) (by omega)).mpr ⟨q3, qn, z⟩⟩
      have k := h1 q bs
      refine ⟨k.1, ?_⟩
      rcases qm_v_or (A := qm_AF (qm_f1 f (lv d) i)) hp X.1.2.2.1 (sy := sy) (lf := lf) (rt := rt) q3 qn with e | ⟨j, hj, e1, e2⟩
      · obtain ⟨j, hj, ej⟩ := k.2
        have := X.1.1
        rw [k.1, e] at ej
        exact (qa_1ne (by omega) ej).elim
      · exact ⟨j, hj, k.1.trans e1, e2⟩
    · have : q = lv d := by have := htp.1 q (by omega); omega
      subst this
      have bs : bt (ps p &&& btp (lv d + 1)) (lv d) = false := by
        cases w : bt (ps p &&& btp (lv d + 1)) (lv d)
        · rfl
        · rw [b_and, Bool.and_eq_true] at w
          have := (hby (lv d + 1) (lv d) (by omega) (by omega)).mp w.2; omega
      rw [h2 _ bs, pk_us, qm_v3 v3]
      unfold qm_AF
      rw [qm_f1s]
      exact ⟨rfl, i, hi.1, rfl, hi.2⟩
  · have k := qm_evch X hd I hi q bq (by omega)
    have bs : bt (ps p &&& btp (lv d + 1)) q = false := by
      cases w : bt (ps p &&& btp (lv d + 1)) q
      · rfl
      · rw [b_and, Bool.and_eq_true] at w
        have := (hby (lv d + 1) q (by omega) (by omega)).mp w.2; omega
    rw [h2 q bs, pk_un k.1]
    exact k.2
end
noncomputable def qm_w (d : Nat) : Nat := if d = 0 then 1090 else if d = 1 then 34 else 1
noncomputable def qm_ph (rest : Nat → Int32) : Nat → Nat
  | 0 => qb_pc (rest 0) * 1090 + 1
  | d + 1 => qm_ph rest d + qb_pc (rest (d + 1)) * qm_w (d + 1) + 1
theorem qm_ph_ext {rest rest' : Nat → Int32} : ∀ {d : Nat}, (∀ l, l ≤ d → rest' l = rest l) → qm_ph rest' d = qm_ph rest d
  | 0, h => by rw [qm_ph, qm_ph, h 0 (Nat.le_refl _)]
  | d + 1, h => by rw [qm_ph, qm_ph, h (d + 1) (Nat.le_refl _), qm_ph_ext (d := d) (fun l hl => h l (by omega))]
theorem qm_ph0 (rest : Nat → Int32) : qm_ph rest 0 = qb_pc (rest 0) * 1090 + 1 := rfl
theorem qm_ph1 (rest : Nat → Int32) : qm_ph rest 1 = qb_pc (rest 0) * 1090 + 1 + qb_pc (rest 1) * 34 + 1 := rfl
theorem qm_ph2 (rest : Nat → Int32) : qm_ph rest 2 = qb_pc (rest 0) * 1090 + 1 + qb_pc (rest 1) * 34 + 1 + qb_pc (rest 2) * 1 + 1 := rfl
theorem qm_w0 : qm_w 0 = 1090 := rfl
theorem qm_w1 : qm_w 1 = 34 := rfl
theorem qm_w2 : qm_w 2 = 1 := rfl
theorem qm_ph_le (rest : Nat → Int32) {d : Nat} (hd : d < 3) : qm_ph rest d ≤ 36003 := by
  have h0 := qb_pc_le (rest 0)
  have h1 := qb_pc_le (rest 1)
  have h2 := qb_pc_le (rest 2)
  match d, hd with
  | 0, _ => rw [qm_ph0]; omega
  | 1, _ => rw [qm_ph1]; omega
  | 2, _ => rw [qm_ph2]; omega
theorem qm_ph_tk {rest : Nat → Int32} {d i : Nat} (hd : d < 3) (lo : qb_lo (rest d) i) : qm_ph (upd rest d (rest d &&& (rest d - 1))) d + qm_w d = qm_ph rest d := by
  have a := qb_pc_nx lo
  match d, hd, lo, a with
  | 0, _, lo, a => rw [qm_ph0, qm_ph0, pk_us, qm_w0]; omega
  | 1, _, lo, a =>
    have e0 : upd rest 1 (rest 1 &&& (rest 1 - 1)) 0 = rest 0 := pk_un (by decide)
    rw [qm_ph1, qm_ph1, pk_us, qm_w1, e0]; omega
  | 2, _, lo, a =>
    have e0 : upd rest 2 (rest 2 &&& (rest 2 - 1)) 0 = rest 0 := pk_un (by decide)
    have e1 : upd rest 2 (rest 2 &&& (rest 2 - 1)) 1 = rest 1 := pk_un (by decide)
    rw [qm_ph2, qm_ph2, pk_us, qm_w2, e0, e1]; omega
theorem qm_ph_dn {rest : Nat → Int32} {C : Int32} {d : Nat} (hd : d + 1 < 3) : qm_ph (upd rest (d + 1) C) (d + 1) + 1 ≤ qm_ph rest d + qm_w d := by
  have a := qb_pc_le C
  match d, hd with
  | 0, _ =>
    have e0 : upd rest (0 + 1) C 0 = rest 0 := pk_un (by decide)
    have e1 : upd rest (0 + 1) C 1 = C := pk_us
    rw [qm_ph1, qm_ph0, qm_w0, e0, e1]; omega
  | 1, _ =>
    have e0 : upd rest (1 + 1) C 0 = rest 0 := pk_un (by decide)
    have e1 : upd rest (1 + 1) C 1 = rest 1 := pk_un (by decide)
    have e2 : upd rest (1 + 1) C 2 = C := pk_us
    rw [qm_ph2, qm_ph1, qm_w1, e0, e1, e2]; omega
theorem qm_w_pos {d : Nat} : 0 < qm_w d := by
  unfold qm_w
  by_cases z : d = 0
  · rw [if_pos z]; omega
  · rw [if_neg z]
    by_cases w : d = 1
    · rw [if_pos w]; omega
    · rw [if_neg w]; omega
end
section
section
variable {c np p lc d M i : Nat} {sy lf rt ld mem usr syt sgt psy pl pr ps ptop btp lva rest pv pv2 : Nat → Int32} {cc C : Int32} {tp lv f : Nat → Nat}
theorem qm_T_mono (L : qm_lv (bt (ps p)) lc lv) (hd : d + 1 < lc) : qm_T lv d ≤ qm_T lv (d + 1) := by
  cases d with
  | zero => exact Nat.zero_le _
  | succ d =>
    show lv d + 1 ≤ lv (d + 1) + 1
    have := L.2.2.1 d (d + 1) (by omega) (by omega)
    omega
theorem qm_T_le (L : qm_lv (bt (ps p)) lc lv) (hd : d < lc) : qm_T lv d ≤ lv d := by
  cases d with
  | zero => exact Nat.zero_le _
  | succ d =>
    show lv d + 1 ≤ lv (d + 1)
    have := L.2.2.1 d (d + 1) (by omega) (by omega)
    omega
theorem qm_up (X : qm_ctx c np p sy lf rt ld mem usr syt sgt psy pl pr ps ptop btp cc tp lc lv lva) (hd : d + 1 < lc) (I : qm_iv c sy lf rt ld psy pl pr ps p tp lv M (d + 1) f rest pv) (z : rest (d + 1) = 0) :
    qm_iv c sy lf rt ld psy pl pr ps p tp lv M d f rest pv := by
  have L := X.2.2.2.2.2.2.2.2.1
  refine ⟨fun m hm => (I.1 m hm).trans ⟨?_, ?_⟩, fun l hl => I.2.1 l (by omega), fun l x hl => I.2.2.1 l x (by omega), fun q bq tq => I.2.2.2 q bq (Nat.le_trans tq (qm_T_mono L hd))⟩
  · rintro ⟨l, hl, e, b⟩
    refine ⟨l, ?_, e, b⟩
    refine Classical.byContradiction fun w => ?_
    have : l = d + 1 := by omega
    subst this
    rw [z, b_0] at b
    exact absurd b (by decide)
  · rintro ⟨l, hl, e, b⟩
    exact ⟨l, by omega, e, b⟩
theorem qm_r1 (lo : qb_lo (rest d) i) {l x : Nat} : bt (upd rest d (rest d &&& (rest d - 1)) l) x = true ↔ bt (rest l) x = true ∧ ¬ (l = d ∧ x = i) := by
  by_cases z : l = d
  · subst z
    rw [pk_us, qb_nx lo, Bool.and_eq_true, decide_eq_true_eq]
    exact ⟨fun h => ⟨h.1, fun w => h.2 w.2⟩, fun h => ⟨h.1, fun w => h.2 ⟨rfl, w⟩⟩⟩
  · rw [pk_un z]
    exact ⟨fun h => ⟨h, fun w => z w.1⟩, fun h => h.1⟩
theorem qm_nofit (X : qm_ctx c np p sy lf rt ld mem usr syt sgt psy pl pr ps ptop btp cc tp lc lv lva) (hd : d < lc) (I : qm_iv c sy lf rt ld psy pl pr ps p tp lv M d f rest pv) (lo : qb_lo (rest d) i)
    (hpv : ∀ q, bt (ps p) q = true → tp q ≤ qm_T lv d → pv2 q = pv q) (no : ∀ m, qm_Ma c sy lf rt ld psy pl pr ps p m → (∀ l, l < d → qm_cx (lv l) m = f (lv l)) → ¬ qm_cx (lv d) m = i) :
    qm_iv c sy lf rt ld psy pl pr ps p tp lv M d f (upd rest d (rest d &&& (rest d - 1))) pv2 := by
  refine ⟨fun m hm => (I.1 m hm).trans ⟨?_, ?_⟩, fun l hl => ?_, fun l x hl b => I.2.2.1 l x hl ((qm_r1 lo).mp b).1, fun q bq tq => ?_⟩
  · rintro ⟨l, hl, e, b⟩
    refine ⟨l, hl, e, (qm_r1 lo).mpr ⟨b, fun w => ?_⟩⟩
    obtain ⟨rfl, w⟩ := w
    exact no m hm e w
  · rintro ⟨l, hl, e, b⟩
    exact ⟨l, hl, e, ((qm_r1 lo).mp b).1⟩
  · have k := I.2.1 l hl
    exact ⟨k.1, k.2.1, fun x b => k.2.2 x ((qm_r1 lo).mp b).1⟩
  · rw [hpv q bq tq]; exact I.2.2.2 q bq tq
theorem qm_down (X : qm_ctx c np p sy lf rt ld mem usr syt sgt psy pl pr ps ptop btp cc tp lc lv lva) (hd : d + 1 < lc) (I : qm_iv c sy lf rt ld psy pl pr ps p tp lv M d f rest pv) (lo : qb_lo (rest d) i)
    (hpv : ∀ q, bt (ps p) q = true → tp q ≤ lv d + 1 → pv2 q = qm_v c sy lf rt ld psy pl pr (qm_AF (qm_f1 f (lv d) i)) q ∧ ∃ k, k < c ∧ pv2 q = nI k ∧ ld k = nI k)
    (hC : ∀ x, bt C x = true → x < c ∧ ld x = nI x) (cmp : ∀ m, qm_Ma c sy lf rt ld psy pl pr ps p m → (∀ l, l ≤ d → qm_cx (lv l) m = qm_f1 f (lv d) i (lv l)) → bt C (qm_cx (lv (d + 1)) m) = true) :
    qm_iv c sy lf rt ld psy pl pr ps p tp lv M (d + 1) (qm_f1 f (lv d) i) (upd (upd rest d (rest d &&& (rest d - 1))) (d + 1) C) pv2 := by
  have L := X.2.2.2.2.2.2.2.2.1
  have fl : ∀ l, l < d → qm_f1 f (lv d) i (lv l) = f (lv l) := fun l hl => qm_f1n (by have := L.2.2.1 l d hl (by omega); omega)
  have rl : ∀ l, l ≤ d → upd (upd rest d (rest d &&& (rest d - 1))) (d + 1) C l = upd rest d (rest d &&& (rest d - 1)) l := fun l hl => pk_un (by omega)
  refine ⟨fun m hm => (I.1 m hm).trans ⟨?_, ?_⟩, fun l hl => ?_, fun l x hl b => ?_, hpv⟩
  · rintro ⟨l, hl, e, b⟩
    by_cases z : l = d ∧ qm_cx (lv l) m = i
    · obtain ⟨rfl, z⟩ := z
      have pre : ∀ l', l' ≤ l → qm_cx (lv l') m = qm_f1 f (lv l) i (lv l') := by
        intro l' hl'
        by_cases w : l' = l
        · subst w; rw [qm_f1s, z]
        · rw [fl l' (by omega)]; exact e l' (by omega)
      refine ⟨l + 1, Nat.le_refl _, fun l' hl' => pre l' (by omega), ?_⟩
      rw [pk_us]; exact cmp m hm pre
    · refine ⟨l, by omega, fun l' hl' => ?_, ?_⟩
      · rw [fl l' (by omega)]; exact e l' hl'
      · rw [rl l hl]; exact (qm_r1 lo).mpr ⟨b, z⟩
  · rintro ⟨l, hl, e, b⟩
    by_cases z : l = d + 1
    · subst z
      refine ⟨d, Nat.le_refl _, fun l' hl' => ?_, ?_⟩
      · rw [e l' (by omega), fl l' hl']
      · rw [e d (by omega), qm_f1s]; exact lo.2.1
    · refine ⟨l, by omega, fun l' hl' => ?_, ?_⟩
      · rw [e l' hl', fl l' (by omega)]
      · rw [rl l (by omega)] at b
        exact ((qm_r1 lo).mp b).1
  · rw [rl l (by omega)]
    by_cases z : l = d
    · subst z
      have k := I.2.2.1 l i (Nat.le_refl _) lo.2.1
      rw [qm_f1s]
      refine ⟨k.1, k.2, fun x b => ?_⟩
      have b' := (qm_r1 lo).mp b
      refine Classical.byContradiction fun w => ?_
      have ne : x ≠ i := fun q => b'.2 ⟨rfl, q⟩
      have := lo.2.2 x (by omega)
      rw [b'.1] at this
      exact absurd this (by decide)
    · have k := I.2.1 l (by omega)
      rw [fl l (by omega)]
      exact ⟨k.1, k.2.1, fun x b => k.2.2 x ((qm_r1 lo).mp b).1⟩
  · by_cases z : l = d + 1
    · subst z; rw [pk_us] at b; exact hC x b
    · rw [rl l (by omega)] at b
      exact I.2.2.1 l x (by omega) ((qm_r1 lo).mp b).1
theorem qm_fin (X : qm_ctx c np p sy lf rt ld mem usr syt sgt psy pl pr ps ptop btp cc tp lc lv lva) (hd : d + 1 = lc) (I : qm_iv c sy lf rt ld psy pl pr ps p tp lv M d f rest pv) (lo : qb_lo (rest d) i)
    (hpv : ∀ q, bt (ps p) q = true → tp q ≤ lv d + 1 → pv2 q = qm_v c sy lf rt ld psy pl pr (qm_AF (qm_f1 f (lv d) i)) q ∧ ∃ k, k < c ∧ pv2 q = nI k ∧ ld k = nI k) :
    ∃ m, qm_Ma c sy lf rt ld psy pl pr ps p m ∧ M ≤ m ∧ (∀ m', M ≤ m' → m' < m → ¬ qm_Ma c sy lf rt ld psy pl pr ps p m') ∧
      (∀ q, bt (ps p) q = true → pv2 q = qm_v c sy lf rt ld psy pl pr (qm_AA m) q ∧ ∃ k, k < c ∧ pv2 q = nI k ∧ ld k = nI k) ∧
      qm_iv c sy lf rt ld psy pl pr ps p tp lv (m + 1) d (qm_f1 f (lv d) i) (upd rest d (rest d &&& (rest d - 1))) pv2 := by
  have L := X.2.2.2.2.2.2.2.2.1
  have hp := X.2.2.1
  have htp := X.2.2.2.2.1
  have pn := X.2.2.2.2.2.2.2.1
  have hc := X.1.1
  have fl : ∀ l, l < d → qm_f1 f (lv d) i (lv l) = f (lv l) := fun l hl => qm_f1n (by have := L.2.2.1 l d hl (by omega); omega)
  have k3 := I.2.2.1 d i (Nat.le_refl _) lo.2.1
  have good : ∀ l, l ≤ d → qm_f1 f (lv d) i (lv l) < c ∧ ld (qm_f1 f (lv d) i (lv l)) = nI (qm_f1 f (lv d) i (lv l)) := by
    intro l hl
    by_cases z : l = d
    · subst z; rw [qm_f1s]; exact k3
    · rw [fl l (by omega)]
      have k := I.2.1 l (by omega)
      exact ⟨k.1, k.2.1⟩
  have usedl : ∀ v, v < 3 → bt (ps p) v = true → ∃ l, l ≤ d ∧ lv l = v := by
    intro v hv u
    obtain ⟨l, hl, e⟩ := L.2.2.2 v hv u
    exact ⟨l, by omega, e⟩
  have h32 : ∀ v, v < 3 → (if bt (ps p) v = true then qm_f1 f (lv d) i v else 0) < 32 := by
    intro v hv
    by_cases u : bt (ps p) v = true
    · rw [if_pos u]
      obtain ⟨l, hl, e⟩ := usedl v hv u
      have := (good l hl).1
      rw [e] at this; omega
    · rw [if_neg u]; omega
  have cxv := qm_cx_code (f := fun v => if bt (ps p) v = true then qm_f1 f (lv d) i v else 0) h32
  have mlt := qm_code_lt (f := fun v => if bt (ps p) v = true then qm_f1 f (lv d) i v else 0) h32
  generalize qm_code (fun v => if bt (ps p) v = true then qm_f1 f (lv d) i v else 0) = m at cxv mlt
  have cxu : ∀ v, v < 3 → bt (ps p) v = true → qm_cx v m = qm_f1 f (lv d) i v := fun v hv u => by rw [cxv v hv, if_pos u]
  have cxl : ∀ l, l ≤ d → qm_cx (lv l) m = qm_f1 f (lv d) i (lv l) := fun l hl => cxu _ (L.2.1 l (by omega)).1 (L.2.1 l (by omega)).2
  have tpd : ∀ q, bt (ps p) q = true → tp q ≤ lv d + 1 := by
    intro q bq
    have qn : q < np := by have := qp_le hp p pn q bq; omega
    cases z : tp q with
    | zero => omega
    | succ u =>
      have b := (qp_tpv hp htp q qn).2 u z
      have u3 := qp_tp3 hp htp q qn
      obtain ⟨l, hl, e⟩ := usedl u (by omega) (qp_tr hp pn q bq u b)
      rcases Nat.lt_or_ge l d with w | w
      · have := L.2.2.1 l d w (by omega); omega
      · have : l = d := by omega
        subst this; omega
  have vals : ∀ q, bt (ps p) q = true → pv2 q = qm_v c sy lf rt ld psy pl pr (qm_AA m) q ∧ ∃ k, k < c ∧ pv2 q = nI k ∧ ld k = nI k := by
    intro q bq
    have k := hpv q bq (tpd q bq)
    refine ⟨k.1.trans (qm_vA X bq fun v hv u _ => ?_), k.2⟩
    unfold qm_AF qm_AA
    rw [cxu v hv u]
  have hMa : qm_Ma c sy lf rt ld psy pl pr ps p m := by
    refine ⟨mlt, fun v hv u => ?_, fun v hv u => ?_, fun e => ?_⟩
    · rw [cxu v hv u]
      obtain ⟨l, hl, e⟩ := usedl v hv u
      rw [← e]; exact good l hl
    · rw [cxv v hv, if_neg (by rw [u]; decide)]
    · obtain ⟨e1, k, hk, e2, _⟩ := vals p (qp_self hp pn)
      rw [e1, e] at e2
      exact qa_1ne (by omega) e2
  have hM : M ≤ m := (I.1 m hMa).mpr ⟨d, Nat.le_refl _, fun l hl => by rw [cxl l (by omega), fl l hl], by rw [cxl d (Nat.le_refl _), qm_f1s]; exact lo.2.1⟩
  have gt : ∀ m', qm_Ma c sy lf rt ld psy pl pr ps p m' → M ≤ m' → m' ≠ m → m < m' ∧ qm_rm lv d (qm_f1 f (lv d) i) (upd rest d (rest d &&& (rest d - 1))) m' := by
    intro m' h' hm ne
    obtain ⟨l, hl, e, b⟩ := (I.1 m' h').mp hm
    have e' : ∀ l', l' < l → qm_cx (lv l') m = qm_cx (lv l') m' := fun l' hl' => by rw [cxl l' (by omega), fl l' (by omega), e l' hl']
    have rm : ¬ (l = d ∧ qm_cx (lv l) m' = i) → qm_rm lv d (qm_f1 f (lv d) i) (upd rest d (rest d &&& (rest d - 1))) m' :=
      fun w => ⟨l, hl, fun l' hl' => by rw [fl l' (by omega)]; exact e l' hl', (qm_r1 lo).mpr ⟨b, w⟩⟩
    by_cases z : l = d
    · subst z
      by_cases w : qm_cx (lv l) m' = i
      · exfalso
        refine ne (qm_cx_inj fun v hv => ?_).symm
        cases u : bt (ps p) v
        · rw [hMa.2.2.1 v hv u, h'.2.2.1 v hv u]
        · obtain ⟨l', hl', el⟩ := usedl v hv u
          rw [← el]
          by_cases y : l' = l
          · subst y; rw [cxl l' hl', qm_f1s, w]
          · exact e' l' (by omega)
      · refine ⟨qm_lt X (by omega) hMa h' e' ?_, rm (fun q => w q.2)⟩
        rw [cxl l (Nat.le_refl _), qm_f1s]
        refine Classical.byContradiction fun q => ?_
        have := lo.2.2 (qm_cx (lv l) m') (by omega)
        rw [b] at this
        exact absurd this (by decide)
    · refine ⟨qm_lt X (by omega) hMa h' e' ?_, rm (fun q => z q.1)⟩
      rw [cxl l hl, fl l (by omega)]
      exact (I.2.1 l (by omega)).2.2 _ b
  refine ⟨m, hMa, hM, fun m' hm lt h' => ?_, vals, fun m' h' => ⟨fun hm => ?_, fun hm => ?_⟩, fun l hl => ?_, fun l x hl b => I.2.2.1 l x hl ((qm_r1 lo).mp b).1, fun q bq _ => hpv q bq (tpd q bq)⟩
  · have := (gt m' h' hm (by omega)).1; omega
  · exact (gt m' h' (by omega) (by omega)).2
  · obtain ⟨l, hl, e, b⟩ := hm
    have b' := (qm_r1 lo).mp b
    have hm' : M ≤ m' := (I.1 m' h').mpr ⟨l, hl, fun l' hl' => by rw [e l' hl', fl l' (by omega)], b'.1⟩
    by_cases z : m' = m
    · exfalso
      subst z
      by_cases w : l = d
      · subst w
        refine b'.2 ⟨rfl, ?_⟩
        rw [cxl l (Nat.le_refl _), qm_f1s]
      · have := (I.2.1 l (by omega)).2.2 _ b'.1
        rw [cxl l hl, fl l (by omega)] at this
        omega
    · have := (gt m' h' hm' z).1; omega
  · have k := I.2.1 l hl
    rw [fl l hl]
    exact ⟨k.1, k.2.1, fun x b => k.2.2 x ((qm_r1 lo).mp b).1⟩
end
end
section
section
variable {c np p lc e : Nat} {sy lf rt ld mem usr syt sgt psy pl pr ps ptop btp lva pv : Nat → Int32} {cc C : Int32} {tp lv g : Nat → Nat}
theorem qm_lbroot {c b : Nat} {ld : Nat → Int32} {x : Int32} (hc : c ≤ 32) (nm : qc_nm c ld) (hx : x = -1 ∨ ∃ j, j < c ∧ x = nI j) (hb : b < 32) (h : qc_lb ld x = nI b) : b < c ∧ ld b = nI b := by
  rcases hx with rfl | ⟨j, hj, rfl⟩
  · rw [qc_lb1] at h; exact (qa_1ne (by omega) h).elim
  · rw [qc_lbN _ (by omega)] at h
    obtain ⟨j', hj', e1, e2⟩ := nm j hj
    have : b = j' := qa_inj (by omega) (by omega) (h.symm.trans e1)
    subst this
    exact ⟨by omega, e2⟩
theorem qm_candOK (X : qm_ctx c np p sy lf rt ld mem usr syt sgt psy pl pr ps ptop btp cc tp lc lv lva) (he : e < lc)
    (hpv : ∀ q, bt (ps p) q = true → tp q ≤ qm_T lv e → pv q = qm_v c sy lf rt ld psy pl pr (qm_AF g) q ∧ ∃ k, k < c ∧ pv q = nI k ∧ ld k = nI k)
    (hCb : ∀ b, b < 32 → (bt C b = true ↔ ∀ q, bt (ps p) q = true → 3 ≤ q → qm_cq c sy lf rt ld psy pl pr pv tp (lv e) q b)) :
    (∀ x, bt C x = true → x < c ∧ ld x = nI x) ∧ (∀ m, qm_Ma c sy lf rt ld psy pl pr ps p m → (∀ l, l < e → qm_cx (lv l) m = g (lv l)) → bt C (qm_cx (lv e) m) = true) := by
  have X0 := X
  obtain ⟨hC, hdt, hp, htop, htp, hby, p3, pn, L, hlva⟩ := X
  have hc := hC.1
  have g0 := hC.2.1
  have nm := hC.2.2.1
  have h32 := hp.2.1
  have v3 := (L.2.1 e he).1
  have vu := (L.2.1 e he).2
  refine ⟨fun x bx => ?_, fun m hm pre => ?_⟩
  · have x32 : x < 32 := by
      refine Classical.byContradiction fun w => ?_
      rw [b_big (by omega)] at bx
      exact absurd bx (by decide)
    rcases qp_up hp p pn (lv e) vu with z | ⟨y, by', cy⟩
    · omega
    · have yn : y < np := by have := qp_le hp p pn y by'; omega
      have q := (hCb x x32).mp bx y by' (qp_cd_lt hp yn cy).2
      rcases cy with ⟨_, cy | cy⟩
      · obtain ⟨t, ht, _, w, _⟩ := q.1 cy
        exact qm_lbroot hc nm (qx_cs_ch hc ht (g0 t ht)).1 x32 w
      · obtain ⟨t, ht, _, w, _⟩ := q.2 cy
        exact qm_lbroot hc nm (qx_cs_ch hc ht (g0 t ht)).2 x32 w
  · have b32 := (hm.2.1 (lv e) v3 vu).1
    refine (hCb _ (by omega)).mpr fun q bq q3 => ?_
    have qn : q < np := by have := qp_le hp p pn q bq; omega
    have ne : ¬ qm_v c sy lf rt ld psy pl pr (qm_AA m) q = -1 := fun z => hm.2.2.2 (qm_sub X0 bq z)
    rw [qm_vq hp q3 qn] at ne
    rcases qm_lk_or (sy := sy) (lf := lf) (rt := rt) (ld := ld) (s := psy q) (a := qc_lb (qm_v c sy lf rt ld psy pl pr (qm_AA m)) (pl q)) (b := qc_lb (qm_v c sy lf rt ld psy pl pr (qm_AA m)) (pr q)) (c := c) with z | ⟨t, ht, ⟨e1, e2, e3⟩, _⟩
    · exact (ne z).elim
    · have vv : qm_v c sy lf rt ld psy pl pr (qm_AA m) (lv e) = nI (qm_cx (lv e) m) := by rw [qm_v3 v3]; rfl
      have sibv : ∀ j, j < 32 → qp_cd pl pr q j → tp j < tp (lv e) → qm_v c sy lf rt ld psy pl pr (qm_AA m) j = pv j := by
        intro j hj cj tj
        have bj := qp_dn hp p pn q j bq cj
        rw [htp.1 (lv e) v3] at tj
        have k := hpv j bj (qm_tT X0 he bj (by omega))
        rw [k.1]
        refine qm_vA X0 bj fun v hv u lt => ?_
        obtain ⟨l, hl, el⟩ := qm_lvl L he hv u (by omega)
        unfold qm_AA qm_AF
        rw [← el, pre l hl]
      refine ⟨fun ez => ⟨t, ht, e1, ?_, fun j hj ej tj => ?_⟩, fun ez => ⟨t, ht, e1, ?_, fun j hj ej tj => ?_⟩⟩
      · rw [e2, ez, qc_lbN _ (by omega)]; exact vv
      · rw [e3, ej, qc_lbN _ (by omega)]; exact sibv j hj ⟨hj, Or.inr ej⟩ tj
      · rw [e3, ez, qc_lbN _ (by omega)]; exact vv
      · rw [e2, ej, qc_lbN _ (by omega)]; exact sibv j hj ⟨hj, Or.inl ej⟩ tj
end
section
variable {f_termLimit f_patternLimit f_ruleLimit f_eventLimit f_termCount f_patternCount f_ruleCount f_eventCount f_closedEvents f_classCount f_dirty f_matchDepth f_groundLeft f_costsFresh f_settledClasses f_reachedClasses f_orderCount f_explainedCount : Int32} {a_termIndex a_patternIndex a_ruleLeft a_ruleRight a_eventLeft a_eventRight a_eventRule a_symbolWeight a_members a_standsFor a_order a_bestTerm a_gotTerm a_explainedEvent : Nat → Int32} {a_best a_treeCost : Nat → Int64}
variable {c np p lc M : Nat} {sy lf rt ld mem usr syt sgt psy pl pr ps ptop btp lva : Nat → Int32} {cc : Int32} {tp lv : Nat → Nat}
theorem qx_nm21 {post : Int32 → SX → Prop} (X : qm_ctx c np p sy lf rt ld mem usr syt sgt psy pl pr ps ptop btp cc tp lc lv lva)
    (K1 : ∀ m d f rest pv, d + 1 = lc → qm_Ma c sy lf rt ld psy pl pr ps p m → M ≤ m → (∀ m', M ≤ m' → m' < m → ¬ qm_Ma c sy lf rt ld psy pl pr ps p m') → (∀ q, bt (ps p) q = true → pv q = qm_v c sy lf rt ld psy pl pr (qm_AA m) q ∧ ∃ k, k < c ∧ pv q = nI k ∧ ld k = nI k) →
      qm_iv c sy lf rt ld psy pl pr ps p tp lv (m + 1) d f rest pv → post 1 (f_termLimit, f_patternLimit, f_ruleLimit, f_eventLimit, f_termCount, f_patternCount, f_ruleCount, f_eventCount, nI c, f_closedEvents, f_classCount, f_dirty, nI p, nI d, nI lc, f_groundLeft, f_costsFresh, f_settledClasses, f_reachedClasses, f_orderCount, f_explainedCount, sy, lf, rt, a_termIndex, psy, pl, pr, ps, ptop, btp, a_patternIndex, a_ruleLeft, a_ruleRight, a_eventLeft, a_eventRight, a_eventRule, a_symbolWeight, ld, a_members, usr, syt, sgt, lva, rest, pv, a_standsFor, a_order, a_best, a_bestTerm, a_gotTerm, a_treeCost, a_explainedEvent))
    (K0 : ∀ rest pv, (∀ m, M ≤ m → ¬ qm_Ma c sy lf rt ld psy pl pr ps p m) → post 0 (f_termLimit, f_patternLimit, f_ruleLimit, f_eventLimit, f_termCount, f_patternCount, f_ruleCount, f_eventCount, nI c, f_closedEvents, f_classCount, f_dirty, nI p, -1, nI lc, f_groundLeft, f_costsFresh, f_settledClasses, f_reachedClasses, f_orderCount, f_explainedCount, sy, lf, rt, a_termIndex, psy, pl, pr, ps, ptop, btp, a_patternIndex, a_ruleLeft, a_ruleRight, a_eventLeft, a_eventRight, a_eventRule, a_symbolWeight, ld, a_members, usr, syt, sgt, lva, rest, pv, a_standsFor, a_order, a_best, a_bestTerm, a_gotTerm, a_treeCost, a_explainedEvent)) :
    ∀ k q d f rest pv, d < lc → qm_iv c sy lf rt ld psy pl pr ps p tp lv M d f rest pv → qm_ph rest d < k → q + qm_ph rest d < 40000 → wX_nextMatch_21 post k (nI q) f_termLimit f_patternLimit f_ruleLimit f_eventLimit f_termCount f_patternCount f_ruleCount f_eventCount (nI c) f_closedEvents f_classCount f_dirty (nI p) (nI d) (nI lc) f_groundLeft f_costsFresh f_settledClasses f_reachedClasses f_orderCount f_explainedCount sy lf rt a_termIndex psy pl pr ps ptop btp a_patternIndex a_ruleLeft a_ruleRight a_eventLeft a_eventRight a_eventRule a_symbolWeight ld a_members usr syt sgt lva rest pv a_standsFor a_order a_best a_bestTerm a_gotTerm a_treeCost a_explainedEvent := by
  have X0 := X
  obtain ⟨hC, hdt, hp, htop, htp, hby, p3, pn, L, hlva⟩ := X
  have hc := hC.1
  have h32 := hp.2.1
  have lc3 := L.1
  intro k
  induction k with
  | zero => intro q d f rest pv _ _ h; omega
  | succ k ih =>
    intro q d f rest pv hd I hk hq
    have id3 : vp_in (nI d) 3 := vp_in_nI (by omega) (by omega)
    have cd : (nI d).toNatClampNeg = d := nI_clamp (by omega)
    have v3 := (L.2.1 d hd).1
    rw [wX_nextMatch_21]
    refine br_f (nI_ge (b := 40000) (by omega) (by decide)) (br_f (nI_pos (by omega)) ⟨id3, nm_r (e' := rest d) (by rw [cd]) ?_⟩)
    by_cases z : rest d = 0
    · refine br_t z ?_
      cases d with
      | zero =>
        have none : ∀ m, M ≤ m → ¬ qm_Ma c sy lf rt ld psy pl pr ps p m := by
          intro m hm h
          obtain ⟨l, hl, _, b⟩ := (I.1 m h).mp hm
          have : l = 0 := by omega
          subst this
          rw [z, b_0] at b
          exact absurd b (by decide)
        refine nm_r (e' := -1) (by decide) (nm_r (nI_1 q) ?_)
        have kp : 0 < k := by rw [qm_ph0] at hk; omega
        cases k with
        | zero => omega
        | succ k =>
          rw [wX_nextMatch_21]
          exact br_c (fun _ => K0 rest pv none) (fun _ => br_t qa_1lt (K0 rest pv none))
      | succ d =>
        have ph : qm_ph rest d + 1 ≤ qm_ph rest (d + 1) := by rw [qm_ph]; omega
        exact nm_r (nI_pred d) (nm_r (nI_1 q) (ih (q + 1) d f rest pv (by omega) (qm_up X0 hd I z) (by omega) (by omega)))
    · obtain ⟨i, lo⟩ := qb_ex z
      have k3 := I.2.2.1 d i (Nat.le_refl _) lo.2.1
      have ptk := qm_ph_tk (rest := rest) (by omega) lo
      have wp := qm_w_pos (d := d)
      refine br_f z ⟨id3, nm_r (e' := nI (lv d)) (by rw [cd]; exact hlva d hd) ⟨id3, nm_r (e' := upd rest d (rest d &&& (rest d - 1))) (by rw [cd]) (qx_low lo ⟨vp_in_nI (by omega) (by omega), nm_r (e' := upd pv (lv d) (nI i)) (by rw [nI_clamp (by omega)]) ⟨vp_in_nI (by omega) (by omega), ?_⟩⟩)⟩⟩
      rw [nI_1, show (nI (lv d + 1)).toNatClampNeg = lv d + 1 from nI_clamp (by omega), show (nI p).toNatClampNeg = p from nI_clamp (by omega)]
      refine ⟨vp_in_nI (by omega) (by omega), ?_⟩
      have hS : ∀ q, bt (ps p &&& btp (lv d + 1)) q = true → bt (ps p) q = true ∧ 3 ≤ q ∧ q < np ∧ tp q = lv d + 1 := by
        intro q b
        rw [b_and, Bool.and_eq_true] at b
        have q32 := qp_le hp p pn q b.1
        exact ⟨b.1, (hby (lv d + 1) q (by omega) (by omega)).mp b.2⟩
      refine qx_eval (A := qm_AF (qm_f1 f (lv d) i)) hC hdt hp (fun q b => ⟨(hS q b).2.1, (hS q b).2.2.1⟩) ?_ ?_ ?_
      · intro q x b cx
        have s := hS q b
        have bx := qp_dn hp p pn q x s.1 cx
        have xn := (qp_cd_lt hp s.2.2.1 cx).1
        have tx := qp_tpc hp htp s.2.2.1 cx
        by_cases w : tp x = lv d + 1
        · by_cases x3 : 3 ≤ x
          · left
            rw [b_and, Bool.and_eq_true]
            exact ⟨bx, (hby (lv d + 1) x (by omega) (by omega)).mpr ⟨x3, by omega, w⟩⟩
          · have : x = lv d := by have := htp.1 x (by omega); omega
            subst this
            right
            rw [pk_us, qm_v3 v3]
            unfold qm_AF
            rw [qm_f1s]
            exact ⟨rfl, i, k3.1, rfl⟩
        · have k := qm_evch X0 hd I k3 x bx (by omega)
          right
          rw [pk_un k.1]
          obtain ⟨_, k1, j, hj, ej, _⟩ := k
          exact ⟨k1, j, hj, ej⟩
      · intro pv2 h1 h2
        have ev := qm_evok X0 hd I k3 h1 h2
        refine br_f (by decide) ?_
        obtain ⟨L', rfl⟩ : ∃ L', lc = L' + 1 := ⟨lc - 1, by omega⟩
        rw [nI_pred]
        refine pk_eq d L' (fun e => ?_) (fun ne => ?_)
        · subst e
          obtain ⟨m, a1, a2, a3, a4, a5⟩ := qm_fin X0 rfl I lo ev
          exact K1 m d _ _ _ rfl a1 a2 a3 a4 a5
        · unfold wX_nextMatch_141
          have iv3 : vp_in (nI (d + 1)) 3 := vp_in_nI (by omega) (by omega)
          have cd1 : (nI (d + 1)).toNatClampNeg = d + 1 := nI_clamp (by omega)
          refine br_f (by decide) (nm_r (nI_1 d) ⟨iv3, ?_⟩)
          rw [cd1, hlva (d + 1) (by omega)]
          refine qx_cand hC hp htop htp pn (L.2.1 (d + 1) (by omega)).1 (fun q j bq cj tj => ?_) (fun C hCb => ⟨iv3, nm_e (nm_r (nI_1 q) ?_)⟩)
          · have bj := qp_dn hp p pn q j bq cj
            rw [htp.1 (lv (d + 1)) (L.2.1 (d + 1) (by omega)).1] at tj
            exact (ev j bj (qm_tT X0 (d := d + 1) (by omega) bj (by omega))).2
          · have ok := qm_candOK X0 (e := d + 1) (by omega) ev hCb
            have dn := qm_ph_dn (rest := upd rest d (rest d &&& (rest d - 1))) (C := C) (d := d) (by omega)
            exact ih (q + 1) (d + 1) _ _ _ (by omega) (qm_down X0 (by omega) I lo ev ok.1 (fun m hm pre => ok.2 m hm (fun l hl => pre l (by omega)))) (by omega) (by omega)
      · intro pv2 q2 h2 bq2 e2
        refine br_t rfl ?_
        unfold wX_nextMatch_141
        refine br_t rfl (nm_r (nI_1 q) (ih (q + 1) d f _ pv2 hd (qm_nofit X0 hd I lo (fun q bq tq => ?_) (fun m hm pre ei => ?_)) (by omega) (by omega)))
        · have tl := qm_T_le L hd
          have k := qm_evch X0 hd I k3 q bq (by omega)
          have bs : bt (ps p &&& btp (lv d + 1)) q = false := by
            cases w : bt (ps p &&& btp (lv d + 1)) q
            · rfl
            · have := hS q w; omega
          rw [h2 q bs, pk_un k.1]
        · have s := hS q2 bq2
          refine hm.2.2.2 (qm_sub X0 s.1 ?_)
          rw [← e2]
          refine qm_vA X0 s.1 fun v hv u lt => ?_
          unfold qm_AA qm_AF
          by_cases w : v = lv d
          · subst w; rw [qm_f1s, ei]
          · obtain ⟨l, hl, el⟩ := qm_lvl L hd hv u (by omega)
            rw [qm_f1n w, ← el, pre l hl]
end
end
section
def qx_it (c np p : Nat) (sy lf rt ld mem usr syt sgt psy pl pr ps ptop btp : Nat → Int32) (cc : Int32) (tp : Nat → Nat) (md lcI gl : Int32) (lva rest pv : Nat → Int32) (M : Nat) : Prop :=
  ∃ lc lv, qm_ctx c np p sy lf rt ld mem usr syt sgt psy pl pr ps ptop btp cc tp lc lv lva ∧ lcI = nI lc ∧
    ((lc = 0 ∧ ((gl = 1 ∧ M = 0 ∧ qm_Ma c sy lf rt ld psy pl pr ps p 0 ∧ (∀ q, bt (ps p) q = true → pv q = qm_v c sy lf rt ld psy pl pr (qm_AA 0) q ∧ ∃ k, k < c ∧ pv q = nI k ∧ ld k = nI k)) ∨ (gl = 0 ∧ ∀ m, M ≤ m → ¬ qm_Ma c sy lf rt ld psy pl pr ps p m))) ∨
     (0 < lc ∧ md = -1 ∧ ∀ m, M ≤ m → ¬ qm_Ma c sy lf rt ld psy pl pr ps p m) ∨
     (0 < lc ∧ ∃ d f, md = nI d ∧ d < lc ∧ qm_iv c sy lf rt ld psy pl pr ps p tp lv M d f rest pv))
theorem qx_it_pv {c np p M : Nat} {sy lf rt ld mem usr syt sgt psy pl pr ps ptop btp lva rest pv pv' : Nat → Int32} {cc md lcI gl : Int32} {tp : Nat → Nat} (h : qx_it c np p sy lf rt ld mem usr syt sgt psy pl pr ps ptop btp cc tp md lcI gl lva rest pv M) (e : ∀ q, bt (ps p) q = true → pv' q = pv q) :
    qx_it c np p sy lf rt ld mem usr syt sgt psy pl pr ps ptop btp cc tp md lcI gl lva rest pv' M := by
  obtain ⟨lc, lv, X, e1, h⟩ := h
  refine ⟨lc, lv, X, e1, ?_⟩
  rcases h with ⟨z, h⟩ | h | ⟨z, d, f, h1, h2, I⟩
  · refine Or.inl ⟨z, ?_⟩
    rcases h with ⟨h1, h2, h3, h4⟩ | h
    · exact Or.inl ⟨h1, h2, h3, fun q bq => by rw [e q bq]; exact h4 q bq⟩
    · exact Or.inr h
  · exact Or.inr (Or.inl h)
  · exact Or.inr (Or.inr ⟨z, d, f, h1, h2, I.1, I.2.1, I.2.2.1, fun q bq tq => by rw [e q bq]; exact I.2.2.2 q bq tq⟩)
theorem qm_code0 {c np p m : Nat} {sy lf rt ld mem usr syt sgt psy pl pr ps ptop btp lva : Nat → Int32} {cc : Int32} {tp lv : Nat → Nat} (X : qm_ctx c np p sy lf rt ld mem usr syt sgt psy pl pr ps ptop btp cc tp 0 lv lva) (h : qm_Ma c sy lf rt ld psy pl pr ps p m) : m = 0 := by
  have L := X.2.2.2.2.2.2.2.2.1
  refine qm_cx_inj fun v hv => ?_
  have z0 : qm_cx v 0 = 0 := by
    unfold qm_cx
    by_cases a : v = 0
    · rw [if_pos a]
    · rw [if_neg a]
      by_cases b : v = 1
      · rw [if_pos b]
      · rw [if_neg b]
  cases u : bt (ps p) v
  · rw [h.2.2.1 v hv u, z0]
  · obtain ⟨d, hd, _⟩ := L.2.2.2 v hv u
    omega
section
variable {f_termLimit f_patternLimit f_ruleLimit f_eventLimit f_termCount f_patternCount f_ruleCount f_eventCount f_closedEvents f_classCount f_dirty f_costsFresh f_settledClasses f_reachedClasses f_orderCount f_explainedCount : Int32} {a_termIndex a_patternIndex a_ruleLeft a_ruleRight a_eventLeft a_eventRight a_eventRule a_symbolWeight a_members a_standsFor a_order a_bestTerm a_gotTerm a_explainedEvent : Nat → Int32} {a_best a_treeCost : Nat → Int64}
variable {c np p M : Nat} {sy lf rt ld mem usr syt sgt psy pl pr ps ptop btp lva rest pv : Nat → Int32} {cc md lcI gl : Int32} {tp : Nat → Nat}
theorem qx_next {post : Int32 → SX → Prop} (h : qx_it c np p sy lf rt ld mem usr syt sgt psy pl pr ps ptop btp cc tp md lcI gl lva rest pv M)
    (K1 : ∀ m md gl rest pv, qm_Ma c sy lf rt ld psy pl pr ps p m → M ≤ m → (∀ m', M ≤ m' → m' < m → ¬ qm_Ma c sy lf rt ld psy pl pr ps p m') → (∀ q, bt (ps p) q = true → pv q = qm_v c sy lf rt ld psy pl pr (qm_AA m) q ∧ ∃ k, k < c ∧ pv q = nI k ∧ ld k = nI k) →
      qx_it c np p sy lf rt ld mem usr syt sgt psy pl pr ps ptop btp cc tp md lcI gl lva rest pv (m + 1) → post 1 (f_termLimit, f_patternLimit, f_ruleLimit, f_eventLimit, f_termCount, f_patternCount, f_ruleCount, f_eventCount, nI c, f_closedEvents, f_classCount, f_dirty, nI p, md, lcI, gl, f_costsFresh, f_settledClasses, f_reachedClasses, f_orderCount, f_explainedCount, sy, lf, rt, a_termIndex, psy, pl, pr, ps, ptop, btp, a_patternIndex, a_ruleLeft, a_ruleRight, a_eventLeft, a_eventRight, a_eventRule, a_symbolWeight, ld, a_members, usr, syt, sgt, lva, rest, pv, a_standsFor, a_order, a_best, a_bestTerm, a_gotTerm, a_treeCost, a_explainedEvent))
    (K0 : ∀ md gl rest pv, (∀ m, M ≤ m → ¬ qm_Ma c sy lf rt ld psy pl pr ps p m) → post 0 (f_termLimit, f_patternLimit, f_ruleLimit, f_eventLimit, f_termCount, f_patternCount, f_ruleCount, f_eventCount, nI c, f_closedEvents, f_classCount, f_dirty, nI p, md, lcI, gl, f_costsFresh, f_settledClasses, f_reachedClasses, f_orderCount, f_explainedCount, sy, lf, rt, a_termIndex, psy, pl, pr, ps, ptop, btp, a_patternIndex, a_ruleLeft, a_ruleRight, a_eventLeft, a_eventRight, a_eventRule, a_symbolWeight, ld, a_members, usr, syt, sgt, lva, rest, pv, a_standsFor, a_order, a_best, a_bestTerm, a_gotTerm, a_treeCost, a_explainedEvent)) : wpX_nextMatch post (f_termLimit, f_patternLimit, f_ruleLimit, f_eventLimit, f_termCount, f_patternCount, f_ruleCount, f_eventCount, nI c, f_closedEvents, f_classCount, f_dirty, nI p, md, lcI, gl, f_costsFresh, f_settledClasses, f_reachedClasses, f_orderCount, f_explainedCount, sy, lf, rt, a_termIndex, psy, pl, pr, ps, ptop, btp, a_patternIndex, a_ruleLeft, a_ruleRight, a_eventLeft, a_eventRight, a_eventRule, a_symbolWeight, ld, a_members, usr, syt, sgt, lva, rest, pv, a_standsFor, a_order, a_best, a_bestTerm, a_gotTerm, a_treeCost, a_explainedEvent) := by
  obtain ⟨lc, lv, X, rfl, h⟩ := h
  have lc3 := X.2.2.2.2.2.2.2.2.1.1
  unfold wpX_nextMatch
  rcases h with ⟨rfl, h⟩ | ⟨lp, rfl, none⟩ | ⟨lp, d, f, rfl, hd, I⟩
  · refine br_t rfl ?_
    rcases h with ⟨rfl, rfl, hm, hv⟩ | ⟨rfl, none⟩
    · refine ⟨rfl, K1 0 md 0 rest pv hm (Nat.le_refl _) (fun m' _ lt => absurd lt (Nat.not_lt_zero _)) hv ⟨0, lv, X, rfl, Or.inl ⟨rfl, Or.inr ⟨rfl, fun m hm h => ?_⟩⟩⟩⟩
      have := qm_code0 X h
      omega
    · exact ⟨rfl, K0 md 0 rest pv none⟩
  · refine br_f (nI_ne0 lp (by omega)) ⟨1, ?_⟩
    rw [wX_nextMatch_21]
    exact br_c (fun _ => K0 (-1) gl rest pv none) (fun _ => br_t qa_1lt (K0 (-1) gl rest pv none))
  · have ph := qm_ph_le rest (d := d) (by omega)
    refine br_f (nI_ne0 lp (by omega)) ⟨40000, qx_nm21 X ?_ (fun rest pv none => K0 (-1) gl rest pv none) 40000 0 d f rest pv hd I (by omega) (by omega)⟩
    intro m d' f' rest' pv' e a1 a2 a3 a4 a5
    exact K1 m (nI d') gl rest' pv' a1 a2 a3 a4 ⟨lc, lv, X, rfl, Or.inr (Or.inr ⟨lp, d', f', rfl, by omega, a5⟩)⟩
end
section
variable {f_termLimit f_patternLimit f_ruleLimit f_eventLimit f_termCount f_patternCount f_ruleCount f_eventCount f_closedEvents f_classCount f_dirty f_matchPattern f_matchDepth f_levelCount f_groundLeft f_costsFresh f_settledClasses f_reachedClasses f_orderCount f_explainedCount : Int32} {a_termIndex a_patternIndex a_ruleLeft a_ruleRight a_eventLeft a_eventRight a_eventRule a_symbolWeight a_members a_standsFor a_order a_bestTerm a_gotTerm a_explainedEvent : Nat → Int32} {a_best a_treeCost : Nat → Int64}
variable {c np p : Nat} {sy lf rt ld mem usr syt sgt psy pl pr ps ptop btp lva rest pv : Nat → Int32} {cc : Int32} {tp : Nat → Nat}
theorem qx_start {post : SX → Prop} (hC : qx_cs c sy lf rt ld mem usr syt sgt cc) (hdt : qx_dt c sy lf rt ld sgt 0 99) (hp : qp_ok np psy pl pr ps) (htop : ∀ q, q < np → ptop q = nI (tp q)) (htp : qp_tops np pl pr tp)
    (hby : ∀ k q, k < 4 → q < 32 → (bt (btp k) q = true ↔ 3 ≤ q ∧ q < np ∧ tp q = k)) (p3 : 3 ≤ p) (pn : p < np)
    (K : ∀ md lcI gl lva rest pv, qx_it c np p sy lf rt ld mem usr syt sgt psy pl pr ps ptop btp cc tp md lcI gl lva rest pv 0 → post (f_termLimit, f_patternLimit, f_ruleLimit, f_eventLimit, f_termCount, f_patternCount, f_ruleCount, f_eventCount, nI c, f_closedEvents, f_classCount, f_dirty, nI p, md, lcI, gl, f_costsFresh, f_settledClasses, f_reachedClasses, f_orderCount, f_explainedCount, sy, lf, rt, a_termIndex, psy, pl, pr, ps, ptop, btp, a_patternIndex, a_ruleLeft, a_ruleRight, a_eventLeft, a_eventRight, a_eventRule, a_symbolWeight, ld, a_members, usr, syt, sgt, lva, rest, pv, a_standsFor, a_order, a_best, a_bestTerm, a_gotTerm, a_treeCost, a_explainedEvent)) :
    wpX_startMatches post (f_termLimit, f_patternLimit, f_ruleLimit, f_eventLimit, f_termCount, f_patternCount, f_ruleCount, f_eventCount, nI c, f_closedEvents, f_classCount, f_dirty, f_matchPattern, f_matchDepth, f_levelCount, f_groundLeft, f_costsFresh, f_settledClasses, f_reachedClasses, f_orderCount, f_explainedCount, sy, lf, rt, a_termIndex, psy, pl, pr, ps, ptop, btp, a_patternIndex, a_ruleLeft, a_ruleRight, a_eventLeft, a_eventRight, a_eventRule, a_symbolWeight, ld, a_members, usr, syt, sgt, lva, rest, pv, a_standsFor, a_order, a_best, a_bestTerm, a_gotTerm, a_treeCost, a_explainedEvent) (nI p) := by
  have hc := hC.1
  have h32 := hp.2.1
  have ip : vp_in (nI p) 32 := vp_in_nI (by omega) (by omega)
  have cp : (nI p).toNatClampNeg = p := nI_clamp (by omega)
  unfold wpX_startMatches
  refine loop_0 (σ := Nat × (Nat → Int32)) (fun k i s => wX_startMatches_17 post (nI p) f_termLimit f_patternLimit f_ruleLimit f_eventLimit f_termCount f_patternCount f_ruleCount f_eventCount (nI c) f_closedEvents f_classCount f_dirty (nI p) (-1) f_groundLeft f_costsFresh f_settledClasses f_reachedClasses f_orderCount f_explainedCount k (nI i) (nI s.1) sy lf rt a_termIndex psy pl pr ps ptop btp a_patternIndex a_ruleLeft a_ruleRight a_eventLeft a_eventRight a_eventRule a_symbolWeight ld a_members usr syt sgt s.2 rest pv a_standsFor a_order a_best a_bestTerm a_gotTerm a_treeCost a_explainedEvent)
    (fun i s => s.1 ≤ i ∧ ∃ lv : Nat → Nat, (∀ d, d < s.1 → s.2 d = nI (lv d)) ∧ (∀ d, d < s.1 → lv d < i ∧ bt (ps p) (lv d) = true) ∧ (∀ d d', d < d' → d' < s.1 → lv d < lv d') ∧ (∀ v, v < i → bt (ps p) v = true → ∃ d, d < s.1 ∧ lv d = v)) 3 (0, lva)
    ⟨Nat.le_refl _, fun _ => 0, fun d hd => absurd hd (Nat.not_lt_zero _), fun d hd => absurd hd (Nat.not_lt_zero _), fun d d' _ hd => absurd hd (Nat.not_lt_zero _), fun v hv => absurd hv (Nat.not_lt_zero _)⟩ ?_ ?_
  · rintro k ⟨lc, lva'⟩ ⟨hl, lv, a1, a2, a3, a4⟩
    dsimp only at hl a1 a2 a3 a4
    dsimp only
    have X : qm_ctx c np p sy lf rt ld mem usr syt sgt psy pl pr ps ptop btp cc tp lc lv lva' := ⟨hC, hdt, hp, htop, htp, hby, p3, pn, ⟨hl, a2, a3, a4⟩, a1⟩
    rw [wX_startMatches_17]
    refine br_t (by decide) ⟨ip, ?_⟩
    rw [cp]
    have hS : ∀ q, bt (ps p &&& btp 0) q = true → bt (ps p) q = true ∧ 3 ≤ q ∧ q < np ∧ tp q = 0 := by
      intro q b
      rw [b_and, Bool.and_eq_true] at b
      have q32 := qp_le hp p pn q b.1
      exact ⟨b.1, (hby 0 q (by omega) (by omega)).mp b.2⟩
    have tp0 : ∀ q, bt (ps p) q = true → tp q = 0 → bt (ps p &&& btp 0) q = true := by
      intro q bq tq
      have qn := qp_le hp p pn q bq
      rw [b_and, Bool.and_eq_true]
      refine ⟨bq, (hby 0 q (by omega) (by omega)).mpr ⟨?_, by omega, tq⟩⟩
      refine Classical.byContradiction fun w => ?_
      have := htp.1 q (by omega)
      omega
    refine qx_eval (A := qm_AA 0) hC hdt hp (fun q b => ⟨(hS q b).2.1, (hS q b).2.2.1⟩) ?_ ?_ ?_
    · intro q x b cx
      have s := hS q b
      have tx := qp_tpc hp htp s.2.2.1 cx
      exact Or.inl (tp0 x (qp_dn hp p pn q x s.1 cx) (by omega))
    · intro pv2 h1 h2
      have ev : ∀ q, bt (ps p) q = true → tp q = 0 → pv2 q = qm_v c sy lf rt ld psy pl pr (qm_AA 0) q ∧ ∃ k, k < c ∧ pv2 q = nI k ∧ ld k = nI k := by
        intro q bq tq
        have bs := tp0 q bq tq
        have k := h1 q bs
        refine ⟨k.1, ?_⟩
        rcases qm_v_or (A := qm_AA 0) hp hC.2.2.1 (sy := sy) (lf := lf) (rt := rt) (hS q bs).2.1 (hS q bs).2.2.1 with e | ⟨j, hj, e1, e2⟩
        · obtain ⟨j, hj, ej⟩ := k.2
          rw [k.1, e] at ej
          exact (qa_1ne (by omega) ej).elim
        · exact ⟨j, hj, k.1.trans e1, e2⟩
      refine br_f (by decide) (pk_eq lc 0 (fun e => ?_) (fun ne => ?_))
      · subst e
        unfold wX_startMatches_96
        have no : ∀ v, v < 3 → bt (ps p) v = false := by
          intro v hv
          cases u : bt (ps p) v
          · rfl
          · obtain ⟨d, hd, _⟩ := a4 v hv u
            omega
        have tz : ∀ q, bt (ps p) q = true → tp q = 0 := by
          intro q bq
          have qn : q < np := by have := qp_le hp p pn q bq; omega
          cases z : tp q with
          | zero => rfl
          | succ u =>
            have b := (qp_tpv hp htp q qn).2 u z
            have u3 := qp_tp3 hp htp q qn
            have := qp_tr hp pn q bq u b
            rw [no u (by omega)] at this
            exact absurd this (by decide)
        have vals : ∀ q, bt (ps p) q = true → pv2 q = qm_v c sy lf rt ld psy pl pr (qm_AA 0) q ∧ ∃ k, k < c ∧ pv2 q = nI k ∧ ld k = nI k := fun q bq => ev q bq (tz q bq)
        have hMa : qm_Ma c sy lf rt ld psy pl pr ps p 0 := by
          refine ⟨by omega, fun v hv u => ?_, fun v hv _ => ?_, fun e => ?_⟩
          · rw [no v hv] at u; exact absurd u (by decide)
          · unfold qm_cx
            by_cases a : v = 0
            · rw [if_pos a]
            · rw [if_neg a]
              by_cases b : v = 1
              · rw [if_pos b]
              · rw [if_neg b]
          · obtain ⟨e1, k, hk, e2, _⟩ := vals p (qp_self hp pn)
            rw [e1, e] at e2
            exact qa_1ne (by omega) e2
        exact ⟨rfl, rfl, br_f (by decide) (br_t (by decide) (K _ _ 1 lva' rest pv2 ⟨0, lv, X, rfl, Or.inl ⟨rfl, Or.inl ⟨rfl, rfl, hMa, vals⟩⟩⟩))⟩
      · have lp : 0 < lc := by omega
        unfold wX_startMatches_95 wX_startMatches_96
        refine ⟨rfl, rfl, br_f (by decide) (br_f (nI_nle lp (by omega)) ?_)⟩
        rw [a1 0 lp]
        refine qx_cand hC hp htop htp pn (a2 0 lp).1 (fun q j bq cj tj => ?_) (fun C hCb => nm_e (K (nI 0) _ 0 lva' _ pv2 ⟨lc, lv, X, rfl, Or.inr (Or.inr ⟨lp, 0, fun _ => 0, rfl, lp, ?_⟩)⟩))
        · have bj := qp_dn hp p pn q j bq cj
          rw [htp.1 (lv 0) (a2 0 lp).1] at tj
          have t0 := qm_tT X lp bj (by omega)
          exact (ev j bj (by have : qm_T lv 0 = 0 := rfl; omega)).2
        · have ev0 : ∀ q, bt (ps p) q = true → tp q ≤ qm_T lv 0 → pv2 q = qm_v c sy lf rt ld psy pl pr (qm_AF (fun _ => 0)) q ∧ ∃ k, k < c ∧ pv2 q = nI k ∧ ld k = nI k := by
            intro q bq tq
            have tz : tp q = 0 := Nat.le_zero.mp tq
            have k := ev q bq tz
            refine ⟨k.1.trans (qm_vA X bq fun v hv u lt => ?_), k.2⟩
            omega
          have ok := qm_candOK X (e := 0) lp ev0 hCb
          refine ⟨fun m hm => ⟨fun _ => ⟨0, Nat.le_refl _, fun l hl => absurd hl (Nat.not_lt_zero _), ?_⟩, fun _ => Nat.zero_le _⟩, fun l hl => absurd hl (Nat.not_lt_zero _), fun l x hl b => ?_, ev0⟩
          · rw [pk_us]; exact ok.2 m hm (fun l hl => absurd hl (Nat.not_lt_zero _))
          · have : l = 0 := by omega
            subst this
            rw [pk_us] at b
            exact ok.1 x b
    · intro pv2 q2 h2 bq2 e2
      have s := hS q2 bq2
      have none : ∀ m, 0 ≤ m → ¬ qm_Ma c sy lf rt ld psy pl pr ps p m := by
        intro m _ hm
        refine hm.2.2.2 (qm_sub X s.1 ?_)
        rw [← e2]
        refine qm_vA X s.1 fun v hv u lt => ?_
        omega
      refine br_t rfl ?_
      unfold wX_startMatches_95 wX_startMatches_96
      refine ⟨rfl, rfl, br_t rfl (K (-1) _ 0 lva' rest pv2 ⟨lc, lv, X, rfl, ?_⟩)⟩
      by_cases z : lc = 0
      · exact Or.inl ⟨z, Or.inr ⟨rfl, none⟩⟩
      · exact Or.inr (Or.inl ⟨by omega, rfl, none⟩)
  · rintro k v ⟨lc, lva'⟩ hv ⟨hl, lv, a1, a2, a3, a4⟩ Kn
    dsimp only at hl a1 a2 a3 a4
    dsimp only
    rw [wX_startMatches_17]
    refine br_f (nI_ge (b := 3) hv (by decide)) ⟨ip, ?_⟩
    rw [cp]
    refine ek_if (qb_t (ps p) (j := v) (by omega)) (fun b => ?_) (fun b => ?_)
    · refine nm_r (nI_1 v) (Kn (lc, lva') ⟨by show lc ≤ v + 1; omega, lv, a1, fun d hd => ⟨by have := (a2 d hd).1; omega, (a2 d hd).2⟩, a3, fun v' hv' u => ?_⟩)
      refine a4 v' ?_ u
      refine Classical.byContradiction fun w => ?_
      have : v' = v := by omega
      subst this
      rw [b] at u
      exact absurd u (by decide)
    · have bv : bt (ps p) v = true := by
        cases w : bt (ps p) v
        · exact (b w).elim
        · rfl
      refine ⟨vp_in_nI (by omega) (by omega), nm_r (e' := upd lva' lc (nI v)) (by rw [nI_clamp (by omega)]) (nm_r (nI_1 lc) (nm_r (nI_1 v) (Kn (lc + 1, upd lva' lc (nI v)) ⟨by show lc + 1 ≤ v + 1; omega, fun d => if d = lc then v else lv d, fun d hd => ?_, fun d hd => ?_, fun d d' hd hd' => ?_, fun v' hv' u => ?_⟩)))⟩
      · dsimp only
        by_cases z : d = lc
        · subst z; rw [pk_us, if_pos rfl]
        · rw [pk_un z, if_neg z]; exact a1 d (by have : d < lc + 1 := hd; omega)
      · dsimp only
        by_cases z : d = lc
        · rw [if_pos z]; exact ⟨by omega, bv⟩
        · rw [if_neg z]
          have k := a2 d (by have : d < lc + 1 := hd; omega)
          exact ⟨by omega, k.2⟩
      · dsimp only
        have hd2 : d' < lc + 1 := hd'
        rw [if_neg (show ¬ d = lc by omega)]
        by_cases z : d' = lc
        · rw [if_pos z]; exact (a2 d (by omega)).1
        · rw [if_neg z]; exact a3 d d' hd (by omega)
      · by_cases z : v' = v
        · exact ⟨lc, by show lc < lc + 1; omega, by dsimp only; rw [if_pos rfl, z]⟩
        · obtain ⟨d, hd, e⟩ := a4 v' (by omega) u
          refine ⟨d, by show d < lc + 1; omega, ?_⟩
          dsimp only; rw [if_neg (by omega)]; exact e
end
end
section
section
variable {c np p : Nat} {sy lf rt ld sy' lf' rt' ld' mem usr syt sgt psy pl pr ps : Nat → Int32} {cc D : Int32}
theorem qm_lk_ext (hc : c ≤ 32) (g : ∀ t, t < c → qa_tok sy lf rt t) (h : ∀ t, t < c → sy' t = sy t ∧ lf' t = lf t ∧ rt' t = rt t) (hl : ∀ t, t < c → ld' t = ld t) {s a b : Int32} : ∀ k, k ≤ c → qm_lk sy' lf' rt' ld' s a b k = qm_lk sy lf rt ld s a b k
  | 0, _ => rfl
  | k + 1, hk => by
    have e := h k (by omega)
    have ch := qx_cs_ch hc (show k < c by omega) (g k (by omega))
    have e1 : qc_lb ld' (lf k) = qc_lb ld (lf k) := qc_lb_ext hl ch.1 (by omega)
    have e2 : qc_lb ld' (rt k) = qc_lb ld (rt k) := qc_lb_ext hl ch.2 (by omega)
    rw [qm_lk, qm_lk, e.1, e.2.1, e.2.2, e1, e2, hl k (by omega), qm_lk_ext hc g h hl k (by omega)]
theorem qm_vt_ext (hc : c ≤ 32) (g : ∀ t, t < c → qa_tok sy lf rt t) (h : ∀ t, t < c → sy' t = sy t ∧ lf' t = lf t ∧ rt' t = rt t) (hl : ∀ t, t < c → ld' t = ld t) {A : Nat → Int32} : ∀ k, qm_vt c sy' lf' rt' ld' psy pl pr A k = qm_vt c sy lf rt ld psy pl pr A k
  | 0 => rfl
  | k + 1 => by
    rw [qm_vt, qm_vt, qm_vt_ext hc g h hl k, qm_lk_ext hc g h hl c (Nat.le_refl _)]
theorem qm_v_ext (hc : c ≤ 32) (g : ∀ t, t < c → qa_tok sy lf rt t) (h : ∀ t, t < c → sy' t = sy t ∧ lf' t = lf t ∧ rt' t = rt t) (hl : ∀ t, t < c → ld' t = ld t) : qm_v c sy' lf' rt' ld' psy pl pr = qm_v c sy lf rt ld psy pl pr := by
  funext A q
  unfold qm_v
  rw [qm_vt_ext hc g h hl]
theorem qm_Ma_ext (hc : c ≤ 32) (g : ∀ t, t < c → qa_tok sy lf rt t) (h : ∀ t, t < c → sy' t = sy t ∧ lf' t = lf t ∧ rt' t = rt t) (hl : ∀ t, t < c → ld' t = ld t) : qm_Ma c sy' lf' rt' ld' psy pl pr ps = qm_Ma c sy lf rt ld psy pl pr ps := by
  funext p m
  unfold qm_Ma
  rw [qm_v_ext hc g h hl]
  refine propext ⟨fun z => ⟨z.1, fun v hv u => ?_, z.2.2⟩, fun z => ⟨z.1, fun v hv u => ?_, z.2.2⟩⟩
  · have k := z.2.1 v hv u
    exact ⟨k.1, by rw [← hl _ k.1]; exact k.2⟩
  · have k := z.2.1 v hv u
    exact ⟨k.1, by rw [hl _ k.1]; exact k.2⟩
theorem qx_cs_ext (h : ∀ t, t < c → sy' t = sy t ∧ lf' t = lf t ∧ rt' t = rt t) (hC : qx_cs c sy lf rt ld mem usr syt sgt cc) : qx_cs c sy' lf' rt' ld mem usr syt sgt cc := by
  obtain ⟨hc, g, nm, hm, hu, hs, hcc, hk⟩ := hC
  refine ⟨hc, fun t ht => ?_, nm, hm, fun l t hl el ht => (hu l t hl el ht).trans ?_, fun s t hs' ht => (hs s t hs' ht).trans ?_, hcc, hk⟩
  · unfold qa_tok
    rw [(h t ht).1, (h t ht).2.1, (h t ht).2.2]; exact g t ht
  · constructor
    · rintro ⟨a, b⟩; rw [(h t a).2.1, (h t a).2.2]; exact ⟨a, b⟩
    · rintro ⟨a, b⟩; rw [(h t a).2.1, (h t a).2.2] at b; exact ⟨a, b⟩
  · constructor
    · rintro ⟨a, b⟩; rw [(h t a).1]; exact ⟨a, b⟩
    · rintro ⟨a, b⟩; rw [(h t a).1] at b; exact ⟨a, b⟩
theorem qx_dt_ext {ex : Nat} (h : ∀ t, t < c → sy' t = sy t ∧ lf' t = lf t ∧ rt' t = rt t) (hd : qx_dt c sy lf rt ld sgt D ex) : qx_dt c sy' lf' rt' ld sgt D ex := by
  refine ⟨hd.1, fun t ht tx => (hd.2 t ht tx).elim Or.inl (fun ⟨t', ht', a1, a2, a3, a4, a5⟩ => Or.inr ⟨t', ht', ?_, ?_, ?_, ?_, a5⟩)⟩
  · rw [(h t ht).1, (h t ht).2.1, (h t ht).2.2]; exact a1
  · rw [(h t ht).1, (h t' ht').1]; exact a2
  · rw [(h t ht).2.1, (h t' ht').2.1]; exact a3
  · rw [(h t ht).2.2, (h t' ht').2.2]; exact a4
theorem qx_it_ext {M : Nat} {ptop btp lva rest pv : Nat → Int32} {md lcI gl : Int32} {tp : Nat → Nat} (h : ∀ t, t < c → sy' t = sy t ∧ lf' t = lf t ∧ rt' t = rt t)
    (I : qx_it c np p sy lf rt ld mem usr syt sgt psy pl pr ps ptop btp cc tp md lcI gl lva rest pv M) : qx_it c np p sy' lf' rt' ld mem usr syt sgt psy pl pr ps ptop btp cc tp md lcI gl lva rest pv M := by
  obtain ⟨lc, lv, X, e1, I⟩ := I
  have hM := qm_Ma_ext (psy := psy) (pl := pl) (pr := pr) (ps := ps) (ld' := ld) X.1.1 X.1.2.1 h (fun _ _ => rfl)
  have hV := qm_v_ext (psy := psy) (pl := pl) (pr := pr) (ld' := ld) X.1.1 X.1.2.1 h (fun _ _ => rfl)
  refine ⟨lc, lv, ⟨qx_cs_ext h X.1, qx_dt_ext h X.2.1, X.2.2⟩, e1, ?_⟩
  unfold qm_iv
  rw [hM, hV]
  exact I
end
noncomputable def qm_f (act : Bool) (lim lme : Nat) (psy pl pr ps : Nat → Int32) (l r : Nat) (ru : Int32) (Ma : Nat → Prop) (W : (Nat → Int32) → Nat → Int32) (m : Nat) (s : (QG × QG) × Nat) : Bool × (QG × QG) × Nat :=
  @ite _ (Ma m) (Classical.propDecidable _)
    (if act = true then
      (if W (qm_AA m) r = W (qm_AA m) l then (true, s)
       else if (qi_co lim lme psy pl pr ps l r ru (qm_AA m) s.1).1 = true then (true, (qi_co lim lme psy pl pr ps l r ru (qm_AA m) s.1).2, s.2 + 1)
       else (false, (qi_co lim lme psy pl pr ps l r ru (qm_AA m) s.1).2, s.2))
     else (true, s.1, s.2 + 1))
    (true, s)
noncomputable def qm_fo (f : Nat → (QG × QG) × Nat → Bool × (QG × QG) × Nat) (s : (QG × QG) × Nat) : Nat → Bool × (QG × QG) × Nat
  | 0 => (true, s)
  | k + 1 => if (qm_fo f s k).1 = true then f k (qm_fo f s k).2 else qm_fo f s k
section
variable {act : Bool} {lim lme : Nat} {psy pl pr ps : Nat → Int32} {l r : Nat} {ru : Int32} {Ma : Nat → Prop} {W : (Nat → Int32) → Nat → Int32} {s : (QG × QG) × Nat}
theorem qm_f_no {m : Nat} {s : (QG × QG) × Nat} (h : ¬ Ma m) : qm_f act lim lme psy pl pr ps l r ru Ma W m s = (true, s) := by
  unfold qm_f; rw [if_neg h]
theorem qm_f_same {m : Nat} {s : (QG × QG) × Nat} (h : Ma m) (e : W (qm_AA m) r = W (qm_AA m) l) : qm_f true lim lme psy pl pr ps l r ru Ma W m s = (true, s) := by
  unfold qm_f; rw [if_pos h, if_pos rfl, if_pos e]
theorem qm_f_t {m : Nat} {s : (QG × QG) × Nat} {o : QG × QG} (h : Ma m) (e : ¬ W (qm_AA m) r = W (qm_AA m) l) (ce : qi_co lim lme psy pl pr ps l r ru (qm_AA m) s.1 = (true, o)) : qm_f true lim lme psy pl pr ps l r ru Ma W m s = (true, o, s.2 + 1) := by
  unfold qm_f; rw [if_pos h, if_pos rfl, if_neg e, ce, if_pos rfl]
theorem qm_f_b {m : Nat} {s : (QG × QG) × Nat} {o : QG × QG} (h : Ma m) (e : ¬ W (qm_AA m) r = W (qm_AA m) l) (ce : qi_co lim lme psy pl pr ps l r ru (qm_AA m) s.1 = (false, o)) : qm_f true lim lme psy pl pr ps l r ru Ma W m s = (false, o, s.2) := by
  unfold qm_f; rw [if_pos h, if_pos rfl, if_neg e, ce, if_neg Bool.false_ne_true]
theorem qm_f_cnt {m : Nat} {s : (QG × QG) × Nat} (h : Ma m) : qm_f false lim lme psy pl pr ps l r ru Ma W m s = (true, s.1, s.2 + 1) := by
  unfold qm_f; rw [if_pos h, if_neg Bool.false_ne_true]
theorem qm_fo_skip {M : Nat} : ∀ d, (∀ m, M ≤ m → m < M + d → ¬ Ma m) → qm_fo (qm_f act lim lme psy pl pr ps l r ru Ma W) s (M + d) = qm_fo (qm_f act lim lme psy pl pr ps l r ru Ma W) s M
  | 0, _ => rfl
  | d + 1, h => by
    show qm_fo (qm_f act lim lme psy pl pr ps l r ru Ma W) s (M + d + 1) = _
    rw [qm_fo, qm_fo_skip d (fun m h1 h2 => h m h1 (by omega)), qm_f_no (h (M + d) (by omega) (by omega))]
    generalize qm_fo (qm_f act lim lme psy pl pr ps l r ru Ma W) s M = o
    by_cases z : o.1 = true
    · rw [if_pos z]
      obtain ⟨a, b⟩ := o
      dsimp only at z
      rw [z]
    · rw [if_neg z]
theorem qm_fo_to {M M' : Nat} (hM : M ≤ M') (h : ∀ m, M ≤ m → m < M' → ¬ Ma m) : qm_fo (qm_f act lim lme psy pl pr ps l r ru Ma W) s M' = qm_fo (qm_f act lim lme psy pl pr ps l r ru Ma W) s M := by
  have := qm_fo_skip (act := act) (lim := lim) (lme := lme) (psy := psy) (pl := pl) (pr := pr) (ps := ps) (l := l) (r := r) (ru := ru) (Ma := Ma) (W := W) (s := s) (M := M) (M' - M) (fun m h1 h2 => h m h1 (by omega))
  rwa [show M + (M' - M) = M' by omega] at this
theorem qm_fo_bad {f : Nat → (QG × QG) × Nat → Bool × (QG × QG) × Nat} {M : Nat} (h : (qm_fo f s M).1 = false) : ∀ d, qm_fo f s (M + d) = qm_fo f s M
  | 0 => rfl
  | d + 1 => by
    show qm_fo f s (M + d + 1) = _
    rw [qm_fo, qm_fo_bad h d, if_neg (by rw [h]; exact Bool.false_ne_true)]
theorem qm_fo_bad' {f : Nat → (QG × QG) × Nat → Bool × (QG × QG) × Nat} {M M' : Nat} (hM : M ≤ M') (h : (qm_fo f s M).1 = false) : qm_fo f s M' = qm_fo f s M := by
  have := qm_fo_bad h (M' - M)
  rwa [show M + (M' - M) = M' by omega] at this
end
def qm_ok (lim lme : Nat) (G0 E0 : QG) (s : QG × QG) : Prop :=
  qi_gk lim s.1 ∧ qi_ge G0 s.1 ∧ s.2.1 ≤ lme ∧ qi_ge E0 s.2 ∧ qe_ok s.1.1 s.2.1 s.2.2.1 s.2.2.2.1
theorem qi_gk_cut {lim : Nat} {G H : QG} (h : qi_gk lim G) (e : qi_ge G H) : qi_gk lim (G.1, H.2) ∧ qi_ge G (G.1, H.2) := by
  have ag : ∀ t, t < G.1 → H.2.1 t = G.2.1 t ∧ H.2.2.1 t = G.2.2.1 t ∧ H.2.2.2 t = G.2.2.2 t := e.2
  refine ⟨⟨h.1, fun t ht => ?_, fun t t' ht ht' e1 e2 e3 => ?_⟩, Nat.le_refl _, ag⟩
  · unfold qa_tok
    dsimp only at ht ⊢
    rw [(ag t ht).1, (ag t ht).2.1, (ag t ht).2.2]; exact h.2.1 t ht
  · dsimp only at ht ht' e1 e2 e3
    rw [(ag t ht).1, (ag t' ht').1] at e1
    rw [(ag t ht).2.1, (ag t' ht').2.1] at e2
    rw [(ag t ht).2.2, (ag t' ht').2.2] at e3
    exact h.2.2 t t' ht ht' e1 e2 e3
theorem qi_co_ok {lim lme np : Nat} {psy pl pr ps A : Nat → Int32} {l r : Nat} {ru : Int32} {G0 E0 : QG} {s : QG × QG} (hl : lim ≤ 32) (hp : qp_ok np psy pl pr ps) (h : qm_ok lim lme G0 E0 s) (cp : qi_cp np s.1.1 ps l r A) :
    qm_ok lim lme G0 E0 (qi_co lim lme psy pl pr ps l r ru A s).2 := by
  obtain ⟨gk, ge, hm, he, hev⟩ := h
  have b1 := qi_bd_i hl hp (qi_S_pre hp cp) gk 32
  have h32 := hp.2.1
  unfold qi_co
  by_cases c1 : s.2.1 < lme
  · rw [if_pos c1]
    by_cases c2 : (qi_bd lim psy pl pr (bt (qi_S ps l)) s.1 A 32).1 = true
    · rw [if_pos c2]
      have b2 := qi_bd_i hl hp (qi_S'_pre hl hp gk cp c2) b1.1 32
      have gg := qi_ge_tr b1.2.1 b2.2.1
      by_cases c3 : (qi_bd lim psy pl pr (bt (qi_S' ps r l)) (qi_bd lim psy pl pr (bt (qi_S ps l)) s.1 A 32).2.1 (qi_bd lim psy pl pr (bt (qi_S ps l)) s.1 A 32).2.2 32).1 = true
      · rw [if_pos c3]
        have va : ∀ q, (bt (qi_S ps l) q = true ∨ bt (qi_S' ps r l) q = true ∨ (q < 3 ∧ bt (ps l) q = true)) → ∃ j, j < (qi_bd lim psy pl pr (bt (qi_S' ps r l)) (qi_bd lim psy pl pr (bt (qi_S ps l)) s.1 A 32).2.1 (qi_bd lim psy pl pr (bt (qi_S ps l)) s.1 A 32).2.2 32).2.1.1 ∧ (qi_bd lim psy pl pr (bt (qi_S' ps r l)) (qi_bd lim psy pl pr (bt (qi_S ps l)) s.1 A 32).2.1 (qi_bd lim psy pl pr (bt (qi_S ps l)) s.1 A 32).2.2 32).2.2 q = nI j := by
          intro q hq
          cases f2 : bt (qi_S' ps r l) q
          · rw [b2.2.2.1 q (Or.inr f2)]
            cases f1 : bt (qi_S ps l) q
            · rw [b1.2.2.1 q (Or.inr f1)]
              rcases hq with z | z | z
              · rw [f1] at z; exact absurd z (by decide)
              · rw [f2] at z; exact absurd z (by decide)
              · obtain ⟨j, hj, e⟩ := cp.2.2.2.2 q z.1 z.2
                exact ⟨j, Nat.lt_of_lt_of_le hj gg.1, e⟩
            · obtain ⟨t, ht, e, _⟩ := b1.2.2.2 c2 q (by have := ((qi_S_pre hp cp).1 q f1).2; omega) f1
              exact ⟨t, Nat.lt_of_lt_of_le ht b2.2.1.1, e⟩
          · obtain ⟨t, ht, e, _⟩ := b2.2.2.2 c3 q (by have := ((qi_S'_pre hl hp gk cp c2).1 q f2).2; omega) f2
            exact ⟨t, ht, e⟩
        have vl := va l (Or.inl ((qi_S_t hp cp.2.1).mpr ⟨qp_self hp cp.2.1, cp.1⟩))
        have vr := va r (by
          by_cases y : r < 3
          · exact Or.inr (Or.inr ⟨y, cp.2.2.2.1 r y (qp_self hp cp.2.2.1)⟩)
          · cases u : bt (qi_S ps l) r
            · refine Or.inr (Or.inl ?_)
              rw [qi_S'_b, u, (qi_S_t hp cp.2.2.1).mpr ⟨qp_self hp cp.2.2.1, by omega⟩]; rfl
            · exact Or.inl rfl)
        refine ⟨b2.1, qi_ge_tr ge gg, by show s.2.1 + 1 ≤ lme; omega, ⟨by show E0.1 ≤ s.2.1 + 1; have := he.1; omega, fun t ht => ?_⟩, fun e hem => ?_⟩
        · have := he.1
          have k := he.2 t ht
          exact ⟨(pk_un (by omega)).trans k.1, (pk_un (by omega)).trans k.2.1, (pk_un (by omega)).trans k.2.2⟩
        · dsimp only at hem ⊢
          by_cases z : e = s.2.1
          · subst z
            rw [pk_us, pk_us]
            obtain ⟨a, ha, ea⟩ := vl
            obtain ⟨b, hb, eb⟩ := vr
            exact ⟨a, b, ha, hb, ea, eb⟩
          · rw [pk_un z, pk_un z]
            obtain ⟨a, b, ha, hb, ea, eb⟩ := hev e (by omega)
            exact ⟨a, b, Nat.lt_of_lt_of_le ha gg.1, Nat.lt_of_lt_of_le hb gg.1, ea, eb⟩
      · rw [if_neg c3]
        have k := qi_gk_cut gk gg
        exact ⟨k.1, qi_ge_tr ge k.2, hm, he, hev⟩
    · rw [if_neg c2]
      have k := qi_gk_cut gk b1.2.1
      exact ⟨k.1, qi_ge_tr ge k.2, hm, he, hev⟩
  · rw [if_neg c1]
    exact ⟨gk, ge, hm, he, hev⟩
end
section
def qr_ok (np nr : Nat) (ps rl rr : Nat → Int32) : Prop :=
  nr ≤ 6 ∧ ∀ ru, ru < nr → ∃ l r, rl ru = nI l ∧ rr ru = nI r ∧ 3 ≤ l ∧ l < np ∧ r < np ∧ (∀ v, v < 3 → bt (ps r) v = true → bt (ps l) v = true)
section
variable {f_termLimit f_patternLimit f_ruleLimit f_eventLimit f_termCount f_patternCount f_ruleCount f_eventCount f_closedEvents f_classCount f_dirty f_matchPattern f_matchDepth f_levelCount f_groundLeft f_costsFresh f_settledClasses f_reachedClasses f_orderCount f_explainedCount : Int32} {a_termIndex a_patTop a_byTop a_patternIndex a_eventLeft a_eventRight a_eventRule a_symbolWeight a_members a_users a_symbolTerms a_levelVar a_levelRest a_standsFor a_order a_bestTerm a_gotTerm a_explainedEvent : Nat → Int32} {a_best a_treeCost : Nat → Int64}
variable {c np ru l r : Nat} {sy lf rt ld mem usr syt sgt psy pl pr ps pv rl rr A : Nat → Int32} {cc : Int32}
theorem qx_isNew {post : Int32 → SX → Prop} (hC : qx_cs c sy lf rt ld mem usr syt sgt cc) (hd : qx_dt c sy lf rt ld sgt 0 99) (hp : qp_ok np psy pl pr ps) (hru : ru < 6) (erl : rl ru = nI l) (err : rr ru = nI r) (l3 : 3 ≤ l) (ln : l < np) (rn : r < np) (hv : ∀ v, v < 3 → bt (ps r) v = true → bt (ps l) v = true)
    (vals : ∀ q, bt (ps l) q = true → pv q = qm_v c sy lf rt ld psy pl pr A q ∧ ∃ k, k < c ∧ pv q = nI k ∧ ld k = nI k)
    (K : ∀ pv', (∀ q, bt (ps l) q = true → pv' q = pv q) → post (if qm_v c sy lf rt ld psy pl pr A r = qm_v c sy lf rt ld psy pl pr A l then 0 else 1) (f_termLimit, f_patternLimit, f_ruleLimit, f_eventLimit, f_termCount, f_patternCount, f_ruleCount, f_eventCount, nI c, f_closedEvents, f_classCount, f_dirty, f_matchPattern, f_matchDepth, f_levelCount, f_groundLeft, f_costsFresh, f_settledClasses, f_reachedClasses, f_orderCount, f_explainedCount, sy, lf, rt, a_termIndex, psy, pl, pr, ps, a_patTop, a_byTop, a_patternIndex, rl, rr, a_eventLeft, a_eventRight, a_eventRule, a_symbolWeight, ld, a_members, a_users, a_symbolTerms, sgt, a_levelVar, a_levelRest, pv', a_standsFor, a_order, a_best, a_bestTerm, a_gotTerm, a_treeCost, a_explainedEvent)) : wpX_isNew post (f_termLimit, f_patternLimit, f_ruleLimit, f_eventLimit, f_termCount, f_patternCount, f_ruleCount, f_eventCount, nI c, f_closedEvents, f_classCount, f_dirty, f_matchPattern, f_matchDepth, f_levelCount, f_groundLeft, f_costsFresh, f_settledClasses, f_reachedClasses, f_orderCount, f_explainedCount, sy, lf, rt, a_termIndex, psy, pl, pr, ps, a_patTop, a_byTop, a_patternIndex, rl, rr, a_eventLeft, a_eventRight, a_eventRule, a_symbolWeight, ld, a_members, a_users, a_symbolTerms, sgt, a_levelVar, a_levelRest, pv, a_standsFor, a_order, a_best, a_bestTerm, a_gotTerm, a_treeCost, a_explainedEvent) (nI ru) := by
  have hc := hC.1
  have h32 := hp.2.1
  have ir : vp_in (nI ru) 6 := vp_in_nI hru (by omega)
  have cr : (nI ru).toNatClampNeg = ru := nI_clamp (by omega)
  have il : vp_in (nI l) 32 := vp_in_nI (by omega) (by omega)
  have ir' : vp_in (nI r) 32 := vp_in_nI (by omega) (by omega)
  have cl : (nI l).toNatClampNeg = l := nI_clamp (by omega)
  have cr' : (nI r).toNatClampNeg = r := nI_clamp (by omega)
  unfold wpX_isNew
  refine ⟨ir, nm_r (e' := nI l) (by rw [cr, erl]) ⟨ir, nm_r (e' := nI r) (by rw [cr, err]) ⟨ir', il, ?_⟩⟩⟩
  rw [cl, cr']
  have hS : ∀ q, bt (qi_S' ps r l) q = true → bt (ps r) q = true ∧ 3 ≤ q ∧ bt (ps l) q = false := by
    intro q b
    rw [qi_S'_b, Bool.and_eq_true, qi_S_t hp rn] at b
    refine ⟨b.1.1, b.1.2, ?_⟩
    cases w : bt (ps l) q
    · rfl
    · rw [(qi_S_t hp ln).mpr ⟨w, b.1.2⟩] at b
      exact absurd b.2 (by decide)
  refine qx_eval (S := qi_S' ps r l) (A := A) hC hd hp (fun q b => ⟨(hS q b).2.1, by have := qp_le hp r rn q (hS q b).1; omega⟩) ?_ ?_ ?_
  · intro q x b cx
    have s := hS q b
    have xr := qp_dn hp r rn q x s.1 cx
    cases w : bt (ps l) x
    · left
      rw [qi_S'_b, Bool.and_eq_true]
      have x3 : 3 ≤ x := by
        refine Classical.byContradiction fun y => ?_
        rw [hv x (by omega) xr] at w
        exact absurd w (by decide)
      refine ⟨(qi_S_t hp rn).mpr ⟨xr, x3⟩, ?_⟩
      rw [qi_S_b, w]; rfl
    · right
      obtain ⟨e, k, hk, ek, _⟩ := vals x w
      exact ⟨e, k, hk, ek⟩
  · intro pv' h1 h2
    have keep : ∀ q, bt (ps l) q = true → pv' q = pv q := by
      intro q bq
      refine h2 q ?_
      cases w : bt (qi_S' ps r l) q
      · rfl
      · have := (hS q w).2.2
        rw [bq] at this
        exact absurd this (by decide)
    have vl : pv' l = qm_v c sy lf rt ld psy pl pr A l := (keep l (qp_self hp ln)).trans (vals l (qp_self hp ln)).1
    have vr : pv' r = qm_v c sy lf rt ld psy pl pr A r := by
      cases w : bt (ps l) r
      · have r3 : 3 ≤ r := by
          refine Classical.byContradiction fun y => ?_
          rw [hv r (by omega) (qp_self hp rn)] at w
          exact absurd w (by decide)
        refine (h1 r ?_).1
        rw [qi_S'_b, Bool.and_eq_true]
        refine ⟨(qi_S_t hp rn).mpr ⟨qp_self hp rn, r3⟩, ?_⟩
        rw [qi_S_b, w]; rfl
      · exact (keep r w).trans (vals r w).1
    have k := K pv' keep
    refine br_f (by decide) ⟨ir', il, ?_⟩
    rw [vl, vr]
    exact br_c (fun e => by rwa [if_pos e] at k) (fun e => by rwa [if_neg e] at k)
  · intro pv' q h2 bq e
    have keep : ∀ q, bt (ps l) q = true → pv' q = pv q := by
      intro q bq
      refine h2 q ?_
      cases w : bt (qi_S' ps r l) q
      · rfl
      · have := (hS q w).2.2
        rw [bq] at this
        exact absurd this (by decide)
    have er := qm_v_sub (A := A) hp hc hC.2.1 hC.2.2.1 r rn q (hS q bq).1 e
    have k := K pv' keep
    rw [if_neg] at k
    · exact br_t rfl k
    · rw [er]
      obtain ⟨e1, j, hj, ej, _⟩ := vals l (qp_self hp ln)
      rw [← e1, ej]
      exact qa_1ne (by omega)
end
def qx_rc (c np : Nat) (sy lf rt ld mem usr syt sgt psy pl pr ps ptop btp : Nat → Int32) (cc : Int32) (tp : Nat → Nat) : Prop :=
  qx_cs c sy lf rt ld mem usr syt sgt cc ∧ qx_dt c sy lf rt ld sgt 0 99 ∧ qp_ok np psy pl pr ps ∧ (∀ q, q < np → ptop q = nI (tp q)) ∧ qp_tops np pl pr tp ∧
  (∀ k q, k < 4 → q < 32 → (bt (btp k) q = true ↔ 3 ≤ q ∧ q < np ∧ tp q = k))
section
variable {f_patternLimit f_ruleLimit f_patternCount f_ruleCount f_closedEvents f_classCount f_dirty f_costsFresh f_settledClasses f_reachedClasses f_orderCount f_explainedCount : Int32} {a_patternIndex a_symbolWeight a_members a_order a_bestTerm a_gotTerm a_explainedEvent : Nat → Int32} {a_best a_treeCost : Nat → Int64}
variable {lim lme c np ru l r : Nat} {sy0 lf0 rt0 ld mem usr syt sgt psy pl pr ps ptop btp rl rr : Nat → Int32} {cc : Int32} {tp : Nat → Nat} {E0 : QG} {s0 : QG × QG}
theorem qx_r29 {post : Int32 → SX → Prop} {J9 : Int32 → Int32 → Int32 → Int32 → Int32 → Int32 → Int32 → Int32 → Int32 → Int32 → Int32 → Int32 → Int32 → Int32 → Int32 → Int32 → Int32 → Int32 → Int32 → Int32 → Int32 → Int32 → Int32 → (Nat → Int32) → (Nat → Int32) → (Nat → Int32) → (Nat → Int32) → (Nat → Int32) → (Nat → Int32) → (Nat → Int32) → (Nat → Int32) → (Nat → Int32) → (Nat → Int32) → (Nat → Int32) → (Nat → Int32) → (Nat → Int32) → (Nat → Int32) → (Nat → Int32) → (Nat → Int32) → (Nat → Int32) → (Nat → Int32) → (Nat → Int32) → (Nat → Int32) → (Nat → Int32) → (Nat → Int32) → (Nat → Int32) → (Nat → Int32) → (Nat → Int32) → (Nat → Int32) → (Nat → Int32) → (Nat → Int64) → (Nat → Int32) → (Nat → Int32) → (Nat → Int64) → (Nat → Int32) → Prop} {x2 : Int32} {tot N : Nat} (hN : N = 32768) (hl : lim ≤ 32) (hle : lme ≤ 64) (R : qx_rc c np sy0 lf0 rt0 ld mem usr syt sgt psy pl pr ps ptop btp cc tp) (hru : ru < 6) (erl : rl ru = nI l) (err : rr ru = nI r) (l3 : 3 ≤ l) (ln : l < np) (rn : r < np) (hv : ∀ v, v < 3 → bt (ps r) v = true → bt (ps l) v = true)
    (KJ : ∀ n sy lf rt m el er eru cnt mp md lcI gl lva rest pv st ti, qm_fo (qm_f true lim lme psy pl pr ps l r (nI ru) (qm_Ma c sy0 lf0 rt0 ld psy pl pr ps l) (qm_v c sy0 lf0 rt0 ld psy pl pr)) (s0, 0) N = (true, ((n, sy, lf, rt), (m, el, er, eru)), cnt) →
      qm_ok lim lme (c, sy0, lf0, rt0) E0 ((n, sy, lf, rt), (m, el, er, eru)) → qx_ti n sy lf rt ti → J9 (nI (tot + cnt)) (nI (ru + 1)) (nI lim) f_patternLimit f_ruleLimit (nI lme) (nI n) f_patternCount f_ruleCount (nI m) (nI c) f_closedEvents f_classCount f_dirty mp md lcI gl f_costsFresh f_settledClasses f_reachedClasses f_orderCount f_explainedCount sy lf rt ti psy pl pr ps ptop btp a_patternIndex rl rr el er eru a_symbolWeight ld a_members usr syt sgt lva rest pv st a_order a_best a_bestTerm a_gotTerm a_treeCost a_explainedEvent)
    (KF : ∀ n sy lf rt m el er eru cnt mp md lcI gl lva rest pv st ti, qm_fo (qm_f true lim lme psy pl pr ps l r (nI ru) (qm_Ma c sy0 lf0 rt0 ld psy pl pr ps l) (qm_v c sy0 lf0 rt0 ld psy pl pr)) (s0, 0) N = (false, ((n, sy, lf, rt), (m, el, er, eru)), cnt) →
      qm_ok lim lme (c, sy0, lf0, rt0) E0 ((n, sy, lf, rt), (m, el, er, eru)) → qx_ti n sy lf rt ti → post (-3) (nI lim, f_patternLimit, f_ruleLimit, nI lme, nI n, f_patternCount, f_ruleCount, nI m, nI c, f_closedEvents, f_classCount, f_dirty, mp, md, lcI, gl, f_costsFresh, f_settledClasses, f_reachedClasses, f_orderCount, f_explainedCount, sy, lf, rt, ti, psy, pl, pr, ps, ptop, btp, a_patternIndex, rl, rr, el, er, eru, a_symbolWeight, ld, a_members, usr, syt, sgt, lva, rest, pv, st, a_order, a_best, a_bestTerm, a_gotTerm, a_treeCost, a_explainedEvent)) :
    ∀ k M q n sy lf rt m el er eru cnt md lcI gl lva rest pv st ti, M ≤ N → q ≤ M → N - M < k → qm_fo (qm_f true lim lme psy pl pr ps l r (nI ru) (qm_Ma c sy0 lf0 rt0 ld psy pl pr ps l) (qm_v c sy0 lf0 rt0 ld psy pl pr)) (s0, 0) M = (true, ((n, sy, lf, rt), (m, el, er, eru)), cnt) →
      qm_ok lim lme (c, sy0, lf0, rt0) E0 ((n, sy, lf, rt), (m, el, er, eru)) → qx_ti n sy lf rt ti → qx_it c np l sy lf rt ld mem usr syt sgt psy pl pr ps ptop btp cc tp md lcI gl lva rest pv M →
      wX_round_29 post J9 x2 (nI ru) k (nI (tot + cnt)) (nI q) (nI lim) f_patternLimit f_ruleLimit (nI lme) (nI n) f_patternCount f_ruleCount (nI m) (nI c) f_closedEvents f_classCount f_dirty (nI l) md lcI gl f_costsFresh f_settledClasses f_reachedClasses f_orderCount f_explainedCount sy lf rt ti psy pl pr ps ptop btp a_patternIndex rl rr el er eru a_symbolWeight ld a_members usr syt sgt lva rest pv st a_order a_best a_bestTerm a_gotTerm a_treeCost a_explainedEvent := by
  obtain ⟨hC, hdt, hp, htop, htp, hby⟩ := R
  have hc := hC.1
  have h32 := hp.2.1
  intro k
  induction k with
  | zero => intro M q n sy lf rt m el er eru cnt md lcI gl lva rest pv st ti _ _ h; omega
  | succ k ih =>
    intro M q n sy lf rt m el er eru cnt md lcI gl lva rest pv st ti hM hq hk fo ok hti I
    have ag : ∀ t, t < c → sy t = sy0 t ∧ lf t = lf0 t ∧ rt t = rt0 t := ok.2.1.2
    have cn : c ≤ n := ok.2.1.1
    have hMa := qm_Ma_ext (psy := psy) (pl := pl) (pr := pr) (ps := ps) (ld' := ld) hc hC.2.1 ag (fun _ _ => rfl)
    have hW := qm_v_ext (psy := psy) (pl := pl) (pr := pr) (ld' := ld) hc hC.2.1 ag (fun _ _ => rfl)
    rw [wX_round_29]
    refine br_f (nI_nlt (b := q) (a := 32768) (by omega) (by decide)) (qx_next I ?_ ?_)
    · intro m' md' gl' rest' pv' a1 a2 a3 a4 a5
      rw [hMa] at a1 a3
      have fo' := (qm_fo_to (act := true) (lim := lim) (lme := lme) (psy := psy) (pl := pl) (pr := pr) (ps := ps) (l := l) (r := r) (ru := nI ru) (Ma := qm_Ma c sy0 lf0 rt0 ld psy pl pr ps l) (W := qm_v c sy0 lf0 rt0 ld psy pl pr) (s := (s0, 0)) a2 a3).trans fo
      have stp : qm_fo (qm_f true lim lme psy pl pr ps l r (nI ru) (qm_Ma c sy0 lf0 rt0 ld psy pl pr ps l) (qm_v c sy0 lf0 rt0 ld psy pl pr)) (s0, 0) (m' + 1) = qm_f true lim lme psy pl pr ps l r (nI ru) (qm_Ma c sy0 lf0 rt0 ld psy pl pr ps l) (qm_v c sy0 lf0 rt0 ld psy pl pr) m' (((n, sy, lf, rt), (m, el, er, eru)), cnt) := by
        rw [qm_fo, fo', if_pos rfl]
      have m32 := a1.1
      refine br_f (by decide) (qx_isNew (A := qm_AA m') (qx_cs_ext ag hC) (qx_dt_ext ag hdt) hp hru erl err l3 ln rn hv a4 ?_)
      intro pv2 keep
      rw [hW]
      have I2 := qx_it_pv a5 keep
      by_cases new : qm_v c sy0 lf0 rt0 ld psy pl pr (qm_AA m') r = qm_v c sy0 lf0 rt0 ld psy pl pr (qm_AA m') l
      · rw [qm_f_same a1 new] at stp
        rw [if_pos new]
        exact br_t rfl (nm_r (nI_1 q) (ih (m' + 1) (q + 1) n sy lf rt m el er eru cnt md' lcI gl' lva rest' pv2 st ti (by omega) (by omega) (by omega) stp ok hti I2))
      · rw [if_neg new]
        have cp : qi_cp np n ps l r (qm_AA m') := ⟨l3, ln, rn, hv, fun v hv u => ⟨qm_cx v m', by have := (a1.2.1 v hv u).1; omega, rfl⟩⟩
        have hA : ∀ v, v < 3 → bt (ps l) v = true → pv2 v = qm_AA m' v := by
          intro v h3 u
          rw [keep v u, (a4 v u).1, qm_v3 h3]
        have ok2 := qi_co_ok (ru := nI ru) hl hp ok cp
        refine br_f (by decide) (qx_carry hru erl err hl hle hp ok.1 hti cp hA ?_ ok.2.2.1)
        intro okb n2 sy2 lf2 rt2 m2 el2 er2 eru2 ti2 st2 ce t2
        rw [ce] at ok2
        dsimp only at ok2
        cases okb
        · rw [qm_f_b a1 new ce] at stp
          rw [if_neg Bool.false_ne_true]
          refine br_t rfl (KF n2 sy2 lf2 rt2 m2 el2 er2 eru2 cnt _ md' lcI gl' lva rest' pv2 st2 ti2 ?_ ok2 t2)
          rw [qm_fo_bad' (M := m' + 1) (M' := N) (by omega) (by rw [stp])]
          exact stp
        · rw [qm_f_t a1 new ce] at stp
          rw [if_pos rfl]
          have ge2 : ∀ t, t < c → sy2 t = sy t ∧ lf2 t = lf t ∧ rt2 t = rt t := by
            intro t ht
            have a := ok2.2.1.2 t ht
            have b := ag t ht
            exact ⟨a.1.trans b.1.symm, a.2.1.trans b.2.1.symm, a.2.2.trans b.2.2.symm⟩
          exact br_f (by decide) (nm_r (nI_1 (tot + cnt)) (nm_r (nI_1 q) (ih (m' + 1) (q + 1) n2 sy2 lf2 rt2 m2 el2 er2 eru2 (cnt + 1) md' lcI gl' lva rest' pv2 st2 ti2 (by omega) (by omega) (by omega) stp ok2 t2 (qx_it_ext ge2 I2))))
    · intro md' gl' rest' pv' none
      rw [hMa] at none
      refine br_t rfl (nm_r (nI_1 ru) (KJ n sy lf rt m el er eru cnt _ md' lcI gl' lva rest' pv' st ti ?_ ok hti))
      rw [qm_fo_to (M := M) (M' := N) hM (fun m' h1 _ => none m' h1)]
      exact fo
end
end
section
theorem qx_xi_ext {n m c ce n' m' : Nat} {sy lf rt el er sy' lf' rt' el' er' ld mem usr syt sgt : Nat → Int32} {cc : Int32} (h : qx_xi n m c ce sy lf rt el er ld mem usr syt sgt cc) (hn : c ≤ n') (hn' : n' ≤ 32) (hm : m ≤ m') (hm' : m' ≤ 64)
    (ag : ∀ t, t < c → sy' t = sy t ∧ lf' t = lf t ∧ rt' t = rt t) (g' : ∀ t, t < n' → qa_tok sy' lf' rt' t) (he' : qe_ok n' m' el' er') (ev : ∀ e, e < m → el' e = el e ∧ er' e = er e) :
    qx_xi n' m' c ce sy' lf' rt' el' er' ld mem usr syt sgt cc := by
  obtain ⟨h1, h2, h3, h4, g, he, ⟨hC, hd, hs⟩, hev⟩ := h
  refine ⟨hn, hn', hm', by omega, g', he', ⟨qx_cs_ext ag hC, qx_dt_ext ag hd, fun f hf => hs f ⟨fun e hem _ => ?_, fun i j hi hj e1 e2 e3 => ?_⟩⟩, fun e hem => ?_⟩
  · have := hf.1 e (by omega) trivial
    rwa [(ev e hem).1, (ev e hem).2] at this
  · refine hf.2 i j hi hj ?_ ?_ ?_
    · rw [(ag i hi).1, (ag j hj).1]; exact e1
    · rw [(ag i hi).2.1, (ag j hj).2.1]; exact e2
    · rw [(ag i hi).2.2, (ag j hj).2.2]; exact e3
  · rw [(ev e (by omega)).1, (ev e (by omega)).2]
    exact hev e hem
noncomputable def qm_rd (N lim lme : Nat) (psy pl pr ps rl rr : Nat → Int32) (Ma : Nat → Nat → Prop) (W : (Nat → Int32) → Nat → Int32) (first : Nat) (s : QG × QG) : Nat → Bool × (QG × QG) × Nat
  | 0 => (true, s, 0)
  | d + 1 => if (qm_rd N lim lme psy pl pr ps rl rr Ma W first s d).1 = true then
      ((qm_fo (qm_f true lim lme psy pl pr ps (rl (first + d)).toNatClampNeg (rr (first + d)).toNatClampNeg (nI (first + d)) (Ma (rl (first + d)).toNatClampNeg) W) ((qm_rd N lim lme psy pl pr ps rl rr Ma W first s d).2.1, 0) N).1,
       (qm_fo (qm_f true lim lme psy pl pr ps (rl (first + d)).toNatClampNeg (rr (first + d)).toNatClampNeg (nI (first + d)) (Ma (rl (first + d)).toNatClampNeg) W) ((qm_rd N lim lme psy pl pr ps rl rr Ma W first s d).2.1, 0) N).2.1,
       (qm_rd N lim lme psy pl pr ps rl rr Ma W first s d).2.2 + (qm_fo (qm_f true lim lme psy pl pr ps (rl (first + d)).toNatClampNeg (rr (first + d)).toNatClampNeg (nI (first + d)) (Ma (rl (first + d)).toNatClampNeg) W) ((qm_rd N lim lme psy pl pr ps rl rr Ma W first s d).2.1, 0) N).2.2)
    else qm_rd N lim lme psy pl pr ps rl rr Ma W first s d
section
variable {N lim lme : Nat} {psy pl pr ps rl rr : Nat → Int32} {Ma : Nat → Nat → Prop} {W : (Nat → Int32) → Nat → Int32} {first : Nat} {s : QG × QG}
theorem qm_rd_s {d l r : Nat} {s1 s2 : QG × QG} {t1 t2 : Nat} {ok : Bool} (e : qm_rd N lim lme psy pl pr ps rl rr Ma W first s d = (true, s1, t1)) (el : (rl (first + d)).toNatClampNeg = l) (er : (rr (first + d)).toNatClampNeg = r)
    (f : qm_fo (qm_f true lim lme psy pl pr ps l r (nI (first + d)) (Ma l) W) (s1, 0) N = (ok, s2, t2)) : qm_rd N lim lme psy pl pr ps rl rr Ma W first s (d + 1) = (ok, s2, t1 + t2) := by
  rw [qm_rd, e, if_pos rfl, el, er, f]
theorem qm_rd_bad {M : Nat} (h : (qm_rd N lim lme psy pl pr ps rl rr Ma W first s M).1 = false) : ∀ d, qm_rd N lim lme psy pl pr ps rl rr Ma W first s (M + d) = qm_rd N lim lme psy pl pr ps rl rr Ma W first s M
  | 0 => rfl
  | d + 1 => by
    show qm_rd N lim lme psy pl pr ps rl rr Ma W first s (M + d + 1) = _
    rw [qm_rd, qm_rd_bad h d, if_neg (by rw [h]; exact Bool.false_ne_true)]
theorem qm_rd_bad' {M M' : Nat} (hM : M ≤ M') (h : (qm_rd N lim lme psy pl pr ps rl rr Ma W first s M).1 = false) : qm_rd N lim lme psy pl pr ps rl rr Ma W first s M' = qm_rd N lim lme psy pl pr ps rl rr Ma W first s M := by
  have := qm_rd_bad h (M' - M)
  rwa [show M + (M' - M) = M' by omega] at this
end
section
variable {f_patternLimit f_ruleLimit f_patternCount f_ruleCount f_closedEvents f_classCount f_dirty f_costsFresh f_settledClasses f_reachedClasses f_orderCount f_explainedCount : Int32} {a_patternIndex a_symbolWeight a_members a_order a_bestTerm a_gotTerm a_explainedEvent : Nat → Int32} {a_best a_treeCost : Nat → Int64}
variable {lim lme c np nr first : Nat} {sy0 lf0 rt0 ld mem usr syt sgt psy pl pr ps ptop btp rl rr : Nat → Int32} {cc : Int32} {tp : Nat → Nat} {E0 : QG} {s0 : QG × QG}
theorem qx_r9 {post : Int32 → SX → Prop} {cnt N : Nat} (hN : N = 32768) (hl : lim ≤ 32) (hle : lme ≤ 64) (R : qx_rc c np sy0 lf0 rt0 ld mem usr syt sgt psy pl pr ps ptop btp cc tp) (hr : qr_ok np nr ps rl rr) (hcnt : first + cnt ≤ nr)
    (K : ∀ ok n sy lf rt m el er eru tot mp md lcI gl lva rest pv st ti, qm_rd N lim lme psy pl pr ps rl rr (qm_Ma c sy0 lf0 rt0 ld psy pl pr ps) (qm_v c sy0 lf0 rt0 ld psy pl pr) first s0 cnt = (ok, ((n, sy, lf, rt), (m, el, er, eru)), tot) →
      qm_ok lim lme (c, sy0, lf0, rt0) E0 ((n, sy, lf, rt), (m, el, er, eru)) → qx_ti n sy lf rt ti → post (if ok = true then nI tot else -3) (nI lim, f_patternLimit, f_ruleLimit, nI lme, nI n, f_patternCount, f_ruleCount, nI m, nI c, f_closedEvents, f_classCount, f_dirty, mp, md, lcI, gl, f_costsFresh, f_settledClasses, f_reachedClasses, f_orderCount, f_explainedCount, sy, lf, rt, ti, psy, pl, pr, ps, ptop, btp, a_patternIndex, rl, rr, el, er, eru, a_symbolWeight, ld, a_members, usr, syt, sgt, lva, rest, pv, st, a_order, a_best, a_bestTerm, a_gotTerm, a_treeCost, a_explainedEvent)) :
    ∀ k d n sy lf rt m el er eru tot mp md lcI gl lva rest pv st ti, d ≤ cnt → cnt - d < k → qm_rd N lim lme psy pl pr ps rl rr (qm_Ma c sy0 lf0 rt0 ld psy pl pr ps) (qm_v c sy0 lf0 rt0 ld psy pl pr) first s0 d = (true, ((n, sy, lf, rt), (m, el, er, eru)), tot) →
      qm_ok lim lme (c, sy0, lf0, rt0) E0 ((n, sy, lf, rt), (m, el, er, eru)) → qx_ti n sy lf rt ti → wX_round_9 post (nI (first + cnt)) k (nI tot) (nI (first + d)) (nI lim) f_patternLimit f_ruleLimit (nI lme) (nI n) f_patternCount f_ruleCount (nI m) (nI c) f_closedEvents f_classCount f_dirty mp md lcI gl f_costsFresh f_settledClasses f_reachedClasses f_orderCount f_explainedCount sy lf rt ti psy pl pr ps ptop btp a_patternIndex rl rr el er eru a_symbolWeight ld a_members usr syt sgt lva rest pv st a_order a_best a_bestTerm a_gotTerm a_treeCost a_explainedEvent := by
  have R0 := R
  obtain ⟨hC, hdt, hp, htop, htp, hby⟩ := R
  have nr6 := hr.1
  intro k
  induction k with
  | zero => intro d n sy lf rt m el er eru tot mp md lcI gl lva rest pv st ti _ h; omega
  | succ k ih =>
    intro d n sy lf rt m el er eru tot mp md lcI gl lva rest pv st ti hd hk rd ok hti
    rw [wX_round_9]
    refine pk_le (first + cnt) (first + d) (fun le => ?_) (fun lt => ?_)
    · have e : d = cnt := by omega
      subst e
      have := K true n sy lf rt m el er eru tot mp md lcI gl lva rest pv st ti rd ok hti
      rwa [if_pos rfl] at this
    · obtain ⟨l, r, erl, err, l3, ln, rn, hv⟩ := hr.2 (first + d) (by omega)
      have h32 := hp.2.1
      have ag : ∀ t, t < c → sy t = sy0 t ∧ lf t = lf0 t ∧ rt t = rt0 t := ok.2.1.2
      refine ⟨vp_in_nI (by omega) (by omega), ?_⟩
      rw [show (nI (first + d)).toNatClampNeg = first + d from nI_clamp (by omega), erl]
      refine qx_start (qx_cs_ext ag hC) (qx_dt_ext ag hdt) hp htop htp hby l3 ln ?_
      intro md' lcI' gl' lva' rest' pv' I
      have cl : (rl (first + d)).toNatClampNeg = l := by rw [erl, nI_clamp (by omega)]
      have cr : (rr (first + d)).toNatClampNeg = r := by rw [err, nI_clamp (by omega)]
      refine ⟨N + 1, qx_r29 (s0 := ((n, sy, lf, rt), (m, el, er, eru))) (E0 := E0) hN hl hle R0 (by omega) erl err l3 ln rn hv ?_ ?_ (N + 1) 0 0 n sy lf rt m el er eru 0 md' lcI' gl' lva' rest' pv' st ti (by omega) (by omega) (by omega) rfl ok hti I⟩
      · intro n2 sy2 lf2 rt2 m2 el2 er2 eru2 cnt2 mp2 md2 lcI2 gl2 lva2 rest2 pv2 st2 ti2 fo ok2 t2
        exact ih (d + 1) n2 sy2 lf2 rt2 m2 el2 er2 eru2 (tot + cnt2) mp2 md2 lcI2 gl2 lva2 rest2 pv2 st2 ti2 (by omega) (by omega) (qm_rd_s rd cl cr fo) ok2 t2
      · intro n2 sy2 lf2 rt2 m2 el2 er2 eru2 cnt2 mp2 md2 lcI2 gl2 lva2 rest2 pv2 st2 ti2 fo ok2 t2
        have rd2 := qm_rd_s rd cl cr fo
        have := K false n2 sy2 lf2 rt2 m2 el2 er2 eru2 (tot + cnt2) mp2 md2 lcI2 gl2 lva2 rest2 pv2 st2 ti2 (by rw [qm_rd_bad' (M := d + 1) (by omega) (by rw [rd2])]; exact rd2) ok2 t2
        rwa [if_neg Bool.false_ne_true] at this
theorem qx_m29 {post : Int32 → SX → Prop} {l N : Nat} (hN : N = 32768) {n m : Nat} {sy lf rt el er eru : Nat → Int32} {ti st : Nat → Int32} {lcI : Int32} {lva : Nat → Int32} (R : qx_rc c np sy lf rt ld mem usr syt sgt psy pl pr ps ptop btp cc tp) {x : Nat} {y : Int32}
    (K : ∀ cnt md gl rest pv, qm_fo (qm_f false lim lme psy pl pr ps l x y (qm_Ma c sy lf rt ld psy pl pr ps l) (qm_v c sy lf rt ld psy pl pr)) (s0, 0) N = (true, s0, cnt) → post (nI cnt) (nI lim, f_patternLimit, f_ruleLimit, nI lme, nI n, f_patternCount, f_ruleCount, nI m, nI c, f_closedEvents, f_classCount, f_dirty, nI l, md, lcI, gl, f_costsFresh, f_settledClasses, f_reachedClasses, f_orderCount, f_explainedCount, sy, lf, rt, ti, psy, pl, pr, ps, ptop, btp, a_patternIndex, rl, rr, el, er, eru, a_symbolWeight, ld, a_members, usr, syt, sgt, lva, rest, pv, st, a_order, a_best, a_bestTerm, a_gotTerm, a_treeCost, a_explainedEvent)) :
    ∀ k M q cnt md gl rest pv, M ≤ N → q ≤ M → N - M < k → qm_fo (qm_f false lim lme psy pl pr ps l x y (qm_Ma c sy lf rt ld psy pl pr ps l) (qm_v c sy lf rt ld psy pl pr)) (s0, 0) M = (true, s0, cnt) →
      qx_it c np l sy lf rt ld mem usr syt sgt psy pl pr ps ptop btp cc tp md lcI gl lva rest pv M → wX_matches_29 post k (nI cnt) (nI q) (nI lim) f_patternLimit f_ruleLimit (nI lme) (nI n) f_patternCount f_ruleCount (nI m) (nI c) f_closedEvents f_classCount f_dirty (nI l) md lcI gl f_costsFresh f_settledClasses f_reachedClasses f_orderCount f_explainedCount sy lf rt ti psy pl pr ps ptop btp a_patternIndex rl rr el er eru a_symbolWeight ld a_members usr syt sgt lva rest pv st a_order a_best a_bestTerm a_gotTerm a_treeCost a_explainedEvent := by
  intro k
  induction k with
  | zero => intro M q cnt md gl rest pv _ _ h; omega
  | succ k ih =>
    intro M q cnt md gl rest pv hM hq hk fo I
    rw [wX_matches_29]
    refine br_f (nI_nlt (b := q) (a := 32768) (by omega) (by decide)) (qx_next I ?_ ?_)
    · intro m' md' gl' rest' pv' a1 a2 a3 a4 a5
      have fo' := (qm_fo_to (act := false) (lim := lim) (lme := lme) (psy := psy) (pl := pl) (pr := pr) (ps := ps) (l := l) (r := x) (ru := y) (Ma := qm_Ma c sy lf rt ld psy pl pr ps l) (W := qm_v c sy lf rt ld psy pl pr) (s := (s0, 0)) a2 a3).trans fo
      have m32 := a1.1
      refine br_f (by decide) (nm_r (nI_1 cnt) (nm_r (nI_1 q) (ih (m' + 1) (q + 1) (cnt + 1) md' gl' rest' pv' (by omega) (by omega) (by omega) ?_ a5)))
      rw [qm_fo, fo', if_pos rfl, qm_f_cnt a1]
    · intro md' gl' rest' pv' none
      refine br_t rfl (K cnt md' gl' rest' pv' ?_)
      rw [qm_fo_to (M := M) (M' := N) hM (fun m' h1 _ => none m' h1)]
      exact fo
end
section
variable {f_patternLimit f_ruleLimit f_patternCount f_ruleCount f_settledClasses f_reachedClasses f_orderCount f_explainedCount : Int32} {a_patternIndex a_symbolWeight a_order a_bestTerm a_gotTerm a_explainedEvent : Nat → Int32} {a_best a_treeCost : Nat → Int64}
variable {lim lme n m c ce np nr first cnt : Nat} {sy lf rt ti el er eru ld mem usr syt sgt psy pl pr ps ptop btp rl rr lva rest pv st : Nat → Int32} {cc cf mp md lcI gl : Int32} {tp : Nat → Nat}
theorem qx_round {post : Int32 → SX → Prop} {N en : Nat} (hen : first + cnt = en) (hN : N = 32768) (hl : lim ≤ 32) (hn : n ≤ lim) (hle : lme ≤ 64) (hm : m ≤ lme) (xi : qx_xi n m c ce sy lf rt el er ld mem usr syt sgt cc) (hti : qx_ti n sy lf rt ti)
    (hp : qp_ok np psy pl pr ps) (htop : ∀ q, q < np → ptop q = nI (tp q)) (htp : qp_tops np pl pr tp) (hby : ∀ k q, k < 4 → q < 32 → (bt (btp k) q = true ↔ 3 ≤ q ∧ q < np ∧ tp q = k)) (hr : qr_ok np nr ps rl rr) (hcnt : first + cnt ≤ nr)
    (K : ∀ ld' mem' usr' syt' sgt' cc' cf' ok n' sy' lf' rt' m' el' er' eru' tot mp md lcI gl lva rest pv st ti', qc_il n m sy lf rt el er (fun _ => True) ld' → (cf' = 0 ∨ (cf' = cf ∧ ld' = ld ∧ c = n)) →
      qm_rd N lim lme psy pl pr ps rl rr (qm_Ma n sy lf rt ld' psy pl pr ps) (qm_v n sy lf rt ld' psy pl pr) first ((n, sy, lf, rt), (m, el, er, eru)) cnt = (ok, ((n', sy', lf', rt'), (m', el', er', eru')), tot) →
      qm_ok lim lme (n, sy, lf, rt) (m, el, er, eru) ((n', sy', lf', rt'), (m', el', er', eru')) → qx_ti n' sy' lf' rt' ti' → qx_xi n' m' n m sy' lf' rt' el' er' ld' mem' usr' syt' sgt' cc' →
      post (if ok = true then nI tot else -3) (nI lim, f_patternLimit, f_ruleLimit, nI lme, nI n', f_patternCount, f_ruleCount, nI m', nI n, nI m, cc', 0, mp, md, lcI, gl, cf', f_settledClasses, f_reachedClasses, f_orderCount, f_explainedCount, sy', lf', rt', ti', psy, pl, pr, ps, ptop, btp, a_patternIndex, rl, rr, el', er', eru', a_symbolWeight, ld', mem', usr', syt', sgt', lva, rest, pv, st, a_order, a_best, a_bestTerm, a_gotTerm, a_treeCost, a_explainedEvent)) :
    wpX_round post (nI lim, f_patternLimit, f_ruleLimit, nI lme, nI n, f_patternCount, f_ruleCount, nI m, nI c, nI ce, cc, 0, mp, md, lcI, gl, cf, f_settledClasses, f_reachedClasses, f_orderCount, f_explainedCount, sy, lf, rt, ti, psy, pl, pr, ps, ptop, btp, a_patternIndex, rl, rr, el, er, eru, a_symbolWeight, ld, mem, usr, syt, sgt, lva, rest, pv, st, a_order, a_best, a_bestTerm, a_gotTerm, a_treeCost, a_explainedEvent) (nI first) (nI en) := by
  subst hen
  unfold wpX_round
  refine qx_sync xi ?_
  intro ld' mem' usr' syt' sgt' cc' cf' xi' il cfc
  have ci := xi'.2.2.2.2.2.2.1
  have R : qx_rc n np sy lf rt ld' mem' usr' syt' sgt' psy pl pr ps ptop btp cc' tp := ⟨ci.1, ci.2.1, hp, htop, htp, hby⟩
  have ok0 : qm_ok lim lme (n, sy, lf, rt) (m, el, er, eru) ((n, sy, lf, rt), (m, el, er, eru)) := ⟨⟨hn, xi.2.2.2.2.1, qi_ti_un (by omega) hti⟩, qi_ge_rf _, hm, qi_ge_rf _, xi.2.2.2.2.2.1⟩
  refine ⟨cnt + 1, qx_r9 (s0 := ((n, sy, lf, rt), (m, el, er, eru))) (E0 := (m, el, er, eru)) hN hl hle R hr hcnt ?_ (cnt + 1) 0 n sy lf rt m el er eru 0 mp md lcI gl lva rest pv st ti (by omega) (by omega) rfl ok0 hti⟩
  intro ok n' sy' lf' rt' m' el' er' eru' tot mp md lcI gl lva rest pv st ti' rd ok' t'
  refine K ld' mem' usr' syt' sgt' cc' cf' ok n' sy' lf' rt' m' el' er' eru' tot mp md lcI gl lva rest pv st ti' il cfc rd ok' t' ?_
  have a1 : n ≤ n' := ok'.2.1.1
  have a2 : n' ≤ lim := ok'.1.1
  have a3 : m ≤ m' := ok'.2.2.2.1.1
  have a4 : m' ≤ lme := ok'.2.2.1
  exact qx_xi_ext xi' a1 (by omega) a3 (by omega) ok'.2.1.2 ok'.1.2.1 ok'.2.2.2.2 (fun e he => ⟨(ok'.2.2.2.1.2 e he).1, (ok'.2.2.2.1.2 e he).2.1⟩)
end
end
section
def qy_co (u : Bool) (c i : Nat) (x : Int32) : Prop := (u = true ∧ i < c ∧ x = nI i) ∨ (u = false ∧ i = 0 ∧ x = -1)
def qy_cur (u : Bool) (i : Nat) : Int32 := if u = true then nI i else nI i - 1
def qy_dim (u : Bool) (c : Nat) : Nat := if u = true then c else 1
theorem qy_cur_s (u : Bool) (i : Nat) : qy_cur u i + 1 = qy_cur u (i + 1) := by
  unfold qy_cur
  cases u
  · rw [if_neg Bool.false_ne_true, if_neg Bool.false_ne_true, nI_pred]
    show nI i - 1 + 1 = nI i
    rw [Int32.sub_add_cancel]
  · rw [if_pos rfl, if_pos rfl, nI_1]
theorem qy_cur_co {u : Bool} {c i : Nat} (h : i < qy_dim u c) : qy_co u c i (qy_cur u i) := by
  unfold qy_dim at h
  unfold qy_cur
  cases u
  · rw [if_neg Bool.false_ne_true] at h
    have : i = 0 := by omega
    subst this
    exact Or.inr ⟨rfl, rfl, by decide⟩
  · rw [if_pos rfl] at h
    exact Or.inl ⟨rfl, h, if_pos rfl⟩
theorem qy_cur_ge {u : Bool} {c i : Nat} (hc : c ≤ 32) (h : i < qy_dim u c) : ¬ qy_cur u (qy_dim u c) ≤ qy_cur u i := by
  unfold qy_dim at h ⊢
  unfold qy_cur
  cases u
  · rw [if_neg Bool.false_ne_true] at h
    have : i = 0 := by omega
    subst this
    rw [if_neg Bool.false_ne_true, if_neg Bool.false_ne_true, if_neg Bool.false_ne_true]
    decide
  · rw [if_pos rfl] at h
    rw [if_pos rfl, if_pos rfl, if_pos rfl]
    exact nI_ge h (by omega)
theorem qy_cur_le {u : Bool} {c : Nat} : qy_cur u (qy_dim u c) ≤ qy_cur u (qy_dim u c) := Int32.le_refl _
section
variable {c np : Nat} {sy lf rt la psy pl pr ps : Nat → Int32} {l : Nat}
theorem qm_noMa {m v : Nat} (hv : v < 3) (h1 : bt (ps l) v = true → c ≤ qm_cx v m) (h0 : bt (ps l) v = false → qm_cx v m ≠ 0) : ¬ qm_Ma c sy lf rt la psy pl pr ps l m := by
  intro h
  cases u : bt (ps l) v
  · exact h0 u (h.2.2.1 v hv u)
  · have := (h.2.1 v hv u).1
    have := h1 u
    omega
theorem qm_noMa' {m v : Nat} (hv : v < 3) (h : qy_dim (bt (ps l) v) c ≤ qm_cx v m) : ¬ qm_Ma c sy lf rt la psy pl pr ps l m := by
  unfold qy_dim at h
  refine qm_noMa hv (fun u => ?_) (fun u => ?_)
  · rw [if_pos u] at h; exact h
  · rw [u, if_neg Bool.false_ne_true] at h; omega
theorem qm_cx0 (m : Nat) : qm_cx 0 m = m / 1024 := rfl
theorem qm_cx1 (m : Nat) : qm_cx 1 m = m / 32 % 32 := rfl
theorem qm_cx2 (m : Nat) : qm_cx 2 m = m % 32 := rfl
theorem qm_cxm {i j k : Nat} (hi : i < 32) (hj : j < 32) (hk : k < 32) : qm_cx 0 ((i * 32 + j) * 32 + k) = i ∧ qm_cx 1 ((i * 32 + j) * 32 + k) = j ∧ qm_cx 2 ((i * 32 + j) * 32 + k) = k := by
  rw [qm_cx0, qm_cx1, qm_cx2]; omega
theorem qm_Ma_co {i j k : Nat} {x y z : Int32} (hc : c ≤ 32) (hp : qp_ok np psy pl pr ps) (ln : l < np) (hx : qy_co (bt (ps l) 0) c i x) (hy : qy_co (bt (ps l) 1) c j y) (hz : qy_co (bt (ps l) 2) c k z)
    (q : Nat) (qn : q < np) (hv : ∀ v, v < 3 → bt (ps q) v = true → bt (ps l) v = true) : qm_v c sy lf rt la psy pl pr (qm_A x y z) q = qm_v c sy lf rt la psy pl pr (qm_AA ((i * 32 + j) * 32 + k)) q := by
  have b : ∀ {u : Bool} {i : Nat} {x : Int32}, qy_co u c i x → i < 32 ∨ c = 0 := by
    rintro u i x (⟨_, h, _⟩ | ⟨_, h, _⟩)
    · left; omega
    · left; omega
  refine qm_v_A hp q qn fun v h3 u => ?_
  have uv := hv v h3 u
  have hi : i < 32 := by rcases hx with ⟨_, h, _⟩ | ⟨_, h, _⟩ <;> omega
  have hj : j < 32 := by rcases hy with ⟨_, h, _⟩ | ⟨_, h, _⟩ <;> omega
  have hk : k < 32 := by rcases hz with ⟨_, h, _⟩ | ⟨_, h, _⟩ <;> omega
  have cm := qm_cxm hi hj hk
  unfold qm_AA
  match v, h3 with
  | 0, _ =>
    rw [cm.1]
    rcases hx with ⟨_, _, e⟩ | ⟨e, _, _⟩
    · exact e
    · rw [e] at uv; exact absurd uv (by decide)
  | 1, _ =>
    rw [cm.2.1]
    rcases hy with ⟨_, _, e⟩ | ⟨e, _, _⟩
    · exact e
    · rw [e] at uv; exact absurd uv (by decide)
  | 2, _ =>
    rw [cm.2.2]
    rcases hz with ⟨_, _, e⟩ | ⟨e, _, _⟩
    · exact e
    · rw [e] at uv; exact absurd uv (by decide)
theorem qm_Ma_iff {i j k : Nat} {x y z : Int32} (hc : c ≤ 32) (hp : qp_ok np psy pl pr ps) (ln : l < np) (hx : qy_co (bt (ps l) 0) c i x) (hy : qy_co (bt (ps l) 1) c j y) (hz : qy_co (bt (ps l) 2) c k z) :
    qm_Ma c sy lf rt la psy pl pr ps l ((i * 32 + j) * 32 + k) ↔ (qc_lb la x = x ∧ qc_lb la y = y ∧ qc_lb la z = z ∧ ¬ qm_v c sy lf rt la psy pl pr (qm_A x y z) l = -1) := by
  have hi : i < 32 := by rcases hx with ⟨_, h, _⟩ | ⟨_, h, _⟩ <;> omega
  have hj : j < 32 := by rcases hy with ⟨_, h, _⟩ | ⟨_, h, _⟩ <;> omega
  have hk : k < 32 := by rcases hz with ⟨_, h, _⟩ | ⟨_, h, _⟩ <;> omega
  have cm := qm_cxm hi hj hk
  rw [qm_Ma_co hc hp ln hx hy hz l ln (fun _ _ h => h)]
  have one : ∀ {u : Bool} {i : Nat} {x : Int32}, qy_co u c i x → (qc_lb la x = x ↔ (u = true → i < c ∧ la i = nI i)) ∧ (u = false → i = 0) := by
    rintro u i x (⟨rfl, h, rfl⟩ | ⟨rfl, rfl, rfl⟩)
    · rw [qc_lbN _ (by omega)]
      exact ⟨⟨fun e _ => ⟨h, e⟩, fun e => (e rfl).2⟩, fun z => absurd z (by decide)⟩
    · rw [qc_lb1]
      exact ⟨⟨fun _ z => absurd z (by decide), fun _ => rfl⟩, fun _ => rfl⟩
  have ox := one hx
  have oy := one hy
  have oz := one hz
  rw [ox.1, oy.1, oz.1]
  constructor
  · rintro ⟨_, h1, _, h3⟩
    refine ⟨fun u => ?_, fun u => ?_, fun u => ?_, h3⟩
    · have := h1 0 (by omega) u; rwa [cm.1] at this
    · have := h1 1 (by omega) u; rwa [cm.2.1] at this
    · have := h1 2 (by omega) u; rwa [cm.2.2] at this
  · rintro ⟨h0, h1, h2, h3⟩
    refine ⟨by omega, fun v hv u => ?_, fun v hv u => ?_, h3⟩
    · match v, hv with
      | 0, _ => rw [cm.1]; exact h0 u
      | 1, _ => rw [cm.2.1]; exact h1 u
      | 2, _ => rw [cm.2.2]; exact h2 u
    · match v, hv with
      | 0, _ => rw [cm.1]; exact ox.2 u
      | 1, _ => rw [cm.2.1]; exact oy.2 u
      | 2, _ => rw [cm.2.2]; exact oz.2 u
theorem qy_co32 {u : Bool} {i : Nat} {x : Int32} (hc : c ≤ 32) (h : qy_co u c i x) : x = -1 ∨ ∃ j, j < 32 ∧ x = nI j := by
  rcases h with ⟨_, h, e⟩ | ⟨_, _, e⟩
  · exact Or.inr ⟨i, by omega, e⟩
  · exact Or.inl e
end
def qy_act (act : Bool) : Int32 := if act = true then 1 else 0
section
variable {g_maxPats g_maxRules g_nPats g_nRules g_nKept : Int32} {b_kept b_w b_in b_needed b_pick b_got : Nat → Int32} {b_cost b_best : Nat → Int64}
variable {lim lme c np ru l r : Nat} {sy0 lf0 rt0 la psy pl pr ps rl rr : Nat → Int32} {E0 : QG} {act : Bool}
theorem qy_s142 {post : Int32 → SY → Prop} {J120 J131 : Int32 → Int32 → Int32 → Int32 → Int32 → Int32 → Int32 → Int32 → Int32 → Int32 → Int32 → Int32 → (Nat → Int32) → (Nat → Int32) → (Nat → Int32) → (Nat → Int32) → (Nat → Int32) → (Nat → Int32) → (Nat → Int32) → (Nat → Int32) → (Nat → Int32) → (Nat → Int32) → (Nat → Int32) → (Nat → Int32) → (Nat → Int32) → (Nat → Int32) → (Nat → Int32) → (Nat → Int32) → (Nat → Int32) → (Nat → Int32) → (Nat → Int64) → (Nat → Int64) → (Nat → Int32) → (Nat → Int32) → (Nat → Int32) → Prop} {x4 x5 x6 x7 x8 x y z : Int32} {i j k fuel cnt n m : Nat} {sy lf rt el er eru sb va st : Nat → Int32}
    (hl : lim ≤ 32) (hle : lme ≤ 64) (hc : c ≤ 32) (g : ∀ t, t < c → qa_tok sy0 lf0 rt0 t) (nm : qc_nm c la) (hp : qp_ok np psy pl pr ps) (hru : ru < 6) (erl : rl ru = nI l) (err : rr ru = nI r) (l3 : 3 ≤ l) (ln : l < np) (rn : r < np) (hv : ∀ v, v < 3 → bt (ps r) v = true → bt (ps l) v = true)
    (hx : qy_co (bt (ps l) 0) c i x) (hy : qy_co (bt (ps l) 1) c j y) (hz : qy_co (bt (ps l) 2) c k z) (hx8 : ¬ x8 ≤ z)
    (ok : qm_ok lim lme (c, sy0, lf0, rt0) E0 ((n, sy, lf, rt), (m, el, er, eru)))
    (KJ : ∀ n' sy' lf' rt' m' el' er' eru' cnt' sb va st, qm_f act lim lme psy pl pr ps l r (nI ru) (qm_Ma c sy0 lf0 rt0 la psy pl pr ps l) (qm_v c sy0 lf0 rt0 la psy pl pr) ((i * 32 + j) * 32 + k) (((n, sy, lf, rt), (m, el, er, eru)), cnt) = (true, ((n', sy', lf', rt'), (m', el', er', eru')), cnt') →
      qm_ok lim lme (c, sy0, lf0, rt0) E0 ((n', sy', lf', rt'), (m', el', er', eru')) → wY_scan_142 post J120 J131 (nI ru) (qy_act act) x4 x5 x6 x7 x8 x y fuel (nI cnt') (z + 1) (nI lim) g_maxPats g_maxRules (nI lme) (nI n') g_nPats g_nRules (nI m') g_nKept (nI c) sy' lf' rt' psy pl pr rl rr el' er' eru' b_kept b_w b_in la sb va st b_cost b_best b_needed b_pick b_got)
    (KF : ∀ n' sy' lf' rt' m' el' er' eru' cnt' sb va st, qm_f act lim lme psy pl pr ps l r (nI ru) (qm_Ma c sy0 lf0 rt0 la psy pl pr ps l) (qm_v c sy0 lf0 rt0 la psy pl pr) ((i * 32 + j) * 32 + k) (((n, sy, lf, rt), (m, el, er, eru)), cnt) = (false, ((n', sy', lf', rt'), (m', el', er', eru')), cnt') →
      qm_ok lim lme (c, sy0, lf0, rt0) E0 ((n', sy', lf', rt'), (m', el', er', eru')) → post (-3) (nI lim, g_maxPats, g_maxRules, nI lme, nI n', g_nPats, g_nRules, nI m', g_nKept, nI c, sy', lf', rt', psy, pl, pr, rl, rr, el', er', eru', b_kept, b_w, b_in, la, sb, va, st, b_cost, b_best, b_needed, b_pick, b_got)) :
    wY_scan_142 post J120 J131 (nI ru) (qy_act act) x4 x5 x6 x7 x8 x y (fuel + 1) (nI cnt) z (nI lim) g_maxPats g_maxRules (nI lme) (nI n) g_nPats g_nRules (nI m) g_nKept (nI c) sy lf rt psy pl pr rl rr el er eru b_kept b_w b_in la sb va st b_cost b_best b_needed b_pick b_got := by
  have h32 := hp.2.1
  have ag : ∀ t, t < c → sy t = sy0 t ∧ lf t = lf0 t ∧ rt t = rt0 t := ok.2.1.2
  have cn : c ≤ n := ok.2.1.1
  have gk := ok.1
  have hW := qm_v_ext (psy := psy) (pl := pl) (pr := pr) (ld' := la) hc g ag (fun _ _ => rfl)
  have iff := qm_Ma_iff (sy := sy0) (lf := lf0) (rt := rt0) (la := la) hc hp ln hx hy hz
  have er' := qm_Ma_co (sy := sy0) (lf := lf0) (rt := rt0) (la := la) hc hp ln hx hy hz r rn hv
  have el' := qm_Ma_co (sy := sy0) (lf := lf0) (rt := rt0) (la := la) hc hp ln hx hy hz l ln (fun _ _ h => h)
  have ir : vp_in (nI ru) 6 := vp_in_nI hru (by omega)
  have cr : (nI ru).toNatClampNeg = ru := nI_clamp (by omega)
  have gt : ∀ t, t < c → qa_tok sy lf rt t := fun t ht => gk.2.1 t (by show t < n; omega)
  have no : ∀ sb va st, ¬ qm_Ma c sy0 lf0 rt0 la psy pl pr ps l ((i * 32 + j) * 32 + k) → wY_scan_142 post J120 J131 (nI ru) (qy_act act) x4 x5 x6 x7 x8 x y fuel (nI cnt) (z + 1) (nI lim) g_maxPats g_maxRules (nI lme) (nI n) g_nPats g_nRules (nI m) g_nKept (nI c) sy lf rt psy pl pr rl rr el er eru b_kept b_w b_in la sb va st b_cost b_best b_needed b_pick b_got :=
    fun sb va st h => KJ n sy lf rt m el er eru cnt sb va st (qm_f_no h) ok
  rw [wY_scan_142]
  refine br_f hx8 (qy_lab (qy_co32 hc hx) (br_c (fun e1 => qy_lab (qy_co32 hc hy) (br_c (fun e2 => qy_lab (qy_co32 hc hz) (br_c (fun e3 => ⟨ir, ?_⟩) (fun e3 => nm_e (no sb va st (fun h => e3 (iff.mp h).2.2.1))))) (fun e2 => nm_e (no sb va st (fun h => e2 (iff.mp h).2.1))))) (fun e1 => nm_e (no sb va st (fun h => e1 (iff.mp h).1)))))
  rw [cr, erl]
  refine qy_valueOf hp hc gt nm ln ?_
  intro sb1 va1
  rw [hW]
  by_cases val : qm_v c sy0 lf0 rt0 la psy pl pr (qm_A x y z) l = -1
  · rw [val]
    refine br_t rfl ?_
    unfold wY_scan_213
    exact br_t rfl (nm_e (no sb1 va1 st (fun h => (iff.mp h).2.2.2 val)))
  · have ma := iff.mpr ⟨e1, e2, e3, val⟩
    refine br_f val ?_
    cases act
    · refine br_t rfl (nm_r (nI_1 cnt) ?_)
      unfold wY_scan_213
      exact br_f val (br_t rfl (nm_e (KJ n sy lf rt m el er eru (cnt + 1) sb1 va1 st (qm_f_cnt ma) ok)))
    · refine br_f (by decide) ?_
      unfold wY_scan_213
      refine br_f val (br_f (by decide) ⟨ir, ?_⟩)
      rw [cr, err]
      refine qy_valueOf hp hc gt nm rn ?_
      intro sb2 va2
      rw [hW, er', el']
      refine br_c (fun same => nm_e (KJ n sy lf rt m el er eru cnt sb2 va2 st (qm_f_same ma same) ok)) (fun new => ?_)
      have cpA : ∀ v, v < 3 → bt (ps l) v = true → qm_A x y z v = qm_AA ((i * 32 + j) * 32 + k) v := by
        intro v h3 u
        have := qm_Ma_co (sy := sy0) (lf := lf0) (rt := rt0) (la := la) hc hp ln hx hy hz v (by have := hp.1; omega) (fun w hw bw => by
          have := qp_le hp v (by have := hp.1; omega) w bw
          rcases (qp_rec hp (show v < np by have := hp.1; omega)).mp bw with z | ⟨y', cy, _⟩
          · subst z; exact u
          · have := (qp_cd_lt hp (show v < np by have := hp.1; omega) cy).2; omega)
        rwa [qm_v3 h3, qm_v3 h3] at this
      have cp : qi_cp np n ps l r (qm_AA ((i * 32 + j) * 32 + k)) := ⟨l3, ln, rn, hv, fun v hv u => ⟨qm_cx v ((i * 32 + j) * 32 + k), by have := (ma.2.1 v hv u).1; omega, rfl⟩⟩
      have cp' : qi_cp np n ps l r (qm_A x y z) := ⟨l3, ln, rn, hv, fun v hv u => by rw [cpA v hv u]; exact cp.2.2.2.2 v hv u⟩
      have ce0 := qi_co_st (lim := lim) (lme := lme) (ru := nI ru) (s := ((n, sy, lf, rt), (m, el, er, eru))) hp l3 ln rn hv cpA
      have ok2 := qi_co_ok (ru := nI ru) hl hp ok cp
      refine qy_carry hru erl err hl hle hp gk cp' ?_ ok.2.2.1
      intro okb n2 sy2 lf2 rt2 m2 el2 er2 eru2 sb3 st3 ce
      rw [ce0] at ce
      rw [ce] at ok2
      dsimp only at ok2
      cases okb
      · rw [if_neg Bool.false_ne_true]
        exact br_t rfl (KF n2 sy2 lf2 rt2 m2 el2 er2 eru2 cnt sb3 va2 st3 (qm_f_b ma new ce) ok2)
      · rw [if_pos rfl]
        exact br_f (by decide) (nm_r (nI_1 cnt) (nm_e (KJ n2 sy2 lf2 rt2 m2 el2 er2 eru2 (cnt + 1) sb3 va2 st3 (qm_f_t ma new ce) ok2)))
end
end
section
theorem qm_fo_cnt {act : Bool} {lim lme : Nat} {psy pl pr ps : Nat → Int32} {l r : Nat} {ru : Int32} {Ma : Nat → Prop} {W : (Nat → Int32) → Nat → Int32} {s : QG × QG} : ∀ M, (qm_fo (qm_f act lim lme psy pl pr ps l r ru Ma W) (s, 0) M).2.2 ≤ M
  | 0 => Nat.le_refl _
  | M + 1 => by
    have ih := qm_fo_cnt (act := act) (lim := lim) (lme := lme) (psy := psy) (pl := pl) (pr := pr) (ps := ps) (l := l) (r := r) (ru := ru) (Ma := Ma) (W := W) (s := s) M
    rw [qm_fo]
    generalize qm_fo (qm_f act lim lme psy pl pr ps l r ru Ma W) (s, 0) M = o at ih
    by_cases z : o.1 = true
    · rw [if_pos z]
      by_cases h : Ma M
      · cases act
        · rw [qm_f_cnt h]; show o.2.2 + 1 ≤ M + 1; omega
        · by_cases e : W (qm_AA M) r = W (qm_AA M) l
          · rw [qm_f_same h e]; show o.2.2 ≤ M + 1; omega
          · generalize hc : qi_co lim lme psy pl pr ps l r ru (qm_AA M) o.2.1 = w
            obtain ⟨b, w⟩ := w
            cases b
            · rw [qm_f_b h e hc]; show o.2.2 ≤ M + 1; omega
            · rw [qm_f_t h e hc]; show o.2.2 + 1 ≤ M + 1; omega
      · rw [qm_f_no h]; show o.2.2 ≤ M + 1; omega
    · rw [if_neg z]; omega
theorem qy_dim_le {u : Bool} {c : Nat} (hc : c ≤ 32) : qy_dim u c ≤ 32 := by
  unfold qy_dim
  cases u
  · rw [if_neg Bool.false_ne_true]; omega
  · rw [if_pos rfl]; exact hc
section
variable {g_maxPats g_maxRules g_nPats g_nRules g_nKept : Int32} {b_kept b_w b_in b_needed b_pick b_got : Nat → Int32} {b_cost b_best : Nat → Int64}
variable {N lim lme c np ru l r : Nat} {sy0 lf0 rt0 la psy pl pr ps rl rr : Nat → Int32} {E0 : QG} {act : Bool} {s0 : QG × QG}
theorem qy_l142 {post : Int32 → SY → Prop} {J120 J131 : Int32 → Int32 → Int32 → Int32 → Int32 → Int32 → Int32 → Int32 → Int32 → Int32 → Int32 → Int32 → (Nat → Int32) → (Nat → Int32) → (Nat → Int32) → (Nat → Int32) → (Nat → Int32) → (Nat → Int32) → (Nat → Int32) → (Nat → Int32) → (Nat → Int32) → (Nat → Int32) → (Nat → Int32) → (Nat → Int32) → (Nat → Int32) → (Nat → Int32) → (Nat → Int32) → (Nat → Int32) → (Nat → Int32) → (Nat → Int32) → (Nat → Int64) → (Nat → Int64) → (Nat → Int32) → (Nat → Int32) → (Nat → Int32) → Prop} {i j : Nat} (hN : N = 32768) (hl : lim ≤ 32) (hle : lme ≤ 64) (hc : c ≤ 32) (g : ∀ t, t < c → qa_tok sy0 lf0 rt0 t) (nm : qc_nm c la) (hp : qp_ok np psy pl pr ps) (hru : ru < 6) (erl : rl ru = nI l) (err : rr ru = nI r) (l3 : 3 ≤ l) (ln : l < np) (rn : r < np) (hv : ∀ v, v < 3 → bt (ps r) v = true → bt (ps l) v = true)
    (hi : i < qy_dim (bt (ps l) 0) c) (hj : j < qy_dim (bt (ps l) 1) c)
    (KJ : ∀ n sy lf rt m el er eru cnt sb va st, qm_fo (qm_f act lim lme psy pl pr ps l r (nI ru) (qm_Ma c sy0 lf0 rt0 la psy pl pr ps l) (qm_v c sy0 lf0 rt0 la psy pl pr)) (s0, 0) (i * 1024 + (j + 1) * 32) = (true, ((n, sy, lf, rt), (m, el, er, eru)), cnt) → qm_ok lim lme (c, sy0, lf0, rt0) E0 ((n, sy, lf, rt), (m, el, er, eru)) → J131 (nI cnt) (qy_cur (bt (ps l) 1) (j + 1)) (nI lim) g_maxPats g_maxRules (nI lme) (nI n) g_nPats g_nRules (nI m) g_nKept (nI c) sy lf rt psy pl pr rl rr el er eru b_kept b_w b_in la sb va st b_cost b_best b_needed b_pick b_got)
    (KF : ∀ n sy lf rt m el er eru cnt sb va st, qm_fo (qm_f act lim lme psy pl pr ps l r (nI ru) (qm_Ma c sy0 lf0 rt0 la psy pl pr ps l) (qm_v c sy0 lf0 rt0 la psy pl pr)) (s0, 0) N = (false, ((n, sy, lf, rt), (m, el, er, eru)), cnt) → qm_ok lim lme (c, sy0, lf0, rt0) E0 ((n, sy, lf, rt), (m, el, er, eru)) → post (-3) (nI lim, g_maxPats, g_maxRules, nI lme, nI n, g_nPats, g_nRules, nI m, g_nKept, nI c, sy, lf, rt, psy, pl, pr, rl, rr, el, er, eru, b_kept, b_w, b_in, la, sb, va, st, b_cost, b_best, b_needed, b_pick, b_got)) :
    ∀ fuel k n sy lf rt m el er eru cnt sb va st, k ≤ qy_dim (bt (ps l) 2) c → qy_dim (bt (ps l) 2) c - k < fuel → qm_fo (qm_f act lim lme psy pl pr ps l r (nI ru) (qm_Ma c sy0 lf0 rt0 la psy pl pr ps l) (qm_v c sy0 lf0 rt0 la psy pl pr)) (s0, 0) (i * 1024 + j * 32 + k) = (true, ((n, sy, lf, rt), (m, el, er, eru)), cnt) → qm_ok lim lme (c, sy0, lf0, rt0) E0 ((n, sy, lf, rt), (m, el, er, eru)) →
      wY_scan_142 post J120 J131 (nI ru) (qy_act act) (qy_cur (bt (ps l) 0) (qy_dim (bt (ps l) 0) c)) (qy_cur (bt (ps l) 1) 0) (qy_cur (bt (ps l) 1) (qy_dim (bt (ps l) 1) c)) (qy_cur (bt (ps l) 2) 0) (qy_cur (bt (ps l) 2) (qy_dim (bt (ps l) 2) c)) (qy_cur (bt (ps l) 0) i) (qy_cur (bt (ps l) 1) j) fuel (nI cnt) (qy_cur (bt (ps l) 2) k) (nI lim) g_maxPats g_maxRules (nI lme) (nI n) g_nPats g_nRules (nI m) g_nKept (nI c) sy lf rt psy pl pr rl rr el er eru b_kept b_w b_in la sb va st b_cost b_best b_needed b_pick b_got := by
  have d0 := qy_dim_le (u := bt (ps l) 0) hc
  have d1 := qy_dim_le (u := bt (ps l) 1) hc
  have d2 := qy_dim_le (u := bt (ps l) 2) hc
  intro fuel
  induction fuel with
  | zero => intro k n sy lf rt m el er eru cnt sb va st _ h; omega
  | succ fuel ih =>
    intro k n sy lf rt m el er eru cnt sb va st hk hf fo ok
    by_cases z : k = qy_dim (bt (ps l) 2) c
    · rw [wY_scan_142]
      rw [z]
      refine br_t qy_cur_le (nm_r (qy_cur_s _ _) (KJ n sy lf rt m el er eru cnt sb va st ?_ ok))
      rw [qm_fo_to (M := i * 1024 + j * 32 + k) (by omega) (fun m' h1 h2 => qm_noMa' (v := 2) (by omega) (by rw [qm_cx2]; omega))]
      exact fo
    · have e : (i * 32 + j) * 32 + k = i * 1024 + j * 32 + k := by omega
      refine qy_s142 hl hle hc g nm hp hru erl err l3 ln rn hv (qy_cur_co hi) (qy_cur_co hj) (qy_cur_co (i := k) (by omega)) (qy_cur_ge hc (by omega)) ok ?_ ?_
      · intro n' sy' lf' rt' m' el' er' eru' cnt' sb va st f ok'
        rw [qy_cur_s]
        refine ih (k + 1) n' sy' lf' rt' m' el' er' eru' cnt' sb va st (by omega) (by omega) ?_ ok'
        rw [e] at f
        show qm_fo (qm_f act lim lme psy pl pr ps l r (nI ru) (qm_Ma c sy0 lf0 rt0 la psy pl pr ps l) (qm_v c sy0 lf0 rt0 la psy pl pr)) (s0, 0) (i * 1024 + j * 32 + k + 1) = _
        rw [qm_fo, fo, if_pos rfl]; exact f
      · intro n' sy' lf' rt' m' el' er' eru' cnt' sb va st f ok'
        refine KF n' sy' lf' rt' m' el' er' eru' cnt' sb va st ?_ ok'
        rw [e] at f
        have stp : qm_fo (qm_f act lim lme psy pl pr ps l r (nI ru) (qm_Ma c sy0 lf0 rt0 la psy pl pr ps l) (qm_v c sy0 lf0 rt0 la psy pl pr)) (s0, 0) (i * 1024 + j * 32 + k + 1) = (false, ((n', sy', lf', rt'), (m', el', er', eru')), cnt') := by rw [qm_fo, fo, if_pos rfl]; exact f
        rw [qm_fo_bad' (M := i * 1024 + j * 32 + k + 1) (by omega) (by rw [stp])]
        exact stp
theorem qy_l131 {post : Int32 → SY → Prop} {J120 : Int32 → Int32 → Int32 → Int32 → Int32 → Int32 → Int32 → Int32 → Int32 → Int32 → Int32 → Int32 → (Nat → Int32) → (Nat → Int32) → (Nat → Int32) → (Nat → Int32) → (Nat → Int32) → (Nat → Int32) → (Nat → Int32) → (Nat → Int32) → (Nat → Int32) → (Nat → Int32) → (Nat → Int32) → (Nat → Int32) → (Nat → Int32) → (Nat → Int32) → (Nat → Int32) → (Nat → Int32) → (Nat → Int32) → (Nat → Int32) → (Nat → Int64) → (Nat → Int64) → (Nat → Int32) → (Nat → Int32) → (Nat → Int32) → Prop} {i : Nat} (hN : N = 32768) (hl : lim ≤ 32) (hle : lme ≤ 64) (hc : c ≤ 32) (g : ∀ t, t < c → qa_tok sy0 lf0 rt0 t) (nm : qc_nm c la) (hp : qp_ok np psy pl pr ps) (hru : ru < 6) (erl : rl ru = nI l) (err : rr ru = nI r) (l3 : 3 ≤ l) (ln : l < np) (rn : r < np) (hv : ∀ v, v < 3 → bt (ps r) v = true → bt (ps l) v = true)
    (hi : i < qy_dim (bt (ps l) 0) c)
    (KJ : ∀ n sy lf rt m el er eru cnt sb va st, qm_fo (qm_f act lim lme psy pl pr ps l r (nI ru) (qm_Ma c sy0 lf0 rt0 la psy pl pr ps l) (qm_v c sy0 lf0 rt0 la psy pl pr)) (s0, 0) ((i + 1) * 1024) = (true, ((n, sy, lf, rt), (m, el, er, eru)), cnt) → qm_ok lim lme (c, sy0, lf0, rt0) E0 ((n, sy, lf, rt), (m, el, er, eru)) → J120 (nI cnt) (qy_cur (bt (ps l) 0) (i + 1)) (nI lim) g_maxPats g_maxRules (nI lme) (nI n) g_nPats g_nRules (nI m) g_nKept (nI c) sy lf rt psy pl pr rl rr el er eru b_kept b_w b_in la sb va st b_cost b_best b_needed b_pick b_got)
    (KF : ∀ n sy lf rt m el er eru cnt sb va st, qm_fo (qm_f act lim lme psy pl pr ps l r (nI ru) (qm_Ma c sy0 lf0 rt0 la psy pl pr ps l) (qm_v c sy0 lf0 rt0 la psy pl pr)) (s0, 0) N = (false, ((n, sy, lf, rt), (m, el, er, eru)), cnt) → qm_ok lim lme (c, sy0, lf0, rt0) E0 ((n, sy, lf, rt), (m, el, er, eru)) → post (-3) (nI lim, g_maxPats, g_maxRules, nI lme, nI n, g_nPats, g_nRules, nI m, g_nKept, nI c, sy, lf, rt, psy, pl, pr, rl, rr, el, er, eru, b_kept, b_w, b_in, la, sb, va, st, b_cost, b_best, b_needed, b_pick, b_got)) :
    ∀ fuel j n sy lf rt m el er eru cnt sb va st, j ≤ qy_dim (bt (ps l) 1) c → qy_dim (bt (ps l) 1) c - j < fuel → qm_fo (qm_f act lim lme psy pl pr ps l r (nI ru) (qm_Ma c sy0 lf0 rt0 la psy pl pr ps l) (qm_v c sy0 lf0 rt0 la psy pl pr)) (s0, 0) (i * 1024 + j * 32) = (true, ((n, sy, lf, rt), (m, el, er, eru)), cnt) → qm_ok lim lme (c, sy0, lf0, rt0) E0 ((n, sy, lf, rt), (m, el, er, eru)) →
      wY_scan_131 post J120 (nI ru) (qy_act act) (qy_cur (bt (ps l) 0) (qy_dim (bt (ps l) 0) c)) (qy_cur (bt (ps l) 1) 0) (qy_cur (bt (ps l) 1) (qy_dim (bt (ps l) 1) c)) (qy_cur (bt (ps l) 2) 0) (qy_cur (bt (ps l) 2) (qy_dim (bt (ps l) 2) c)) (qy_cur (bt (ps l) 0) i) fuel (nI cnt) (qy_cur (bt (ps l) 1) j) (nI lim) g_maxPats g_maxRules (nI lme) (nI n) g_nPats g_nRules (nI m) g_nKept (nI c) sy lf rt psy pl pr rl rr el er eru b_kept b_w b_in la sb va st b_cost b_best b_needed b_pick b_got := by
  have d0 := qy_dim_le (u := bt (ps l) 0) hc
  have d1 := qy_dim_le (u := bt (ps l) 1) hc
  intro fuel
  induction fuel with
  | zero => intro j n sy lf rt m el er eru cnt sb va st _ h; omega
  | succ fuel ih =>
    intro j n sy lf rt m el er eru cnt sb va st hj hf fo ok
    rw [wY_scan_131]
    by_cases z : j = qy_dim (bt (ps l) 1) c
    · rw [z]
      refine br_t qy_cur_le (nm_r (qy_cur_s _ _) (KJ n sy lf rt m el er eru cnt sb va st ?_ ok))
      rw [qm_fo_to (M := i * 1024 + j * 32) (by omega) (fun m' h1 h2 => qm_noMa' (v := 1) (by omega) (by rw [qm_cx1]; omega))]
      exact fo
    · refine br_f (qy_cur_ge hc (by omega)) ⟨qy_dim (bt (ps l) 2) c + 1, qy_l142 hN hl hle hc g nm hp hru erl err l3 ln rn hv hi (by omega) ?_ KF (qy_dim (bt (ps l) 2) c + 1) 0 n sy lf rt m el er eru cnt sb va st (by omega) (by omega) fo ok⟩
      intro n' sy' lf' rt' m' el' er' eru' cnt' sb va st f ok'
      exact ih (j + 1) n' sy' lf' rt' m' el' er' eru' cnt' sb va st (by omega) (by omega) f ok'
theorem qy_l120 {post : Int32 → SY → Prop} (hN : N = 32768) (hl : lim ≤ 32) (hle : lme ≤ 64) (hc : c ≤ 32) (g : ∀ t, t < c → qa_tok sy0 lf0 rt0 t) (nm : qc_nm c la) (hp : qp_ok np psy pl pr ps) (hru : ru < 6) (erl : rl ru = nI l) (err : rr ru = nI r) (l3 : 3 ≤ l) (ln : l < np) (rn : r < np) (hv : ∀ v, v < 3 → bt (ps r) v = true → bt (ps l) v = true)
    (KJ : ∀ n sy lf rt m el er eru cnt sb va st, qm_fo (qm_f act lim lme psy pl pr ps l r (nI ru) (qm_Ma c sy0 lf0 rt0 la psy pl pr ps l) (qm_v c sy0 lf0 rt0 la psy pl pr)) (s0, 0) N = (true, ((n, sy, lf, rt), (m, el, er, eru)), cnt) → qm_ok lim lme (c, sy0, lf0, rt0) E0 ((n, sy, lf, rt), (m, el, er, eru)) → post (nI cnt) (nI lim, g_maxPats, g_maxRules, nI lme, nI n, g_nPats, g_nRules, nI m, g_nKept, nI c, sy, lf, rt, psy, pl, pr, rl, rr, el, er, eru, b_kept, b_w, b_in, la, sb, va, st, b_cost, b_best, b_needed, b_pick, b_got))
    (KF : ∀ n sy lf rt m el er eru cnt sb va st, qm_fo (qm_f act lim lme psy pl pr ps l r (nI ru) (qm_Ma c sy0 lf0 rt0 la psy pl pr ps l) (qm_v c sy0 lf0 rt0 la psy pl pr)) (s0, 0) N = (false, ((n, sy, lf, rt), (m, el, er, eru)), cnt) → qm_ok lim lme (c, sy0, lf0, rt0) E0 ((n, sy, lf, rt), (m, el, er, eru)) → post (-3) (nI lim, g_maxPats, g_maxRules, nI lme, nI n, g_nPats, g_nRules, nI m, g_nKept, nI c, sy, lf, rt, psy, pl, pr, rl, rr, el, er, eru, b_kept, b_w, b_in, la, sb, va, st, b_cost, b_best, b_needed, b_pick, b_got)) :
    ∀ fuel i n sy lf rt m el er eru cnt sb va st, i ≤ qy_dim (bt (ps l) 0) c → qy_dim (bt (ps l) 0) c - i < fuel → qm_fo (qm_f act lim lme psy pl pr ps l r (nI ru) (qm_Ma c sy0 lf0 rt0 la psy pl pr ps l) (qm_v c sy0 lf0 rt0 la psy pl pr)) (s0, 0) (i * 1024) = (true, ((n, sy, lf, rt), (m, el, er, eru)), cnt) → qm_ok lim lme (c, sy0, lf0, rt0) E0 ((n, sy, lf, rt), (m, el, er, eru)) →
      wY_scan_120 post (nI ru) (qy_act act) (qy_cur (bt (ps l) 0) (qy_dim (bt (ps l) 0) c)) (qy_cur (bt (ps l) 1) 0) (qy_cur (bt (ps l) 1) (qy_dim (bt (ps l) 1) c)) (qy_cur (bt (ps l) 2) 0) (qy_cur (bt (ps l) 2) (qy_dim (bt (ps l) 2) c)) fuel (nI cnt) (qy_cur (bt (ps l) 0) i) (nI lim) g_maxPats g_maxRules (nI lme) (nI n) g_nPats g_nRules (nI m) g_nKept (nI c) sy lf rt psy pl pr rl rr el er eru b_kept b_w b_in la sb va st b_cost b_best b_needed b_pick b_got := by
  have d0 := qy_dim_le (u := bt (ps l) 0) hc
  intro fuel
  induction fuel with
  | zero => intro i n sy lf rt m el er eru cnt sb va st _ h; omega
  | succ fuel ih =>
    intro i n sy lf rt m el er eru cnt sb va st hi hf fo ok
    rw [wY_scan_120]
    by_cases z : i = qy_dim (bt (ps l) 0) c
    · rw [z]
      refine br_t qy_cur_le (KJ n sy lf rt m el er eru cnt sb va st ?_ ok)
      rw [qm_fo_to (M := i * 1024) (by omega) (fun m' h1 h2 => qm_noMa' (v := 0) (by omega) (by rw [qm_cx0]; omega))]
      exact fo
    · refine br_f (qy_cur_ge hc (by omega)) ⟨qy_dim (bt (ps l) 1) c + 1, qy_l131 hN hl hle hc g nm hp hru erl err l3 ln rn hv (i := i) (by omega) ?_ KF (qy_dim (bt (ps l) 1) c + 1) 0 n sy lf rt m el er eru cnt sb va st (by omega) (by omega) fo ok⟩
      intro n' sy' lf' rt' m' el' er' eru' cnt' sb va st f ok'
      exact ih (i + 1) n' sy' lf' rt' m' el' er' eru' cnt' sb va st (by omega) (by omega) f ok'
theorem qy_scan {post : Int32 → SY → Prop} {n m : Nat} {sy lf rt el er eru sb va st : Nat → Int32} (hN : N = 32768) (hl : lim ≤ 32) (hle : lme ≤ 64) (hc : c ≤ 32) (g : ∀ t, t < c → qa_tok sy0 lf0 rt0 t) (nm : qc_nm c la) (hp : qp_ok np psy pl pr ps) (hru : ru < 6) (erl : rl ru = nI l) (err : rr ru = nI r) (l3 : 3 ≤ l) (ln : l < np) (rn : r < np) (hv : ∀ v, v < 3 → bt (ps r) v = true → bt (ps l) v = true)
    (ok : qm_ok lim lme (c, sy0, lf0, rt0) E0 ((n, sy, lf, rt), (m, el, er, eru))) (es : s0 = ((n, sy, lf, rt), (m, el, er, eru)))
    (KJ : ∀ n sy lf rt m el er eru cnt sb va st, qm_fo (qm_f act lim lme psy pl pr ps l r (nI ru) (qm_Ma c sy0 lf0 rt0 la psy pl pr ps l) (qm_v c sy0 lf0 rt0 la psy pl pr)) (s0, 0) N = (true, ((n, sy, lf, rt), (m, el, er, eru)), cnt) → qm_ok lim lme (c, sy0, lf0, rt0) E0 ((n, sy, lf, rt), (m, el, er, eru)) → post (nI cnt) (nI lim, g_maxPats, g_maxRules, nI lme, nI n, g_nPats, g_nRules, nI m, g_nKept, nI c, sy, lf, rt, psy, pl, pr, rl, rr, el, er, eru, b_kept, b_w, b_in, la, sb, va, st, b_cost, b_best, b_needed, b_pick, b_got))
    (KF : ∀ n sy lf rt m el er eru cnt sb va st, qm_fo (qm_f act lim lme psy pl pr ps l r (nI ru) (qm_Ma c sy0 lf0 rt0 la psy pl pr ps l) (qm_v c sy0 lf0 rt0 la psy pl pr)) (s0, 0) N = (false, ((n, sy, lf, rt), (m, el, er, eru)), cnt) → qm_ok lim lme (c, sy0, lf0, rt0) E0 ((n, sy, lf, rt), (m, el, er, eru)) → post (-3) (nI lim, g_maxPats, g_maxRules, nI lme, nI n, g_nPats, g_nRules, nI m, g_nKept, nI c, sy, lf, rt, psy, pl, pr, rl, rr, el, er, eru, b_kept, b_w, b_in, la, sb, va, st, b_cost, b_best, b_needed, b_pick, b_got)) : wpY_scan post (nI lim, g_maxPats, g_maxRules, nI lme, nI n, g_nPats, g_nRules, nI m, g_nKept, nI c, sy, lf, rt, psy, pl, pr, rl, rr, el, er, eru, b_kept, b_w, b_in, la, sb, va, st, b_cost, b_best, b_needed, b_pick, b_got) (nI ru) (qy_act act) := by
  have h32 := hp.2.1
  unfold wpY_scan
  refine ⟨vp_in_nI (by omega) (by omega), ?_⟩
  rw [show (nI ru).toNatClampNeg = ru from nI_clamp (by omega), erl]
  refine qy_mark hp ln ?_
  intro sb' hsb
  have L : ∃ k, wY_scan_120 post (nI ru) (qy_act act) (qy_cur (bt (ps l) 0) (qy_dim (bt (ps l) 0) c)) (qy_cur (bt (ps l) 1) 0) (qy_cur (bt (ps l) 1) (qy_dim (bt (ps l) 1) c)) (qy_cur (bt (ps l) 2) 0) (qy_cur (bt (ps l) 2) (qy_dim (bt (ps l) 2) c)) k 0 (qy_cur (bt (ps l) 0) 0) (nI lim) g_maxPats g_maxRules (nI lme) (nI n) g_nPats g_nRules (nI m) g_nKept (nI c) sy lf rt psy pl pr rl rr el er eru b_kept b_w b_in la sb' va st b_cost b_best b_needed b_pick b_got := ⟨qy_dim (bt (ps l) 0) c + 1, qy_l120 hN hl hle hc g nm hp hru erl err l3 ln rn hv KJ KF (qy_dim (bt (ps l) 0) c + 1) 0 n sy lf rt m el er eru 0 sb' va st (by omega) (by omega) (by rw [es]; rfl) ok⟩
  have s0' := hsb 0 (by omega)
  have s1' := hsb 1 (by omega)
  have s2' := hsb 2 (by omega)
  have cf0 : qy_cur false 0 = -1 := by decide
  have ct0 : qy_cur true 0 = 0 := by decide
  have cf1 : qy_cur false (qy_dim false c) = 0 := by rw [show qy_dim false c = 1 from rfl]; decide
  have ctc : qy_cur true (qy_dim true c) = nI c := rfl
  have e93 : ∀ x3 x4 x5 x6, (∃ k, wY_scan_120 post (nI ru) (qy_act act) x4 x5 x6 (qy_cur (bt (ps l) 2) 0) (qy_cur (bt (ps l) 2) (qy_dim (bt (ps l) 2) c)) k 0 x3 (nI lim) g_maxPats g_maxRules (nI lme) (nI n) g_nPats g_nRules (nI m) g_nKept (nI c) sy lf rt psy pl pr rl rr el er eru b_kept b_w b_in la sb' va st b_cost b_best b_needed b_pick b_got) → wY_scan_77 post (nI ru) (qy_act act) x3 x4 x5 x6 (nI lim) g_maxPats g_maxRules (nI lme) (nI n) g_nPats g_nRules (nI m) g_nKept (nI c) sy lf rt psy pl pr rl rr el er eru b_kept b_w b_in la sb' va st b_cost b_best b_needed b_pick b_got := by
    intro x3 x4 x5 x6 h
    unfold wY_scan_77
    rw [s2']
    cases u : bt (ps l) 2
    · rw [u, cf0, cf1] at h
      rw [if_neg Bool.false_ne_true]
      refine br_t rfl ?_
      unfold wY_scan_93
      rw [s2', u, if_neg Bool.false_ne_true]
      exact br_t rfl h
    · rw [u, ct0, ctc] at h
      rw [if_pos rfl]
      refine br_f (by decide) ?_
      unfold wY_scan_93
      rw [s2', u, if_pos rfl]
      exact br_f (by decide) h
  have e42 : ∀ x3 x4, (∃ k, wY_scan_120 post (nI ru) (qy_act act) x4 (qy_cur (bt (ps l) 1) 0) (qy_cur (bt (ps l) 1) (qy_dim (bt (ps l) 1) c)) (qy_cur (bt (ps l) 2) 0) (qy_cur (bt (ps l) 2) (qy_dim (bt (ps l) 2) c)) k 0 x3 (nI lim) g_maxPats g_maxRules (nI lme) (nI n) g_nPats g_nRules (nI m) g_nKept (nI c) sy lf rt psy pl pr rl rr el er eru b_kept b_w b_in la sb' va st b_cost b_best b_needed b_pick b_got) → wY_scan_42 post (nI ru) (qy_act act) x3 x4 (nI lim) g_maxPats g_maxRules (nI lme) (nI n) g_nPats g_nRules (nI m) g_nKept (nI c) sy lf rt psy pl pr rl rr el er eru b_kept b_w b_in la sb' va st b_cost b_best b_needed b_pick b_got := by
    intro x3 x4 h
    unfold wY_scan_42
    rw [s1']
    cases u : bt (ps l) 1
    · rw [u, cf0, cf1] at h
      rw [if_neg Bool.false_ne_true]
      refine br_t rfl ?_
      unfold wY_scan_58
      rw [s1', u, if_neg Bool.false_ne_true]
      exact br_t rfl (e93 _ _ _ _ h)
    · rw [u, ct0, ctc] at h
      rw [if_pos rfl]
      refine br_f (by decide) ?_
      unfold wY_scan_58
      rw [s1', u, if_pos rfl]
      exact br_f (by decide) (e93 _ _ _ _ h)
  dsimp only
  rw [s0']
  cases u : bt (ps l) 0
  · rw [u, cf0, cf1] at L
    rw [if_neg Bool.false_ne_true]
    refine br_t rfl ?_
    unfold wY_scan_24
    rw [s0', u, if_neg Bool.false_ne_true]
    exact br_t rfl (e42 _ _ L)
  · rw [u, ct0, ctc] at L
    rw [if_pos rfl]
    refine br_f (by decide) ?_
    unfold wY_scan_24
    rw [s0', u, if_pos rfl]
    exact br_f (by decide) (e42 _ _ L)
end
section
variable {g_maxPats g_maxRules g_nPats g_nRules g_nKept : Int32} {b_kept b_w b_in b_needed b_pick b_got : Nat → Int32} {b_cost b_best : Nat → Int64}
variable {N lim lme c np nr first : Nat} {sy0 lf0 rt0 la psy pl pr ps rl rr : Nat → Int32} {E0 : QG} {s0 : QG × QG}
theorem qy_r9 {post : Int32 → SY → Prop} {cnt : Nat} (hN : N = 32768) (hl : lim ≤ 32) (hle : lme ≤ 64) (hc : c ≤ 32) (g : ∀ t, t < c → qa_tok sy0 lf0 rt0 t) (nm : qc_nm c la) (hp : qp_ok np psy pl pr ps) (hr : qr_ok np nr ps rl rr) (hcnt : first + cnt ≤ nr)
    (K : ∀ ok n sy lf rt m el er eru tot sb va st, qm_rd N lim lme psy pl pr ps rl rr (qm_Ma c sy0 lf0 rt0 la psy pl pr ps) (qm_v c sy0 lf0 rt0 la psy pl pr) first s0 cnt = (ok, ((n, sy, lf, rt), (m, el, er, eru)), tot) → qm_ok lim lme (c, sy0, lf0, rt0) E0 ((n, sy, lf, rt), (m, el, er, eru)) → post (if ok = true then nI tot else -3) (nI lim, g_maxPats, g_maxRules, nI lme, nI n, g_nPats, g_nRules, nI m, g_nKept, nI c, sy, lf, rt, psy, pl, pr, rl, rr, el, er, eru, b_kept, b_w, b_in, la, sb, va, st, b_cost, b_best, b_needed, b_pick, b_got)) :
    ∀ k d n sy lf rt m el er eru tot sb va st, d ≤ cnt → cnt - d < k → qm_rd N lim lme psy pl pr ps rl rr (qm_Ma c sy0 lf0 rt0 la psy pl pr ps) (qm_v c sy0 lf0 rt0 la psy pl pr) first s0 d = (true, ((n, sy, lf, rt), (m, el, er, eru)), tot) → qm_ok lim lme (c, sy0, lf0, rt0) E0 ((n, sy, lf, rt), (m, el, er, eru)) →
      wY_round_9 post (nI (first + cnt)) k (nI tot) (nI (first + d)) (nI lim) g_maxPats g_maxRules (nI lme) (nI n) g_nPats g_nRules (nI m) g_nKept (nI c) sy lf rt psy pl pr rl rr el er eru b_kept b_w b_in la sb va st b_cost b_best b_needed b_pick b_got := by
  have nr6 := hr.1
  intro k
  induction k with
  | zero => intro d n sy lf rt m el er eru tot sb va st _ h; omega
  | succ k ih =>
    intro d n sy lf rt m el er eru tot sb va st hd hk rd ok
    rw [wY_round_9]
    refine pk_le (first + cnt) (first + d) (fun le => ?_) (fun lt => ?_)
    · have e : d = cnt := by omega
      subst e
      have := K true n sy lf rt m el er eru tot sb va st rd ok
      rwa [if_pos rfl] at this
    · obtain ⟨l, r, erl, err, l3, ln, rn, hv⟩ := hr.2 (first + d) (by omega)
      have h32 := hp.2.1
      have cl : (rl (first + d)).toNatClampNeg = l := by rw [erl, nI_clamp (by omega)]
      have cr : (rr (first + d)).toNatClampNeg = r := by rw [err, nI_clamp (by omega)]
      refine qy_scan (act := true) (E0 := E0) hN hl hle hc g nm hp (show first + d < 6 by omega) erl err l3 ln rn hv ok rfl ?_ ?_
      · intro n2 sy2 lf2 rt2 m2 el2 er2 eru2 cnt2 sb2 va2 st2 fo ok2
        have cb := qm_fo_cnt (act := true) (lim := lim) (lme := lme) (psy := psy) (pl := pl) (pr := pr) (ps := ps) (l := l) (r := r) (ru := nI (first + d)) (Ma := qm_Ma c sy0 lf0 rt0 la psy pl pr ps l) (W := qm_v c sy0 lf0 rt0 la psy pl pr) (s := ((n, sy, lf, rt), (m, el, er, eru))) N
        rw [fo] at cb
        dsimp only at cb
        refine br_f (qa_ne3 (by omega)) (nm_r (nI_add tot cnt2) (nm_r (nI_1 (first + d)) (ih (d + 1) n2 sy2 lf2 rt2 m2 el2 er2 eru2 (tot + cnt2) sb2 va2 st2 (by omega) (by omega) (qm_rd_s rd cl cr fo) ok2)))
      · intro n2 sy2 lf2 rt2 m2 el2 er2 eru2 cnt2 sb2 va2 st2 fo ok2
        have rd2 := qm_rd_s rd cl cr fo
        have := K false n2 sy2 lf2 rt2 m2 el2 er2 eru2 (tot + cnt2) sb2 va2 st2 (by rw [qm_rd_bad' (M := d + 1) (by omega) (by rw [rd2])]; exact rd2) ok2
        rw [if_neg Bool.false_ne_true] at this
        exact br_t rfl this
end
section
variable {g_maxPats g_maxRules g_nPats g_nRules g_nKept g_labN : Int32} {b_kept b_w b_needed b_pick b_got : Nat → Int32} {b_cost b_best : Nat → Int64}
variable {N lim lme n m np nr first cnt : Nat} {sy lf rt el er eru iv la psy pl pr ps rl rr sb va st : Nat → Int32}
theorem qy_round {post : Int32 → SY → Prop} {en : Nat} (hen : first + cnt = en) (hN : N = 32768) (hl : lim ≤ 32) (hn : n ≤ lim) (hle : lme ≤ 64) (hm : m ≤ lme) (gk : qi_gk lim (n, sy, lf, rt)) (he : qe_ok n m el er) (hp : qp_ok np psy pl pr ps) (hr : qr_ok np nr ps rl rr) (hcnt : first + cnt ≤ nr)
    (K : ∀ iv la ok n' sy' lf' rt' m' el' er' eru' tot sb va st, qc_il n m sy lf rt el er (fun _ => True) la → qm_rd N lim lme psy pl pr ps rl rr (qm_Ma n sy lf rt la psy pl pr ps) (qm_v n sy lf rt la psy pl pr) first ((n, sy, lf, rt), (m, el, er, eru)) cnt = (ok, ((n', sy', lf', rt'), (m', el', er', eru')), tot) →
      post (if ok = true then nI tot else -3) (nI lim, g_maxPats, g_maxRules, nI lme, nI n', g_nPats, g_nRules, nI m', g_nKept, nI n, sy', lf', rt', psy, pl, pr, rl, rr, el', er', eru', b_kept, b_w, iv, la, sb, va, st, b_cost, b_best, b_needed, b_pick, b_got)) : wpY_round post (nI lim, g_maxPats, g_maxRules, nI lme, nI n, g_nPats, g_nRules, nI m, g_nKept, g_labN, sy, lf, rt, psy, pl, pr, rl, rr, el, er, eru, b_kept, b_w, iv, la, sb, va, st, b_cost, b_best, b_needed, b_pick, b_got) (nI first) (nI en) := by
  subst hen
  unfold wpY_round
  refine qy_closeAll (by omega) (by omega) gk.2.1 he ?_
  intro iv' la' hiv il
  have ok0 : qm_ok lim lme (n, sy, lf, rt) (m, el, er, eru) ((n, sy, lf, rt), (m, el, er, eru)) := ⟨gk, qi_ge_rf _, hm, qi_ge_rf _, he⟩
  refine ⟨cnt + 1, qy_r9 (s0 := ((n, sy, lf, rt), (m, el, er, eru))) (E0 := (m, el, er, eru)) hN hl hle (by omega) gk.2.1 il.1 hp hr hcnt ?_ (cnt + 1) 0 n sy lf rt m el er eru 0 sb va st (by omega) (by omega) rfl ok0⟩
  intro ok n' sy' lf' rt' m' el' er' eru' tot sb va st rd ok'
  exact K iv' la' ok n' sy' lf' rt' m' el' er' eru' tot sb va st il rd
end
end
section
def qk_wt (sy w : Nat → Int32) (t : Nat) : Nat := (w (sy t).toNatClampNeg).toNatClampNeg
def qk_c1 (ld : Nat → Int32) (B : Nat → Nat) (x : Int32) : Nat := if x = -1 then 0 else B (ld x.toNatClampNeg).toNatClampNeg
def qk_sum (sy lf rt ld w : Nat → Int32) (B : Nat → Nat) (t : Nat) : Nat := qk_wt sy w t + qk_c1 ld B (lf t) + qk_c1 ld B (rt t)
def qk_cl (lf rt ld : Nat → Int32) (t d : Nat) : Prop := ∃ j, j < 32 ∧ (lf t = nI j ∨ rt t = nI j) ∧ ld j = nI d
def qk_wok (w : Nat → Int32) : Prop := ∀ s, s < 16 → ∃ x, 1 ≤ x ∧ x ≤ 1000 ∧ w s = nI x
def qk_ib (c : Nat) (sy lf rt ld w : Nat → Int32) (B : Nat → Nat) : Prop :=
  (∀ t l, t < c → ld t = nI l → l < 32 → B l ≤ qk_sum sy lf rt ld w B t) ∧ (∀ l, l < c → ld l = nI l → ∃ t, t < c ∧ ld t = nI l ∧ B l = qk_sum sy lf rt ld w B t)
theorem qk_c11 (ld : Nat → Int32) (B : Nat → Nat) : qk_c1 ld B (-1) = 0 := if_pos rfl
theorem qk_c1N {ld : Nat → Int32} {B : Nat → Nat} {j d : Nat} (hj : j < 2 ^ 31) (hd : d < 2 ^ 31) (e : ld j = nI d) : qk_c1 ld B (nI j) = B d := by
  unfold qk_c1
  rw [if_neg (qa_ne1 hj), nI_clamp hj, e, nI_clamp hd]
section
variable {c : Nat} {sy lf rt ld w : Nat → Int32} {B B' : Nat → Nat}
theorem qk_wt1 (hw : qk_wok w) {t : Nat} (g : qa_tok sy lf rt t) : 1 ≤ qk_wt sy w t ∧ qk_wt sy w t ≤ 1000 := by
  obtain ⟨k, hk, e⟩ := qa_sg_s g
  unfold qk_wt
  obtain ⟨x, h1, h2, ex⟩ := hw k hk
  rw [e, nI_clamp (by omega), ex, nI_clamp (by omega)]
  exact ⟨h1, h2⟩
theorem qk_c1_eq (hc : c ≤ 32) (nm : qc_nm c ld) {x : Int32} (hx : x = -1 ∨ ∃ j, j < c ∧ x = nI j) (R : Nat → Nat → Prop) (h0 : R 0 0) (h : ∀ j d, j < c → x = nI j → d ≤ j → ld j = nI d → ld d = nI d → R (B d) (B' d)) : R (qk_c1 ld B x) (qk_c1 ld B' x) := by
  rcases hx with rfl | ⟨j, hj, rfl⟩
  · rw [qk_c11, qk_c11]; exact h0
  · obtain ⟨d, hd, e1, e2⟩ := nm j hj
    rw [qk_c1N (by omega) (by omega) e1, qk_c1N (by omega) (by omega) e1]
    exact h j d hj rfl hd e1 e2
theorem qk_sum_eq (hc : c ≤ 32) (nm : qc_nm c ld) {t : Nat} (ht : t < c) (g : qa_tok sy lf rt t) (h : ∀ d, d < c → ld d = nI d → qk_cl lf rt ld t d → B d = B' d) : qk_sum sy lf rt ld w B t = qk_sum sy lf rt ld w B' t := by
  have ch := qx_cs_ch hc ht g
  unfold qk_sum
  rw [qk_c1_eq hc nm ch.1 (fun a b => a = b) rfl (fun j d hj e hd e1 e2 => h d (by omega) e2 ⟨j, by omega, Or.inl e, e1⟩), qk_c1_eq hc nm ch.2 (fun a b => a = b) rfl (fun j d hj e hd e1 e2 => h d (by omega) e2 ⟨j, by omega, Or.inr e, e1⟩)]
theorem qk_sum_le (hc : c ≤ 32) (nm : qc_nm c ld) {t : Nat} (ht : t < c) (g : qa_tok sy lf rt t) (h : ∀ d, d < c → ld d = nI d → qk_cl lf rt ld t d → B d ≤ B' d) : qk_sum sy lf rt ld w B t ≤ qk_sum sy lf rt ld w B' t := by
  have ch := qx_cs_ch hc ht g
  unfold qk_sum
  have a := qk_c1_eq (B := B) (B' := B') hc nm ch.1 (fun a b => a ≤ b) (Nat.le_refl _) (fun j d hj e hd e1 e2 => h d (by omega) e2 ⟨j, by omega, Or.inl e, e1⟩)
  have b := qk_c1_eq (B := B) (B' := B') hc nm ch.2 (fun a b => a ≤ b) (Nat.le_refl _) (fun j d hj e hd e1 e2 => h d (by omega) e2 ⟨j, by omega, Or.inr e, e1⟩)
  omega
theorem qk_cl_lt (hw : qk_wok w) {t d : Nat} (hd : d < 32) (g : qa_tok sy lf rt t) (h : qk_cl lf rt ld t d) : B d < qk_sum sy lf rt ld w B t := by
  have a := (qk_wt1 hw g).1
  obtain ⟨j, hj, e, e1⟩ := h
  unfold qk_sum
  rcases e with e | e
  · rw [e, qk_c1N (by omega) (by omega) e1]; omega
  · rw [e, qk_c1N (B := B) (by omega) (by omega) e1]; omega
theorem qk_sum_bd (hw : qk_wok w) (hc : c ≤ 32) (nm : qc_nm c ld) {t X : Nat} (ht : t < c) (g : qa_tok sy lf rt t) (h : ∀ d, d < c → ld d = nI d → qk_cl lf rt ld t d → B d ≤ X) : qk_sum sy lf rt ld w B t ≤ 1000 + 2 * X := by
  have a := (qk_wt1 hw g).2
  have ch := qx_cs_ch hc ht g
  have b1 : qk_c1 ld B (lf t) ≤ X := by
    rcases ch.1 with e | ⟨j, hj, e⟩
    · rw [e, qk_c11]; omega
    · obtain ⟨d, hd, e1, e2⟩ := nm j hj
      rw [e, qk_c1N (by omega) (by omega) e1]; exact h d (by omega) e2 ⟨j, by omega, Or.inl e, e1⟩
  have b2 : qk_c1 ld B (rt t) ≤ X := by
    rcases ch.2 with e | ⟨j, hj, e⟩
    · rw [e, qk_c11]; omega
    · obtain ⟨d, hd, e1, e2⟩ := nm j hj
      rw [e, qk_c1N (by omega) (by omega) e1]; exact h d (by omega) e2 ⟨j, by omega, Or.inr e, e1⟩
  unfold qk_sum; omega
theorem qk_cl_root (hc : c ≤ 32) (nm : qc_nm c ld) {t d : Nat} (ht : t < c) (g : qa_tok sy lf rt t) (hd : d < 32) (h : qk_cl lf rt ld t d) : d < c ∧ ld d = nI d ∧ d < t := by
  obtain ⟨j, hj, e, e1⟩ := h
  have jt : j < t := by
    rcases e with e | e
    · rcases qa_sg_a g with z | ⟨i, hi, z⟩
      · exact (qa_1ne (by omega) (z.symm.trans e)).elim
      · have := qa_inj (by omega) (by omega) (z.symm.trans e); omega
    · rcases qa_sg_b g with z | ⟨i, hi, z⟩
      · exact (qa_1ne (by omega) (z.symm.trans e)).elim
      · have := qa_inj (by omega) (by omega) (z.symm.trans e); omega
  obtain ⟨d', hd', e2, e3⟩ := nm j (by omega)
  have : d = d' := qa_inj (by omega) (by omega) (e1.symm.trans e2)
  subst this
  exact ⟨by omega, e3, by omega⟩
theorem qk_un_le (hw : qk_wok w) (hc : c ≤ 32) (nm : qc_nm c ld) (g : ∀ t, t < c → qa_tok sy lf rt t) (h : qk_ib c sy lf rt ld w B) (h' : qk_ib c sy lf rt ld w B') : ∀ x l, l < c → ld l = nI l → B' l = x → B l ≤ B' l := by
  intro x
  induction x using Nat.strongRecOn with
  | ind x ih =>
    intro l hl el ex
    obtain ⟨t, ht, et, es⟩ := h'.2 l hl el
    refine Nat.le_trans (h.1 t l ht et (by omega)) ?_
    rw [es]
    refine qk_sum_le hc nm ht (g t ht) fun d hd ed cl => ?_
    have lt := qk_cl_lt (B := B') hw (by omega) (g t ht) cl
    exact ih (B' d) (by omega) d hd ed rfl
theorem qk_un (hw : qk_wok w) (hc : c ≤ 32) (nm : qc_nm c ld) (g : ∀ t, t < c → qa_tok sy lf rt t) (h : qk_ib c sy lf rt ld w B) (h' : qk_ib c sy lf rt ld w B') {l : Nat} (hl : l < c) (el : ld l = nI l) : B l = B' l :=
  Nat.le_antisymm (qk_un_le hw hc nm g h h' _ l hl el rfl) (qk_un_le hw hc nm g h' h _ l hl el rfl)
end
def qk_av (lf rt ld : Nat → Int32) (S : Int32) (t : Nat) : Prop := ∀ d, d < 32 → qk_cl lf rt ld t d → bt S d = true
def qk_U (c : Nat) (sy lf rt ld w : Nat → Int32) (B : Nat → Nat) (S R : Int32) (best : Nat → Int64) (bT : Nat → Int32) (Pd : Nat → Prop) : Prop :=
  ∀ l, l < c → ld l = nI l → bt S l = false →
    (bt R l = true → ∃ T, T < c ∧ Pd T ∧ ld T = nI l ∧ qk_av lf rt ld S T ∧ best l = lN (qk_sum sy lf rt ld w B T) ∧ bT l = nI T ∧
      ∀ t, t < c → Pd t → ld t = nI l → qk_av lf rt ld S t → (qk_sum sy lf rt ld w B T < qk_sum sy lf rt ld w B t ∨ (qk_sum sy lf rt ld w B T = qk_sum sy lf rt ld w B t ∧ T ≤ t))) ∧
    (bt R l = false → ∀ t, t < c → Pd t → ld t = nI l → ¬ qk_av lf rt ld S t)
end
section
section
variable {c : Nat} {sy lf rt ld w : Nat → Int32} {B : Nat → Nat} {S R : Int32} {best : Nat → Int64} {bT : Nat → Int32} {Pd : Nat → Prop} {t l : Nat}
theorem qk_U_skip (h : qk_U c sy lf rt ld w B S R best bT Pd) (hc : c ≤ 32) (hl : l < c) (el : ld t = nI l) (no : bt S l = true ∨ ¬ qk_av lf rt ld S t) : qk_U c sy lf rt ld w B S R best bT (fun x => Pd x ∨ x = t) := by
  intro l' hl' el' s'
  have k := h l' hl' el' s'
  have out : ∀ x, (Pd x ∨ x = t) → ld x = nI l' → qk_av lf rt ld S x → Pd x := by
    rintro x (z | rfl) e av
    · exact z
    · exfalso
      have : l = l' := qa_inj (by omega) (by omega) (el.symm.trans e)
      subst this
      rcases no with n | n
      · rw [s'] at n; exact absurd n (by decide)
      · exact n av
  refine ⟨fun r => ?_, fun r x hx px ex av => k.2 r x hx (out x px ex av) ex av⟩
  obtain ⟨T, a1, a2, a3, a4, a5, a6, a7⟩ := k.1 r
  exact ⟨T, a1, Or.inl a2, a3, a4, a5, a6, fun x hx px ex av => a7 x hx (out x px ex av) ex av⟩
theorem qk_U_keep (h : qk_U c sy lf rt ld w B S R best bT Pd) (hc : c ≤ 32) (hl : l < c) (ht : t < c) (el : ld t = nI l) (rl : ld l = nI l) (sl : bt S l = false) (r : bt R l = true)
    (ge : ∀ T, T < c → bT l = nI T → best l = lN (qk_sum sy lf rt ld w B T) → qk_av lf rt ld S T → (qk_sum sy lf rt ld w B T < qk_sum sy lf rt ld w B t ∨ (qk_sum sy lf rt ld w B T = qk_sum sy lf rt ld w B t ∧ T ≤ t))) : qk_U c sy lf rt ld w B S R best bT (fun x => Pd x ∨ x = t) := by
  intro l' hl' el' s'
  have k := h l' hl' el' s'
  by_cases z : l' = l
  · subst z
    refine ⟨fun _ => ?_, fun r' => absurd (r'.symm.trans r) (by decide)⟩
    obtain ⟨T, a1, a2, a3, a4, a5, a6, a7⟩ := k.1 r
    refine ⟨T, a1, Or.inl a2, a3, a4, a5, a6, fun x hx px ex av => ?_⟩
    rcases px with p | p
    · exact a7 x hx p ex av
    · subst p; exact ge T a1 a6 a5 a4
  · have out : ∀ x, (Pd x ∨ x = t) → ld x = nI l' → Pd x := by
      rintro x (q | rfl) e
      · exact q
      · exact (z (qa_inj (by omega) (by omega) (e.symm.trans el))).elim
    refine ⟨fun r' => ?_, fun r' x hx px ex av => k.2 r' x hx (out x px ex) ex av⟩
    obtain ⟨T, a1, a2, a3, a4, a5, a6, a7⟩ := k.1 r'
    exact ⟨T, a1, Or.inl a2, a3, a4, a5, a6, fun x hx px ex av => a7 x hx (out x px ex) ex av⟩
theorem qk_U_set (h : qk_U c sy lf rt ld w B S R best bT Pd) (hc : c ≤ 32) (hl : l < c) (ht : t < c) (el : ld t = nI l) (rl : ld l = nI l) (sl : bt S l = false) (av : qk_av lf rt ld S t)
    (lt : bt R l = false ∨ ∀ T, T < c → bT l = nI T → best l = lN (qk_sum sy lf rt ld w B T) → qk_av lf rt ld S T → (qk_sum sy lf rt ld w B t < qk_sum sy lf rt ld w B T ∨ (qk_sum sy lf rt ld w B t = qk_sum sy lf rt ld w B T ∧ t ≤ T))) :
    qk_U c sy lf rt ld w B S (R ||| ((1 : Int32) <<< (nI l &&& 31))) (vp_updL best l (lN (qk_sum sy lf rt ld w B t))) (upd bT l (nI t)) (fun x => Pd x ∨ x = t) := by
  intro l' hl' el' s'
  have k := h l' hl' el' s'
  have rb : bt (R ||| ((1 : Int32) <<< (nI l &&& 31))) l' = (bt R l' || decide (l' = l)) := by rw [b_or, qb_s (by omega) (by omega)]
  by_cases z : l' = l
  · subst z
    have r1 : bt (R ||| ((1 : Int32) <<< (nI l' &&& 31))) l' = true := by rw [rb]; simp
    refine ⟨fun _ => ⟨t, ht, Or.inr rfl, el, av, pk_uLs, pk_us, fun x hx px ex ax => ?_⟩, fun r' => absurd (r'.symm.trans r1) (by decide)⟩
    rcases px with p | p
    · cases r : bt R l'
      · exact (k.2 r x hx p ex ax).elim
      · obtain ⟨T, a1, a2, a3, a4, a5, a6, a7⟩ := k.1 r
        have q := a7 x hx p ex ax
        rcases lt with n | n
        · rw [r] at n; exact absurd n (by decide)
        · have m := n T a1 a6 a5 a4
          omega
    · subst p; exact Or.inr ⟨rfl, Nat.le_refl _⟩
  · have out : ∀ x, (Pd x ∨ x = t) → ld x = nI l' → Pd x := by
      rintro x (q | rfl) e
      · exact q
      · exact (z (qa_inj (by omega) (by omega) (e.symm.trans el))).elim
    rw [rb, decide_eq_false z, Bool.or_false, pk_uLn z, pk_un z]
    refine ⟨fun r' => ?_, fun r' x hx px ex av => k.2 r' x hx (out x px ex) ex av⟩
    obtain ⟨T, a1, a2, a3, a4, a5, a6, a7⟩ := k.1 r'
    exact ⟨T, a1, Or.inl a2, a3, a4, a5, a6, fun x hx px ex av => a7 x hx (out x px ex) ex av⟩
end
section
variable {f_termLimit f_patternLimit f_ruleLimit f_eventLimit f_termCount f_patternCount f_ruleCount f_eventCount f_closedTerms f_closedEvents f_classCount f_dirty f_matchPattern f_matchDepth f_levelCount f_groundLeft f_costsFresh f_orderCount f_explainedCount : Int32} {a_termIndex a_patSymbol a_patLeft a_patRight a_patSubs a_patTop a_byTop a_patternIndex a_ruleLeft a_ruleRight a_eventLeft a_eventRight a_eventRule a_members a_users a_symbolTerms a_signTerm a_levelVar a_levelRest a_patValue a_standsFor a_order a_gotTerm a_explainedEvent : Nat → Int32} {a_treeCost : Nat → Int64}
variable {c : Nat} {sy lf rt ld w : Nat → Int32} {B : Nat → Nat} {S R : Int32} {best : Nat → Int64} {bT : Nat → Int32} {Pd : Nat → Prop} {t l : Nat}
theorem qx_rx124 {post : SX → Prop} (hc : c ≤ 32) (nm : qc_nm c ld) (g : ∀ t, t < c → qa_tok sy lf rt t) (hw : qk_wok w) (hS : ∀ d, d < 32 → bt S d = true → B d ≤ 4294967296000) (hU : qk_U c sy lf rt ld w B S R best bT Pd)
    (ht : t < c) (hl : l < c) (el : ld t = nI l) (rl : ld l = nI l) (sl : bt S l = false) (av : qk_av lf rt ld S t) (hR : ∀ d, d < 32 → bt R d = true → d < c ∧ ld d = nI d)
    (K : ∀ R best' bT', qk_U c sy lf rt ld w B S R best' bT' (fun x => Pd x ∨ x = t) → (∀ d, bt S d = true → best' d = best d ∧ bT' d = bT d) → (∀ d, d < 32 → bt R d = true → d < c ∧ ld d = nI d) → post (f_termLimit, f_patternLimit, f_ruleLimit, f_eventLimit, f_termCount, f_patternCount, f_ruleCount, f_eventCount, f_closedTerms, f_closedEvents, f_classCount, f_dirty, f_matchPattern, f_matchDepth, f_levelCount, f_groundLeft, f_costsFresh, S, R, f_orderCount, f_explainedCount, sy, lf, rt, a_termIndex, a_patSymbol, a_patLeft, a_patRight, a_patSubs, a_patTop, a_byTop, a_patternIndex, a_ruleLeft, a_ruleRight, a_eventLeft, a_eventRight, a_eventRule, w, ld, a_members, a_users, a_symbolTerms, a_signTerm, a_levelVar, a_levelRest, a_patValue, a_standsFor, a_order, best', bT', a_gotTerm, a_treeCost, a_explainedEvent)) :
    wX_relax_124 post (nI t) (nI l) (lN (qk_sum sy lf rt ld w B t)) f_termLimit f_patternLimit f_ruleLimit f_eventLimit f_termCount f_patternCount f_ruleCount f_eventCount f_closedTerms f_closedEvents f_classCount f_dirty f_matchPattern f_matchDepth f_levelCount f_groundLeft f_costsFresh S R f_orderCount f_explainedCount sy lf rt a_termIndex a_patSymbol a_patLeft a_patRight a_patSubs a_patTop a_byTop a_patternIndex a_ruleLeft a_ruleRight a_eventLeft a_eventRight a_eventRule w ld a_members a_users a_symbolTerms a_signTerm a_levelVar a_levelRest a_patValue a_standsFor a_order best bT a_gotTerm a_treeCost a_explainedEvent := by
  have il : vp_in (nI l) 32 := vp_in_nI (by omega) (by omega)
  have cl : (nI l).toNatClampNeg = l := nI_clamp (by omega)
  have bd : ∀ x, x < c → qk_av lf rt ld S x → qk_sum sy lf rt ld w B x < 2 ^ 63 := by
    intro x hx ax
    have := qk_sum_bd (X := 4294967296000) hw hc nm hx (g x hx) (fun d hd _ cd => hS d (by omega) (ax d (by omega) cd))
    omega
  have set : (bt R l = false ∨ ∀ T, T < c → bT l = nI T → best l = lN (qk_sum sy lf rt ld w B T) → qk_av lf rt ld S T → (qk_sum sy lf rt ld w B t < qk_sum sy lf rt ld w B T ∨ (qk_sum sy lf rt ld w B t = qk_sum sy lf rt ld w B T ∧ t ≤ T))) → wX_relax_179 post (nI t) (nI l) (lN (qk_sum sy lf rt ld w B t)) f_termLimit f_patternLimit f_ruleLimit f_eventLimit f_termCount f_patternCount f_ruleCount f_eventCount f_closedTerms f_closedEvents f_classCount f_dirty f_matchPattern f_matchDepth f_levelCount f_groundLeft f_costsFresh S R f_orderCount f_explainedCount sy lf rt a_termIndex a_patSymbol a_patLeft a_patRight a_patSubs a_patTop a_byTop a_patternIndex a_ruleLeft a_ruleRight a_eventLeft a_eventRight a_eventRule w ld a_members a_users a_symbolTerms a_signTerm a_levelVar a_levelRest a_patValue a_standsFor a_order best bT a_gotTerm a_treeCost a_explainedEvent := by
    intro lt
    unfold wX_relax_179
    refine nm_e ⟨il, nm_r (e' := vp_updL best l (lN (qk_sum sy lf rt ld w B t))) (by rw [cl]) ⟨il, nm_r (e' := upd bT l (nI t)) (by rw [cl]) (K _ _ _ (qk_U_set hU hc hl ht el rl sl av lt) (fun d sd => ?_) (fun d hd rd => ?_))⟩⟩
    · have : d ≠ l := by rintro rfl; rw [sl] at sd; exact absurd sd (by decide)
      exact ⟨pk_uLn this, pk_un this⟩
    · rw [b_or, qb_s (by omega) hd, Bool.or_eq_true, decide_eq_true_eq] at rd
      rcases rd with z | z
      · exact hR d hd z
      · subst z; exact ⟨hl, rl⟩
  unfold wX_relax_124
  refine ek_if (qb_t R (j := l) (by omega)) (fun r => ?_) (fun r => ?_)
  · unfold wX_relax_140
    exact br_f (by decide) (set (Or.inl r))
  · have r1 : bt R l = true := by
      cases z : bt R l
      · exact (r z).elim
      · rfl
    obtain ⟨T, a1, a2, a3, a4, a5, a6, a7⟩ := (hU l hl rl sl).1 r1
    have uq : ∀ T', T' < c → bT l = nI T' → T' = T := fun T' h' e' => qa_inj (by omega) (by omega) (e'.symm.trans a6)
    unfold wX_relax_140
    refine br_t rfl ⟨il, ?_⟩
    rw [cl, a5, a6]
    have b1 := bd t ht av
    have b2 := bd T a1 a4
    refine ek_if (pk_lLT b1 b2) (fun lt => set (Or.inr fun T' h' e' _ _ => ?_)) (fun nlt => ⟨il, ?_⟩)
    · rw [uq T' h' e']; exact Or.inl lt
    · refine ek_if (pk_lEQ b1 b2) (fun eq => ⟨il, ?_⟩) (fun neq => ?_)
      · refine pk_le T t (fun le => ?_) (fun lt => set (Or.inr fun T' h' e' _ _ => ?_))
        · refine K R best bT (qk_U_keep hU hc hl ht el rl sl r1 fun T' h' e' _ _ => ?_) (fun _ _ => ⟨rfl, rfl⟩) hR
          rw [uq T' h' e']; exact Or.inr ⟨eq.symm, le⟩
        · rw [uq T' h' e']; exact Or.inr ⟨eq, by omega⟩
      · refine K R best bT (qk_U_keep hU hc hl ht el rl sl r1 fun T' h' e' _ _ => ?_) (fun _ _ => ⟨rfl, rfl⟩) hR
        rw [uq T' h' e']; exact Or.inl (by omega)
theorem qx_relax {post : SX → Prop} (hc : c ≤ 32) (nm : qc_nm c ld) (g : ∀ t, t < c → qa_tok sy lf rt t) (hw : qk_wok w) (hS : ∀ d, d < 32 → bt S d = true → B d ≤ 4294967296000 ∧ best d = lN (B d)) (hU : qk_U c sy lf rt ld w B S R best bT Pd)
    (ht : t < c) (hR : ∀ d, d < 32 → bt R d = true → d < c ∧ ld d = nI d)
    (K : ∀ R best' bT', qk_U c sy lf rt ld w B S R best' bT' (fun x => Pd x ∨ x = t) → (∀ d, bt S d = true → best' d = best d ∧ bT' d = bT d) → (∀ d, d < 32 → bt R d = true → d < c ∧ ld d = nI d) → post (f_termLimit, f_patternLimit, f_ruleLimit, f_eventLimit, f_termCount, f_patternCount, f_ruleCount, f_eventCount, f_closedTerms, f_closedEvents, f_classCount, f_dirty, f_matchPattern, f_matchDepth, f_levelCount, f_groundLeft, f_costsFresh, S, R, f_orderCount, f_explainedCount, sy, lf, rt, a_termIndex, a_patSymbol, a_patLeft, a_patRight, a_patSubs, a_patTop, a_byTop, a_patternIndex, a_ruleLeft, a_ruleRight, a_eventLeft, a_eventRight, a_eventRule, w, ld, a_members, a_users, a_symbolTerms, a_signTerm, a_levelVar, a_levelRest, a_patValue, a_standsFor, a_order, best', bT', a_gotTerm, a_treeCost, a_explainedEvent)) :
    wpX_relax post (f_termLimit, f_patternLimit, f_ruleLimit, f_eventLimit, f_termCount, f_patternCount, f_ruleCount, f_eventCount, f_closedTerms, f_closedEvents, f_classCount, f_dirty, f_matchPattern, f_matchDepth, f_levelCount, f_groundLeft, f_costsFresh, S, R, f_orderCount, f_explainedCount, sy, lf, rt, a_termIndex, a_patSymbol, a_patLeft, a_patRight, a_patSubs, a_patTop, a_byTop, a_patternIndex, a_ruleLeft, a_ruleRight, a_eventLeft, a_eventRight, a_eventRule, w, ld, a_members, a_users, a_symbolTerms, a_signTerm, a_levelVar, a_levelRest, a_patValue, a_standsFor, a_order, best, bT, a_gotTerm, a_treeCost, a_explainedEvent) (nI t) := by
  have it : vp_in (nI t) 32 := vp_in_nI (by omega) (by omega)
  have ct : (nI t).toNatClampNeg = t := nI_clamp (by omega)
  obtain ⟨l, hl, el, rl⟩ := nm t ht
  have gt := g t ht
  obtain ⟨k, hk, ek⟩ := qa_sg_s gt
  obtain ⟨x, x1, x2, ex⟩ := hw k hk
  have ch := qx_cs_ch hc ht gt
  have ewt : qk_wt sy w t = x := by unfold qk_wt; rw [ek, nI_clamp (by omega), ex, nI_clamp (by omega)]
  have skip : (bt S l = true ∨ ¬ qk_av lf rt ld S t) → post (f_termLimit, f_patternLimit, f_ruleLimit, f_eventLimit, f_termCount, f_patternCount, f_ruleCount, f_eventCount, f_closedTerms, f_closedEvents, f_classCount, f_dirty, f_matchPattern, f_matchDepth, f_levelCount, f_groundLeft, f_costsFresh, S, R, f_orderCount, f_explainedCount, sy, lf, rt, a_termIndex, a_patSymbol, a_patLeft, a_patRight, a_patSubs, a_patTop, a_byTop, a_patternIndex, a_ruleLeft, a_ruleRight, a_eventLeft, a_eventRight, a_eventRule, w, ld, a_members, a_users, a_symbolTerms, a_signTerm, a_levelVar, a_levelRest, a_patValue, a_standsFor, a_order, best, bT, a_gotTerm, a_treeCost, a_explainedEvent) := fun no => K R best bT (qk_U_skip hU hc (by omega) el no) (fun _ _ => ⟨rfl, rfl⟩) hR
  have hS1 : ∀ d, d < 32 → bt S d = true → B d ≤ 4294967296000 := fun d h1 h2 => (hS d h1 h2).1
  unfold wpX_relax
  refine ⟨it, nm_r (e' := nI l) (by rw [ct, el]) ?_⟩
  refine ek_if (qb_t S (j := l) (by omega)) (fun sl => ⟨it, ?_⟩) (fun sl => ?_)
  · rw [ct, ek]
    refine ⟨vp_in_nI hk (by omega), nm_r (e' := lN x) (by rw [nI_clamp (by omega), ex, nI_l (by omega)]) ⟨it, ?_⟩⟩
    have fin : ∀ y : Nat, (∀ d, d < 32 → (∃ j, j < 32 ∧ lf t = nI j ∧ ld j = nI d) → bt S d = true) → y = x + qk_c1 ld B (lf t) → wX_relax_78 post (nI t) (nI l) (lN y) f_termLimit f_patternLimit f_ruleLimit f_eventLimit f_termCount f_patternCount f_ruleCount f_eventCount f_closedTerms f_closedEvents f_classCount f_dirty f_matchPattern f_matchDepth f_levelCount f_groundLeft f_costsFresh S R f_orderCount f_explainedCount sy lf rt a_termIndex a_patSymbol a_patLeft a_patRight a_patSubs a_patTop a_byTop a_patternIndex a_ruleLeft a_ruleRight a_eventLeft a_eventRight a_eventRule w ld a_members a_users a_symbolTerms a_signTerm a_levelVar a_levelRest a_patValue a_standsFor a_order best bT a_gotTerm a_treeCost a_explainedEvent := by
      intro y hleft ey
      unfold wX_relax_78
      refine ⟨it, ?_⟩
      rw [ct]
      rcases ch.2 with e | ⟨j, hj, e⟩
      · have av : qk_av lf rt ld S t := by
          rintro d hd ⟨j, hj, z, e1⟩
          rcases z with z | z
          · exact hleft d hd ⟨j, hj, z, e1⟩
          · rw [e] at z; exact (qa_1ne (by omega) z).elim
        have es : qk_sum sy lf rt ld w B t = y := by unfold qk_sum; rw [ewt, e, qk_c11]; omega
        rw [e, ← es]
        exact br_t rfl (qx_rx124 hc nm g hw hS1 hU ht (by omega) el rl sl av hR K)
      · obtain ⟨d, hd, e1, e2⟩ := nm j hj
        rw [e]
        refine br_f (qa_ne1 (by omega)) ⟨it, vp_in_nI (by omega) (by omega), nm_r (e' := nI d) (by rw [nI_clamp (by omega), e1]) ?_⟩
        refine ek_if (qb_t S (j := d) (by omega)) (fun sd => skip (Or.inr fun av => ?_)) (fun sd => ⟨vp_in_nI (by omega) (by omega), ?_⟩)
        · rw [av d (by omega) ⟨j, by omega, Or.inr e, e1⟩] at sd
          exact absurd sd (by decide)
        · have sd1 : bt S d = true := by
            cases z : bt S d
            · exact (sd z).elim
            · rfl
          have av : qk_av lf rt ld S t := by
            rintro d' hd' ⟨j', hj', z, e1'⟩
            rcases z with z | z
            · exact hleft d' hd' ⟨j', hj', z, e1'⟩
            · have : j = j' := qa_inj (by omega) (by omega) (e.symm.trans z)
              subst this
              have : d = d' := qa_inj (by omega) (by omega) (e1.symm.trans e1')
              subst this; exact sd1
          have es : qk_sum sy lf rt ld w B t = y + B d := by unfold qk_sum; rw [ewt, e, qk_c1N (B := B) (by omega) (by omega) e1]; omega
          refine nm_r (e' := lN (qk_sum sy lf rt ld w B t)) (by rw [nI_clamp (by omega), (hS d (by omega) sd1).2, lN_add, es]) (qx_rx124 hc nm g hw hS1 hU ht (by omega) el rl sl av hR K)
    rcases ch.1 with e | ⟨j, hj, e⟩
    · rw [e]
      refine br_t rfl (fin x (fun d hd ⟨j, hj, z, _⟩ => ?_) (by rw [e, qk_c11]; omega))
      rw [e] at z; exact (qa_1ne (by omega) z).elim
    · obtain ⟨d, hd, e1, e2⟩ := nm j hj
      rw [e]
      refine br_f (qa_ne1 (by omega)) ⟨it, vp_in_nI (by omega) (by omega), nm_r (e' := nI d) (by rw [nI_clamp (by omega), e1]) ?_⟩
      refine ek_if (qb_t S (j := d) (by omega)) (fun sd => skip (Or.inr fun av => ?_)) (fun sd => ⟨vp_in_nI (by omega) (by omega), ?_⟩)
      · rw [av d (by omega) ⟨j, by omega, Or.inl e, e1⟩] at sd
        exact absurd sd (by decide)
      · have sd1 : bt S d = true := by
          cases z : bt S d
          · exact (sd z).elim
          · rfl
        refine nm_r (e' := lN (x + B d)) (by rw [nI_clamp (by omega), (hS d (by omega) sd1).2, lN_add]) (fin (x + B d) (fun d' hd' ⟨j', hj', z, e1'⟩ => ?_) (by rw [e, qk_c1N (B := B) (by omega) (by omega) e1]))
        have : j = j' := qa_inj (by omega) (by omega) (e.symm.trans z)
        subst this
        have : d = d' := qa_inj (by omega) (by omega) (e1.symm.trans e1')
        subst this; exact sd1
  · refine skip (Or.inl ?_)
    cases z : bt S l
    · exact (sl z).elim
    · rfl
end
end
section
theorem qa_cn_list {P : Nat → Prop} {o : Nat → Nat} {c : Nat} : ∀ k, (∀ i, i < k → o i < c ∧ P (o i)) → (∀ i j, i < j → j < k → o i ≠ o j) → qa_cn (fun l => P l ∧ ∀ i, i < k → o i ≠ l) c + k = qa_cn P c
  | 0, _, _ => by
    rw [Nat.add_zero]
    exact qa_cn_eq fun l _ => ⟨fun z => z.1, fun z => ⟨z, fun i hi => absurd hi (Nat.not_lt_zero _)⟩⟩
  | k + 1, h, d => by
    have ih := qa_cn_list (P := P) (o := o) (c := c) k (fun i hi => h i (by omega)) (fun i j h1 h2 => d i j h1 (by omega))
    have a := h k (by omega)
    have r := qa_cn_rem (P := fun l => P l ∧ ∀ i, i < k → o i ≠ l) (Q := fun l => P l ∧ ∀ i, i < k + 1 → o i ≠ l) (a := o k) (N := c) a.1 ⟨a.2, fun i hi => d i k hi (by omega)⟩ (fun l hl => ⟨fun z => ⟨⟨z.1, fun i hi => z.2 i (by omega)⟩, fun e => z.2 k (by omega) e.symm⟩, fun z => ⟨z.1.1, fun i hi e => by
      by_cases q : i = k
      · subst q; exact z.2 e.symm
      · exact z.1.2 i (by omega) e⟩⟩)
    omega
theorem qk_U_iff {c : Nat} {sy lf rt ld w : Nat → Int32} {B : Nat → Nat} {S R : Int32} {best : Nat → Int64} {bT : Nat → Int32} {Pd Pd' : Nat → Prop} (e : ∀ t, t < c → (Pd t ↔ Pd' t)) (h : qk_U c sy lf rt ld w B S R best bT Pd) : qk_U c sy lf rt ld w B S R best bT Pd' := by
  intro l hl el sl
  have k := h l hl el sl
  refine ⟨fun r => ?_, fun r t ht p => k.2 r t ht ((e t ht).mpr p)⟩
  obtain ⟨T, a1, a2, a3⟩ := k.1 r
  obtain ⟨a3, a4, a5, a6, a7⟩ := a3
  exact ⟨T, a1, (e T a1).mp a2, a3, a4, a5, a6, fun t ht p => a7 t ht ((e t ht).mpr p)⟩
def qk_avi (lf rt ld : Nat → Int32) (o : Nat → Nat) (i t : Nat) : Prop := ∀ d, d < 32 → qk_cl lf rt ld t d → ∃ j, j < i ∧ o j = d
def qk_MI (c : Nat) (sy lf rt ld w : Nat → Int32) (S R : Int32) (order : Nat → Int32) (best : Nat → Int64) (bT : Nat → Int32) (noc : Nat) (o B T : Nat → Nat) (Pd : Nat → Prop) : Prop :=
  (∀ i, i < noc → order i = nI (o i) ∧ o i < c ∧ ld (o i) = nI (o i)) ∧ (∀ l, l < 32 → (bt S l = true ↔ ∃ i, i < noc ∧ o i = l)) ∧
  (∀ i, i < noc → best (o i) = lN (B (o i)) ∧ bT (o i) = nI (T (o i)) ∧ T (o i) < c ∧ ld (T (o i)) = nI (o i) ∧ qk_avi lf rt ld o i (T (o i)) ∧ qk_sum sy lf rt ld w B (T (o i)) = B (o i)) ∧
  (∀ i t, i < noc → t < c → ld t = nI (o i) → qk_avi lf rt ld o i t → (B (o i) < qk_sum sy lf rt ld w B t ∨ (B (o i) = qk_sum sy lf rt ld w B t ∧ T (o i) ≤ t))) ∧
  (∀ i j, i < j → j < noc → (B (o i) < B (o j) ∨ (B (o i) = B (o j) ∧ o i < o j))) ∧
  (∀ t l i, t < c → l < c → i < noc → qk_av lf rt ld S t → ld t = nI l → bt S l = false → (B (o i) < qk_sum sy lf rt ld w B t ∨ (B (o i) = qk_sum sy lf rt ld w B t ∧ o i < l))) ∧
  qk_U c sy lf rt ld w B S R best bT Pd ∧ (∀ d, d < 32 → bt R d = true → d < c ∧ ld d = nI d)
def qk_ok (c : Nat) (sy lf rt ld w : Nat → Int32) (ocI : Int32) (order : Nat → Int32) (best : Nat → Int64) (bT : Nat → Int32) : Prop :=
  ∃ (noc : Nat) (o B T : Nat → Nat), ocI = nI noc ∧ noc ≤ c ∧ (∀ i, i < noc → order i = nI (o i) ∧ o i < c ∧ ld (o i) = nI (o i)) ∧ (∀ l, l < c → ld l = nI l → ∃ i, i < noc ∧ o i = l) ∧ qk_ib c sy lf rt ld w B ∧
    (∀ l, l < c → ld l = nI l → best l = lN (B l) ∧ B l ≤ 4294967296000 ∧ bT l = nI (T l) ∧ T l < c ∧ ld (T l) = nI l ∧ qk_sum sy lf rt ld w B (T l) = B l ∧ ∀ t, t < c → ld t = nI l → qk_sum sy lf rt ld w B t = B l → T l ≤ t) ∧
    (∀ i j, i < j → j < noc → (B (o i) < B (o j) ∨ (B (o i) = B (o j) ∧ o i < o j)))
section
variable {c : Nat} {sy lf rt ld w : Nat → Int32} {S R : Int32} {order bT : Nat → Int32} {best : Nat → Int64} {noc : Nat} {o B T : Nat → Nat} {Pd : Nat → Prop}
theorem qk_MI_bd (hw : qk_wok w) (hc : c ≤ 32) (nm : qc_nm c ld) (g : ∀ t, t < c → qa_tok sy lf rt t) (M : qk_MI c sy lf rt ld w S R order best bT noc o B T Pd) : ∀ i, i < noc → B (o i) + 1000 ≤ 1000 * 2 ^ (i + 1) := by
  intro i
  induction i using Nat.strongRecOn with
  | ind i ih =>
    intro hi
    have k := M.2.2.1 i hi
    have bd := qk_sum_bd (B := B) (X := 1000 * 2 ^ i - 1000) hw hc nm k.2.2.1 (g _ k.2.2.1) (fun d hd _ cd => by
      obtain ⟨j, hj, ej⟩ := k.2.2.2.2.1 d (by omega) cd
      have a := ih j hj (by omega)
      rw [ej] at a
      have p : 2 ^ (j + 1) ≤ 2 ^ i := Nat.pow_le_pow_right (by omega) (by omega)
      omega)
    rw [k.2.2.2.2.2] at bd
    have p1 : 1 ≤ 2 ^ i := Nat.one_le_two_pow
    have p2 : 2 ^ (i + 1) = 2 * 2 ^ i := by rw [Nat.pow_succ]; omega
    omega
theorem qk_MI_S (hw : qk_wok w) (hc : c ≤ 32) (nm : qc_nm c ld) (g : ∀ t, t < c → qa_tok sy lf rt t) (hn : noc ≤ 32) (M : qk_MI c sy lf rt ld w S R order best bT noc o B T Pd) : ∀ d, d < 32 → bt S d = true → B d ≤ 4294967296000 ∧ best d = lN (B d) := by
  intro d hd sd
  obtain ⟨i, hi, e⟩ := (M.2.1 d hd).mp sd
  have a := qk_MI_bd hw hc nm g M i hi
  rw [e] at a
  have p : 2 ^ (i + 1) ≤ 2 ^ 32 := Nat.pow_le_pow_right (by omega) (by omega)
  refine ⟨by omega, ?_⟩
  have := (M.2.2.1 i hi).1
  rwa [e] at this
theorem qk_MI_inj (M : qk_MI c sy lf rt ld w S R order best bT noc o B T Pd) : ∀ i j, i < j → j < noc → o i ≠ o j := by
  intro i j h1 h2 e
  have := M.2.2.2.2.1 i j h1 h2
  rw [e] at this
  omega
theorem qk_MI_cnt (hc : c ≤ 32) (M : qk_MI c sy lf rt ld w S R order best bT noc o B T Pd) : qa_cn (fun l => ld l = nI l ∧ ∀ i, i < noc → o i ≠ l) c + noc = qa_cn (fun l => ld l = nI l) c :=
  qa_cn_list noc (fun i hi => ⟨(M.1 i hi).2.1, (M.1 i hi).2.2⟩) (qk_MI_inj M)
theorem qk_MI_fin (hw : qk_wok w) (hc : c ≤ 32) (nm : qc_nm c ld) (g : ∀ t, t < c → qa_tok sy lf rt t) (M : qk_MI c sy lf rt ld w S R order best bT noc o B T Pd) (all : ∀ l, l < c → ld l = nI l → ∃ i, i < noc ∧ o i = l) : qk_ok c sy lf rt ld w (nI noc) order best bT := by
  have cnt := qk_MI_cnt hc M
  have nle : noc ≤ c := by have := qa_cn_le (fun l => ld l = nI l) c; omega
  have srt := M.2.2.2.2.1
  have late : ∀ i t, i < noc → t < c → ld t = nI (o i) → ¬ qk_avi lf rt ld o i t → B (o i) < qk_sum sy lf rt ld w B t := by
    intro i t hi ht et na
    have ex : ∃ d, d < 32 ∧ qk_cl lf rt ld t d ∧ ¬ ∃ j, j < i ∧ o j = d := by
      refine Classical.byContradiction fun z => na fun d hd cd => ?_
      exact Classical.byContradiction fun q => z ⟨d, hd, cd, q⟩
    obtain ⟨d, hd, cd, nj⟩ := ex
    have rd := qk_cl_root hc nm ht (g t ht) hd cd
    obtain ⟨j, hj, ej⟩ := all d rd.1 rd.2.1
    have lt := qk_cl_lt (B := B) (sy := sy) hw hd (g t ht) cd
    have ij : i ≤ j := by
      refine Classical.byContradiction fun z => nj ⟨j, by omega, ej⟩
    by_cases e : i = j
    · subst e; rw [ej]; exact lt
    · have := srt i j (by omega) hj
      rw [ej] at this
      omega
  refine ⟨noc, o, B, T, rfl, nle, M.1, all, ⟨fun t l ht et hl => ?_, fun l hl el => ?_⟩, fun l hl el => ?_, srt⟩
  · obtain ⟨l', hl', e1, e2⟩ := nm t ht
    have : l = l' := qa_inj (by omega) (by omega) (et.symm.trans e1)
    subst this
    obtain ⟨i, hi, ei⟩ := all l (by omega) e2
    subst ei
    by_cases av : qk_avi lf rt ld o i t
    · have := M.2.2.2.1 i t hi ht et av; omega
    · have := late i t hi ht et av; omega
  · obtain ⟨i, hi, ei⟩ := all l hl el
    subst ei
    have k := M.2.2.1 i hi
    exact ⟨T (o i), k.2.2.1, k.2.2.2.1, k.2.2.2.2.2.symm⟩
  · obtain ⟨i, hi, ei⟩ := all l hl el
    subst ei
    have k := M.2.2.1 i hi
    have bd := qk_MI_bd hw hc nm g M i hi
    have p : 2 ^ (i + 1) ≤ 2 ^ 32 := Nat.pow_le_pow_right (by omega) (by omega)
    refine ⟨k.1, by omega, k.2.1, k.2.2.1, k.2.2.2.1, k.2.2.2.2.2, fun t ht et es => ?_⟩
    by_cases av : qk_avi lf rt ld o i t
    · have := M.2.2.2.1 i t hi ht et av; omega
    · have := late i t hi ht et av; omega
theorem qk_MI_all (hc : c ≤ 32) (nm : qc_nm c ld) (g : ∀ t, t < c → qa_tok sy lf rt t) (M : qk_MI c sy lf rt ld w S R order best bT noc o B T (fun _ => True)) (none : ∀ l, l < 32 → bt R l = true → bt S l = true) : ∀ l, l < c → ld l = nI l → ∃ i, i < noc ∧ o i = l := by
  have key : ∀ t, t < c → ∀ l, l < 32 → ld t = nI l → bt S l = true := by
    intro t
    induction t using Nat.strongRecOn with
    | ind t ih =>
      intro ht l hl el
      obtain ⟨l', hl', e1, e2⟩ := nm t ht
      have : l = l' := qa_inj (by omega) (by omega) (el.symm.trans e1)
      subst this
      cases s : bt S l
      · exfalso
        have av : qk_av lf rt ld S t := by
          intro d hd cd
          have rd := qk_cl_root hc nm ht (g t ht) hd cd
          exact ih d rd.2.2 rd.1 d hd rd.2.1
        have u := M.2.2.2.2.2.2.1 l (by omega) e2 s
        cases r : bt R l
        · exact u.2 r t ht trivial el av
        · rw [none l hl r] at s; exact absurd s (by decide)
      · rfl
  intro l hl el
  exact (M.2.1 l (by omega)).mp (key l hl l (by omega) el)
theorem qk_MI_next (hw : qk_wok w) (hc : c ≤ 32) (nm : qc_nm c ld) (g : ∀ t, t < c → qa_tok sy lf rt t) (M : qk_MI c sy lf rt ld w S R order best bT noc o B T (fun _ => True)) {x : Nat} (hx : x < 32) (rx : bt R x = true) (sx : bt S x = false) {v : Nat → Nat}
    (hv : ∀ l Tl, l < c → Tl < c → bt R l = true → bt S l = false → bT l = nI Tl → v l = qk_sum sy lf rt ld w B Tl) (mn : ∀ y, y < 32 → bt R y = true → bt S y = false → (v x < v y ∨ (v x = v y ∧ x ≤ y))) :
    ∃ o' B' T', qk_MI c sy lf rt ld w (S ||| ((1 : Int32) <<< (nI x &&& 31))) R (upd order noc (nI x)) best bT (noc + 1) o' B' T' (fun t => ¬ qk_cl lf rt ld t x) := by
  obtain ⟨m1, m2, m3, m4, m5, m6, m7, m8⟩ := M
  have cx := m8 x hx rx
  obtain ⟨Tx, a1, _, a3, a4, a5, a6, a7⟩ := (m7 x cx.1 cx.2 sx).1 rx
  have vx := hv x Tx cx.1 a1 rx sx a6
  have ox : ∀ i, i < noc → o i ≠ x := by
    intro i hi e
    have := (m2 x hx).mpr ⟨i, hi, e⟩
    rw [sx] at this; exact absurd this (by decide)
  have sb : ∀ l, l < 32 → (bt (S ||| ((1 : Int32) <<< (nI x &&& 31))) l = true ↔ bt S l = true ∨ l = x) := by
    intro l hl
    rw [b_or, Bool.or_eq_true, qb_s hx hl, decide_eq_true_eq]
  have sme : ∀ t, t < c → ¬ qk_cl lf rt ld t x → qk_sum sy lf rt ld w (fun l => if l = x then qk_sum sy lf rt ld w B Tx else B l) t = qk_sum sy lf rt ld w B t := by
    intro t ht nc
    refine qk_sum_eq hc nm ht (g t ht) fun d hd _ cd => ?_
    exact if_neg (fun (e : d = x) => nc (e ▸ cd))
  have avx : ∀ t, qk_av lf rt ld S t → ¬ qk_cl lf rt ld t x := by
    intro t av cd
    have := av x hx cd
    rw [sx] at this; exact absurd this (by decide)
  have avix : ∀ i t, i ≤ noc → qk_avi lf rt ld o i t → ¬ qk_cl lf rt ld t x := by
    intro i t hi av cd
    obtain ⟨j, hj, e⟩ := av x hx cd
    exact ox j (by omega) e
  have on : ∀ i, i < noc → (fun i => if i = noc then x else o i) i = o i := fun i hi => if_neg (by omega)
  have onn : (fun i => if i = noc then x else o i) noc = x := if_pos rfl
  have avie : ∀ i t, i ≤ noc → (qk_avi lf rt ld (fun i => if i = noc then x else o i) i t ↔ qk_avi lf rt ld o i t) := by
    intro i t hi
    constructor
    · intro h d hd cd
      obtain ⟨j, hj, e⟩ := h d hd cd
      rw [on j (by omega)] at e
      exact ⟨j, hj, e⟩
    · intro h d hd cd
      obtain ⟨j, hj, e⟩ := h d hd cd
      refine ⟨j, hj, ?_⟩
      rw [on j (by omega)]; exact e
  have Bx : (fun l => if l = x then qk_sum sy lf rt ld w B Tx else B l) x = qk_sum sy lf rt ld w B Tx := if_pos rfl
  have Bo : ∀ i, i < noc → (fun l => if l = x then qk_sum sy lf rt ld w B Tx else B l) (o i) = B (o i) := fun i hi => if_neg (ox i hi)
  have To : ∀ i, i < noc → (fun l => if l = x then Tx else T l) (o i) = T (o i) := fun i hi => if_neg (ox i hi)
  have Sav : ∀ t, qk_av lf rt ld S t ↔ qk_avi lf rt ld o noc t := by
    intro t
    exact ⟨fun h d hd cd => (m2 d hd).mp (h d hd cd), fun h d hd cd => (m2 d hd).mpr (h d hd cd)⟩
  refine ⟨fun i => if i = noc then x else o i, fun l => if l = x then qk_sum sy lf rt ld w B Tx else B l, fun l => if l = x then Tx else T l, ?_, ?_, ?_, ?_, ?_, ?_, ?_, m8⟩
  · intro i hi
    by_cases z : i = noc
    · subst z; rw [onn, pk_us]; exact ⟨rfl, cx⟩
    · rw [on i (by omega), pk_un z]; exact m1 i (by omega)
  · intro l hl
    rw [sb l hl, m2 l hl]
    constructor
    · rintro (⟨i, hi, e⟩ | e)
      · exact ⟨i, by omega, by rw [on i hi]; exact e⟩
      · exact ⟨noc, by omega, by rw [onn]; exact e.symm⟩
    · rintro ⟨i, hi, e⟩
      by_cases z : i = noc
      · subst z; rw [onn] at e; exact Or.inr e.symm
      · rw [on i (by omega)] at e; exact Or.inl ⟨i, by omega, e⟩
  · intro i hi
    by_cases z : i = noc
    · subst z
      rw [onn, Bx, show (fun l => if l = x then Tx else T l) x = Tx from if_pos rfl]
      refine ⟨a5, a6, a1, a3, (avie i Tx (Nat.le_refl _)).mpr ((Sav Tx).mp a4), sme Tx a1 (avx Tx a4)⟩
    · rw [on i (by omega), Bo i (by omega), To i (by omega)]
      have k := m3 i (by omega)
      refine ⟨k.1, k.2.1, k.2.2.1, k.2.2.2.1, (avie i _ (by omega)).mpr k.2.2.2.2.1, ?_⟩
      rw [sme _ k.2.2.1 (avix i _ (by omega) k.2.2.2.2.1)]; exact k.2.2.2.2.2
  · intro i t hi ht et av
    by_cases z : i = noc
    · subst z
      rw [onn] at et ⊢
      rw [Bx, show (fun l => if l = x then Tx else T l) x = Tx from if_pos rfl]
      have av' := (avie i t (Nat.le_refl _)).mp av
      rw [sme t ht (avix i t (Nat.le_refl _) av')]
      exact a7 t ht trivial et ((Sav t).mpr av')
    · rw [on i (by omega)] at et ⊢
      have av' := (avie i t (by omega)).mp av
      rw [Bo i (by omega), To i (by omega), sme t ht (avix i t (by omega) av')]
      exact m4 i t (by omega) ht et av'
  · intro i j hij hj
    by_cases z : j = noc
    · subst z
      rw [onn, on i hij, Bx, Bo i hij]
      exact m6 Tx x i a1 cx.1 hij a4 a3 sx
    · rw [on i (by omega), on j (by omega), Bo i (by omega), Bo j (by omega)]
      exact m5 i j hij (by omega)
  · intro t l i ht hl hi av et sl
    have sl' : bt S l = false ∧ l ≠ x := by
      constructor
      · cases q : bt S l
        · rfl
        · rw [(sb l (by omega)).mpr (Or.inl q)] at sl; exact absurd sl (by decide)
      · rintro rfl
        rw [(sb l (by omega)).mpr (Or.inr rfl)] at sl; exact absurd sl (by decide)
    have xt : qk_sum sy lf rt ld w B Tx < qk_sum sy lf rt ld w (fun l => if l = x then qk_sum sy lf rt ld w B Tx else B l) t ∨ (qk_sum sy lf rt ld w B Tx = qk_sum sy lf rt ld w (fun l => if l = x then qk_sum sy lf rt ld w B Tx else B l) t ∧ x < l) := by
      by_cases cd : qk_cl lf rt ld t x
      · left
        have := qk_cl_lt (B := fun l => if l = x then qk_sum sy lf rt ld w B Tx else B l) (sy := sy) hw hx (g t ht) cd
        rw [if_pos rfl] at this; exact this
      · rw [sme t ht cd]
        have av0 : qk_av lf rt ld S t := by
          intro d hd c'
          rcases (sb d hd).mp (av d hd c') with q | q
          · exact q
          · subst q; exact (cd c').elim
        obtain ⟨l', hl', e1, e2⟩ := nm t ht
        have : l = l' := qa_inj (by omega) (by omega) (et.symm.trans e1)
        subst this
        have u := m7 l hl e2 sl'.1
        cases r : bt R l
        · exact (u.2 r t ht trivial et av0).elim
        · obtain ⟨Tl, b1, _, b3, b4, b5, b6, b7⟩ := u.1 r
          have q := b7 t ht trivial et av0
          have vl := hv l Tl hl b1 r sl'.1 b6
          have mm := mn l (by omega) r sl'.1
          rw [vx, vl] at mm
          have := sl'.2
          omega
    by_cases z : i = noc
    · subst z; rw [onn, Bx]; exact xt
    · rw [on i (by omega), Bo i (by omega)]
      have k := m6 Tx x i a1 cx.1 (by omega) a4 a3 sx
      by_cases cd : qk_av lf rt ld S t
      · rw [sme t ht (avx t cd)]
        exact m6 t l i ht hl (by omega) cd et sl'.1
      · have cdx : qk_cl lf rt ld t x := by
          refine Classical.byContradiction fun q => cd fun d hd c' => ?_
          rcases (sb d hd).mp (av d hd c') with w | w
          · exact w
          · subst w; exact (q c').elim
        left
        have := qk_cl_lt (B := fun l => if l = x then qk_sum sy lf rt ld w B Tx else B l) (sy := sy) hw hx (g t ht) cdx
        rw [if_pos rfl] at this
        omega
  · intro l hl el sl
    have sl' : bt S l = false := by
      cases q : bt S l
      · rfl
      · rw [(sb l (by omega)).mpr (Or.inl q)] at sl; exact absurd sl (by decide)
    have u := m7 l hl el sl'
    have ave : ∀ t, ¬ qk_cl lf rt ld t x → (qk_av lf rt ld (S ||| ((1 : Int32) <<< (nI x &&& 31))) t ↔ qk_av lf rt ld S t) := by
      intro t nc
      constructor
      · intro h d hd cd
        rcases (sb d hd).mp (h d hd cd) with q | q
        · exact q
        · subst q; exact (nc cd).elim
      · intro h d hd cd
        exact (sb d hd).mpr (Or.inl (h d hd cd))
    refine ⟨fun r => ?_, fun r t ht p et av => u.2 r t ht trivial et ((ave t p).mp av)⟩
    obtain ⟨Tl, b1, _, b3, b4, b5, b6, b7⟩ := u.1 r
    have nl := avx Tl b4
    refine ⟨Tl, b1, nl, b3, (ave Tl nl).mpr b4, ?_, b6, fun t ht p et av => ?_⟩
    · rw [sme Tl b1 nl]; exact b5
    · rw [sme Tl b1 nl, sme t ht p]
      exact b7 t ht trivial et ((ave t p).mp av)
end
end
section
section
variable {f_termLimit f_patternLimit f_ruleLimit f_eventLimit f_termCount f_patternCount f_ruleCount f_eventCount f_closedTerms f_closedEvents f_classCount f_dirty f_matchPattern f_matchDepth f_levelCount f_groundLeft f_costsFresh f_orderCount f_explainedCount : Int32} {a_termSymbol a_termLeft a_termRight a_termIndex a_patSymbol a_patLeft a_patRight a_patSubs a_patTop a_byTop a_patternIndex a_ruleLeft a_ruleRight a_eventLeft a_eventRight a_eventRule a_symbolWeight a_leader a_members a_users a_symbolTerms a_signTerm a_levelVar a_levelRest a_patValue a_standsFor a_order a_bestTerm a_gotTerm a_explainedEvent : Nat → Int32} {a_treeCost : Nat → Int64}
variable {S R : Int32} {best : Nat → Int64} {v : Nat → Nat}
theorem qx_cheap {post : Int32 → Prop} (hv : ∀ l, l < 32 → bt R l = true → bt S l = false → best l = lN (v l) ∧ v l < 2 ^ 63)
    (K0 : (∀ l, l < 32 → bt R l = true → bt S l = true) → post (-1)) (K1 : ∀ x, x < 32 → bt R x = true → bt S x = false → (∀ y, y < 32 → bt R y = true → bt S y = false → (v x < v y ∨ (v x = v y ∧ x ≤ y))) → post (nI x)) : wpX_cheapestOpen post (f_termLimit, f_patternLimit, f_ruleLimit, f_eventLimit, f_termCount, f_patternCount, f_ruleCount, f_eventCount, f_closedTerms, f_closedEvents, f_classCount, f_dirty, f_matchPattern, f_matchDepth, f_levelCount, f_groundLeft, f_costsFresh, S, R, f_orderCount, f_explainedCount, a_termSymbol, a_termLeft, a_termRight, a_termIndex, a_patSymbol, a_patLeft, a_patRight, a_patSubs, a_patTop, a_byTop, a_patternIndex, a_ruleLeft, a_ruleRight, a_eventLeft, a_eventRight, a_eventRule, a_symbolWeight, a_leader, a_members, a_users, a_symbolTerms, a_signTerm, a_levelVar, a_levelRest, a_patValue, a_standsFor, a_order, best, a_bestTerm, a_gotTerm, a_treeCost, a_explainedEvent) := by
  have ob : ∀ l, l < 32 → (bt (R &&& (S ^^^ (-1))) l = true ↔ bt R l = true ∧ bt S l = false) := by
    intro l hl
    rw [b_and, Bool.and_eq_true, qb_not _ hl]
    cases bt S l <;> simp
  unfold wpX_cheapestOpen
  refine nm_e ⟨33, qb_loop (fun k r s => wX_cheapestOpen_14 post f_termLimit f_patternLimit f_ruleLimit f_eventLimit f_termCount f_patternCount f_ruleCount f_eventCount f_closedTerms f_closedEvents f_classCount f_dirty f_matchPattern f_matchDepth f_levelCount f_groundLeft f_costsFresh S R f_orderCount f_explainedCount a_termSymbol a_termLeft a_termRight a_termIndex a_patSymbol a_patLeft a_patRight a_patSubs a_patTop a_byTop a_patternIndex a_ruleLeft a_ruleRight a_eventLeft a_eventRight a_eventRule a_symbolWeight a_leader a_members a_users a_symbolTerms a_signTerm a_levelVar a_levelRest a_patValue a_standsFor a_order best a_bestTerm a_gotTerm a_treeCost a_explainedEvent k s r) (R &&& (S ^^^ (-1))) (fun i s => (s = -1 ∧ ∀ l, l < i → l < 32 → ¬ (bt R l = true ∧ bt S l = false)) ∨ (∃ x, x < i ∧ x < 32 ∧ s = nI x ∧ (bt R x = true ∧ bt S x = false) ∧ ∀ y, y < i → y < 32 → (bt R y = true ∧ bt S y = false) → (v x < v y ∨ (v x = v y ∧ x ≤ y)))) ?_ ?_ ?_ (-1) (Or.inl ⟨rfl, fun l hl => absurd hl (Nat.not_lt_zero _)⟩)⟩
  · intro k s hs
    rw [wX_cheapestOpen_14]
    refine br_t rfl ?_
    rcases hs with ⟨rfl, h⟩ | ⟨x, _, hx, rfl, ho, h⟩
    · refine K0 fun l hl r => ?_
      cases q : bt S l
      · exact (h l hl hl ⟨r, q⟩).elim
      · rfl
    · exact K1 x hx ho.1 ho.2 fun y hy r s => h y hy hy ⟨r, s⟩
  · intro i s hi bi hs
    have no : ¬ (bt R i = true ∧ bt S i = false) := fun z => by
      rw [(ob i hi).mpr z] at bi; exact absurd bi (by decide)
    rcases hs with ⟨rfl, h⟩ | ⟨x, xi, hx, rfl, ho, h⟩
    · refine Or.inl ⟨rfl, fun l hl h32 z => ?_⟩
      by_cases e : l = i
      · subst e; exact no z
      · exact h l (by omega) h32 z
    · refine Or.inr ⟨x, by omega, hx, rfl, ho, fun y hy h32 z => ?_⟩
      by_cases e : y = i
      · subst e; exact (no z).elim
      · exact h y (by omega) h32 z
  · intro k i r s hr lo bi hs Kn
    have i32 := lo.1
    have io := (ob i i32).mp bi
    have vi := hv i i32 io.1 io.2
    rw [wX_cheapestOpen_14]
    refine br_f hr (qx_low lo ?_)
    rcases hs with ⟨rfl, h⟩ | ⟨x, xi, hx, rfl, ho, h⟩
    · refine br_t rfl ?_
      unfold wX_cheapestOpen_45
      refine nm_e (Kn _ (Or.inr ⟨i, by omega, i32, rfl, io, fun y hy h32 z => ?_⟩))
      by_cases e : y = i
      · subst e; exact Or.inr ⟨rfl, Nat.le_refl _⟩
      · exact (h y (by omega) h32 z).elim
    · have vx := hv x hx ho.1 ho.2
      refine br_f (qa_ne1 (by omega)) ⟨vp_in_nI i32 (by omega), vp_in_nI hx (by omega), ?_⟩
      rw [show (nI x).toNatClampNeg = x from nI_clamp (by omega), show (nI i).toNatClampNeg = i from nI_clamp (by omega), vx.1, vi.1]
      refine ek_if (pk_lLE vx.2 vi.2) (fun le => nm_e (Kn _ (Or.inr ⟨x, by omega, hx, rfl, ho, fun y hy h32 z => ?_⟩))) (fun nle => ?_)
      · by_cases e : y = i
        · subst e; omega
        · exact h y (by omega) h32 z
      · unfold wX_cheapestOpen_45
        refine nm_e (Kn _ (Or.inr ⟨i, by omega, i32, rfl, io, fun y hy h32 z => ?_⟩))
        by_cases e : y = i
        · subst e; exact Or.inr ⟨rfl, Nat.le_refl _⟩
        · have := h y (by omega) h32 z; omega
end
theorem qk_MI_re {c : Nat} {sy lf rt ld w : Nat → Int32} {S R R' : Int32} {order bT bT' : Nat → Int32} {best best' : Nat → Int64} {noc : Nat} {o B T : Nat → Nat} {Pd Pd' : Nat → Prop} (hc : c ≤ 32) (M : qk_MI c sy lf rt ld w S R order best bT noc o B T Pd)
    (U : qk_U c sy lf rt ld w B S R' best' bT' Pd') (e : ∀ d, bt S d = true → best' d = best d ∧ bT' d = bT d) (hR : ∀ d, d < 32 → bt R' d = true → d < c ∧ ld d = nI d) : qk_MI c sy lf rt ld w S R' order best' bT' noc o B T Pd' := by
  obtain ⟨m1, m2, m3, m4, m5, m6, m7, m8⟩ := M
  refine ⟨m1, m2, fun i hi => ?_, m4, m5, m6, U, hR⟩
  have k := m3 i hi
  have q := e (o i) ((m2 (o i) (by have := (m1 i hi).2.1; omega)).mpr ⟨i, hi, rfl⟩)
  rw [q.1, q.2]; exact k
section
variable {f_termLimit f_patternLimit f_ruleLimit f_eventLimit f_termCount f_patternCount f_ruleCount f_eventCount f_closedEvents f_dirty f_matchPattern f_matchDepth f_levelCount f_groundLeft f_explainedCount : Int32} {a_termIndex a_patSymbol a_patLeft a_patRight a_patSubs a_patTop a_byTop a_patternIndex a_ruleLeft a_ruleRight a_eventLeft a_eventRight a_eventRule a_members a_symbolTerms a_signTerm a_levelVar a_levelRest a_patValue a_standsFor a_gotTerm a_explainedEvent : Nat → Int32} {a_treeCost : Nat → Int64}
variable {c : Nat} {sy lf rt ld w mem usr syt sgt : Nat → Int32} {cc cf : Int32}
theorem qx_c116 {post : SX → Prop} {J : Int32 → Int32 → Int32 → Int32 → Int32 → Int32 → Int32 → Int32 → Int32 → Int32 → Int32 → Int32 → Int32 → Int32 → Int32 → Int32 → Int32 → Int32 → Int32 → Int32 → Int32 → Int32 → (Nat → Int32) → (Nat → Int32) → (Nat → Int32) → (Nat → Int32) → (Nat → Int32) → (Nat → Int32) → (Nat → Int32) → (Nat → Int32) → (Nat → Int32) → (Nat → Int32) → (Nat → Int32) → (Nat → Int32) → (Nat → Int32) → (Nat → Int32) → (Nat → Int32) → (Nat → Int32) → (Nat → Int32) → (Nat → Int32) → (Nat → Int32) → (Nat → Int32) → (Nat → Int32) → (Nat → Int32) → (Nat → Int32) → (Nat → Int32) → (Nat → Int32) → (Nat → Int32) → (Nat → Int32) → (Nat → Int64) → (Nat → Int32) → (Nat → Int32) → (Nat → Int64) → (Nat → Int32) → Prop} {x1 oc S : Int32} {ord : Nat → Int32} {x noc : Nat} {o B T : Nat → Nat} {R : Int32} {best : Nat → Int64} {bT : Nat → Int32} (hC : qx_cs c sy lf rt ld mem usr syt sgt cc) (hw : qk_wok w) (hx : x < c) (rx : ld x = nI x) (hn : noc ≤ 32)
    (M : qk_MI c sy lf rt ld w S R ord best bT noc o B T (fun t => ¬ qk_cl lf rt ld t x))
    (K : ∀ R best bT, qk_MI c sy lf rt ld w S R ord best bT noc o B T (fun _ => True) → J (x1 + 1) f_termLimit f_patternLimit f_ruleLimit f_eventLimit f_termCount f_patternCount f_ruleCount f_eventCount (nI c) f_closedEvents cc f_dirty f_matchPattern f_matchDepth f_levelCount f_groundLeft cf S R oc f_explainedCount sy lf rt a_termIndex a_patSymbol a_patLeft a_patRight a_patSubs a_patTop a_byTop a_patternIndex a_ruleLeft a_ruleRight a_eventLeft a_eventRight a_eventRule w ld a_members usr a_symbolTerms a_signTerm a_levelVar a_levelRest a_patValue a_standsFor ord best bT a_gotTerm a_treeCost a_explainedEvent) :
    ∃ k, wX_refreshCosts_116 post J x1 k (usr x) f_termLimit f_patternLimit f_ruleLimit f_eventLimit f_termCount f_patternCount f_ruleCount f_eventCount (nI c) f_closedEvents cc f_dirty f_matchPattern f_matchDepth f_levelCount f_groundLeft cf S R oc f_explainedCount sy lf rt a_termIndex a_patSymbol a_patLeft a_patRight a_patSubs a_patTop a_byTop a_patternIndex a_ruleLeft a_ruleRight a_eventLeft a_eventRight a_eventRule w ld a_members usr a_symbolTerms a_signTerm a_levelVar a_levelRest a_patValue a_standsFor ord best bT a_gotTerm a_treeCost a_explainedEvent := by
  have hc := hC.1
  have nm := hC.2.2.1
  have g := hC.2.1
  have ub : ∀ t, t < 32 → (bt (usr x) t = true ↔ t < c ∧ qk_cl lf rt ld t x) := by
    intro t ht
    rw [hC.2.2.2.2.1 x t hx rx ht]
    constructor
    · rintro ⟨a, b⟩
      refine ⟨a, ?_⟩
      have ch := qx_cs_ch hc a (g t a)
      rcases b with b | b
      · rcases ch.1 with e | ⟨j, hj, e⟩
        · rw [e, qc_lb1] at b; exact (qa_1ne (by omega) b).elim
        · rw [e, qc_lbN _ (by omega)] at b; exact ⟨j, by omega, Or.inl e, b⟩
      · rcases ch.2 with e | ⟨j, hj, e⟩
        · rw [e, qc_lb1] at b; exact (qa_1ne (by omega) b).elim
        · rw [e, qc_lbN _ (by omega)] at b; exact ⟨j, by omega, Or.inr e, b⟩
    · rintro ⟨a, j, hj, e, b⟩
      refine ⟨a, ?_⟩
      rcases e with e | e
      · left; rw [e, qc_lbN _ (by omega)]; exact b
      · right; rw [e, qc_lbN _ (by omega)]; exact b
  refine ⟨33, qb_loop (σ := Int32 × (Nat → Int64) × (Nat → Int32)) (fun k r s => wX_refreshCosts_116 post J x1 k r f_termLimit f_patternLimit f_ruleLimit f_eventLimit f_termCount f_patternCount f_ruleCount f_eventCount (nI c) f_closedEvents cc f_dirty f_matchPattern f_matchDepth f_levelCount f_groundLeft cf S s.1 oc f_explainedCount sy lf rt a_termIndex a_patSymbol a_patLeft a_patRight a_patSubs a_patTop a_byTop a_patternIndex a_ruleLeft a_ruleRight a_eventLeft a_eventRight a_eventRule w ld a_members usr a_symbolTerms a_signTerm a_levelVar a_levelRest a_patValue a_standsFor ord s.2.1 s.2.2 a_gotTerm a_treeCost a_explainedEvent) (usr x) (fun i s => qk_MI c sy lf rt ld w S s.1 ord s.2.1 s.2.2 noc o B T (fun t => ¬ qk_cl lf rt ld t x ∨ t < i)) ?_ ?_ ?_ (R, best, bT) ?_⟩
  · rintro k ⟨R', best', bT'⟩ hs
    rw [wX_refreshCosts_116]
    refine br_t rfl (nm_e (K R' best' bT' (qk_MI_re hc hs (qk_U_iff (fun t ht => ⟨fun _ => trivial, fun _ => Or.inr (by omega)⟩) hs.2.2.2.2.2.2.1) (fun _ _ => ⟨rfl, rfl⟩) hs.2.2.2.2.2.2.2)))
  · rintro i ⟨R', best', bT'⟩ hi bi hs
    refine qk_MI_re hc hs (qk_U_iff (fun t ht => ⟨fun z => z.elim Or.inl (fun q => Or.inr (by omega)), fun z => z.elim Or.inl (fun q => ?_)⟩) hs.2.2.2.2.2.2.1) (fun _ _ => ⟨rfl, rfl⟩) hs.2.2.2.2.2.2.2
    by_cases e : t = i
    · subst e
      refine Or.inl fun cl => ?_
      rw [(ub t hi).mpr ⟨ht, cl⟩] at bi; exact absurd bi (by decide)
    · exact Or.inr (by omega)
  · rintro k i r ⟨R', best', bT'⟩ hr lo bi hs Kn
    have iu := (ub i lo.1).mp bi
    rw [wX_refreshCosts_116]
    refine br_f hr (qx_low lo (qx_relax hc nm g hw (qk_MI_S hw hc nm g hn hs) hs.2.2.2.2.2.2.1 iu.1 hs.2.2.2.2.2.2.2 ?_))
    intro R2 best2 bT2 U2 e2 r2
    refine nm_e (Kn (R2, best2, bT2) (qk_MI_re hc hs (qk_U_iff (fun t ht => ⟨fun z => z.elim (fun z => z.elim Or.inl (fun q => Or.inr (by omega))) (fun q => Or.inr (by omega)), fun z => z.elim (fun q => Or.inl (Or.inl q)) (fun q => ?_)⟩) U2) e2 r2))
    by_cases e : t = i
    · exact Or.inr e
    · exact Or.inl (Or.inr (by omega))
  · exact qk_MI_re hc M (qk_U_iff (fun t ht => ⟨Or.inl, fun z => z.elim id (fun q => absurd q (Nat.not_lt_zero _))⟩) M.2.2.2.2.2.2.1) (fun _ _ => ⟨rfl, rfl⟩) M.2.2.2.2.2.2.2
theorem qx_c56 {post : SX → Prop} (hC : qx_cs c sy lf rt ld mem usr syt sgt cc) (hw : qk_wok w)
    (K : ∀ S R oc ord best bT, qk_ok c sy lf rt ld w oc ord best bT → post (f_termLimit, f_patternLimit, f_ruleLimit, f_eventLimit, f_termCount, f_patternCount, f_ruleCount, f_eventCount, nI c, f_closedEvents, cc, f_dirty, f_matchPattern, f_matchDepth, f_levelCount, f_groundLeft, 1, S, R, oc, f_explainedCount, sy, lf, rt, a_termIndex, a_patSymbol, a_patLeft, a_patRight, a_patSubs, a_patTop, a_byTop, a_patternIndex, a_ruleLeft, a_ruleRight, a_eventLeft, a_eventRight, a_eventRule, w, ld, a_members, usr, a_symbolTerms, a_signTerm, a_levelVar, a_levelRest, a_patValue, a_standsFor, ord, best, bT, a_gotTerm, a_treeCost, a_explainedEvent)) :
    ∀ k noc S R ord best bT o B T, 33 ≤ k + noc → qk_MI c sy lf rt ld w S R ord best bT noc o B T (fun _ => True) → wX_refreshCosts_56 post k (nI noc) f_termLimit f_patternLimit f_ruleLimit f_eventLimit f_termCount f_patternCount f_ruleCount f_eventCount (nI c) f_closedEvents cc f_dirty f_matchPattern f_matchDepth f_levelCount f_groundLeft cf S R (nI noc) f_explainedCount sy lf rt a_termIndex a_patSymbol a_patLeft a_patRight a_patSubs a_patTop a_byTop a_patternIndex a_ruleLeft a_ruleRight a_eventLeft a_eventRight a_eventRule w ld a_members usr a_symbolTerms a_signTerm a_levelVar a_levelRest a_patValue a_standsFor ord best bT a_gotTerm a_treeCost a_explainedEvent := by
  have hc := hC.1
  have nm := hC.2.2.1
  have g := hC.2.1
  have ecc := hC.2.2.2.2.2.2.1
  have cle := qa_cn_le (fun x => ld x = nI x) c
  intro k
  induction k with
  | zero =>
    intro noc S R ord best bT o B T hk M
    exfalso
    have := qk_MI_cnt hc M
    omega
  | succ k ih =>
    intro noc S R ord best bT o B T hk M
    have cnt := qk_MI_cnt hc M
    rw [wX_refreshCosts_56]
    refine pk_le (qa_cn (fun x => ld x = nI x) c) noc (fun le => ?_) (fun lt => ?_) ecc
    · refine K S R (nI noc) ord best bT (qk_MI_fin hw hc nm g M fun l hl el => ?_)
      refine Classical.byContradiction fun z => ?_
      have := qa_cn_pos (P := fun l => ld l = nI l ∧ ∀ i, i < noc → o i ≠ l) hl ⟨el, fun i hi e => z ⟨i, hi, e⟩⟩
      omega
    · have vb : ∀ l, l < 32 → bt R l = true → bt S l = false → best l = lN (best l).toNatClampNeg ∧ (best l).toNatClampNeg < 2 ^ 63 ∧ ∃ Tl, Tl < c ∧ bT l = nI Tl ∧ (best l).toNatClampNeg = qk_sum sy lf rt ld w B Tl := by
        intro l hl r s
        have rl := M.2.2.2.2.2.2.2 l hl r
        obtain ⟨Tl, a1, _, a3, a4, a5, a6, _⟩ := (M.2.2.2.2.2.2.1 l rl.1 rl.2 s).1 r
        have bd := qk_sum_bd (B := B) (X := 4294967296000) hw hc nm a1 (g Tl a1) (fun d hd _ cd => (qk_MI_S hw hc nm g (by omega) M d (by omega) (a4 d (by omega) cd)).1)
        have e : (best l).toNatClampNeg = qk_sum sy lf rt ld w B Tl := by
          rw [a5]
          have := pk_lT (n := qk_sum sy lf rt ld w B Tl) (by omega)
          show (lN (qk_sum sy lf rt ld w B Tl)).toInt.toNat = _
          rw [this]; rfl
        exact ⟨by rw [e]; exact a5, by omega, Tl, a1, a6, e⟩
      refine qx_cheap (v := fun l => (best l).toNatClampNeg) (fun l hl r s => ⟨(vb l hl r s).1, (vb l hl r s).2.1⟩) (fun none => ?_) (fun x hx r s mn => ?_)
      · exact br_t rfl (K S R (nI noc) ord best bT (qk_MI_fin hw hc nm g M (qk_MI_all hc nm g M none)))
      · have rl := M.2.2.2.2.2.2.2 x hx r
        obtain ⟨o', B', T', M'⟩ := qk_MI_next hw hc nm g M hx r s (v := fun l => (best l).toNatClampNeg) (fun l Tl hl hT r' s' e => by
          obtain ⟨_, _, T2, h2, e2, e3⟩ := vb l (by omega) r' s'
          have : Tl = T2 := qa_inj (by omega) (by omega) (e.symm.trans e2)
          subst this; exact e3) mn
        refine br_f (qa_ne1 (by omega)) (nm_e ⟨vp_in_nI (by omega) (by omega), nm_r (e' := upd ord noc (nI x)) (by rw [nI_clamp (by omega)]) (nm_r (nI_1 noc) ⟨vp_in_nI hx (by omega), nm_r (e' := usr x) (by rw [nI_clamp (by omega)]) (qx_c116 hC hw rl.1 rl.2 (by omega) M' ?_)⟩)⟩)
        intro R2 best2 bT2 M2
        rw [nI_1]
        exact ih (noc + 1) _ R2 _ best2 bT2 o' B' T' (by omega) M2
theorem qx_c25 {post : SX → Prop} {oc : Int32} {ord : Nat → Int32} (eoc : oc = 0) (hC : qx_cs c sy lf rt ld mem usr syt sgt cc) (hw : qk_wok w)
    (K : ∀ S R oc ord best bT, qk_ok c sy lf rt ld w oc ord best bT → post (f_termLimit, f_patternLimit, f_ruleLimit, f_eventLimit, f_termCount, f_patternCount, f_ruleCount, f_eventCount, nI c, f_closedEvents, cc, f_dirty, f_matchPattern, f_matchDepth, f_levelCount, f_groundLeft, 1, S, R, oc, f_explainedCount, sy, lf, rt, a_termIndex, a_patSymbol, a_patLeft, a_patRight, a_patSubs, a_patTop, a_byTop, a_patternIndex, a_ruleLeft, a_ruleRight, a_eventLeft, a_eventRight, a_eventRule, w, ld, a_members, usr, a_symbolTerms, a_signTerm, a_levelVar, a_levelRest, a_patValue, a_standsFor, ord, best, bT, a_gotTerm, a_treeCost, a_explainedEvent)) :
    ∀ k i R best bT, i ≤ c → c - i < k → qk_MI c sy lf rt ld w 0 R ord best bT 0 (fun _ => 0) (fun _ => 0) (fun _ => 0) (fun t => t < i) → wX_refreshCosts_25 post k (nI i) f_termLimit f_patternLimit f_ruleLimit f_eventLimit f_termCount f_patternCount f_ruleCount f_eventCount (nI c) f_closedEvents cc f_dirty f_matchPattern f_matchDepth f_levelCount f_groundLeft cf 0 R oc f_explainedCount sy lf rt a_termIndex a_patSymbol a_patLeft a_patRight a_patSubs a_patTop a_byTop a_patternIndex a_ruleLeft a_ruleRight a_eventLeft a_eventRight a_eventRule w ld a_members usr a_symbolTerms a_signTerm a_levelVar a_levelRest a_patValue a_standsFor ord best bT a_gotTerm a_treeCost a_explainedEvent := by
  have hc := hC.1
  have nm := hC.2.2.1
  have g := hC.2.1
  intro k
  induction k with
  | zero => intro i R best bT _ h; omega
  | succ k ih =>
    intro i R best bT hi hk M
    rw [wX_refreshCosts_25]
    refine pk_le c i (fun le => ?_) (fun lt => ⟨vp_in_nI (by omega) (by omega), ?_⟩)
    · rw [eoc]
      exact ⟨33, qx_c56 hC hw K 33 0 0 R ord best bT _ _ _ (by omega) (qk_MI_re hc M (qk_U_iff (fun t ht => ⟨fun _ => trivial, fun _ => by omega⟩) M.2.2.2.2.2.2.1) (fun _ _ => ⟨rfl, rfl⟩) M.2.2.2.2.2.2.2)⟩
    · rw [show (nI i).toNatClampNeg = i from nI_clamp (by omega)]
      refine br_c (fun e => ?_) (fun e => ?_)
      · refine qx_relax hc nm g hw (fun d hd s => by rw [b_0] at s; exact absurd s (by decide)) M.2.2.2.2.2.2.1 lt M.2.2.2.2.2.2.2 ?_
        intro R2 best2 bT2 U2 e2 r2
        exact nm_r (nI_1 i) (ih (i + 1) R2 best2 bT2 (by omega) (by omega) (qk_MI_re hc M (qk_U_iff (fun t ht => ⟨fun z => z.elim (fun q => by omega) (fun q => by omega), fun z => by
          by_cases q : t = i
          · exact Or.inr q
          · exact Or.inl (by omega)⟩) U2) e2 r2))
      · obtain ⟨l, hl, el, rl⟩ := nm i lt
        have ch := qx_cs_ch hc lt (g i lt)
        have na : ¬ qk_av lf rt ld 0 i := by
          intro av
          rcases ch.1 with z | ⟨j, hj, z⟩
          · exact e z
          · obtain ⟨d, hd, e1, _⟩ := nm j hj
            have := av d (by omega) ⟨j, by omega, Or.inl z, e1⟩
            rw [b_0] at this; exact absurd this (by decide)
        refine nm_r (nI_1 i) (ih (i + 1) R best bT (by omega) (by omega) (qk_MI_re hc M (qk_U_iff (fun t ht => ⟨fun z => z.elim (fun q => by omega) (fun q => by omega), fun z => by
          by_cases q : t = i
          · exact Or.inr q
          · exact Or.inl (by omega)⟩) (qk_U_skip M.2.2.2.2.2.2.1 hc (by omega) el (Or.inr na))) (fun _ _ => ⟨rfl, rfl⟩) M.2.2.2.2.2.2.2))
theorem qx_refresh {post : SX → Prop} {S R oc : Int32} {ord bT : Nat → Int32} {best : Nat → Int64} (hC : qx_cs c sy lf rt ld mem usr syt sgt cc) (hw : qk_wok w) (hcf : cf = 0 ∨ qk_ok c sy lf rt ld w oc ord best bT)
    (K : ∀ cf S R oc ord best bT, qk_ok c sy lf rt ld w oc ord best bT → post (f_termLimit, f_patternLimit, f_ruleLimit, f_eventLimit, f_termCount, f_patternCount, f_ruleCount, f_eventCount, nI c, f_closedEvents, cc, f_dirty, f_matchPattern, f_matchDepth, f_levelCount, f_groundLeft, cf, S, R, oc, f_explainedCount, sy, lf, rt, a_termIndex, a_patSymbol, a_patLeft, a_patRight, a_patSubs, a_patTop, a_byTop, a_patternIndex, a_ruleLeft, a_ruleRight, a_eventLeft, a_eventRight, a_eventRule, w, ld, a_members, usr, a_symbolTerms, a_signTerm, a_levelVar, a_levelRest, a_patValue, a_standsFor, ord, best, bT, a_gotTerm, a_treeCost, a_explainedEvent)) : wpX_refreshCosts post (f_termLimit, f_patternLimit, f_ruleLimit, f_eventLimit, f_termCount, f_patternCount, f_ruleCount, f_eventCount, nI c, f_closedEvents, cc, f_dirty, f_matchPattern, f_matchDepth, f_levelCount, f_groundLeft, cf, S, R, oc, f_explainedCount, sy, lf, rt, a_termIndex, a_patSymbol, a_patLeft, a_patRight, a_patSubs, a_patTop, a_byTop, a_patternIndex, a_ruleLeft, a_ruleRight, a_eventLeft, a_eventRight, a_eventRule, w, ld, a_members, usr, a_symbolTerms, a_signTerm, a_levelVar, a_levelRest, a_patValue, a_standsFor, ord, best, bT, a_gotTerm, a_treeCost, a_explainedEvent) := by
  unfold wpX_refreshCosts
  refine br_c (fun e => ?_) (fun e => K cf S R oc ord best bT (hcf.elim (fun z => (e z).elim) id))
  refine ⟨c + 1, qx_c25 rfl hC hw (fun S R oc ord best bT h => K 1 S R oc ord best bT h) (c + 1) 0 0 best bT (by omega) (by omega) ?_⟩
  refine ⟨fun i hi => absurd hi (Nat.not_lt_zero _), fun l hl => ⟨fun z => by rw [b_0] at z; exact absurd z (by decide), fun ⟨i, hi, _⟩ => absurd hi (Nat.not_lt_zero _)⟩, fun i hi => absurd hi (Nat.not_lt_zero _), fun i t hi => absurd hi (Nat.not_lt_zero _), fun i j _ hj => absurd hj (Nat.not_lt_zero _), fun t l i _ _ hi => absurd hi (Nat.not_lt_zero _), fun l hl el sl => ⟨fun r => by rw [b_0] at r; exact absurd r (by decide), fun _ t ht p => absurd p (Nat.not_lt_zero _)⟩, fun d hd r => by rw [b_0] at r; exact absurd r (by decide)⟩
end
end
section
def qk_bt (c : Nat) (sy lf rt ld w : Nat → Int32) (B T : Nat → Nat) : Prop :=
  qk_ib c sy lf rt ld w B ∧ ∀ l, l < c → ld l = nI l → B l ≤ 4294967296000 ∧ T l < c ∧ ld (T l) = nI l ∧ qk_sum sy lf rt ld w B (T l) = B l ∧ ∀ t, t < c → ld t = nI l → qk_sum sy lf rt ld w B t = B l → T l ≤ t
section
variable {c : Nat} {sy lf rt ld la w sy' lf' rt' : Nat → Int32} {B T : Nat → Nat}
theorem qk_sum_ext (hc : c ≤ 32) (h : ∀ t, t < c → la t = ld t) (ag : ∀ t, t < c → sy' t = sy t ∧ lf' t = lf t ∧ rt' t = rt t) {t : Nat} (ht : t < c) (g : qa_tok sy lf rt t) : qk_sum sy' lf' rt' la w B t = qk_sum sy lf rt ld w B t := by
  have ch := qx_cs_ch hc ht g
  have e : ∀ {x : Int32}, (x = -1 ∨ ∃ j, j < c ∧ x = nI j) → qk_c1 la B x = qk_c1 ld B x := by
    rintro x (rfl | ⟨j, hj, rfl⟩)
    · rw [qk_c11, qk_c11]
    · unfold qk_c1
      rw [if_neg (qa_ne1 (by omega)), if_neg (qa_ne1 (by omega)), nI_clamp (by omega), h j hj]
  have a := ag t ht
  unfold qk_sum qk_wt
  rw [a.1, a.2.1, a.2.2, e ch.1, e ch.2]
theorem qk_bt_ext (hc : c ≤ 32) (g : ∀ t, t < c → qa_tok sy lf rt t) (h : ∀ t, t < c → la t = ld t) (ag : ∀ t, t < c → sy' t = sy t ∧ lf' t = lf t ∧ rt' t = rt t) (b : qk_bt c sy lf rt ld w B T) : qk_bt c sy' lf' rt' la w B T := by
  obtain ⟨⟨b1, b2⟩, b3⟩ := b
  have se := fun t (ht : t < c) => qk_sum_ext (w := w) (B := B) hc h ag ht (g t ht)
  refine ⟨⟨fun t l ht et hl => ?_, fun l hl el => ?_⟩, fun l hl el => ?_⟩
  · rw [se t ht]; rw [h t ht] at et; exact b1 t l ht et hl
  · rw [h l hl] at el
    obtain ⟨t, ht, et, es⟩ := b2 l hl el
    exact ⟨t, ht, by rw [h t ht]; exact et, by rw [se t ht]; exact es⟩
  · rw [h l hl] at el
    obtain ⟨k1, k2, k3, k4, k5⟩ := b3 l hl el
    refine ⟨k1, k2, by rw [h _ k2]; exact k3, by rw [se _ k2]; exact k4, fun t ht et es => ?_⟩
    rw [h t ht] at et
    rw [se t ht] at es
    exact k5 t ht et es
theorem qk_ok_ext (hc : c ≤ 32) (g : ∀ t, t < c → qa_tok sy lf rt t) (ag : ∀ t, t < c → sy' t = sy t ∧ lf' t = lf t ∧ rt' t = rt t) {oc : Int32} {ord bT : Nat → Int32} {best : Nat → Int64} (k : qk_ok c sy lf rt ld w oc ord best bT) : qk_ok c sy' lf' rt' ld w oc ord best bT := by
  obtain ⟨noc, o, B, T, k1, k2, k3, k4, k5, k6, k7⟩ := k
  have b := qk_bt_ext (la := ld) hc g (fun _ _ => rfl) ag (show qk_bt c sy lf rt ld w B T from ⟨k5, fun l hl el => ⟨(k6 l hl el).2.1, (k6 l hl el).2.2.2⟩⟩)
  exact ⟨noc, o, B, T, k1, k2, k3, k4, b.1, fun l hl el => ⟨(k6 l hl el).1, (b.2 l hl el).1, (k6 l hl el).2.2.1, (b.2 l hl el).2⟩, k7⟩
noncomputable def qk_rk (c : Nat) (ld : Nat → Int32) (B : Nat → Nat) (l : Nat) : Nat := qa_cn (fun d => ld d = nI d ∧ B d < B l) c
theorem qk_rk_lt {d l : Nat} (hd : d < c) (ed : ld d = nI d) (h : B d < B l) : qk_rk c ld B d < qk_rk c ld B l :=
  qa_cn_lt (a := d) (fun z => Nat.lt_irrefl _ z.2) ⟨ed, h⟩ (fun k _ z => ⟨z.1, by omega⟩) hd
theorem qk_rk_c {l : Nat} (hl : l < c) : qk_rk c ld B l < c := by
  have := qa_cn_lt (P := fun d => ld d = nI d ∧ B d < B l) (Q := fun _ => True) (a := l) (fun z => Nat.lt_irrefl _ z.2) trivial (N := c) (fun _ _ _ => trivial) hl
  have e := qa_cn_le (fun _ => True) c
  unfold qk_rk; omega
end
section
variable {g_maxTerms g_maxPats g_maxRules g_maxEvents g_nTerms g_nPats g_nRules g_nEvents g_nKept : Int32} {b_psym b_pl b_pr b_rl b_rr b_el b_er b_eRule b_kept b_in b_sub b_val b_stand b_needed b_pick b_got : Nat → Int32} {b_cost : Nat → Int64}
variable {c : Nat} {sy lf rt la w : Nat → Int32} {best : Nat → Int64} {b : Nat → Nat}
theorem qy_sum {post : Int64 → Prop} {t : Nat} (hc : c ≤ 32) (nm : qc_nm c la) (g : ∀ t, t < c → qa_tok sy lf rt t) (hw : qk_wok w) (ht : t < c) (hb : ∀ d, d < c → la d = nI d → best d = lN (b d)) (K : post (lN (qk_sum sy lf rt la w b t))) : wpY_sumOf post (g_maxTerms, g_maxPats, g_maxRules, g_maxEvents, g_nTerms, g_nPats, g_nRules, g_nEvents, g_nKept, nI c, sy, lf, rt, b_psym, b_pl, b_pr, b_rl, b_rr, b_el, b_er, b_eRule, b_kept, w, b_in, la, b_sub, b_val, b_stand, b_cost, best, b_needed, b_pick, b_got) (nI t) := by
  have it : vp_in (nI t) 32 := vp_in_nI (by omega) (by omega)
  have ct : (nI t).toNatClampNeg = t := nI_clamp (by omega)
  obtain ⟨k, hk, ek⟩ := qa_sg_s (g t ht)
  obtain ⟨x, x1, x2, ex⟩ := hw k hk
  have ch := qx_cs_ch hc ht (g t ht)
  have ewt : qk_wt sy w t = x := by unfold qk_wt; rw [ek, nI_clamp (by omega), ex, nI_clamp (by omega)]
  unfold wpY_sumOf
  refine ⟨it, ?_⟩
  rw [ct, ek]
  refine ⟨vp_in_nI hk (by omega), nm_r (e' := lN x) (by rw [nI_clamp (by omega), ex, nI_l (by omega)]) ⟨it, ?_⟩⟩
  have fin : ∀ y, y = x + qk_c1 la b (lf t) → wY_sumOf_41 post (nI t) (lN y) g_maxTerms g_maxPats g_maxRules g_maxEvents g_nTerms g_nPats g_nRules g_nEvents g_nKept (nI c) sy lf rt b_psym b_pl b_pr b_rl b_rr b_el b_er b_eRule b_kept w b_in la b_sub b_val b_stand b_cost best b_needed b_pick b_got := by
    intro y ey
    unfold wY_sumOf_41
    refine ⟨it, ?_⟩
    rw [ct]
    rcases ch.2 with e | ⟨j, hj, e⟩
    · have es : qk_sum sy lf rt la w b t = y := by unfold qk_sum; rw [ewt, e, qk_c11]; omega
      rw [e]
      rw [es] at K
      exact br_t qa_1lt K
    · obtain ⟨d, hd, e1, e2⟩ := nm j hj
      have es : qk_sum sy lf rt la w b t = y + b d := by unfold qk_sum; rw [ewt, e, qk_c1N (B := b) (by omega) (by omega) e1]; omega
      rw [e]
      refine br_f (nI_pos (by omega)) ⟨it, vp_in_nI (by omega) (by omega), ?_⟩
      rw [show (nI j).toNatClampNeg = j from nI_clamp (by omega), e1]
      refine ⟨vp_in_nI (by omega) (by omega), nm_r (e' := lN (qk_sum sy lf rt la w b t)) ?_ K⟩
      rw [nI_clamp (by omega), hb d (by omega) e2, lN_add, es]
  rcases ch.1 with e | ⟨j, hj, e⟩
  · rw [e]
    exact br_t qa_1lt (fin x (by rw [e, qk_c11]; omega))
  · obtain ⟨d, hd, e1, e2⟩ := nm j hj
    rw [e]
    refine br_f (nI_pos (by omega)) ⟨it, vp_in_nI (by omega) (by omega), ?_⟩
    rw [show (nI j).toNatClampNeg = j from nI_clamp (by omega), e1]
    refine ⟨vp_in_nI (by omega) (by omega), nm_r (e' := lN (x + b d)) ?_ (fin (x + b d) (by rw [e, qk_c1N (B := b) (by omega) (by omega) e1]))⟩
    rw [nI_clamp (by omega), hb d (by omega) e2, lN_add]
end
def qy_cb (c : Nat) (la : Nat → Int32) (B b : Nat → Nat) (best : Nat → Int64) : Prop := ∀ d, d < c → la d = nI d → best d = lN (b d) ∧ B d ≤ b d ∧ b d ≤ 1000000000000000000
section
variable {g_maxTerms g_maxPats g_maxRules g_maxEvents g_nTerms g_nPats g_nRules g_nEvents g_nKept : Int32} {b_psym b_pl b_pr b_rl b_rr b_el b_er b_eRule b_kept b_in b_sub b_val b_stand b_needed b_pick b_got : Nat → Int32} {b_cost : Nat → Int64}
variable {c : Nat} {sy lf rt la w : Nat → Int32} {B T : Nat → Nat}
theorem qy_c37 {post : SY → Prop} {J27 : Int32 → (Nat → Int32) → (Nat → Int32) → (Nat → Int32) → (Nat → Int32) → (Nat → Int32) → (Nat → Int32) → (Nat → Int32) → (Nat → Int32) → (Nat → Int32) → (Nat → Int32) → (Nat → Int32) → (Nat → Int32) → (Nat → Int32) → (Nat → Int32) → (Nat → Int32) → (Nat → Int32) → (Nat → Int32) → (Nat → Int32) → (Nat → Int64) → (Nat → Int64) → (Nat → Int32) → (Nat → Int32) → (Nat → Int32) → Prop} {k : Nat} (hc : c ≤ 32) (nm : qc_nm c la) (g : ∀ t, t < c → qa_tok sy lf rt t) (hw : qk_wok w) (hB : qk_bt c sy lf rt la w B T)
    (K : ∀ b best, qy_cb c la B b best → (∀ l, l < c → la l = nI l → qk_rk c la B l < k + 1 → b l = B l) → J27 (nI (k + 1)) sy lf rt b_psym b_pl b_pr b_rl b_rr b_el b_er b_eRule b_kept w b_in la b_sub b_val b_stand b_cost best b_needed b_pick b_got) :
    ∀ fuel t b best, t ≤ c → c - t < fuel → qy_cb c la B b best → (∀ l, l < c → la l = nI l → (qk_rk c la B l < k ∨ (qk_rk c la B l < k + 1 ∧ T l < t)) → b l = B l) → wY_costs_37 post J27 (nI k) g_maxTerms g_maxPats g_maxRules g_maxEvents g_nTerms g_nPats g_nRules g_nEvents g_nKept (nI c) fuel (nI t) sy lf rt b_psym b_pl b_pr b_rl b_rr b_el b_er b_eRule b_kept w b_in la b_sub b_val b_stand b_cost best b_needed b_pick b_got := by
  intro fuel
  induction fuel with
  | zero => intro t b best _ h; omega
  | succ fuel ih =>
    intro t b best ht hf hb hP
    rw [wY_costs_37]
    refine pk_le c t (fun le => ?_) (fun lt => ?_)
    · refine nm_r (nI_1 k) (K b best hb fun l hl el h => hP l hl el (Or.inr ⟨h, ?_⟩))
      have := (hB.2 l hl el).2.1
      omega
    · obtain ⟨l, hl, el, rl⟩ := nm t lt
      refine qy_sum (b := b) hc nm g hw lt (fun d hd ed => (hb d hd ed).1) ⟨vp_in_nI (by omega) (by omega), ?_⟩
      rw [show (nI t).toNatClampNeg = t from nI_clamp (by omega), el]
      refine ⟨vp_in_nI (by omega) (by omega), ?_⟩
      have hl' : l < c := by omega
      have kl := hb l hl' rl
      rw [show (nI l).toNatClampNeg = l from nI_clamp (by omega), kl.1]
      have sb := qk_sum_bd (B := b) (X := 1000000000000000000) hw hc nm lt (g t lt) (fun d hd ed _ => (hb d hd ed).2.2)
      have sB : B l ≤ qk_sum sy lf rt la w b t := Nat.le_trans (hB.1.1 t l lt el (by omega)) (qk_sum_le hc nm lt (g t lt) (fun d hd ed _ => (hb d hd ed).2.1))
      have exact1 : qk_rk c la B l < k + 1 → T l = t → qk_sum sy lf rt la w b t = B l := by
        intro hr eT
        have kk := hB.2 l hl' rl
        rw [eT] at kk
        rw [← kk.2.2.2.1]
        refine qk_sum_eq hc nm lt (g t lt) fun d hd ed cd => ?_
        have dl : B d < B l := by
          have := qk_cl_lt (B := B) (sy := sy) (w := w) hw (by omega) (g t lt) cd
          rw [kk.2.2.2.1] at this; exact this
        have := qk_rk_lt (c := c) (ld := la) (B := B) hd ed dl
        exact hP d hd ed (Or.inl (by omega))
      have b1 : b l < 2 ^ 63 := by have := kl.2.2; omega
      have b2 : qk_sum sy lf rt la w b t < 2 ^ 63 := by omega
      refine ek_if (pk_lLE b1 b2) (fun le => nm_r (nI_1 t) (ih (t + 1) b best (by omega) (by omega) hb fun l' hl2 el2 h => ?_)) (fun nle => ⟨vp_in_nI (by omega) (by omega), vp_in_nI (by omega) (by omega), nm_r (e' := vp_updL best l (lN (qk_sum sy lf rt la w b t))) rfl (nm_r (nI_1 t) (ih (t + 1) (fun x => if x = l then qk_sum sy lf rt la w b t else b x) _ (by omega) (by omega) (fun d hd ed => ?_) (fun l' hl2 el2 h => ?_)))⟩)
      · rcases h with h | ⟨h1, h2⟩
        · exact hP l' hl2 el2 (Or.inl h)
        · by_cases z : T l' = t
          · have kk := hB.2 l' hl2 el2
            rw [z] at kk
            have : l = l' := qa_inj (by omega) (by omega) (el.symm.trans kk.2.2.1)
            subst this
            have := exact1 h1 z
            have := kl.2.1
            omega
          · exact hP l' hl2 el2 (Or.inr ⟨h1, by omega⟩)
      · by_cases z : d = l
        · subst z
          dsimp only
          rw [pk_uLs, if_pos rfl]
          exact ⟨rfl, sB, by have := kl.2.2; omega⟩
        · dsimp only; rw [pk_uLn z, if_neg z]; exact hb d hd ed
      · by_cases zl : l' = l
        · subst zl
          rw [if_pos rfl]
          rcases h with h | ⟨h1, h2⟩
          · have := hP l' hl2 el2 (Or.inl h); omega
          · by_cases z : T l' = t
            · exact exact1 h1 z
            · have := hP l' hl2 el2 (Or.inr ⟨h1, by omega⟩); omega
        · rw [if_neg zl]
          rcases h with h | ⟨h1, h2⟩
          · exact hP l' hl2 el2 (Or.inl h)
          · by_cases z : T l' = t
            · exfalso
              have kk := hB.2 l' hl2 el2
              rw [z] at kk
              exact zl (qa_inj (by omega) (by omega) (kk.2.2.1.symm.trans el))
            · exact hP l' hl2 el2 (Or.inr ⟨h1, by omega⟩)
theorem qy_c27 {post : SY → Prop} (hc : c ≤ 32) (nm : qc_nm c la) (g : ∀ t, t < c → qa_tok sy lf rt t) (hw : qk_wok w) (hB : qk_bt c sy lf rt la w B T) (K : ∀ best, (∀ d, d < c → la d = nI d → best d = lN (B d)) → post (g_maxTerms, g_maxPats, g_maxRules, g_maxEvents, g_nTerms, g_nPats, g_nRules, g_nEvents, g_nKept, nI c, sy, lf, rt, b_psym, b_pl, b_pr, b_rl, b_rr, b_el, b_er, b_eRule, b_kept, w, b_in, la, b_sub, b_val, b_stand, b_cost, best, b_needed, b_pick, b_got)) :
    ∀ fuel k b best, k ≤ c + 1 → c + 1 - k < fuel → qy_cb c la B b best → (∀ l, l < c → la l = nI l → qk_rk c la B l < k → b l = B l) → wY_costs_27 post g_maxTerms g_maxPats g_maxRules g_maxEvents g_nTerms g_nPats g_nRules g_nEvents g_nKept (nI c) fuel (nI k) sy lf rt b_psym b_pl b_pr b_rl b_rr b_el b_er b_eRule b_kept w b_in la b_sub b_val b_stand b_cost best b_needed b_pick b_got := by
  intro fuel
  induction fuel with
  | zero => intro k b best _ h; omega
  | succ fuel ih =>
    intro k b best hk hf hb hP
    rw [wY_costs_27]
    refine pk_lt c k (fun lt => K best fun d hd ed => ?_) (fun le => ⟨c + 1, qy_c37 hc nm g hw hB ?_ (c + 1) 0 b best (by omega) (by omega) hb (fun l hl el h => h.elim (hP l hl el) (fun h => absurd h.2 (Nat.not_lt_zero _)))⟩)
    · have r := qk_rk_c (ld := la) (B := B) hd
      rw [(hb d hd ed).1, hP d hd ed (by omega)]
    · intro b' best' hb' hP'
      exact ih (k + 1) b' best' (by omega) (by omega) hb' hP'
theorem qy_costs {post : SY → Prop} {best : Nat → Int64} (hc : c ≤ 32) (nm : qc_nm c la) (g : ∀ t, t < c → qa_tok sy lf rt t) (hw : qk_wok w) (hB : qk_bt c sy lf rt la w B T) (K : ∀ best, (∀ d, d < c → la d = nI d → best d = lN (B d)) → post (g_maxTerms, g_maxPats, g_maxRules, g_maxEvents, g_nTerms, g_nPats, g_nRules, g_nEvents, g_nKept, nI c, sy, lf, rt, b_psym, b_pl, b_pr, b_rl, b_rr, b_el, b_er, b_eRule, b_kept, w, b_in, la, b_sub, b_val, b_stand, b_cost, best, b_needed, b_pick, b_got)) : wpY_costs post (g_maxTerms, g_maxPats, g_maxRules, g_maxEvents, g_nTerms, g_nPats, g_nRules, g_nEvents, g_nKept, nI c, sy, lf, rt, b_psym, b_pl, b_pr, b_rl, b_rr, b_el, b_er, b_eRule, b_kept, w, b_in, la, b_sub, b_val, b_stand, b_cost, best, b_needed, b_pick, b_got) := by
  unfold wpY_costs
  refine loop_0 (fun k i l => wY_costs_2 post g_maxTerms g_maxPats g_maxRules g_maxEvents g_nTerms g_nPats g_nRules g_nEvents g_nKept (nI c) k (nI i) sy lf rt b_psym b_pl b_pr b_rl b_rr b_el b_er b_eRule b_kept w b_in la b_sub b_val b_stand b_cost l b_needed b_pick b_got) (fun i l => ∀ x, x < i → l x = lN 1000000000000000000) c best (fun x hx => absurd hx (Nat.not_lt_zero _)) ?_ ?_
  · intro k l hl
    rw [wY_costs_2]
    exact br_t (nI_le (Nat.le_refl _) (by omega)) ⟨c + 2, qy_c27 hc nm g hw hB K (c + 2) 0 (fun _ => 1000000000000000000) l (by omega) (by omega) (fun d hd ed => ⟨hl d hd, by show B d ≤ 1000000000000000000; have := (hB.2 d hd ed).1; omega, Nat.le_refl _⟩) (fun l _ _ h => absurd h (Nat.not_lt_zero _))⟩
  · intro k i l hi hl Kn
    rw [wY_costs_2]
    refine br_f (nI_ge hi (by omega)) ⟨vp_in_nI (by omega) (by omega), nm_r (e' := vp_updL l i (lN 1000000000000000000)) (by rw [nI_clamp (by omega)]; rfl) (nm_r (nI_1 i) (Kn _ fun x hx => ?_))⟩
    by_cases z : x = i
    · subst z; exact pk_uLs
    · rw [pk_uLn z]; exact hl x (by omega)
end
end
section
def qe_ch (ld got : Nat → Int32) (x : Int32) : Int32 := if x = -1 then -1 else got (ld x.toNatClampNeg).toNatClampNeg
theorem qe_ch1 (ld got : Nat → Int32) : qe_ch ld got (-1) = -1 := if_pos rfl
theorem qe_chN {ld got : Nat → Int32} {j d : Nat} (hj : j < 2 ^ 31) (hd : d < 2 ^ 31) (e : ld j = nI d) : qe_ch ld got (nI j) = got d := by
  unfold qe_ch; rw [if_neg (qa_ne1 hj), nI_clamp hj, e, nI_clamp hd]
def qe_st (lim : Nat) (sy lf rt ld : Nat → Int32) (T : Nat → Nat) (x : Nat) (G : QG) (got : Nat → Int32) : Bool × QG × (Nat → Int32) :=
  if (qi_in lim G (sy (T x)) (qe_ch ld got (lf (T x))) (qe_ch ld got (rt (T x)))).1 = -3 then (false, (qi_in lim G (sy (T x)) (qe_ch ld got (lf (T x))) (qe_ch ld got (rt (T x)))).2, got)
  else (true, (qi_in lim G (sy (T x)) (qe_ch ld got (lf (T x))) (qe_ch ld got (rt (T x)))).2, upd got x (qi_in lim G (sy (T x)) (qe_ch ld got (lf (T x))) (qe_ch ld got (rt (T x)))).1)
def qe_fo (lim : Nat) (sy lf rt ld : Nat → Int32) (T o : Nat → Nat) (Nd : Nat → Bool) (G : QG) (got : Nat → Int32) : Nat → Bool × QG × (Nat → Int32)
  | 0 => (true, G, got)
  | i + 1 => if (qe_fo lim sy lf rt ld T o Nd G got i).1 = true then
      (if Nd (o i) = true then qe_st lim sy lf rt ld T (o i) (qe_fo lim sy lf rt ld T o Nd G got i).2.1 (qe_fo lim sy lf rt ld T o Nd G got i).2.2 else qe_fo lim sy lf rt ld T o Nd G got i)
    else qe_fo lim sy lf rt ld T o Nd G got i
def qe_nd (c : Nat) (lf rt ld : Nat → Int32) (T : Nat → Nat) (goal : Nat) (Nd : Nat → Bool) : Prop :=
  Nd goal = true ∧ (∀ x, Nd x = true → x < c ∧ ld x = nI x) ∧ (∀ x d, Nd x = true → d < 32 → qk_cl lf rt ld (T x) d → Nd d = true) ∧
  (∀ d, Nd d = true → d = goal ∨ ∃ x, Nd x = true ∧ qk_cl lf rt ld (T x) d)
def qe_cx (c : Nat) (sy lf rt ld w : Nat → Int32) (noc : Nat) (o B T : Nat → Nat) : Prop :=
  c ≤ 32 ∧ (∀ t, t < c → qa_tok sy lf rt t) ∧ qc_nm c ld ∧ qk_wok w ∧ qk_bt c sy lf rt ld w B T ∧ noc ≤ c ∧ (∀ i, i < noc → o i < c ∧ ld (o i) = nI (o i)) ∧ (∀ l, l < c → ld l = nI l → ∃ i, i < noc ∧ o i = l) ∧
  (∀ i j, i < j → j < noc → (B (o i) < B (o j) ∨ (B (o i) = B (o j) ∧ o i < o j)))
section
variable {lim c : Nat} {sy lf rt ld w : Nat → Int32} {noc : Nat} {o B T : Nat → Nat} {Nd : Nat → Bool} {G : QG} {got : Nat → Int32} {goal : Nat}
theorem qe_early (X : qe_cx c sy lf rt ld w noc o B T) {i d : Nat} (hi : i < noc) (hd : d < 32) (cl : qk_cl lf rt ld (T (o i)) d) : d < c ∧ ld d = nI d ∧ B d < B (o i) ∧ ∃ j, j < i ∧ o j = d := by
  obtain ⟨hc, g, nm, hw, hB, hn, ho, all, srt⟩ := X
  have k := hB.2 (o i) (ho i hi).1 (ho i hi).2
  have r := qk_cl_root hc nm k.2.1 (g _ k.2.1) hd cl
  have lt := qk_cl_lt (B := B) (sy := sy) (w := w) hw hd (g _ k.2.1) cl
  rw [k.2.2.2.1] at lt
  obtain ⟨j, hj, e⟩ := all d r.1 r.2.1
  refine ⟨r.1, r.2.1, lt, j, ?_, e⟩
  refine Classical.byContradiction fun z => ?_
  by_cases q : i = j
  · subst q; rw [e] at lt; omega
  · have := srt i j (by omega) hj
    rw [e] at this; omega
def qe_bi (lim : Nat) (G : QG) (got : Nat → Int32) (o : Nat → Nat) (Nd : Nat → Bool) (i : Nat) (w : Bool × QG × (Nat → Int32)) : Prop :=
  qi_gk lim w.2.1 ∧ qi_ge G w.2.1 ∧ (w.1 = true → ∀ j, j < i → Nd (o j) = true → ∃ t, t < w.2.1.1 ∧ w.2.2 (o j) = nI t)
theorem qe_sg (X : qe_cx c sy lf rt ld w noc o B T) (hN : qe_nd c lf rt ld T goal Nd) {i n : Nat} {gt : Nat → Int32} (hi : i < noc) (hx : Nd (o i) = true) (h : ∀ j, j < i → Nd (o j) = true → ∃ t, t < n ∧ gt (o j) = nI t) : qa_sg n (sy (T (o i))) (qe_ch ld gt (lf (T (o i)))) (qe_ch ld gt (rt (T (o i)))) := by
  have k := X.2.2.2.2.1.2 (o i) (X.2.2.2.2.2.2.1 i hi).1 (X.2.2.2.2.2.2.1 i hi).2
  have hc := X.1
  have nm := X.2.2.1
  have one : ∀ x : Int32, (lf (T (o i)) = x ∨ rt (T (o i)) = x) → (x = -1 ∧ qe_ch ld gt x = -1) ∨ (¬ x = -1 ∧ ((∃ j, j < T (o i) ∧ x = nI j) → ∃ t, t < n ∧ qe_ch ld gt x = nI t)) := by
    intro x hx'
    by_cases z : x = -1
    · left; rw [z]; exact ⟨rfl, qe_ch1 _ _⟩
    · right
      refine ⟨z, fun ⟨j, hj, e⟩ => ?_⟩
      have jc : j < c := by have := k.2.1; omega
      obtain ⟨d, hd, e1, e2⟩ := nm j jc
      have cl : qk_cl lf rt ld (T (o i)) d := ⟨j, by omega, by rw [← e]; exact hx', e1⟩
      obtain ⟨_, _, _, j', hj', ej⟩ := qe_early X hi (by omega) cl
      have nd := hN.2.2.1 (o i) d hx (by omega) cl
      rw [← ej] at nd
      obtain ⟨t, ht, et⟩ := h j' hj' nd
      rw [ej] at et
      exact ⟨t, ht, by rw [e, qe_chN (by omega) (by omega) e1]; exact et⟩
  obtain ⟨kk, hk, ek, ck⟩ := X.2.1 (T (o i)) k.2.1
  refine ⟨kk, hk, ek, ?_⟩
  rcases ck with ⟨a1, a2, a3⟩ | ⟨a1, a2, a3, a4⟩ | ⟨a1, a3, a4⟩
  · rw [a2, a3, qe_ch1]; exact Or.inl ⟨a1, rfl, rfl⟩
  · rw [a4, qe_ch1]
    rcases one _ (Or.inl rfl) with z | z
    · obtain ⟨j, hj, e⟩ := a3
      rw [z.1] at e; exact (qa_1ne (by have := k.2.1; omega) e).elim
    · exact Or.inr (Or.inl ⟨a1, a2, z.2 a3, rfl⟩)
  · have b1 : ∃ t, t < n ∧ qe_ch ld gt (lf (T (o i))) = nI t := by
      rcases one _ (Or.inl rfl) with z | z
      · obtain ⟨j, hj, e⟩ := a3
        rw [z.1] at e; exact (qa_1ne (by have := k.2.1; omega) e).elim
      · exact z.2 a3
    have b2 : ∃ t, t < n ∧ qe_ch ld gt (rt (T (o i))) = nI t := by
      rcases one _ (Or.inr rfl) with z | z
      · obtain ⟨j, hj, e⟩ := a4
        rw [z.1] at e; exact (qa_1ne (by have := k.2.1; omega) e).elim
      · exact z.2 a4
    exact Or.inr (Or.inr ⟨a1, b1, b2⟩)
theorem qe_inj (X : qe_cx c sy lf rt ld w noc o B T) {i j : Nat} (hi : i < noc) (hj : j < noc) (e : o i = o j) : i = j := by
  have srt := X.2.2.2.2.2.2.2.2
  rcases Nat.lt_trichotomy i j with z | z | z
  · have := srt i j z hj; rw [e] at this; omega
  · exact z
  · have := srt j i z hi; rw [e] at this; omega
theorem qe_fo_i (hl : lim ≤ 32) (X : qe_cx c sy lf rt ld w noc o B T) (hN : qe_nd c lf rt ld T goal Nd) (gk : qi_gk lim G) : ∀ i, i ≤ noc → qe_bi lim G got o Nd i (qe_fo lim sy lf rt ld T o Nd G got i)
  | 0, _ => ⟨gk, qi_ge_rf _, fun _ j hj => absurd hj (Nat.not_lt_zero _)⟩
  | i + 1, hi => by
    have ih := qe_fo_i hl X hN gk i (by omega)
    rw [qe_fo]
    generalize qe_fo lim sy lf rt ld T o Nd G got i = w at ih
    by_cases ok : w.1 = true
    · rw [if_pos ok]
      by_cases nd : Nd (o i) = true
      · rw [if_pos nd]
        have sg := qe_sg X hN (by omega) nd (ih.2.2 ok)
        have k := qi_in_k hl ih.1 sg
        unfold qe_st
        generalize qi_in lim w.2.1 (sy (T (o i))) (qe_ch ld w.2.2 (lf (T (o i)))) (qe_ch ld w.2.2 (rt (T (o i)))) = q at k
        by_cases z : q.1 = -3
        · rw [if_pos z]
          exact ⟨k.1, qi_ge_tr ih.2.1 k.2.1, fun z => Bool.noConfusion z⟩
        · rw [if_neg z]
          refine ⟨k.1, qi_ge_tr ih.2.1 k.2.1, fun _ j hj nj => ?_⟩
          show ∃ t, t < q.2.1 ∧ upd w.2.2 (o i) q.1 (o j) = nI t
          by_cases e : o j = o i
          · rw [e, pk_us]
            rcases k.2.2 with y | ⟨t, ht, et, _⟩
            · exact (z y).elim
            · exact ⟨t, ht, et⟩
          · rw [pk_un e]
            have : j ≠ i := fun y => e (by rw [y])
            obtain ⟨t, ht, et⟩ := ih.2.2 ok j (by omega) nj
            exact ⟨t, Nat.lt_of_lt_of_le ht k.2.1.1, et⟩
      · rw [if_neg nd]
        refine ⟨ih.1, ih.2.1, fun ok j hj nj => ih.2.2 ok j ?_ nj⟩
        refine Classical.byContradiction fun z => ?_
        have : j = i := by omega
        subst this; exact nd nj
    · rw [if_neg ok]
      exact ⟨ih.1, ih.2.1, fun z => (ok z).elim⟩
theorem qe_fo_skip {i : Nat} : ∀ d, (∀ j, i ≤ j → j < i + d → Nd (o j) = false) → qe_fo lim sy lf rt ld T o Nd G got (i + d) = qe_fo lim sy lf rt ld T o Nd G got i
  | 0, _ => rfl
  | d + 1, h => by
    show qe_fo lim sy lf rt ld T o Nd G got (i + d + 1) = _
    rw [qe_fo, h (i + d) (by omega) (by omega), qe_fo_skip d (fun j h1 h2 => h j h1 (by omega))]
    by_cases z : (qe_fo lim sy lf rt ld T o Nd G got i).1 = true
    · rw [if_pos z, if_neg Bool.false_ne_true]
    · rw [if_neg z]
theorem qe_fo_to {i j : Nat} (hij : i ≤ j) (h : ∀ k, i ≤ k → k < j → Nd (o k) = false) : qe_fo lim sy lf rt ld T o Nd G got j = qe_fo lim sy lf rt ld T o Nd G got i := by
  have := qe_fo_skip (lim := lim) (sy := sy) (lf := lf) (rt := rt) (ld := ld) (T := T) (o := o) (Nd := Nd) (G := G) (got := got) (i := i) (j - i) (fun k h1 h2 => h k h1 (by omega))
  rwa [show i + (j - i) = j by omega] at this
theorem qe_fo_bad {i : Nat} (h : (qe_fo lim sy lf rt ld T o Nd G got i).1 = false) : ∀ d, qe_fo lim sy lf rt ld T o Nd G got (i + d) = qe_fo lim sy lf rt ld T o Nd G got i
  | 0 => rfl
  | d + 1 => by
    show qe_fo lim sy lf rt ld T o Nd G got (i + d + 1) = _
    rw [qe_fo, qe_fo_bad h d, if_neg (by rw [h]; exact Bool.false_ne_true)]
theorem qe_fo_bad' {i j : Nat} (hij : i ≤ j) (h : (qe_fo lim sy lf rt ld T o Nd G got i).1 = false) : qe_fo lim sy lf rt ld T o Nd G got j = qe_fo lim sy lf rt ld T o Nd G got i := by
  have := qe_fo_bad h (j - i)
  rwa [show i + (j - i) = j by omega] at this
end
section
variable {f_termLimit f_patternLimit f_ruleLimit f_eventLimit f_termCount f_patternCount f_ruleCount f_eventCount f_closedTerms f_closedEvents f_classCount f_dirty f_matchPattern f_matchDepth f_levelCount f_groundLeft f_costsFresh f_settledClasses f_reachedClasses f_explainedCount : Int32} {a_termIndex a_patSymbol a_patLeft a_patRight a_patSubs a_patTop a_byTop a_patternIndex a_ruleLeft a_ruleRight a_eventLeft a_eventRight a_eventRule a_symbolWeight a_members a_users a_symbolTerms a_signTerm a_levelVar a_levelRest a_patValue a_standsFor a_gotTerm a_explainedEvent : Nat → Int32} {a_best a_treeCost : Nat → Int64}
variable {c noc goal : Nat} {sy lf rt ld w ord bT sy0 lf0 rt0 : Nat → Int32} {o B T : Nat → Nat}
theorem qx_need {post : Int32 → Prop} (X : qe_cx c sy lf rt ld w noc o B T) (hg : goal < c) (eg : ld goal = nI goal) (ho : ∀ i, i < noc → ord i = nI (o i)) (hT : ∀ l, l < c → ld l = nI l → bT l = nI (T l))
    (K : ∀ N, qe_nd c lf rt ld T goal (bt N) → post N) : wpX_neededFor post (f_termLimit, f_patternLimit, f_ruleLimit, f_eventLimit, f_termCount, f_patternCount, f_ruleCount, f_eventCount, f_closedTerms, f_closedEvents, f_classCount, f_dirty, f_matchPattern, f_matchDepth, f_levelCount, f_groundLeft, f_costsFresh, f_settledClasses, f_reachedClasses, nI noc, f_explainedCount, sy, lf, rt, a_termIndex, a_patSymbol, a_patLeft, a_patRight, a_patSubs, a_patTop, a_byTop, a_patternIndex, a_ruleLeft, a_ruleRight, a_eventLeft, a_eventRight, a_eventRule, a_symbolWeight, ld, a_members, a_users, a_symbolTerms, a_signTerm, a_levelVar, a_levelRest, a_patValue, a_standsFor, ord, a_best, bT, a_gotTerm, a_treeCost, a_explainedEvent) (nI goal) := by
  have hc := X.1
  have g := X.2.1
  have nm := X.2.2.1
  have nle := X.2.2.2.2.2.1
  have key : ∀ d k N, d ≤ noc → d < k → (bt N goal = true ∧ (∀ x, bt N x = true → x < c ∧ ld x = nI x) ∧ (∀ j e, d ≤ j → j < noc → bt N (o j) = true → e < 32 → qk_cl lf rt ld (T (o j)) e → bt N e = true) ∧ (∀ e, bt N e = true → e = goal ∨ ∃ x, bt N x = true ∧ qk_cl lf rt ld (T x) e)) → wX_neededFor_11 post f_termLimit f_patternLimit f_ruleLimit f_eventLimit f_termCount f_patternCount f_ruleCount f_eventCount f_closedTerms f_closedEvents f_classCount f_dirty f_matchPattern f_matchDepth f_levelCount f_groundLeft f_costsFresh f_settledClasses f_reachedClasses (nI noc) f_explainedCount sy lf rt a_termIndex a_patSymbol a_patLeft a_patRight a_patSubs a_patTop a_byTop a_patternIndex a_ruleLeft a_ruleRight a_eventLeft a_eventRight a_eventRule a_symbolWeight ld a_members a_users a_symbolTerms a_signTerm a_levelVar a_levelRest a_patValue a_standsFor ord a_best bT a_gotTerm a_treeCost a_explainedEvent k N (nI d - 1) := by
    intro d
    induction d with
    | zero =>
      intro k N hd hk h
      cases k with
      | zero => omega
      | succ k =>
        rw [wX_neededFor_11]
        refine br_t (by decide) (K N ⟨h.1, h.2.1, fun x e hx he cl => ?_, h.2.2.2⟩)
        have rx := h.2.1 x hx
        obtain ⟨j, hj, ej⟩ := X.2.2.2.2.2.2.2.1 x rx.1 rx.2
        subst ej
        exact h.2.2.1 j e (Nat.zero_le _) hj hx he cl
    | succ d ih =>
      intro k N hd hk h
      cases k with
      | zero => omega
      | succ k =>
        have od := X.2.2.2.2.2.2.1 d (by omega)
        have hTd := X.2.2.2.2.1.2 (o d) od.1 od.2
        rw [wX_neededFor_11, nI_pred]
        refine br_f (nI_pos (by omega)) ⟨vp_in_nI (by omega) (by omega), nm_r (e' := nI (o d)) (by rw [nI_clamp (by omega)]; exact ho d (by omega)) ?_⟩
        have nx : ∀ N', (bt N' goal = true ∧ (∀ x, bt N' x = true → x < c ∧ ld x = nI x) ∧ (∀ j e, d ≤ j → j < noc → bt N' (o j) = true → e < 32 → qk_cl lf rt ld (T (o j)) e → bt N' e = true) ∧ (∀ e, bt N' e = true → e = goal ∨ ∃ x, bt N' x = true ∧ qk_cl lf rt ld (T x) e)) → ∀ x, x = nI d + (-1) → wX_neededFor_11 post f_termLimit f_patternLimit f_ruleLimit f_eventLimit f_termCount f_patternCount f_ruleCount f_eventCount f_closedTerms f_closedEvents f_classCount f_dirty f_matchPattern f_matchDepth f_levelCount f_groundLeft f_costsFresh f_settledClasses f_reachedClasses (nI noc) f_explainedCount sy lf rt a_termIndex a_patSymbol a_patLeft a_patRight a_patSubs a_patTop a_byTop a_patternIndex a_ruleLeft a_ruleRight a_eventLeft a_eventRight a_eventRule a_symbolWeight ld a_members a_users a_symbolTerms a_signTerm a_levelVar a_levelRest a_patValue a_standsFor ord a_best bT a_gotTerm a_treeCost a_explainedEvent k N' x := by
          intro N' h'
          refine nm_r (e' := nI d - 1) (by rw [Int32.sub_eq_add_neg]) (ih k N' (by omega) (by omega) h')
        refine ek_if (qb_t N (j := o d) (by omega)) (fun b0 => nx N ⟨h.1, h.2.1, fun j e hj hjn bj he cl => ?_, h.2.2.2⟩) (fun b1 => ⟨vp_in_nI (by omega) (by omega), nm_r (e' := nI (T (o d))) (by rw [nI_clamp (by omega)]; exact hT _ od.1 od.2) ⟨vp_in_nI (by have := hTd.2.1; omega) (by omega), ?_⟩⟩)
        · by_cases z : j = d
          · subst z; rw [b0] at bj; exact absurd bj (by decide)
          · exact h.2.2.1 j e (by omega) hjn bj he cl
        · have bd : bt N (o d) = true := by
            cases z : bt N (o d)
            · exact (b1 z).elim
            · rfl
          have Tc := hTd.2.1
          rw [show (nI (T (o d))).toNatClampNeg = T (o d) from nI_clamp (by omega)]
          have ch := qx_cs_ch hc Tc (g _ Tc)
          have iT : vp_in (nI (T (o d))) 32 := vp_in_nI (by omega) (by omega)
          have fin : ∀ N1, (∀ x, bt N1 x = true ↔ bt N x = true ∨ (x < 32 ∧ ∃ j, j < 32 ∧ lf (T (o d)) = nI j ∧ ld j = nI x)) → wX_neededFor_69 post (wX_neededFor_11 post f_termLimit f_patternLimit f_ruleLimit f_eventLimit f_termCount f_patternCount f_ruleCount f_eventCount f_closedTerms f_closedEvents f_classCount f_dirty f_matchPattern f_matchDepth f_levelCount f_groundLeft f_costsFresh f_settledClasses f_reachedClasses (nI noc) f_explainedCount sy lf rt a_termIndex a_patSymbol a_patLeft a_patRight a_patSubs a_patTop a_byTop a_patternIndex a_ruleLeft a_ruleRight a_eventLeft a_eventRight a_eventRule a_symbolWeight ld a_members a_users a_symbolTerms a_signTerm a_levelVar a_levelRest a_patValue a_standsFor ord a_best bT a_gotTerm a_treeCost a_explainedEvent k) N1 (nI d) (nI (T (o d))) f_termLimit f_patternLimit f_ruleLimit f_eventLimit f_termCount f_patternCount f_ruleCount f_eventCount f_closedTerms f_closedEvents f_classCount f_dirty f_matchPattern f_matchDepth f_levelCount f_groundLeft f_costsFresh f_settledClasses f_reachedClasses (nI noc) f_explainedCount sy lf rt a_termIndex a_patSymbol a_patLeft a_patRight a_patSubs a_patTop a_byTop a_patternIndex a_ruleLeft a_ruleRight a_eventLeft a_eventRight a_eventRule a_symbolWeight ld a_members a_users a_symbolTerms a_signTerm a_levelVar a_levelRest a_patValue a_standsFor ord a_best bT a_gotTerm a_treeCost a_explainedEvent := by
            intro N1 h1
            have last : ∀ N2, (∀ x, bt N2 x = true ↔ bt N1 x = true ∨ (x < 32 ∧ ∃ j, j < 32 ∧ rt (T (o d)) = nI j ∧ ld j = nI x)) → ∀ x, x = nI d + (-1) → wX_neededFor_11 post f_termLimit f_patternLimit f_ruleLimit f_eventLimit f_termCount f_patternCount f_ruleCount f_eventCount f_closedTerms f_closedEvents f_classCount f_dirty f_matchPattern f_matchDepth f_levelCount f_groundLeft f_costsFresh f_settledClasses f_reachedClasses (nI noc) f_explainedCount sy lf rt a_termIndex a_patSymbol a_patLeft a_patRight a_patSubs a_patTop a_byTop a_patternIndex a_ruleLeft a_ruleRight a_eventLeft a_eventRight a_eventRule a_symbolWeight ld a_members a_users a_symbolTerms a_signTerm a_levelVar a_levelRest a_patValue a_standsFor ord a_best bT a_gotTerm a_treeCost a_explainedEvent k N2 x := by
              intro N2 h2
              have mem : ∀ x, bt N2 x = true ↔ bt N x = true ∨ (x < 32 ∧ qk_cl lf rt ld (T (o d)) x) := by
                intro x
                rw [h2 x, h1 x]
                constructor
                · rintro ((z | ⟨hx, j, hj, e, e1⟩) | ⟨hx, j, hj, e, e1⟩)
                  · exact Or.inl z
                  · exact Or.inr ⟨hx, j, hj, Or.inl e, e1⟩
                  · exact Or.inr ⟨hx, j, hj, Or.inr e, e1⟩
                · rintro (z | ⟨hx, j, hj, e | e, e1⟩)
                  · exact Or.inl (Or.inl z)
                  · exact Or.inl (Or.inr ⟨hx, j, hj, e, e1⟩)
                  · exact Or.inr ⟨hx, j, hj, e, e1⟩
              refine nx N2 ⟨(mem goal).mpr (Or.inl h.1), fun x hx => ?_, fun j e hj hjn bj he cl => ?_, fun e he => ?_⟩
              · rcases (mem x).mp hx with z | ⟨hx, cl⟩
                · exact h.2.1 x z
                · have := qk_cl_root hc nm Tc (g _ Tc) hx cl
                  exact ⟨this.1, this.2.1⟩
              · rcases (mem (o j)).mp bj with z | ⟨hx, cl'⟩
                · by_cases q : j = d
                  · subst q; exact (mem e).mpr (Or.inr ⟨he, cl⟩)
                  · exact (mem e).mpr (Or.inl (h.2.2.1 j e (by omega) hjn z he cl))
                · obtain ⟨_, _, _, j', hj', ej⟩ := qe_early X (show d < noc by omega) hx cl'
                  have := qe_inj X (by omega) hjn ej
                  omega
              · rcases (mem e).mp he with z | ⟨hx, cl⟩
                · rcases h.2.2.2 e z with q | ⟨x, bx, cl⟩
                  · exact Or.inl q
                  · exact Or.inr ⟨x, (mem x).mpr (Or.inl bx), cl⟩
                · exact Or.inr ⟨o d, (mem (o d)).mpr (Or.inl bd), cl⟩
            unfold wX_neededFor_69
            refine ⟨iT, ?_⟩
            rw [show (nI (T (o d))).toNatClampNeg = T (o d) from nI_clamp (by omega)]
            rcases ch.2 with e | ⟨j, hj, e⟩
            · rw [e]
              refine br_t rfl (last N1 fun x => ⟨Or.inl, fun z => z.elim id (fun ⟨_, j, hj, q, _⟩ => ?_)⟩)
              rw [e] at q; exact (qa_1ne (by omega) q).elim
            · obtain ⟨x0, hx0, e1, _⟩ := nm j hj
              rw [e]
              refine br_f (qa_ne1 (by omega)) ⟨iT, vp_in_nI (by omega) (by omega), nm_r (e' := N1 ||| ((1 : Int32) <<< (nI x0 &&& 31))) (by rw [nI_clamp (by omega), e1]) (last _ fun x => ?_)⟩
              rcases Nat.lt_or_ge x 32 with h32 | h32
              · rw [b_or, Bool.or_eq_true, qb_s (by omega) h32, decide_eq_true_eq]
                constructor
                · rintro (z | z)
                  · exact Or.inl z
                  · subst z; exact Or.inr ⟨h32, j, by omega, e, e1⟩
                · rintro (z | ⟨_, j', hj', q, e2⟩)
                  · exact Or.inl z
                  · have : j = j' := qa_inj (by omega) (by omega) (e.symm.trans q)
                    subst this
                    exact Or.inr (qa_inj (by omega) (by omega) (e2.symm.trans e1))
              · rw [b_big h32, b_big h32]
                exact ⟨fun z => absurd z (by decide), fun z => z.elim (fun z => absurd z (by decide)) (fun z => by omega)⟩
          rcases ch.1 with e | ⟨j, hj, e⟩
          · rw [e]
            refine br_t rfl (fin N fun x => ⟨Or.inl, fun z => z.elim id (fun ⟨_, j, hj, q, _⟩ => ?_)⟩)
            rw [e] at q; exact (qa_1ne (by omega) q).elim
          · obtain ⟨x0, hx0, e1, _⟩ := nm j hj
            rw [e]
            refine br_f (qa_ne1 (by omega)) ⟨iT, vp_in_nI (by omega) (by omega), nm_r (e' := N ||| ((1 : Int32) <<< (nI x0 &&& 31))) (by rw [nI_clamp (by omega), e1]) (fin _ fun x => ?_)⟩
            rcases Nat.lt_or_ge x 32 with h32 | h32
            · rw [b_or, Bool.or_eq_true, qb_s (by omega) h32, decide_eq_true_eq]
              constructor
              · rintro (z | z)
                · exact Or.inl z
                · subst z; exact Or.inr ⟨h32, j, by omega, e, e1⟩
              · rintro (z | ⟨_, j', hj', q, e2⟩)
                · exact Or.inl z
                · have : j = j' := qa_inj (by omega) (by omega) (e.symm.trans q)
                  subst this
                  exact Or.inr (qa_inj (by omega) (by omega) (e2.symm.trans e1))
            · rw [b_big h32, b_big h32]
              exact ⟨fun z => absurd z (by decide), fun z => z.elim (fun z => absurd z (by decide)) (fun z => by omega)⟩
  unfold wpX_neededFor
  have gb : ∀ x, bt ((1 : Int32) <<< (nI goal &&& 31)) x = true → x = goal := by
    intro x bx
    rcases Nat.lt_or_ge x 32 with h32 | h32
    · rw [qb_s (by omega) h32, decide_eq_true_eq] at bx; exact bx
    · rw [b_big h32] at bx; exact absurd bx (by decide)
  refine nm_e (nm_e ⟨noc + 1, key noc (noc + 1) _ (Nat.le_refl _) (by omega) ⟨?_, fun x bx => ?_, fun j e hj hjn => by omega, fun e be => Or.inl (gb e be)⟩⟩)
  · rw [qb_s (by omega) (by omega)]; simp
  · rw [gb x bx]; exact ⟨hg, eg⟩
end
end
section
section
variable {f_patternLimit f_ruleLimit f_eventLimit f_patternCount f_ruleCount f_eventCount f_closedTerms f_closedEvents f_classCount f_dirty f_matchPattern f_matchDepth f_levelCount f_groundLeft f_costsFresh f_settledClasses f_reachedClasses f_explainedCount : Int32} {a_patSymbol a_patLeft a_patRight a_patSubs a_patTop a_byTop a_patternIndex a_ruleLeft a_ruleRight a_eventLeft a_eventRight a_eventRule a_symbolWeight a_members a_users a_symbolTerms a_signTerm a_levelVar a_levelRest a_patValue a_standsFor a_explainedEvent : Nat → Int32} {a_best a_treeCost : Nat → Int64}
variable {lim c noc goal : Nat} {sy0 lf0 rt0 ld w ord bT got0 : Nat → Int32} {o B T : Nat → Nat} {N : Int32}
theorem qx_x41 {post : Int32 → SX → Prop} (hl : lim ≤ 32) (X : qe_cx c sy0 lf0 rt0 ld w noc o B T) (hN : qe_nd c lf0 rt0 ld T goal (bt N)) (gk0 : qi_gk lim (c, sy0, lf0, rt0)) (ho : ∀ i, i < noc → ord i = nI (o i)) (hT : ∀ l, l < c → ld l = nI l → bT l = nI (T l))
    (K1 : ∀ n sy lf rt ti got, qe_fo lim sy0 lf0 rt0 ld T o (bt N) (c, sy0, lf0, rt0) got0 noc = (true, (n, sy, lf, rt), got) → qx_ti n sy lf rt ti → post (got goal) (nI lim, f_patternLimit, f_ruleLimit, f_eventLimit, nI n, f_patternCount, f_ruleCount, f_eventCount, f_closedTerms, f_closedEvents, f_classCount, f_dirty, f_matchPattern, f_matchDepth, f_levelCount, f_groundLeft, f_costsFresh, f_settledClasses, f_reachedClasses, nI noc, f_explainedCount, sy, lf, rt, ti, a_patSymbol, a_patLeft, a_patRight, a_patSubs, a_patTop, a_byTop, a_patternIndex, a_ruleLeft, a_ruleRight, a_eventLeft, a_eventRight, a_eventRule, a_symbolWeight, ld, a_members, a_users, a_symbolTerms, a_signTerm, a_levelVar, a_levelRest, a_patValue, a_standsFor, ord, a_best, bT, got, a_treeCost, a_explainedEvent))
    (K0 : ∀ n sy lf rt ti got, qe_fo lim sy0 lf0 rt0 ld T o (bt N) (c, sy0, lf0, rt0) got0 noc = (false, (n, sy, lf, rt), got) → qx_ti c sy lf rt ti → post (-3) (nI lim, f_patternLimit, f_ruleLimit, f_eventLimit, nI c, f_patternCount, f_ruleCount, f_eventCount, f_closedTerms, f_closedEvents, f_classCount, f_dirty, f_matchPattern, f_matchDepth, f_levelCount, f_groundLeft, f_costsFresh, f_settledClasses, f_reachedClasses, nI noc, f_explainedCount, sy, lf, rt, ti, a_patSymbol, a_patLeft, a_patRight, a_patSubs, a_patTop, a_byTop, a_patternIndex, a_ruleLeft, a_ruleRight, a_eventLeft, a_eventRight, a_eventRule, a_symbolWeight, ld, a_members, a_users, a_symbolTerms, a_signTerm, a_levelVar, a_levelRest, a_patValue, a_standsFor, ord, a_best, bT, got, a_treeCost, a_explainedEvent)) :
    ∀ k i n sy lf rt ti got, i ≤ noc → noc - i < k → qe_fo lim sy0 lf0 rt0 ld T o (bt N) (c, sy0, lf0, rt0) got0 i = (true, (n, sy, lf, rt), got) → qx_ti n sy lf rt ti → wX_extract_41 post (nI goal) N (nI c) k (nI i) (nI lim) f_patternLimit f_ruleLimit f_eventLimit (nI n) f_patternCount f_ruleCount f_eventCount f_closedTerms f_closedEvents f_classCount f_dirty f_matchPattern f_matchDepth f_levelCount f_groundLeft f_costsFresh f_settledClasses f_reachedClasses (nI noc) f_explainedCount sy lf rt ti a_patSymbol a_patLeft a_patRight a_patSubs a_patTop a_byTop a_patternIndex a_ruleLeft a_ruleRight a_eventLeft a_eventRight a_eventRule a_symbolWeight ld a_members a_users a_symbolTerms a_signTerm a_levelVar a_levelRest a_patValue a_standsFor ord a_best bT got a_treeCost a_explainedEvent := by
  have hc := X.1
  have g0 := X.2.1
  have nm := X.2.2.1
  have nle := X.2.2.2.2.2.1
  have gc := (hN.2.1 goal hN.1).1
  intro k
  induction k with
  | zero => intro i n sy lf rt ti got _ h; omega
  | succ k ih =>
    intro i n sy lf rt ti got hi hk fo hti
    rw [wX_extract_41]
    refine pk_le noc i (fun le => ⟨vp_in_nI (by omega) (by omega), ?_⟩) (fun lt => ⟨vp_in_nI (by omega) (by omega), nm_r (e' := nI (o i)) (by rw [nI_clamp (by omega)]; exact ho i lt) ?_⟩)
    · have : i = noc := by omega
      subst this
      rw [show (nI goal).toNatClampNeg = goal from nI_clamp (by omega)]
      exact K1 n sy lf rt ti got fo hti
    · have oi := X.2.2.2.2.2.2.1 i lt
      have hTi := X.2.2.2.2.1.2 (o i) oi.1 oi.2
      have Tc := hTi.2.1
      refine ek_if (qb_t N (j := o i) (by omega)) (fun b0 => nm_r (nI_1 i) (ih (i + 1) n sy lf rt ti got (by omega) (by omega) ?_ hti)) (fun b1 => ?_)
      · rw [qe_fo, fo, if_pos rfl, b0, if_neg Bool.false_ne_true]
      · have nd : bt N (o i) = true := by
          cases z : bt N (o i)
          · exact (b1 z).elim
          · rfl
        have bi := qe_fo_i (got := got0) hl X hN gk0 i hi
        rw [fo] at bi
        have ag : ∀ t, t < c → sy t = sy0 t ∧ lf t = lf0 t ∧ rt t = rt0 t := bi.2.1.2
        have gk := bi.1
        have hn' : n ≤ lim := gk.1
        have cn : c ≤ n := bi.2.1.1
        have sg := qe_sg X hN lt nd (bi.2.2 rfl)
        have agT := ag _ Tc
        have ab := qi_ab sg
        have ix : vp_in (nI (o i)) 32 := vp_in_nI (by omega) (by omega)
        have iT : vp_in (nI (T (o i))) 32 := vp_in_nI (by omega) (by omega)
        have cT : (nI (T (o i))).toNatClampNeg = T (o i) := nI_clamp (by omega)
        have stp : qe_fo lim sy0 lf0 rt0 ld T o (bt N) (c, sy0, lf0, rt0) got0 (i + 1) = qe_st lim sy0 lf0 rt0 ld T (o i) (n, sy, lf, rt) got := by
          rw [qe_fo, fo, if_pos rfl, nd, if_pos rfl]
        unfold qe_st at stp
        have ch := qx_cs_ch hc Tc (g0 _ Tc)
        have fin : wX_extract_135 post (wX_extract_41 post (nI goal) N (nI c) k) (nI goal) N (nI c) (nI i) (nI (o i)) (nI (T (o i))) (qe_ch ld got (lf0 (T (o i)))) (qe_ch ld got (rt0 (T (o i)))) (nI lim) f_patternLimit f_ruleLimit f_eventLimit (nI n) f_patternCount f_ruleCount f_eventCount f_closedTerms f_closedEvents f_classCount f_dirty f_matchPattern f_matchDepth f_levelCount f_groundLeft f_costsFresh f_settledClasses f_reachedClasses (nI noc) f_explainedCount sy lf rt ti a_patSymbol a_patLeft a_patRight a_patSubs a_patTop a_byTop a_patternIndex a_ruleLeft a_ruleRight a_eventLeft a_eventRight a_eventRule a_symbolWeight ld a_members a_users a_symbolTerms a_signTerm a_levelVar a_levelRest a_patValue a_standsFor ord a_best bT got a_treeCost a_explainedEvent := by
          unfold wX_extract_135
          refine ⟨iT, ?_⟩
          rw [cT, agT.1]
          refine qx_intern hl hn' gk.2.1 (by rw [ab.1, ab.2]; exact sg) hti ?_
          intro r n2 sy2 lf2 rt2 ti2 e t2
          rw [ab.1, ab.2] at e
          rw [← e] at stp
          have kp := qi_keep hl hn' gk.2.1 sg e
          refine br_c (fun z => ?_) (fun z => ⟨ix, nm_r (e' := upd got (o i) r) (by rw [nI_clamp (by omega)]) (nm_r (nI_1 i) (ih (i + 1) n2 sy2 lf2 rt2 ti2 _ (by omega) (by omega) ?_ t2))⟩)
          · rw [if_pos z] at stp
            refine qx_drop (by have := kp.2.1; omega) (by have := kp.1; omega) kp.2.2.1 t2 fun ti3 t3 => K0 n2 sy2 lf2 rt2 ti3 got ?_ t3
            rw [qe_fo_bad' (i := i + 1) (by omega) (by rw [stp])]
            exact stp
          · rw [if_neg z] at stp
            exact stp
        have mid : ∀ x9, (x9 = rt0 (T (o i))) → wX_extract_115 post (wX_extract_41 post (nI goal) N (nI c) k) (nI goal) N (nI c) (nI i) (nI (o i)) (nI (T (o i))) (qe_ch ld got (lf0 (T (o i)))) x9 (nI lim) f_patternLimit f_ruleLimit f_eventLimit (nI n) f_patternCount f_ruleCount f_eventCount f_closedTerms f_closedEvents f_classCount f_dirty f_matchPattern f_matchDepth f_levelCount f_groundLeft f_costsFresh f_settledClasses f_reachedClasses (nI noc) f_explainedCount sy lf rt ti a_patSymbol a_patLeft a_patRight a_patSubs a_patTop a_byTop a_patternIndex a_ruleLeft a_ruleRight a_eventLeft a_eventRight a_eventRule a_symbolWeight ld a_members a_users a_symbolTerms a_signTerm a_levelVar a_levelRest a_patValue a_standsFor ord a_best bT got a_treeCost a_explainedEvent := by
          intro x9 e9
          unfold wX_extract_115
          rcases ch.2 with e | ⟨j, hj, e⟩
          · rw [e, qe_ch1] at fin
            rw [e9, e]
            exact br_t rfl fin
          · obtain ⟨d, hd, e1, _⟩ := nm j hj
            rw [e, qe_chN (by omega) (by omega) e1] at fin
            rw [e9, e]
            refine br_f (qa_ne1 (by omega)) ⟨vp_in_nI (by omega) (by omega), ?_⟩
            rw [show (nI j).toNatClampNeg = j from nI_clamp (by omega), e1]
            exact ⟨vp_in_nI (by omega) (by omega), nm_r (e' := got d) (by rw [nI_clamp (by omega)]) fin⟩
        refine ⟨ix, nm_r (e' := nI (T (o i))) (by rw [nI_clamp (by omega)]; exact hT _ oi.1 oi.2) ⟨iT, nm_r (e' := lf0 (T (o i))) (by rw [cT]; exact agT.2.1) ⟨iT, nm_r (e' := rt0 (T (o i))) (by rw [cT]; exact agT.2.2) ?_⟩⟩⟩
        rcases ch.1 with e | ⟨j, hj, e⟩
        · rw [e, qe_ch1] at mid
          rw [e]
          exact br_t rfl (mid _ rfl)
        · obtain ⟨d, hd, e1, _⟩ := nm j hj
          rw [e, qe_chN (by omega) (by omega) e1] at mid
          rw [e]
          refine br_f (qa_ne1 (by omega)) ⟨vp_in_nI (by omega) (by omega), ?_⟩
          rw [show (nI j).toNatClampNeg = j from nI_clamp (by omega), e1]
          exact ⟨vp_in_nI (by omega) (by omega), nm_r (e' := got d) (by rw [nI_clamp (by omega)]) (mid _ rfl)⟩
end
end
section
section
variable {lim c : Nat} {sy lf rt ld la w : Nat → Int32} {noc : Nat} {o B T : Nat → Nat} {Nd : Nat → Bool} {G : QG} {got : Nat → Int32} {goal : Nat}
theorem qk_cl_ext (hc : c ≤ 32) (h : ∀ t, t < c → la t = ld t) {t d : Nat} (ht : t < c) (g : qa_tok sy lf rt t) : qk_cl lf rt la t d ↔ qk_cl lf rt ld t d := by
  have jc : ∀ j, j < 32 → (lf t = nI j ∨ rt t = nI j) → j < c := by
    intro j hj e
    rcases e with e | e
    · rcases qa_sg_a g with z | ⟨i, hi, z⟩
      · exact (qa_1ne (by omega) (z.symm.trans e)).elim
      · have := qa_inj (by omega) (by omega) (z.symm.trans e); omega
    · rcases qa_sg_b g with z | ⟨i, hi, z⟩
      · exact (qa_1ne (by omega) (z.symm.trans e)).elim
      · have := qa_inj (by omega) (by omega) (z.symm.trans e); omega
  constructor
  · rintro ⟨j, hj, e, e1⟩; exact ⟨j, hj, e, by rw [← h j (jc j hj e)]; exact e1⟩
  · rintro ⟨j, hj, e, e1⟩; exact ⟨j, hj, e, by rw [h j (jc j hj e)]; exact e1⟩
theorem qc_nm_ext (h : ∀ t, t < c → la t = ld t) (nm : qc_nm c ld) : qc_nm c la := by
  intro x hx
  obtain ⟨j, hj, e1, e2⟩ := nm x hx
  exact ⟨j, hj, by rw [h x hx]; exact e1, by rw [h j (by omega)]; exact e2⟩
theorem qe_cx_ext (h : ∀ t, t < c → la t = ld t) (X : qe_cx c sy lf rt ld w noc o B T) : qe_cx c sy lf rt la w noc o B T := by
  obtain ⟨hc, g, nm, hw, hB, hn, ho, all, srt⟩ := X
  exact ⟨hc, g, qc_nm_ext h nm, hw, qk_bt_ext hc g h (fun _ _ => ⟨rfl, rfl, rfl⟩) hB, hn, fun i hi => ⟨(ho i hi).1, by rw [h _ (ho i hi).1]; exact (ho i hi).2⟩, fun l hl el => all l hl (by rw [← h l hl]; exact el), srt⟩
theorem qe_nd_ext (h : ∀ t, t < c → la t = ld t) (X : qe_cx c sy lf rt ld w noc o B T) (hN : qe_nd c lf rt ld T goal Nd) : qe_nd c lf rt la T goal Nd := by
  obtain ⟨n1, n2, n3, n4⟩ := hN
  have e : ∀ x d, Nd x = true → (qk_cl lf rt la (T x) d ↔ qk_cl lf rt ld (T x) d) := fun x d hx => by
    have k := X.2.2.2.2.1.2 x (n2 x hx).1 (n2 x hx).2
    exact qk_cl_ext X.1 h k.2.1 (X.2.1 _ k.2.1)
  refine ⟨n1, fun x hx => ⟨(n2 x hx).1, by rw [h x (n2 x hx).1]; exact (n2 x hx).2⟩, fun x d hx hd cl => n3 x d hx hd ((e x d hx).mp cl), fun d hd => (n4 d hd).elim Or.inl (fun ⟨x, hx, cl⟩ => Or.inr ⟨x, hx, (e x d hx).mpr cl⟩)⟩
theorem qe_fo_ext (h : ∀ t, t < c → la t = ld t) (X : qe_cx c sy lf rt ld w noc o B T) : ∀ i, i ≤ noc → qe_fo lim sy lf rt la T o Nd G got i = qe_fo lim sy lf rt ld T o Nd G got i
  | 0, _ => rfl
  | i + 1, hi => by
    rw [qe_fo, qe_fo, qe_fo_ext h X i (by omega)]
    have oi := X.2.2.2.2.2.2.1 i (by omega)
    have k := X.2.2.2.2.1.2 (o i) oi.1 oi.2
    have hc := X.1
    have ch := qx_cs_ch hc k.2.1 (X.2.1 _ k.2.1)
    have e : ∀ {x : Int32} {gt : Nat → Int32}, (x = -1 ∨ ∃ j, j < c ∧ x = nI j) → qe_ch la gt x = qe_ch ld gt x := by
      rintro x gt (rfl | ⟨j, hj, rfl⟩)
      · rw [qe_ch1, qe_ch1]
      · unfold qe_ch
        rw [if_neg (qa_ne1 (by omega)), if_neg (qa_ne1 (by omega)), nI_clamp (by omega), h j hj]
    unfold qe_st
    rw [e ch.1, e ch.2]
noncomputable def qk_ur (c : Nat) (ld : Nat → Int32) (B : Nat → Nat) (l : Nat) : Nat := qa_cn (fun d => ld d = nI d ∧ B l < B d) c
theorem qk_ur_lt {d l : Nat} (hl : l < c) (el : ld l = nI l) (h : B d < B l) : qk_ur c ld B l < qk_ur c ld B d :=
  qa_cn_lt (a := l) (fun z => Nat.lt_irrefl _ z.2) ⟨el, h⟩ (fun k _ z => ⟨z.1, by omega⟩) hl
theorem qk_ur_c {l : Nat} (hl : l < c) : qk_ur c ld B l < c := by
  have := qa_cn_lt (P := fun d => ld d = nI d ∧ B l < B d) (Q := fun _ => True) (a := l) (fun z => Nat.lt_irrefl _ z.2) trivial (N := c) (fun _ _ _ => trivial) hl
  have e := qa_cn_le (fun _ => True) c
  unfold qk_ur; omega
end
def qy_mi (c : Nat) (lf rt la : Nat → Int32) (B T : Nat → Nat) (goal : Nat) (Nd : Nat → Bool) (k p : Nat) (nd : Nat → Int32) : Prop :=
  (∀ x, x < c → nd x = 0 ∨ nd x = 1) ∧ (∀ x, x < c → nd x = 1 → Nd x = true) ∧ nd goal = 1 ∧ (∀ x, x < c → Nd x = true → qk_ur c la B x < k → nd x = 1) ∧
  (∀ y d, y < p → y < c → Nd y = true → qk_ur c la B y < k → d < 32 → qk_cl lf rt la (T y) d → nd d = 1)
theorem qy_mi_up {c : Nat} {lf rt la : Nat → Int32} {B T : Nat → Nat} {goal : Nat} {Nd : Nat → Bool} {k p d : Nat} {nd : Nat → Int32} (h : qy_mi c lf rt la B T goal Nd k p nd) (hd : Nd d = true) : qy_mi c lf rt la B T goal Nd k p (upd nd d 1) := by
  obtain ⟨h1, h2, h3, h4, h5⟩ := h
  have up : ∀ x, nd x = 1 → upd nd d 1 x = 1 := by
    intro x e
    by_cases z : x = d
    · subst z; exact pk_us
    · rw [pk_un z]; exact e
  refine ⟨fun x hx => ?_, fun x hx e => ?_, up _ h3, fun x hx n u => up _ (h4 x hx n u), fun y e hy hyc n u he cl => up _ (h5 y e hy hyc n u he cl)⟩
  · by_cases z : x = d
    · subst z; exact Or.inr pk_us
    · rw [pk_un z]; exact h1 x hx
  · by_cases z : x = d
    · subst z; exact hd
    · rw [pk_un z] at e; exact h2 x hx e
section
variable {g_maxPats g_maxRules g_maxEvents g_nPats g_nRules g_nEvents g_nKept : Int32} {b_psym b_pl b_pr b_rl b_rr b_el b_er b_eRule b_kept b_in b_sub b_val b_stand : Nat → Int32} {b_cost : Nat → Int64}
variable {lim n c noc goal : Nat} {sy lf rt la w pk got : Nat → Int32} {best : Nat → Int64} {o B T : Nat → Nat} {Nd : Nat → Bool}
theorem qy_e99 {post : Int32 → SY → Prop} {J89 : Int32 → (Nat → Int32) → (Nat → Int32) → (Nat → Int32) → (Nat → Int32) → (Nat → Int32) → (Nat → Int32) → (Nat → Int32) → (Nat → Int32) → (Nat → Int32) → (Nat → Int32) → (Nat → Int32) → (Nat → Int32) → (Nat → Int32) → (Nat → Int32) → (Nat → Int32) → (Nat → Int32) → (Nat → Int32) → (Nat → Int32) → (Nat → Int64) → (Nat → Int64) → (Nat → Int32) → (Nat → Int32) → (Nat → Int32) → Prop} {x1 : Int32} {k : Nat} (X : qe_cx c sy lf rt la w noc o B T) (hN : qe_nd c lf rt la T goal Nd) (hpk : ∀ l, l < c → la l = nI l → pk l = nI (T l))
    (K : ∀ nd, qy_mi c lf rt la B T goal Nd k c nd → J89 (nI (k + 1)) sy lf rt b_psym b_pl b_pr b_rl b_rr b_el b_er b_eRule b_kept w b_in la b_sub b_val b_stand b_cost best nd pk got) :
    ∀ fuel p nd, p ≤ c → c - p < fuel → qy_mi c lf rt la B T goal Nd k p nd → wY_extract_99 post J89 x1 (nI k) (nI lim) g_maxPats g_maxRules g_maxEvents (nI n) g_nPats g_nRules g_nEvents g_nKept (nI c) fuel (nI p) sy lf rt b_psym b_pl b_pr b_rl b_rr b_el b_er b_eRule b_kept w b_in la b_sub b_val b_stand b_cost best nd pk got := by
  have hc := X.1
  have g := X.2.1
  have nm := X.2.2.1
  intro fuel
  induction fuel with
  | zero => intro p nd _ h; omega
  | succ fuel ih =>
    intro p nd hp hf h
    rw [wY_extract_99]
    refine pk_le c p (fun le => ?_) (fun lt => ?_)
    · have : p = c := by omega
      subst this
      exact nm_r (nI_1 k) (K nd h)
    · have ip : vp_in (nI p) 32 := vp_in_nI (by omega) (by omega)
      have cp : (nI p).toNatClampNeg = p := nI_clamp (by omega)
      refine ⟨ip, ?_⟩
      rw [cp]
      have step : ∀ nd', qy_mi c lf rt la B T goal Nd k p nd' → (Nd p = true → qk_ur c la B p < k → ∀ d, d < 32 → qk_cl lf rt la (T p) d → nd' d = 1) → ∀ x, x = nI p + 1 → wY_extract_99 post J89 x1 (nI k) (nI lim) g_maxPats g_maxRules g_maxEvents (nI n) g_nPats g_nRules g_nEvents g_nKept (nI c) fuel x sy lf rt b_psym b_pl b_pr b_rl b_rr b_el b_er b_eRule b_kept w b_in la b_sub b_val b_stand b_cost best nd' pk got := by
        intro nd' h' e
        refine nm_r (nI_1 p) (ih (p + 1) nd' (by omega) (by omega) ⟨h'.1, h'.2.1, h'.2.2.1, h'.2.2.2.1, fun y d hy hyc n u hd cl => ?_⟩)
        by_cases z : y = p
        · subst z; exact e n u d hd cl
        · exact h'.2.2.2.2 y d (by omega) hyc n u hd cl
      rcases h.1 p lt with z | z
      · refine br_t z ?_
        unfold wY_extract_152
        refine ⟨ip, ?_⟩
        rw [cp]
        refine br_t z (step nd h fun n u => ?_)
        have := h.2.2.2.1 p lt n u
        rw [z] at this; exact absurd this (by decide)
      · have np := h.2.1 p lt z
        have rp := hN.2.1 p np
        have kT := X.2.2.2.2.1.2 p rp.1 rp.2
        have Tc := kT.2.1
        have ch := qx_cs_ch hc Tc (g _ Tc)
        have iT : vp_in (nI (T p)) 32 := vp_in_nI (by omega) (by omega)
        have cT : (nI (T p)).toNatClampNeg = T p := nI_clamp (by omega)
        have zn : ∀ {x : Int32}, x = 1 → ¬ x = 0 := by rintro x rfl; decide
        refine br_f (zn z) ⟨ip, ?_⟩
        rw [hpk p rp.1 rp.2]
        refine ⟨iT, ?_⟩
        rw [cT]
        have right : ∀ nd1, qy_mi c lf rt la B T goal Nd k p nd1 → nd1 p = 1 → (∀ d, d < 32 → (∃ j, j < 32 ∧ lf (T p) = nI j ∧ la j = nI d) → nd1 d = 1) → wY_extract_152 post J89 (wY_extract_99 post J89 x1 (nI k) (nI lim) g_maxPats g_maxRules g_maxEvents (nI n) g_nPats g_nRules g_nEvents g_nKept (nI c) fuel) x1 (nI k) (nI p) (nI lim) g_maxPats g_maxRules g_maxEvents (nI n) g_nPats g_nRules g_nEvents g_nKept (nI c) sy lf rt b_psym b_pl b_pr b_rl b_rr b_el b_er b_eRule b_kept w b_in la b_sub b_val b_stand b_cost best nd1 pk got := by
          intro nd1 h1 e1 hl
          unfold wY_extract_152
          refine ⟨ip, ?_⟩
          rw [cp]
          refine br_f (zn e1) ⟨ip, ?_⟩
          rw [hpk p rp.1 rp.2]
          refine ⟨iT, ?_⟩
          rw [cT]
          rcases ch.2 with e | ⟨j, hj, e⟩
          · rw [e]
            refine br_t qa_1lt (step nd1 h1 fun _ _ d hd ⟨j, hj, q, e2⟩ => ?_)
            rcases q with q | q
            · exact hl d hd ⟨j, hj, q, e2⟩
            · rw [e] at q; exact (qa_1ne (by omega) q).elim
          · obtain ⟨d0, hd0, f1, f2⟩ := nm j hj
            rw [e]
            have nd0 := hN.2.2.1 p d0 np (by omega) ⟨j, by omega, Or.inr e, f1⟩
            refine br_f (nI_pos (by omega)) ⟨ip, iT, vp_in_nI (by omega) (by omega), ?_⟩
            rw [show (nI j).toNatClampNeg = j from nI_clamp (by omega), f1]
            refine ⟨vp_in_nI (by omega) (by omega), nm_r (e' := upd nd1 d0 1) (by rw [nI_clamp (by omega), qy_b1]) (step _ (qy_mi_up h1 nd0) fun _ _ d hd ⟨j', hj', q, e2⟩ => ?_)⟩
            by_cases y : d = d0
            · subst y; exact pk_us
            · rw [pk_un y]
              rcases q with q | q
              · exact hl d hd ⟨j', hj', q, e2⟩
              · have : j = j' := qa_inj (by omega) (by omega) (e.symm.trans q)
                subst this
                exact (y (qa_inj (by omega) (by omega) (e2.symm.trans f1))).elim
        rcases ch.1 with e | ⟨j, hj, e⟩
        · rw [e]
          refine br_t qa_1lt (right nd h z fun d hd ⟨j, hj, q, _⟩ => ?_)
          rw [e] at q; exact (qa_1ne (by omega) q).elim
        · obtain ⟨d0, hd0, f1, f2⟩ := nm j hj
          rw [e]
          have nd0 := hN.2.2.1 p d0 np (by omega) ⟨j, by omega, Or.inl e, f1⟩
          refine br_f (nI_pos (by omega)) ⟨ip, iT, vp_in_nI (by omega) (by omega), ?_⟩
          rw [show (nI j).toNatClampNeg = j from nI_clamp (by omega), f1]
          refine ⟨vp_in_nI (by omega) (by omega), nm_r (e' := upd nd d0 1) (by rw [nI_clamp (by omega), qy_b1]) (right _ (qy_mi_up h nd0) ?_ fun d hd ⟨j', hj', q, e2⟩ => ?_)⟩
          · by_cases y : p = d0
            · subst y; exact pk_us
            · rw [pk_un y]; exact z
          · have : j = j' := qa_inj (by omega) (by omega) (e.symm.trans q)
            subst this
            have : d = d0 := qa_inj (by omega) (by omega) (e2.symm.trans f1)
            subst this; exact pk_us
theorem qy_e89 {post : Int32 → SY → Prop} {x1 : Int32} (X : qe_cx c sy lf rt la w noc o B T) (hN : qe_nd c lf rt la T goal Nd) (hpk : ∀ l, l < c → la l = nI l → pk l = nI (T l))
    (K : ∀ nd, (∀ x, x < c → (nd x = 0 ∧ Nd x = false) ∨ (nd x = 1 ∧ Nd x = true)) → ∃ k, wY_extract_216 post x1 (nI n) k 0 (nI lim) g_maxPats g_maxRules g_maxEvents (nI n) g_nPats g_nRules g_nEvents g_nKept (nI c) sy lf rt b_psym b_pl b_pr b_rl b_rr b_el b_er b_eRule b_kept w b_in la b_sub b_val b_stand b_cost best nd pk got) :
    ∀ fuel k nd, k ≤ c → c - k < fuel → qy_mi c lf rt la B T goal Nd k 0 nd → wY_extract_89 post x1 (nI lim) g_maxPats g_maxRules g_maxEvents (nI n) g_nPats g_nRules g_nEvents g_nKept (nI c) fuel (nI k) sy lf rt b_psym b_pl b_pr b_rl b_rr b_el b_er b_eRule b_kept w b_in la b_sub b_val b_stand b_cost best nd pk got := by
  have hc := X.1
  intro fuel
  induction fuel with
  | zero => intro k nd _ h; omega
  | succ fuel ih =>
    intro k nd hk hf h
    rw [wY_extract_89]
    refine pk_le c k (fun le => K nd fun x hx => ?_) (fun lt => ⟨c + 1, qy_e99 X hN hpk ?_ (c + 1) 0 nd (by omega) (by omega) h⟩)
    · have ur := qk_ur_c (ld := la) (B := B) hx
      rcases h.1 x hx with z | z
      · left
        refine ⟨z, ?_⟩
        cases q : Nd x
        · rfl
        · have := h.2.2.2.1 x hx q (by omega)
          rw [z] at this; exact absurd this (by decide)
      · exact Or.inr ⟨z, h.2.1 x hx z⟩
    · intro nd' h'
      refine ih (k + 1) nd' (by omega) (by omega) ⟨h'.1, h'.2.1, h'.2.2.1, fun x hx n u => ?_, fun y d hy => absurd hy (Nat.not_lt_zero _)⟩
      rcases hN.2.2.2 x n with e | ⟨y, ny, cl⟩
      · rw [e]; exact h'.2.2.1
      · have ry := hN.2.1 y ny
        have kT := X.2.2.2.2.1.2 y ry.1 ry.2
        have lt' := qk_cl_lt (B := B) (sy := sy) (w := w) X.2.2.2.1 (show x < 32 by omega) (X.2.1 _ kT.2.1) cl
        rw [kT.2.2.2.1] at lt'
        have := qk_ur_lt (c := c) (ld := la) (B := B) ry.1 ry.2 lt'
        exact h'.2.2.2.2 y x ry.1 ry.1 ny (by omega) (by omega) cl
theorem qy_e26 {post : Int32 → SY → Prop} {t : Nat} (X : qe_cx c sy lf rt la w noc o B T) (hN : qe_nd c lf rt la T goal Nd) (ht : t < c) (et : la t = nI goal) (hb : ∀ d, d < c → la d = nI d → best d = lN (B d))
    (K : ∀ nd pk, (∀ l, l < c → la l = nI l → pk l = nI (T l)) → (∀ x, x < c → (nd x = 0 ∧ Nd x = false) ∨ (nd x = 1 ∧ Nd x = true)) → ∃ k, wY_extract_216 post (nI t) (nI n) k 0 (nI lim) g_maxPats g_maxRules g_maxEvents (nI n) g_nPats g_nRules g_nEvents g_nKept (nI c) sy lf rt b_psym b_pl b_pr b_rl b_rr b_el b_er b_eRule b_kept w b_in la b_sub b_val b_stand b_cost best nd pk got) :
    ∀ d k nd pk, d ≤ c → d < k → (∀ x, d ≤ x → x < c → nd x = 0) → (∀ l, l < c → la l = nI l → d ≤ T l → pk l = nI (T l)) → wY_extract_26 post (nI t) (nI lim) g_maxPats g_maxRules g_maxEvents (nI n) g_nPats g_nRules g_nEvents g_nKept (nI c) k (nI d - 1) sy lf rt b_psym b_pl b_pr b_rl b_rr b_el b_er b_eRule b_kept w b_in la b_sub b_val b_stand b_cost best nd pk got := by
  have hc := X.1
  have g := X.2.1
  have nm := X.2.2.1
  have hB := X.2.2.2.2.1
  have gg := hN.2.1 goal hN.1
  intro d
  induction d with
  | zero =>
    intro k nd pk hd hk h0 hp
    cases k with
    | zero => omega
    | succ k =>
      rw [wY_extract_26]
      refine br_t (by decide) ⟨vp_in_nI (by omega) (by omega), ?_⟩
      rw [show (nI t).toNatClampNeg = t from nI_clamp (by omega), et]
      refine ⟨vp_in_nI (by omega) (by omega), nm_r (e' := upd nd goal 1) (by rw [nI_clamp (by omega), qy_b1]) ⟨c + 1, qy_e89 X hN (fun l hl el => hp l hl el (Nat.zero_le _)) (fun nd h => K nd pk (fun l hl el => hp l hl el (Nat.zero_le _)) h) (c + 1) 0 _ (by omega) (by omega) ⟨fun x hx => ?_, fun x hx e => ?_, pk_us, fun x hx n u => absurd u (Nat.not_lt_zero _), fun y d hy => absurd hy (Nat.not_lt_zero _)⟩⟩⟩
      · by_cases z : x = goal
        · subst z; exact Or.inr pk_us
        · rw [pk_un z]; exact Or.inl (h0 x (Nat.zero_le _) hx)
      · by_cases z : x = goal
        · subst z; exact hN.1
        · rw [pk_un z, h0 x (Nat.zero_le _) hx] at e; exact absurd e (by decide)
  | succ d ih =>
    intro k nd pk hd hk h0 hp
    cases k with
    | zero => omega
    | succ k =>
      rw [wY_extract_26, nI_pred]
      have id : vp_in (nI d) 32 := vp_in_nI (by omega) (by omega)
      obtain ⟨l, hl, el, rl⟩ := nm d (by omega)
      refine br_f (nI_pos (by omega)) ⟨id, nm_r (e' := upd nd d 0) (by rw [nI_clamp (by omega), qy_b0]) (qy_sum (b := B) hc nm g X.2.2.2.1 (by omega) hb ⟨id, ?_⟩)⟩
      rw [show (nI d).toNatClampNeg = d from nI_clamp (by omega), el]
      have il : vp_in (nI l) 32 := vp_in_nI (by omega) (by omega)
      refine ⟨il, ?_⟩
      rw [show (nI l).toNatClampNeg = l from nI_clamp (by omega), hb l (by omega) rl]
      have bl := (hB.2 l (by omega) rl).1
      have bs := qk_sum_bd (B := B) (X := 4294967296000) X.2.2.2.1 hc nm (show d < c by omega) (g d (by omega)) (fun x hx ex _ => (hB.2 x hx ex).1)
      have h0' : ∀ x, d ≤ x → x < c → upd nd d 0 x = 0 := by
        intro x h1 h2
        by_cases z : x = d
        · subst z; exact pk_us
        · rw [pk_un z]; exact h0 x (by omega) h2
      refine ek_if (pk_lEQ (a := qk_sum sy lf rt la w B d) (b := B l) (by omega) (by omega)) (fun e => ⟨id, il, nm_r (e' := upd pk l (nI d)) rfl (nm_r (e' := nI d - 1) (by rw [Int32.sub_eq_add_neg]) (ih k _ _ (by omega) (by omega) h0' fun l' hl' el' hT => ?_))⟩) (fun e => nm_r (e' := nI d - 1) (by rw [Int32.sub_eq_add_neg]) (ih k _ _ (by omega) (by omega) h0' fun l' hl' el' hT => ?_))
      · have kT := hB.2 l' hl' el'
        by_cases z : l' = l
        · subst z
          rw [pk_us]
          have := kT.2.2.2.2 d (by omega) el e
          rw [show T l' = d by omega]
        · rw [pk_un z]
          refine hp l' hl' el' ?_
          refine Classical.byContradiction fun q => ?_
          have e3 : T l' = d := by omega
          rw [e3] at kT
          exact z (qa_inj (by omega) (by omega) (kT.2.2.1.symm.trans el))
      · have kT := hB.2 l' hl' el'
        refine hp l' hl' el' ?_
        refine Classical.byContradiction fun q => ?_
        have e3 : T l' = d := by omega
        rw [e3] at kT
        have : l = l' := qa_inj (by omega) (by omega) (el.symm.trans kT.2.2.1)
        subst this
        exact e kT.2.2.2.1
end
end
section
def qy_ni (c noc : Nat) (o : Nat → Nat) (Nd : Nat → Bool) (i : Nat) (nd : Nat → Int32) : Prop :=
  ∀ x, x < c → (nd x = 0 ∧ ¬ (Nd x = true ∧ ∃ j, i ≤ j ∧ j < noc ∧ o j = x)) ∨ (nd x = 1 ∧ (Nd x = true ∧ ∃ j, i ≤ j ∧ j < noc ∧ o j = x))
section
variable {g_maxPats g_maxRules g_maxEvents g_nPats g_nRules g_nEvents g_nKept : Int32} {b_psym b_pl b_pr b_rl b_rr b_el b_er b_eRule b_kept b_in b_sub b_val b_stand : Nat → Int32} {b_cost : Nat → Int64}
variable {lim c noc goal : Nat} {sy0 lf0 rt0 la w pk got0 : Nat → Int32} {best : Nat → Int64} {o B T : Nat → Nat} {Nd : Nat → Bool}
theorem qy_e230 {post : Int32 → SY → Prop} {J216 : Int32 → Int32 → Int32 → Int32 → Int32 → Int32 → Int32 → Int32 → Int32 → Int32 → Int32 → (Nat → Int32) → (Nat → Int32) → (Nat → Int32) → (Nat → Int32) → (Nat → Int32) → (Nat → Int32) → (Nat → Int32) → (Nat → Int32) → (Nat → Int32) → (Nat → Int32) → (Nat → Int32) → (Nat → Int32) → (Nat → Int32) → (Nat → Int32) → (Nat → Int32) → (Nat → Int32) → (Nat → Int32) → (Nat → Int32) → (Nat → Int64) → (Nat → Int64) → (Nat → Int32) → (Nat → Int32) → (Nat → Int32) → Prop} {x1 x2 x3 : Int32} {n : Nat} {sy lf rt got nd : Nat → Int32} (hc : c ≤ 32) (hb : ∀ d, d < c → la d = nI d → best d = lN (B d) ∧ B d ≤ 4294967296000) (h01 : ∀ x, x < c → nd x = 0 ∨ (nd x = 1 ∧ la x = nI x))
    (K0 : (∀ x, x < c → nd x = 0) → ∀ k, wY_extract_230 post J216 x1 x2 x3 (nI lim) g_maxPats g_maxRules g_maxEvents (nI n) g_nPats g_nRules g_nEvents g_nKept (nI c) sy lf rt b_psym b_pl b_pr b_rl b_rr b_el b_er b_eRule b_kept w b_in la b_sub b_val b_stand b_cost best nd pk got (k + 1) (-1) (nI c))
    (K1 : ∀ x, x < c → nd x = 1 → (∀ y, y < c → nd y = 1 → (B x < B y ∨ (B x = B y ∧ x ≤ y))) → ∀ k, wY_extract_230 post J216 x1 x2 x3 (nI lim) g_maxPats g_maxRules g_maxEvents (nI n) g_nPats g_nRules g_nEvents g_nKept (nI c) sy lf rt b_psym b_pl b_pr b_rl b_rr b_el b_er b_eRule b_kept w b_in la b_sub b_val b_stand b_cost best nd pk got (k + 1) (nI x) (nI c)) :
    ∃ k, wY_extract_230 post J216 x1 x2 x3 (nI lim) g_maxPats g_maxRules g_maxEvents (nI n) g_nPats g_nRules g_nEvents g_nKept (nI c) sy lf rt b_psym b_pl b_pr b_rl b_rr b_el b_er b_eRule b_kept w b_in la b_sub b_val b_stand b_cost best nd pk got k (-1) 0 := by
  refine loop_0 (fun k i s => wY_extract_230 post J216 x1 x2 x3 (nI lim) g_maxPats g_maxRules g_maxEvents (nI n) g_nPats g_nRules g_nEvents g_nKept (nI c) sy lf rt b_psym b_pl b_pr b_rl b_rr b_el b_er b_eRule b_kept w b_in la b_sub b_val b_stand b_cost best nd pk got k s (nI i)) (fun i s => (s = -1 ∧ ∀ x, x < i → nd x = 0) ∨ (∃ x, x < i ∧ s = nI x ∧ nd x = 1 ∧ ∀ y, y < i → nd y = 1 → (B x < B y ∨ (B x = B y ∧ x ≤ y)))) c (-1) (Or.inl ⟨rfl, fun x hx => absurd hx (Nat.not_lt_zero _)⟩) ?_ ?_
  · intro k s hs
    rcases hs with ⟨rfl, h⟩ | ⟨x, hx, rfl, e, h⟩
    · exact K0 h k
    · exact K1 x hx e h k
  · intro k i s hi hs Kn
    rw [wY_extract_230]
    have ii : vp_in (nI i) 32 := vp_in_nI (by omega) (by omega)
    refine br_f (nI_ge hi (by omega)) ⟨ii, ?_⟩
    rw [show (nI i).toNatClampNeg = i from nI_clamp (by omega)]
    rcases h01 i hi with z | ⟨z, ri⟩
    · refine br_t z (nm_r (nI_1 i) (Kn s ?_))
      rcases hs with ⟨rfl, h⟩ | ⟨x, hx, rfl, e, h⟩
      · refine Or.inl ⟨rfl, fun x hx => ?_⟩
        by_cases q : x = i
        · subst q; exact z
        · exact h x (by omega)
      · refine Or.inr ⟨x, by omega, rfl, e, fun y hy ey => ?_⟩
        by_cases q : y = i
        · subst q; rw [z] at ey; exact absurd ey (by decide)
        · exact h y (by omega) ey
    · refine br_f (by rw [z]; decide) ?_
      rcases hs with ⟨rfl, h⟩ | ⟨x, hx, rfl, e, h⟩
      · refine br_t qa_1lt (nm_r (nI_1 i) (Kn _ (Or.inr ⟨i, by omega, rfl, z, fun y hy ey => ?_⟩)))
        by_cases q : y = i
        · subst q; exact Or.inr ⟨rfl, Nat.le_refl _⟩
        · rw [h y (by omega)] at ey; exact absurd ey (by decide)
      · have rx : la x = nI x := by
          rcases h01 x (by omega) with y | y
          · rw [e] at y; exact absurd y (by decide)
          · exact y.2
        have bx := hb x (by omega) rx
        have bi := hb i hi ri
        refine br_f (nI_pos (by omega)) ⟨ii, vp_in_nI (by omega) (by omega), ?_⟩
        rw [show (nI x).toNatClampNeg = x from nI_clamp (by omega), bx.1, bi.1]
        refine ek_if (pk_lLE (by omega) (by omega)) (fun le => nm_r (nI_1 i) (Kn _ (Or.inr ⟨x, by omega, rfl, e, fun y hy ey => ?_⟩))) (fun nle => nm_r (nI_1 i) (Kn _ (Or.inr ⟨i, by omega, rfl, z, fun y hy ey => ?_⟩)))
        · by_cases q : y = i
          · subst q; omega
          · exact h y (by omega) ey
        · by_cases q : y = i
          · subst q; exact Or.inr ⟨rfl, Nat.le_refl _⟩
          · have := h y (by omega) ey; omega
theorem qy_e216 {post : Int32 → SY → Prop} {t : Nat} (hl : lim ≤ 32) (X : qe_cx c sy0 lf0 rt0 la w noc o B T) (hN : qe_nd c lf0 rt0 la T goal Nd) (gk0 : qi_gk lim (c, sy0, lf0, rt0)) (ht : t < c) (et : la t = nI goal) (hb : ∀ d, d < c → la d = nI d → best d = lN (B d)) (hpk : ∀ l, l < c → la l = nI l → pk l = nI (T l))
    (K1 : ∀ n sy lf rt got g nd, qe_fo lim sy0 lf0 rt0 la T o Nd (c, sy0, lf0, rt0) got0 noc = (true, (n, sy, lf, rt), g) → post (g goal) (nI lim, g_maxPats, g_maxRules, g_maxEvents, nI n, g_nPats, g_nRules, g_nEvents, g_nKept, nI c, sy, lf, rt, b_psym, b_pl, b_pr, b_rl, b_rr, b_el, b_er, b_eRule, b_kept, w, b_in, la, b_sub, b_val, b_stand, b_cost, best, nd, pk, got))
    (K0 : ∀ n sy lf rt got g nd, qe_fo lim sy0 lf0 rt0 la T o Nd (c, sy0, lf0, rt0) got0 noc = (false, (n, sy, lf, rt), g) → post (-3) (nI lim, g_maxPats, g_maxRules, g_maxEvents, nI c, g_nPats, g_nRules, g_nEvents, g_nKept, nI c, sy, lf, rt, b_psym, b_pl, b_pr, b_rl, b_rr, b_el, b_er, b_eRule, b_kept, w, b_in, la, b_sub, b_val, b_stand, b_cost, best, nd, pk, got)) :
    ∀ fuel k i n sy lf rt got g nd, k ≤ c → c - k < fuel → i ≤ noc → noc - i ≤ c - k → qe_fo lim sy0 lf0 rt0 la T o Nd (c, sy0, lf0, rt0) got0 i = (true, (n, sy, lf, rt), g) → (∀ j, j < i → Nd (o j) = true → got (o j) = g (o j)) → qy_ni c noc o Nd i nd → wY_extract_216 post (nI t) (nI c) fuel (nI k) (nI lim) g_maxPats g_maxRules g_maxEvents (nI n) g_nPats g_nRules g_nEvents g_nKept (nI c) sy lf rt b_psym b_pl b_pr b_rl b_rr b_el b_er b_eRule b_kept w b_in la b_sub b_val b_stand b_cost best nd pk got := by
  have hc := X.1
  have g0 := X.2.1
  have nm := X.2.2.1
  have nle := X.2.2.2.2.2.1
  have all := X.2.2.2.2.2.2.2.1
  have srt := X.2.2.2.2.2.2.2.2
  have gg := hN.2.1 goal hN.1
  intro fuel
  induction fuel with
  | zero => intro k i n sy lf rt got g nd _ h; omega
  | succ fuel ih =>
    intro k i n sy lf rt got g nd hk hf hi hik fo hgot hni
    rw [wY_extract_216]
    refine pk_le c k (fun le => ⟨vp_in_nI (by omega) (by omega), ?_⟩) (fun lt => ?_)
    · have : i = noc := by omega
      subst this
      rw [show (nI t).toNatClampNeg = t from nI_clamp (by omega), et]
      refine ⟨vp_in_nI (by omega) (by omega), ?_⟩
      obtain ⟨j, hj, ej⟩ := all goal gg.1 gg.2
      have e := hgot j hj (by rw [ej]; exact hN.1)
      rw [ej] at e
      rw [show (nI goal).toNatClampNeg = goal from nI_clamp (by omega), e]
      exact K1 n sy lf rt got g nd fo
    · refine qy_e230 (B := B) hc (fun d hd ed => ⟨hb d hd ed, (X.2.2.2.2.1.2 d hd ed).1⟩) (fun x hx => ?_) ?_ ?_
      · rcases hni x hx with z | ⟨z, n, _⟩
        · exact Or.inl z.1
        · exact Or.inr ⟨z, (hN.2.1 x n).2⟩
      · intro none k'
        rw [wY_extract_230]
        have nomore : ∀ j, i ≤ j → j < noc → Nd (o j) = false := by
          intro j h1 h2
          cases q : Nd (o j)
          · rfl
          · have oj := (X.2.2.2.2.2.2.1 j h2).1
            rcases hni (o j) oj with z | z
            · exact (z.2 ⟨q, j, h1, h2, rfl⟩).elim
            · rw [none (o j) oj] at z; exact absurd z.1 (by decide)
        refine br_t (nI_le (Nat.le_refl _) (by omega)) (br_t qa_1lt (nm_r (nI_1 k) (ih (k + 1) noc n sy lf rt got g nd (by omega) (by omega) (Nat.le_refl _) (by omega) ?_ (fun j hj nj => ?_) (fun x hx => ?_))))
        · rw [qe_fo_to (i := i) hi nomore]; exact fo
        · by_cases q : j < i
          · exact hgot j q nj
          · rw [nomore j (by omega) hj] at nj; exact absurd nj (by decide)
        · left
          exact ⟨none x hx, fun ⟨_, j, h1, h2, _⟩ => by omega⟩
      · intro x hx ex mn k'
        have rxx : Nd x = true ∧ ∃ j, i ≤ j ∧ j < noc ∧ o j = x := by
          rcases hni x hx with z | z
          · rw [ex] at z; exact absurd z.1 (by decide)
          · exact z.2
        obtain ⟨nx, j, ij, jn, rfl⟩ := rxx
        have rx := hN.2.1 (o j) nx
        have kT := X.2.2.2.2.1.2 (o j) rx.1 rx.2
        have Tc := kT.2.1
        have between : ∀ j', i ≤ j' → j' < j → Nd (o j') = false := by
          intro j' h1 h2
          cases q : Nd (o j')
          · rfl
          · exfalso
            have oj := (X.2.2.2.2.2.2.1 j' (by omega)).1
            rcases hni (o j') oj with z | z
            · exact z.2 ⟨q, j', h1, by omega, rfl⟩
            · have a := mn (o j') oj z.1
              have b := srt j' j h2 jn
              omega
        have foj : qe_fo lim sy0 lf0 rt0 la T o Nd (c, sy0, lf0, rt0) got0 j = (true, (n, sy, lf, rt), g) := by rw [qe_fo_to (i := i) ij between]; exact fo
        have bi := qe_fo_i (got := got0) hl X hN gk0 j (by omega)
        rw [foj] at bi
        have ag : ∀ t, t < c → sy t = sy0 t ∧ lf t = lf0 t ∧ rt t = rt0 t := bi.2.1.2
        have gk := bi.1
        have hn' : n ≤ lim := gk.1
        have cn : c ≤ n := bi.2.1.1
        have sg := qe_sg X hN jn nx (bi.2.2 rfl)
        have agT := ag _ Tc
        have ab := qi_ab sg
        have ch := qx_cs_ch hc Tc (g0 _ Tc)
        have geq : ∀ z : Int32, (lf0 (T (o j)) = z ∨ rt0 (T (o j)) = z) → (z = -1 ∨ ∃ a, a < c ∧ z = nI a) → qe_ch la got z = qe_ch la g z := by
          rintro z hz (rfl | ⟨a, ha, rfl⟩)
          · rw [qe_ch1, qe_ch1]
          · obtain ⟨d, hd, e1, _⟩ := nm a ha
            rw [qe_chN (by omega) (by omega) e1, qe_chN (by omega) (by omega) e1]
            have cl : qk_cl lf0 rt0 la (T (o j)) d := ⟨a, by omega, hz, e1⟩
            obtain ⟨_, _, _, j', hj', ej⟩ := qe_early X jn (by omega) cl
            have nd' := hN.2.2.1 (o j) d nx (by omega) cl
            rw [← ej] at nd' ⊢
            refine hgot j' ?_ nd'
            refine Classical.byContradiction fun q => ?_
            rw [between j' (by omega) hj'] at nd'; exact absurd nd' (by decide)
        have stp : qe_fo lim sy0 lf0 rt0 la T o Nd (c, sy0, lf0, rt0) got0 (j + 1) = qe_st lim sy0 lf0 rt0 la T (o j) (n, sy, lf, rt) g := by
          rw [qe_fo, foj, if_pos rfl, nx, if_pos rfl]
        unfold qe_st at stp
        have ix : vp_in (nI (o j)) 32 := vp_in_nI (by omega) (by omega)
        have cx : (nI (o j)).toNatClampNeg = o j := nI_clamp (by omega)
        have iT : vp_in (nI (T (o j))) 32 := vp_in_nI (by omega) (by omega)
        have cT : (nI (T (o j))).toNatClampNeg = T (o j) := nI_clamp (by omega)
        have hni' : qy_ni c noc o Nd (j + 1) (upd nd (o j) 0) := by
          intro x hx'
          by_cases z : x = o j
          · subst z
            left
            refine ⟨pk_us, fun ⟨_, j2, h1, h2, e⟩ => ?_⟩
            have := qe_inj X h2 jn e
            omega
          · rw [pk_un z]
            rcases hni x hx' with y | y
            · left
              exact ⟨y.1, fun ⟨q1, j2, h1, h2, e⟩ => y.2 ⟨q1, j2, by omega, h2, e⟩⟩
            · right
              obtain ⟨y1, y2, j2, h1, h2, e⟩ := y
              refine ⟨y1, y2, j2, ?_, h2, e⟩
              refine Classical.byContradiction fun q => ?_
              by_cases w : j2 = j
              · subst w; exact z e.symm
              · have := between j2 h1 (by omega)
                rw [e, y2] at this; exact absurd this (by decide)
        have fin : wY_extract_368 post (wY_extract_216 post (nI t) (nI c) fuel) (nI t) (nI c) (nI k) (nI (o j)) (nI (T (o j))) (qe_ch la got (lf0 (T (o j)))) (qe_ch la got (rt0 (T (o j)))) (nI lim) g_maxPats g_maxRules g_maxEvents (nI n) g_nPats g_nRules g_nEvents g_nKept (nI c) sy lf rt b_psym b_pl b_pr b_rl b_rr b_el b_er b_eRule b_kept w b_in la b_sub b_val b_stand b_cost best (upd nd (o j) 0) pk got := by
          rw [geq _ (Or.inl rfl) ch.1, geq _ (Or.inr rfl) ch.2]
          unfold wY_extract_368
          refine ⟨iT, ?_⟩
          rw [cT, agT.1]
          refine qy_intern hl hn' ?_
          intro r n2 sy2 lf2 rt2 e
          rw [ab.1, ab.2] at e
          rw [← e] at stp
          have kp := qi_keep hl hn' gk.2.1 sg e
          refine ⟨ix, nm_r (e' := upd got (o j) r) (by rw [cx]) ⟨ix, ?_⟩⟩
          rw [cx, pk_us]
          rcases kp.2.2.2.2 with z | ⟨a, ha, z, _⟩
          · refine br_f (by rw [z]; decide) ?_
            rw [if_pos z] at stp
            refine K0 n2 sy2 lf2 rt2 _ g _ ?_
            rw [qe_fo_bad' (i := j + 1) (by omega) (by rw [stp])]
            exact stp
          · have a32 : a < 32 := by have := kp.2.1; omega
            have nz : ¬ r = -3 := by rw [z]; exact qa_ne3 (by omega)
            rw [if_neg nz] at stp
            refine br_t (by rw [z]; exact qa_0le (by omega)) (nm_r (nI_1 k) (ih (k + 1) (j + 1) n2 sy2 lf2 rt2 _ _ _ (by omega) (by omega) (by omega) (by omega) stp (fun j2 hj2 nj2 => ?_) hni'))
            by_cases q : j2 = j
            · subst q; show upd got (o j2) r (o j2) = upd g (o j2) r (o j2); rw [pk_us, pk_us]
            · have oe : o j2 ≠ o j := fun e => q (qe_inj X (by omega) jn e)
              show upd got (o j) r (o j2) = upd g (o j) r (o j2)
              rw [pk_un oe, pk_un oe]
              refine hgot j2 ?_ nj2
              refine Classical.byContradiction fun y => ?_
              rw [between j2 (by omega) (by omega)] at nj2; exact absurd nj2 (by decide)
        have mid : wY_extract_335 post (wY_extract_216 post (nI t) (nI c) fuel) (nI t) (nI c) (nI k) (nI (o j)) (nI (T (o j))) (qe_ch la got (lf0 (T (o j)))) (nI lim) g_maxPats g_maxRules g_maxEvents (nI n) g_nPats g_nRules g_nEvents g_nKept (nI c) sy lf rt b_psym b_pl b_pr b_rl b_rr b_el b_er b_eRule b_kept w b_in la b_sub b_val b_stand b_cost best (upd nd (o j) 0) pk got := by
          unfold wY_extract_335
          refine ⟨iT, ?_⟩
          rw [cT, agT.2.2]
          rcases ch.2 with e | ⟨a, ha, e⟩
          · rw [e, qe_ch1] at fin
            rw [e]
            exact br_f qa_n0le fin
          · obtain ⟨d, hd, e1, _⟩ := nm a ha
            rw [e, qe_chN (by omega) (by omega) e1] at fin
            rw [e]
            refine br_t (qa_0le (by omega)) ⟨iT, vp_in_nI (by omega) (by omega), ?_⟩
            rw [show (nI a).toNatClampNeg = a from nI_clamp (by omega), e1]
            refine ⟨vp_in_nI (by omega) (by omega), ?_⟩
            rw [show (nI d).toNatClampNeg = d from nI_clamp (by omega)]
            exact fin
        rw [wY_extract_230]
        refine br_t (nI_le (Nat.le_refl _) (by omega)) (br_f (nI_pos (by omega)) ⟨ix, nm_r (e' := upd nd (o j) 0) (by rw [cx, qy_b0]) ⟨ix, nm_r (e' := nI (T (o j))) (by rw [cx]; exact hpk _ rx.1 rx.2) ⟨iT, ?_⟩⟩⟩)
        rw [cT, agT.2.1]
        rcases ch.1 with e | ⟨a, ha, e⟩
        · rw [e, qe_ch1] at mid
          rw [e]
          exact br_f qa_n0le mid
        · obtain ⟨d, hd, e1, _⟩ := nm a ha
          rw [e, qe_chN (by omega) (by omega) e1] at mid
          rw [e]
          refine br_t (qa_0le (by omega)) ⟨iT, vp_in_nI (by omega) (by omega), ?_⟩
          rw [show (nI a).toNatClampNeg = a from nI_clamp (by omega), e1]
          refine ⟨vp_in_nI (by omega) (by omega), ?_⟩
          rw [show (nI d).toNatClampNeg = d from nI_clamp (by omega)]
          exact mid
end
end
section
def qx_Q (n m : Nat) (sy lf rt el er : Nat → Int32) (a b : Nat) (P : Nat → Prop) : Prop := ∀ f, qc_cl n m sy lf rt el er P f → f a = f b
def qx_GR (m : Nat) (Q : (Nat → Prop) → Prop) (K : Nat → Prop) (en : Nat) : Prop :=
  (∀ i, K i → en ≤ i ∧ i < m) ∧ (∀ e, en ≤ e → e < m → (K e ↔ ¬ Q (fun i => i < e ∨ (K i ∧ e < i))))
section
variable {n m a b : Nat} {sy lf rt el er ld : Nat → Int32} {P P' K K' : Nat → Prop}
theorem qx_Q_mono (h : ∀ e, e < m → P e → P' e) (q : qx_Q n m sy lf rt el er a b P) : qx_Q n m sy lf rt el er a b P' :=
  fun f hf => q f (qc_cl_mono (Nat.le_refl _) (Nat.le_refl _) h hf)
theorem qx_Q_il (h : qc_il n m sy lf rt el er P ld) (ha : a < n) (hb : b < n) : ld a = ld b ↔ qx_Q n m sy lf rt el er a b P :=
  ⟨fun e f hf => h.2.1 f hf a b ha hb e, fun q => q ld h.2.2⟩
theorem qx_GR_un (h : qx_GR m (qx_Q n m sy lf rt el er a b) K 0) (h' : qx_GR m (qx_Q n m sy lf rt el er a b) K' 0) : ∀ e, e < m → (K e ↔ K' e) := by
  have key : ∀ d e, e < m → m - e ≤ d → (K e ↔ K' e) := by
    intro d
    induction d with
    | zero => intro e he hd; omega
    | succ d ih =>
      intro e he hd
      rw [h.2 e (Nat.zero_le _) he, h'.2 e (Nat.zero_le _) he]
      refine not_congr ⟨fun q => qx_Q_mono (fun i hi z => ?_) q, fun q => qx_Q_mono (fun i hi z => ?_) q⟩
      · exact z.elim Or.inl (fun z => Or.inr ⟨(ih i hi (by omega)).mp z.1, z.2⟩)
      · exact z.elim Or.inl (fun z => Or.inr ⟨(ih i hi (by omega)).mpr z.1, z.2⟩)
  exact fun e he => key m e he (by omega)
theorem qx_GR_stop {en : Nat} (h : qx_GR m (qx_Q n m sy lf rt el er a b) K en) (q : qx_Q n m sy lf rt el er a b K) : qx_GR m (qx_Q n m sy lf rt el er a b) K 0 := by
  refine ⟨fun i k => ⟨Nat.zero_le _, (h.1 i k).2⟩, fun e _ he => ?_⟩
  by_cases z : en ≤ e
  · exact h.2 e z he
  · constructor
    · intro k; have := (h.1 e k).1; omega
    · intro nq
      refine (nq (qx_Q_mono (fun i hi k => Or.inr ⟨k, ?_⟩) q)).elim
      have := (h.1 i k).1; omega
theorem qx_GR_next {en e : Nat} (h : qx_GR m (qx_Q n m sy lf rt el er a b) K en) (he : e < en) (hm : en ≤ m) (nq : ¬ qx_Q n m sy lf rt el er a b (fun i => K i ∨ i < e)) (q : qx_Q n m sy lf rt el er a b (fun i => K i ∨ i < e + 1)) :
    qx_GR m (qx_Q n m sy lf rt el er a b) (fun i => K i ∨ i = e) e := by
  refine ⟨fun i k => ?_, fun x h1 h2 => ?_⟩
  · rcases k with k | k
    · have := h.1 i k; omega
    · omega
  · by_cases z : x = e
    · subst z
      refine ⟨fun _ q' => nq (qx_Q_mono (fun i hi k => ?_) q'), fun _ => Or.inr rfl⟩
      rcases k with k | ⟨k | k, lt⟩
      · exact Or.inr k
      · exact Or.inl k
      · omega
    · by_cases y : x < en
      · constructor
        · rintro (k | k)
          · have := (h.1 x k).1; omega
          · exact (z k).elim
        · intro nq'
          refine (nq' (qx_Q_mono (fun i hi k => ?_) q)).elim
          rcases k with k | k
          · have := (h.1 i k).1
            exact Or.inr ⟨Or.inl k, by omega⟩
          · exact Or.inl (by omega)
      · have k := h.2 x (by omega) h2
        have e1 : (K x ∨ x = e) ↔ K x := ⟨fun w => w.elim id (fun w => (z w).elim), Or.inl⟩
        show (K x ∨ x = e) ↔ ¬ qx_Q n m sy lf rt el er a b (fun i => i < x ∨ ((K i ∨ i = e) ∧ x < i))
        rw [e1, k]
        refine not_congr ⟨fun q' => qx_Q_mono (fun i hi w => ?_) q', fun q' => qx_Q_mono (fun i hi w => ?_) q'⟩
        · exact w.elim Or.inl (fun w => Or.inr ⟨Or.inl w.1, w.2⟩)
        · rcases w with w | ⟨w | w, lt⟩
          · exact Or.inl w
          · exact Or.inr ⟨w, lt⟩
          · omega
end
def qz_kp (K : Nat → Bool) (arr : Nat → Int32) : Nat → Nat × (Nat → Int32)
  | 0 => (0, arr)
  | e + 1 => if K e = true then ((qz_kp K arr e).1 + 1, upd (qz_kp K arr e).2 (qz_kp K arr e).1 (nI e)) else qz_kp K arr e
theorem qz_kp_le (K : Nat → Bool) (arr : Nat → Int32) : ∀ e, (qz_kp K arr e).1 ≤ e
  | 0 => Nat.le_refl _
  | e + 1 => by
    have := qz_kp_le K arr e
    rw [qz_kp]
    by_cases z : K e = true
    · rw [if_pos z]; show (qz_kp K arr e).1 + 1 ≤ e + 1; omega
    · rw [if_neg z]; omega
theorem qz_kp_ext {K K' : Nat → Bool} {arr : Nat → Int32} : ∀ e, (∀ i, i < e → K i = K' i) → qz_kp K arr e = qz_kp K' arr e
  | 0, _ => rfl
  | e + 1, h => by rw [qz_kp, qz_kp, h e (by omega), qz_kp_ext e (fun i hi => h i (by omega))]
def bl (w : Int64) (j : Nat) : Bool := w.toBitVec.getLsbD j
theorem ql_t (w : Int64) {j : Nat} (hj : j < 64) : (((w.toUInt64 >>> ((nI j).toInt64.toUInt64 &&& Int64.toUInt64 63)).toInt64) &&& 1) = 0 ↔ bl w j = false := by
  refine ts_bit hj ?_
  rw [wb_cu j hj, u_tn (by omega)]
theorem ql_s (w : Int64) {e j : Nat} (he : e < 64) (hj : j < 64) : bl (w ||| ((1 : Int64) <<< ((nI e).toInt64 &&& 63))) j = (bl w j || decide (j = e)) := by
  have e1 : (1 : Int64) <<< ((nI e).toInt64 &&& 63) = lN (2 ^ e) := by
    have := wb_shl 1 he
    rw [Nat.one_mul] at this
    exact this
  unfold bl
  rw [e1, Int64.toBitVec_or, BitVec.getLsbD_or, wb_tb, BitVec.getLsbD_ofNat, Nat.testBit_two_pow, decide_eq_true hj, Bool.true_and]
  congr 1
  by_cases z : j = e
  · subst z; rfl
  · rw [decide_eq_false z, decide_eq_false (fun q => z q.symm)]
theorem ql_0 (j : Nat) : bl 0 j = false := BitVec.getLsbD_zero
section
variable {f_termLimit f_patternLimit f_ruleLimit f_eventLimit f_patternCount f_ruleCount f_matchPattern f_matchDepth f_levelCount f_groundLeft f_settledClasses f_reachedClasses f_orderCount f_explainedCount : Int32} {a_termIndex a_patSymbol a_patLeft a_patRight a_patSubs a_patTop a_byTop a_patternIndex a_ruleLeft a_ruleRight a_eventRule a_symbolWeight a_levelVar a_levelRest a_patValue a_standsFor a_order a_bestTerm a_gotTerm a_explainedEvent : Nat → Int32} {a_best a_treeCost : Nat → Int64}
variable {n m : Nat} {sy lf rt el er syt : Nat → Int32}
theorem qx_re47 {post : SX → Prop} {kp : Int64} {P : Nat → Prop} (hP : ∀ e, e < m → (P e ↔ bl kp e = true)) (hn : n ≤ 32) (hm : m ≤ 64) (he : qe_ok n m el er)
    (K : ∀ ld mem usr sgt cc, qx_ci n m sy lf rt el er P ld mem usr syt sgt cc 0 99 → qc_il n m sy lf rt el er P ld → post (f_termLimit, f_patternLimit, f_ruleLimit, f_eventLimit, nI n, f_patternCount, f_ruleCount, nI m, nI n, 0, cc, 0, f_matchPattern, f_matchDepth, f_levelCount, f_groundLeft, 0, f_settledClasses, f_reachedClasses, f_orderCount, f_explainedCount, sy, lf, rt, a_termIndex, a_patSymbol, a_patLeft, a_patRight, a_patSubs, a_patTop, a_byTop, a_patternIndex, a_ruleLeft, a_ruleRight, el, er, a_eventRule, a_symbolWeight, ld, mem, usr, syt, sgt, a_levelVar, a_levelRest, a_patValue, a_standsFor, a_order, a_best, a_bestTerm, a_gotTerm, a_treeCost, a_explainedEvent)) :
    ∀ k e ld mem usr sgt cc D, e ≤ m → m - e < k → qx_ci n m sy lf rt el er P ld mem usr syt sgt cc D 99 → (∀ i, i < e → P i → ld (el i).toNatClampNeg = ld (er i).toNatClampNeg) → wX_restart_47 post kp k (nI e) f_termLimit f_patternLimit f_ruleLimit f_eventLimit (nI n) f_patternCount f_ruleCount (nI m) (nI n) 0 cc D f_matchPattern f_matchDepth f_levelCount f_groundLeft 0 f_settledClasses f_reachedClasses f_orderCount f_explainedCount sy lf rt a_termIndex a_patSymbol a_patLeft a_patRight a_patSubs a_patTop a_byTop a_patternIndex a_ruleLeft a_ruleRight el er a_eventRule a_symbolWeight ld mem usr syt sgt a_levelVar a_levelRest a_patValue a_standsFor a_order a_best a_bestTerm a_gotTerm a_treeCost a_explainedEvent := by
  intro k
  induction k with
  | zero => intro e ld mem usr sgt cc D _ h; omega
  | succ k ih =>
    intro e ld mem usr sgt cc D hem hk h ev
    rw [wX_restart_47]
    refine pk_le m e (fun le => ?_) (fun lt => ?_)
    · refine qx_settle h ?_
      intro ld' mem' usr' sgt' cc' cf' h' co' cf''
      have : cf' = 0 := cf''.elim id (fun z => z.1)
      subst this
      refine K ld' mem' usr' sgt' cc' h' ⟨h'.1.2.2.1, h'.2.2, fun i hi pi => ?_, qx_cong h'.1 h'.2.1 (by omega)⟩
      obtain ⟨a, b, ha, hb, ea, eb⟩ := he i hi
      have := ev i (by omega) pi
      rw [ea, eb, nI_clamp (by omega), nI_clamp (by omega)] at this ⊢
      exact co' a b ha hb this
    · obtain ⟨a, b, ha, hb, ea, eb⟩ := he e lt
      have i0 : vp_in (nI e) 64 := vp_in_nI (by omega) (by omega)
      refine ek_if (ql_t kp (j := e) (by omega)) (fun z => nm_r (nI_1 e) (ih (e + 1) ld mem usr sgt cc D (by omega) (by omega) h (fun i hi pi => ?_))) (fun z => ⟨i0, i0, ?_⟩)
      · by_cases q : i = e
        · subst q
          rw [(hP i lt).mp pi] at z; exact absurd z (by decide)
        · exact ev i (by omega) pi
      · have pe : P e := (hP e lt).mpr (by
          cases q : bl kp e
          · exact (z q).elim
          · rfl)
        rw [show (nI e).toNatClampNeg = e from nI_clamp (by omega), ea, eb]
        refine qx_join h ha hb (fun f hf => ?_) (fun ee => ?_) ?_
        · have := hf.1 e lt pe
          rw [ea, eb, nI_clamp (by omega), nI_clamp (by omega)] at this
          exact this
        · refine nm_r (nI_1 e) (ih (e + 1) ld mem usr sgt cc D (by omega) (by omega) h (fun i hi pi => ?_))
          by_cases z : i = e
          · subst z; rw [ea, eb, nI_clamp (by omega), nI_clamp (by omega)]; exact ee
          · exact ev i (by omega) pi
        · intro ld' mem' usr' cc' D' h' _ ee co' _
          refine nm_r (nI_1 e) (ih (e + 1) ld' mem' usr' sgt cc' D' (by omega) (by omega) h' (fun i hi pi => ?_))
          by_cases z : i = e
          · subst z; rw [ea, eb, nI_clamp (by omega), nI_clamp (by omega)]; exact ee
          · obtain ⟨a', b', ha', hb', ea', eb'⟩ := he i (by omega)
            have := ev i (by omega) pi
            rw [ea', eb', nI_clamp (by omega), nI_clamp (by omega)] at this ⊢
            exact co' a' b' ha' hb' this
theorem qx_grow {post : Int32 → SX → Prop} {a b en : Nat} {P : Nat → Prop} (hn : n ≤ 32) (hm : m ≤ 64) (he : qe_ok n m el er) (ha : a < n) (hb : b < n) (hen : en ≤ m) (q : qx_Q n m sy lf rt el er a b (fun i => P i ∨ i < en))
    (K : ∀ e ld mem usr sgt cc, e < en → ¬ qx_Q n m sy lf rt el er a b (fun i => P i ∨ i < e) → qx_Q n m sy lf rt el er a b (fun i => P i ∨ i < e + 1) → qx_ci n m sy lf rt el er (fun i => P i ∨ i < e + 1) ld mem usr syt sgt cc 0 99 → post (nI e) (f_termLimit, f_patternLimit, f_ruleLimit, f_eventLimit, nI n, f_patternCount, f_ruleCount, nI m, nI n, 0, cc, 0, f_matchPattern, f_matchDepth, f_levelCount, f_groundLeft, 0, f_settledClasses, f_reachedClasses, f_orderCount, f_explainedCount, sy, lf, rt, a_termIndex, a_patSymbol, a_patLeft, a_patRight, a_patSubs, a_patTop, a_byTop, a_patternIndex, a_ruleLeft, a_ruleRight, el, er, a_eventRule, a_symbolWeight, ld, mem, usr, syt, sgt, a_levelVar, a_levelRest, a_patValue, a_standsFor, a_order, a_best, a_bestTerm, a_gotTerm, a_treeCost, a_explainedEvent)) :
    ∀ k e ld mem usr sgt cc, e ≤ en → en - e < k → qx_ci n m sy lf rt el er (fun i => P i ∨ i < e) ld mem usr syt sgt cc 0 99 → qc_il n m sy lf rt el er (fun i => P i ∨ i < e) ld → ¬ qx_Q n m sy lf rt el er a b (fun i => P i ∨ i < e) →
      wX_growUntilEqual_3 post (nI a) (nI b) (nI en) k (nI e) f_termLimit f_patternLimit f_ruleLimit f_eventLimit (nI n) f_patternCount f_ruleCount (nI m) (nI n) 0 cc 0 f_matchPattern f_matchDepth f_levelCount f_groundLeft 0 f_settledClasses f_reachedClasses f_orderCount f_explainedCount sy lf rt a_termIndex a_patSymbol a_patLeft a_patRight a_patSubs a_patTop a_byTop a_patternIndex a_ruleLeft a_ruleRight el er a_eventRule a_symbolWeight ld mem usr syt sgt a_levelVar a_levelRest a_patValue a_standsFor a_order a_best a_bestTerm a_gotTerm a_treeCost a_explainedEvent := by
  intro k
  induction k with
  | zero => intro e ld mem usr sgt cc _ h; omega
  | succ k ih =>
    intro e ld mem usr sgt cc hee hk h il nq
    rw [wX_growUntilEqual_3]
    refine pk_le en e (fun le => ?_) (fun lt => ?_)
    · have : e = en := by omega
      subst this
      exact (nq q).elim
    · obtain ⟨x, y, hx, hy, ex, ey⟩ := he e (by omega)
      have i0 : vp_in (nI e) 64 := vp_in_nI (by omega) (by omega)
      refine ⟨i0, i0, ?_⟩
      rw [show (nI e).toNatClampNeg = e from nI_clamp (by omega), ex, ey]
      have h1 : qx_ci n m sy lf rt el er (fun i => P i ∨ i < e + 1) ld mem usr syt sgt cc 0 99 := ⟨h.1, h.2.1, qc_sn_ev (Nat.le_refl _) (fun i _ z => z.elim Or.inl (fun z => Or.inr (by omega))) (fun _ _ => rfl) (fun _ _ => rfl) h.2.2⟩
      have tail : ∀ ld mem usr sgt cc, qx_ci n m sy lf rt el er (fun i => P i ∨ i < e + 1) ld mem usr syt sgt cc 0 99 → qc_il n m sy lf rt el er (fun i => P i ∨ i < e + 1) ld →
          (vp_in (nI a) 32 ∧ (vp_in (nI b) 32 ∧ (((ld (nI a).toNatClampNeg = ld (nI b).toNatClampNeg → post (nI e) (f_termLimit, f_patternLimit, f_ruleLimit, f_eventLimit, nI n, f_patternCount, f_ruleCount, nI m, nI n, 0, cc, 0, f_matchPattern, f_matchDepth, f_levelCount, f_groundLeft, 0, f_settledClasses, f_reachedClasses, f_orderCount, f_explainedCount, sy, lf, rt, a_termIndex, a_patSymbol, a_patLeft, a_patRight, a_patSubs, a_patTop, a_byTop, a_patternIndex, a_ruleLeft, a_ruleRight, el, er, a_eventRule, a_symbolWeight, ld, mem, usr, syt, sgt, a_levelVar, a_levelRest, a_patValue, a_standsFor, a_order, a_best, a_bestTerm, a_gotTerm, a_treeCost, a_explainedEvent)) ∧ (¬ ld (nI a).toNatClampNeg = ld (nI b).toNatClampNeg → ∀ x4 : Int32, x4 = nI e + 1 → wX_growUntilEqual_3 post (nI a) (nI b) (nI en) k x4 f_termLimit f_patternLimit f_ruleLimit f_eventLimit (nI n) f_patternCount f_ruleCount (nI m) (nI n) 0 cc 0 f_matchPattern f_matchDepth f_levelCount f_groundLeft 0 f_settledClasses f_reachedClasses f_orderCount f_explainedCount sy lf rt a_termIndex a_patSymbol a_patLeft a_patRight a_patSubs a_patTop a_byTop a_patternIndex a_ruleLeft a_ruleRight el er a_eventRule a_symbolWeight ld mem usr syt sgt a_levelVar a_levelRest a_patValue a_standsFor a_order a_best a_bestTerm a_gotTerm a_treeCost a_explainedEvent))))) := by
        intro ld mem usr sgt cc h2 il2
        refine ⟨vp_in_nI (by omega) (by omega), vp_in_nI (by omega) (by omega), ?_⟩
        rw [show (nI a).toNatClampNeg = a from nI_clamp (by omega), show (nI b).toNatClampNeg = b from nI_clamp (by omega)]
        have qi := qx_Q_il il2 ha hb
        exact br_c (fun e1 => K e ld mem usr sgt cc lt nq (qi.mp e1) h2) (fun e1 => nm_r (nI_1 e) (ih (e + 1) ld mem usr sgt cc (by omega) (by omega) h2 il2 (fun z => e1 (qi.mpr z))))
      have ilo : ∀ ld1 ld2 : Nat → Int32, ∀ mem2 usr2 sgt2 cc2, qx_ci n m sy lf rt el er (fun i => P i ∨ i < e + 1) ld2 mem2 usr2 syt sgt2 cc2 0 99 → ld1 x = ld1 y → (∀ u v, u < n → v < n → ld u = ld v → ld1 u = ld1 v) → (∀ u v, u < n → v < n → ld1 u = ld1 v → ld2 u = ld2 v) → qc_il n m sy lf rt el er (fun i => P i ∨ i < e + 1) ld2 := by
        intro ld1 ld2 mem2 usr2 sgt2 cc2 h2 exy c1 c2
        refine ⟨h2.1.2.2.1, h2.2.2, fun i hi pi => ?_, qx_cong h2.1 h2.2.1 (by omega)⟩
        obtain ⟨u, v, hu, hv, eu, ev⟩ := he i hi
        rw [eu, ev, nI_clamp (by omega), nI_clamp (by omega)]
        by_cases z : i = e
        · subst z
          have : x = u := qa_inj (by omega) (by omega) (ex.symm.trans eu)
          subst this
          have : y = v := qa_inj (by omega) (by omega) (ey.symm.trans ev)
          subst this
          exact c2 _ _ hx hy exy
        · have := il.2.2.1 i hi (pi.elim Or.inl (fun z => Or.inr (by omega)))
          rw [eu, ev, nI_clamp (by omega), nI_clamp (by omega)] at this
          exact c2 _ _ hu hv (c1 _ _ hu hv this)
      refine qx_join h1 hx hy (fun f hf => ?_) (fun ee => ?_) ?_
      · have := hf.1 e (by omega) (Or.inr (by omega))
        rw [ex, ey, nI_clamp (by omega), nI_clamp (by omega)] at this
        exact this
      · refine qx_settle h1 ?_
        intro ld2 mem2 usr2 sgt2 cc2 cf2 h2 co2 cfz
        have : cf2 = 0 := cfz.elim id (fun z => z.1)
        subst this
        exact tail ld2 mem2 usr2 sgt2 cc2 h2 (ilo ld ld2 mem2 usr2 sgt2 cc2 h2 ee (fun _ _ _ _ z => z) co2)
      · intro ld1 mem1 usr1 cc1 D1 hh _ ee co1 _
        refine qx_settle hh ?_
        intro ld2 mem2 usr2 sgt2 cc2 cf2 h2 co2 cfz
        have : cf2 = 0 := cfz.elim id (fun z => z.1)
        subst this
        exact tail ld2 mem2 usr2 sgt2 cc2 h2 (ilo ld1 ld2 mem2 usr2 sgt2 cc2 h2 ee co1 co2)
end
section
variable {f_termLimit f_patternLimit f_ruleLimit f_eventLimit f_patternCount f_ruleCount f_matchPattern f_matchDepth f_levelCount f_groundLeft f_settledClasses f_reachedClasses f_orderCount f_explainedCount : Int32} {a_termIndex a_patSymbol a_patLeft a_patRight a_patSubs a_patTop a_byTop a_patternIndex a_ruleLeft a_ruleRight a_eventRule a_symbolWeight a_levelVar a_levelRest a_patValue a_standsFor a_order a_bestTerm a_gotTerm a_explainedEvent : Nat → Int32} {a_best a_treeCost : Nat → Int64}
variable {n m : Nat} {sy lf rt el er ld mem usr syt sgt : Nat → Int32} {ct ce cc D cf : Int32}
theorem qx_restart {post : SX → Prop} {kp : Int64} {P : Nat → Prop} (hP : ∀ e, e < m → (P e ↔ bl kp e = true)) (hn : n ≤ 32) (hn0 : 0 < n) (hm : m ≤ 64) (g : ∀ t, t < n → qa_tok sy lf rt t) (he : qe_ok n m el er) (hs : ∀ k, k < 4232 → ∃ q, q ≤ 32 ∧ sgt k = nI q)
    (K : ∀ ld mem usr syt sgt cc, qx_ci n m sy lf rt el er P ld mem usr syt sgt cc 0 99 → qc_il n m sy lf rt el er P ld → post (f_termLimit, f_patternLimit, f_ruleLimit, f_eventLimit, nI n, f_patternCount, f_ruleCount, nI m, nI n, 0, cc, 0, f_matchPattern, f_matchDepth, f_levelCount, f_groundLeft, 0, f_settledClasses, f_reachedClasses, f_orderCount, f_explainedCount, sy, lf, rt, a_termIndex, a_patSymbol, a_patLeft, a_patRight, a_patSubs, a_patTop, a_byTop, a_patternIndex, a_ruleLeft, a_ruleRight, el, er, a_eventRule, a_symbolWeight, ld, mem, usr, syt, sgt, a_levelVar, a_levelRest, a_patValue, a_standsFor, a_order, a_best, a_bestTerm, a_gotTerm, a_treeCost, a_explainedEvent)) : wpX_restart post (f_termLimit, f_patternLimit, f_ruleLimit, f_eventLimit, nI n, f_patternCount, f_ruleCount, nI m, ct, ce, cc, D, f_matchPattern, f_matchDepth, f_levelCount, f_groundLeft, cf, f_settledClasses, f_reachedClasses, f_orderCount, f_explainedCount, sy, lf, rt, a_termIndex, a_patSymbol, a_patLeft, a_patRight, a_patSubs, a_patTop, a_byTop, a_patternIndex, a_ruleLeft, a_ruleRight, el, er, a_eventRule, a_symbolWeight, ld, mem, usr, syt, sgt, a_levelVar, a_levelRest, a_patValue, a_standsFor, a_order, a_best, a_bestTerm, a_gotTerm, a_treeCost, a_explainedEvent) kp := by
  unfold wpX_restart
  refine loop_0 (fun k i s => wX_restart_22 post kp f_termLimit f_patternLimit f_ruleLimit f_eventLimit (nI n) f_patternCount f_ruleCount (nI m) 0 0 0 0 f_matchPattern f_matchDepth f_levelCount f_groundLeft cf f_settledClasses f_reachedClasses f_orderCount f_explainedCount k (nI i) sy lf rt a_termIndex a_patSymbol a_patLeft a_patRight a_patSubs a_patTop a_byTop a_patternIndex a_ruleLeft a_ruleRight el er a_eventRule a_symbolWeight ld mem usr s sgt a_levelVar a_levelRest a_patValue a_standsFor a_order a_best a_bestTerm a_gotTerm a_treeCost a_explainedEvent) (fun i s => ∀ x, x < i → s x = 0) 16 syt (fun x hx => absurd hx (Nat.not_lt_zero _)) ?_ ?_
  · intro k s hz
    rw [wX_restart_22]
    refine br_t (by decide) (qx_enter (c := 0) (m := m) (P := P) (cc := 0) (D := 0) hn (Nat.zero_le _) g ⟨⟨by omega, fun t ht => absurd ht (Nat.not_lt_zero _), fun x hx => absurd hx (Nat.not_lt_zero _), fun l t hl => absurd hl (Nat.not_lt_zero _), fun l t hl => absurd hl (Nat.not_lt_zero _), fun x t hx ht => ?_, rfl, hs⟩, ⟨fun t ht e => ?_, fun t ht => absurd ht (Nat.not_lt_zero _)⟩, fun f hf x y hx => absurd hx (Nat.not_lt_zero _)⟩ ?_)
    · rw [hz x hx, b_0]
      exact ⟨fun z => absurd z (by decide), fun z => absurd z.1 (Nat.not_lt_zero _)⟩
    · rw [b_0] at e; exact absurd e (by decide)
    · intro ld' mem' usr' syt' sgt' cc' cf' h' _ cfz
      have : cf' = 0 := by
        rcases cfz with z | z
        · exact z
        · have := z.2.2; omega
      subst this
      exact ⟨m + 1, qx_re47 hP hn hm he (fun ld mem usr sgt cc h il => K ld mem usr syt' sgt cc h il) (m + 1) 0 ld' mem' usr' sgt' cc' 0 (by omega) (by omega) h' (fun i hi => absurd hi (Nat.not_lt_zero _))⟩
  · intro k i s hi hz Kn
    rw [wX_restart_22]
    refine br_f (nI_ge (b := 16) hi (by decide)) ⟨vp_in_nI hi (by omega), nm_r (e' := upd s i 0) (by rw [nI_clamp (by omega)]) (nm_r (nI_1 i) (Kn _ fun x hx => ?_))⟩
    by_cases z : x = i
    · subst z; exact pk_us
    · rw [pk_un z]; exact hz x (by omega)
end
section
variable {f_termLimit f_patternLimit f_ruleLimit f_eventLimit f_patternCount f_ruleCount f_matchPattern f_matchDepth f_levelCount f_groundLeft f_settledClasses f_reachedClasses f_orderCount : Int32} {a_termIndex a_patSymbol a_patLeft a_patRight a_patSubs a_patTop a_byTop a_patternIndex a_ruleLeft a_ruleRight a_eventRule a_symbolWeight a_levelVar a_levelRest a_patValue a_standsFor a_order a_bestTerm a_gotTerm : Nat → Int32} {a_best a_treeCost : Nat → Int64}
variable {n m a b : Nat} {sy lf rt el er xe0 : Nat → Int32}
theorem qx_ex115 {post : Int32 → SX → Prop} {kp : Int64} {ct ce cc D cf : Int32} {ld mem usr syt sgt : Nat → Int32} (hm : m ≤ 64) (K : ∀ xc xe, qz_kp (bl kp) xe0 m = (xc, xe) → post (nI xc) (f_termLimit, f_patternLimit, f_ruleLimit, f_eventLimit, nI n, f_patternCount, f_ruleCount, nI m, ct, ce, cc, D, f_matchPattern, f_matchDepth, f_levelCount, f_groundLeft, cf, f_settledClasses, f_reachedClasses, f_orderCount, nI xc, sy, lf, rt, a_termIndex, a_patSymbol, a_patLeft, a_patRight, a_patSubs, a_patTop, a_byTop, a_patternIndex, a_ruleLeft, a_ruleRight, el, er, a_eventRule, a_symbolWeight, ld, mem, usr, syt, sgt, a_levelVar, a_levelRest, a_patValue, a_standsFor, a_order, a_best, a_bestTerm, a_gotTerm, a_treeCost, xe)) :
    ∃ k, wX_explain_115 post kp f_termLimit f_patternLimit f_ruleLimit f_eventLimit (nI n) f_patternCount f_ruleCount (nI m) ct ce cc D f_matchPattern f_matchDepth f_levelCount f_groundLeft cf f_settledClasses f_reachedClasses f_orderCount k 0 0 sy lf rt a_termIndex a_patSymbol a_patLeft a_patRight a_patSubs a_patTop a_byTop a_patternIndex a_ruleLeft a_ruleRight el er a_eventRule a_symbolWeight ld mem usr syt sgt a_levelVar a_levelRest a_patValue a_standsFor a_order a_best a_bestTerm a_gotTerm a_treeCost xe0 := by
  refine loop_0 (σ := Nat × (Nat → Int32)) (fun k i s => wX_explain_115 post kp f_termLimit f_patternLimit f_ruleLimit f_eventLimit (nI n) f_patternCount f_ruleCount (nI m) ct ce cc D f_matchPattern f_matchDepth f_levelCount f_groundLeft cf f_settledClasses f_reachedClasses f_orderCount k (nI i) (nI s.1) sy lf rt a_termIndex a_patSymbol a_patLeft a_patRight a_patSubs a_patTop a_byTop a_patternIndex a_ruleLeft a_ruleRight el er a_eventRule a_symbolWeight ld mem usr syt sgt a_levelVar a_levelRest a_patValue a_standsFor a_order a_best a_bestTerm a_gotTerm a_treeCost s.2) (fun i s => qz_kp (bl kp) xe0 i = s) m (0, xe0) rfl ?_ ?_
  · rintro k ⟨xc, xe⟩ hs
    rw [wX_explain_115]
    exact br_t (nI_le (Nat.le_refl _) (by omega)) (K xc xe hs)
  · rintro k i ⟨xc, xe⟩ hi hs Kn
    have le := qz_kp_le (bl kp) xe0 i
    rw [hs] at le
    dsimp only at le ⊢
    rw [wX_explain_115]
    refine br_f (nI_ge hi (by omega)) (ek_if (ql_t kp (j := i) (by omega)) (fun z => nm_r (nI_1 i) (Kn (xc, xe) ?_)) (fun z => ⟨vp_in_nI (by omega) (by omega), nm_r (e' := upd xe xc (nI i)) (by rw [nI_clamp (by omega)]) (nm_r (nI_1 xc) (nm_r (nI_1 i) (Kn (xc + 1, upd xe xc (nI i)) ?_)))⟩))
    · rw [qz_kp, hs, z, if_neg Bool.false_ne_true]
    · have z1 : bl kp i = true := by
        cases q : bl kp i
        · exact (z q).elim
        · rfl
      rw [qz_kp, hs, z1, if_pos rfl]
theorem qx_ex52 {post : Int32 → SX → Prop} {xcI : Int32} (hn : n ≤ 32) (hm : m ≤ 64) (g : ∀ t, t < n → qa_tok sy lf rt t) (he : qe_ok n m el er) (ha : a < n) (hb : b < n)
    (K : ∀ kp ld mem usr syt sgt cc xc xe, qx_GR m (qx_Q n m sy lf rt el er a b) (fun e => bl kp e = true ∧ e < m) 0 → qz_kp (bl kp) xe0 m = (xc, xe) → qx_ci n m sy lf rt el er (fun _ => True) ld mem usr syt sgt cc 0 99 →
      post (nI xc) (f_termLimit, f_patternLimit, f_ruleLimit, f_eventLimit, nI n, f_patternCount, f_ruleCount, nI m, nI n, 0, cc, 0, f_matchPattern, f_matchDepth, f_levelCount, f_groundLeft, 0, f_settledClasses, f_reachedClasses, f_orderCount, nI xc, sy, lf, rt, a_termIndex, a_patSymbol, a_patLeft, a_patRight, a_patSubs, a_patTop, a_byTop, a_patternIndex, a_ruleLeft, a_ruleRight, el, er, a_eventRule, a_symbolWeight, ld, mem, usr, syt, sgt, a_levelVar, a_levelRest, a_patValue, a_standsFor, a_order, a_best, a_bestTerm, a_gotTerm, a_treeCost, xe)) :
    ∀ k en p kp ct ce cc D cf ld mem usr syt sgt, en < k → en + p ≤ m → (∀ j, j < 4232 → ∃ q, q ≤ 32 ∧ sgt j = nI q) → qx_GR m (qx_Q n m sy lf rt el er a b) (fun e => bl kp e = true ∧ e < m) en → qx_Q n m sy lf rt el er a b (fun i => (bl kp i = true ∧ i < m) ∨ i < en) →
      wX_explain_52 post (nI a) (nI b) k kp (nI en) (nI p) f_termLimit f_patternLimit f_ruleLimit f_eventLimit (nI n) f_patternCount f_ruleCount (nI m) ct ce cc D f_matchPattern f_matchDepth f_levelCount f_groundLeft cf f_settledClasses f_reachedClasses f_orderCount xcI sy lf rt a_termIndex a_patSymbol a_patLeft a_patRight a_patSubs a_patTop a_byTop a_patternIndex a_ruleLeft a_ruleRight el er a_eventRule a_symbolWeight ld mem usr syt sgt a_levelVar a_levelRest a_patValue a_standsFor a_order a_best a_bestTerm a_gotTerm a_treeCost xe0 := by
  intro k
  induction k with
  | zero => intro en p kp ct ce cc D cf ld mem usr syt sgt h; omega
  | succ k ih =>
    intro en p kp ct ce cc D cf ld mem usr syt sgt hk hp hs gr q
    rw [wX_explain_52]
    refine br_f (nI_nlt (b := p) (a := m) (by omega) (by omega)) (qx_restart (P := fun e => bl kp e = true ∧ e < m) (fun e hem => ⟨fun z => z.1, fun z => ⟨z, hem⟩⟩) hn (by omega) hm g he hs ?_)
    intro ld1 mem1 usr1 syt1 sgt1 cc1 h1 il1
    refine ⟨vp_in_nI (by omega) (by omega), vp_in_nI (by omega) (by omega), ?_⟩
    rw [show (nI a).toNatClampNeg = a from nI_clamp (by omega), show (nI b).toNatClampNeg = b from nI_clamp (by omega)]
    have qi := qx_Q_il il1 ha hb
    refine br_c (fun e1 => ?_) (fun e1 => ?_)
    · refine qx_ex115 hm fun xc xe e => K kp ld1 mem1 usr1 syt1 sgt1 cc1 xc xe (qx_GR_stop gr (qi.mp e1)) e ⟨h1.1, h1.2.1, qc_sn_ev (Nat.le_refl _) (fun _ _ _ => trivial) (fun _ _ => rfl) (fun _ _ => rfl) h1.2.2⟩
    · have en0 : ∀ (P : Nat → Prop), (∀ i, i < m → ((P i ∨ i < 0) ↔ P i)) := fun P i _ => ⟨fun z => z.elim id (fun z => absurd z (Nat.not_lt_zero _)), Or.inl⟩
      unfold wpX_growUntilEqual
      refine ⟨en + 1, qx_grow (P := fun e => bl kp e = true ∧ e < m) hn hm he ha hb (by omega) q ?_ (en + 1) 0 ld1 mem1 usr1 sgt1 cc1 (by omega) (by omega) ⟨h1.1, h1.2.1, qc_sn_ev (Nat.le_refl _) (fun _ _ z => Or.inl z) (fun _ _ => rfl) (fun _ _ => rfl) h1.2.2⟩ (qc_il_P (fun i hi => (en0 (fun e => bl kp e = true ∧ e < m) i hi).symm) il1) (fun z => e1 (qi.mpr (qx_Q_mono (fun i hi => (en0 (fun e => bl kp e = true ∧ e < m) i hi).mp) z)))⟩
      intro e ld2 mem2 usr2 sgt2 cc2 lt nq q2 h2
      have bs : ∀ i, i < m → (bl (kp ||| ((1 : Int64) <<< ((nI e).toInt64 &&& 63))) i = true ↔ bl kp i = true ∨ i = e) := by
        intro i hi
        rw [ql_s kp (by omega) (by omega), Bool.or_eq_true, decide_eq_true_eq]
      have gr2 := qx_GR_next gr lt (by omega) nq q2
      have eqv : ∀ i, ((bl (kp ||| ((1 : Int64) <<< ((nI e).toInt64 &&& 63))) i = true ∧ i < m) ↔ ((bl kp i = true ∧ i < m) ∨ i = e)) := by
        intro i
        constructor
        · rintro ⟨z, hi⟩
          exact ((bs i hi).mp z).elim (fun z => Or.inl ⟨z, hi⟩) Or.inr
        · rintro (⟨z, hi⟩ | z)
          · exact ⟨(bs i hi).mpr (Or.inl z), hi⟩
          · subst z; exact ⟨(bs i (by omega)).mpr (Or.inr rfl), by omega⟩
      have feq : (fun i => bl (kp ||| ((1 : Int64) <<< ((nI e).toInt64 &&& 63))) i = true ∧ i < m) = (fun i => (bl kp i = true ∧ i < m) ∨ i = e) := funext fun i => propext (eqv i)
      refine nm_e (nm_r (nI_1 p) (ih e (p + 1) _ _ _ _ _ _ ld2 mem2 usr2 syt1 sgt2 (by omega) (by omega) h2.1.2.2.2.2.2.2.2 (by rw [feq]; exact gr2) (qx_Q_mono (fun i hi z => ?_) q2)))
      rcases z with z | z
      · exact Or.inl ((eqv i).mpr (Or.inl z))
      · by_cases y : i = e
        · exact Or.inl ((eqv i).mpr (Or.inr y))
        · exact Or.inr (by omega)
end
end
section
section
variable {g_maxTerms g_maxPats g_maxRules g_maxEvents g_nPats g_nRules : Int32} {b_psym b_pl b_pr b_rl b_rr b_eRule b_w b_sub b_val b_stand b_needed b_pick b_got : Nat → Int32} {b_cost b_best : Nat → Int64}
variable {n m a b : Nat} {sy lf rt el er xe0 : Nat → Int32}
theorem qy_ex98 {post : Int32 → SY → Prop} {ln : Int32} {iv la : Nat → Int32} (hm : m ≤ 64) (K : ∀ xc xe, qz_kp (fun e => decide (¬ iv e = 0)) xe0 m = (xc, xe) → post (nI xc) (g_maxTerms, g_maxPats, g_maxRules, g_maxEvents, nI n, g_nPats, g_nRules, nI m, nI xc, ln, sy, lf, rt, b_psym, b_pl, b_pr, b_rl, b_rr, el, er, b_eRule, xe, b_w, iv, la, b_sub, b_val, b_stand, b_cost, b_best, b_needed, b_pick, b_got)) :
    ∃ k, wY_explain_98 post g_maxTerms g_maxPats g_maxRules g_maxEvents (nI n) g_nPats g_nRules (nI m) ln k 0 0 sy lf rt b_psym b_pl b_pr b_rl b_rr el er b_eRule xe0 b_w iv la b_sub b_val b_stand b_cost b_best b_needed b_pick b_got := by
  refine loop_0 (σ := Nat × (Nat → Int32)) (fun k i s => wY_explain_98 post g_maxTerms g_maxPats g_maxRules g_maxEvents (nI n) g_nPats g_nRules (nI m) ln k (nI i) (nI s.1) sy lf rt b_psym b_pl b_pr b_rl b_rr el er b_eRule s.2 b_w iv la b_sub b_val b_stand b_cost b_best b_needed b_pick b_got) (fun i s => qz_kp (fun e => decide (¬ iv e = 0)) xe0 i = s) m (0, xe0) rfl ?_ ?_
  · rintro k ⟨xc, xe⟩ hs
    rw [wY_explain_98]
    exact br_t (nI_le (Nat.le_refl _) (by omega)) (K xc xe hs)
  · rintro k i ⟨xc, xe⟩ hi hs Kn
    have le := qz_kp_le (fun e => decide (¬ iv e = 0)) xe0 i
    rw [hs] at le
    dsimp only at le ⊢
    rw [wY_explain_98]
    refine br_f (nI_ge hi (by omega)) ⟨vp_in_nI (by omega) (by omega), ?_⟩
    rw [show (nI i).toNatClampNeg = i from nI_clamp (by omega)]
    refine br_c (fun z => nm_r (nI_1 i) (Kn (xc, xe) ?_)) (fun z => ⟨vp_in_nI (by omega) (by omega), nm_r (e' := upd xe xc (nI i)) (by rw [nI_clamp (by omega)]) (nm_r (nI_1 xc) (nm_r (nI_1 i) (Kn (xc + 1, upd xe xc (nI i)) ?_)))⟩)
    · rw [qz_kp, hs, if_neg (by rw [decide_eq_true_eq]; exact fun q => q z)]
    · rw [qz_kp, hs, if_pos (by rw [decide_eq_true_eq]; exact z)]
theorem qy_ex48 {post : Int32 → SY → Prop} {xcI : Int32} (hn : n ≤ 32) (hm : m ≤ 64) (g : ∀ t, t < n → qa_tok sy lf rt t) (he : qe_ok n m el er) (ha : a < n) (hb : b < n)
    (K : ∀ iv la ln xc xe, qx_GR m (qx_Q n m sy lf rt el er a b) (fun e => ¬ iv e = 0 ∧ e < m) 0 → qz_kp (fun e => decide (¬ iv e = 0)) xe0 m = (xc, xe) → post (nI xc) (g_maxTerms, g_maxPats, g_maxRules, g_maxEvents, nI n, g_nPats, g_nRules, nI m, nI xc, ln, sy, lf, rt, b_psym, b_pl, b_pr, b_rl, b_rr, el, er, b_eRule, xe, b_w, iv, la, b_sub, b_val, b_stand, b_cost, b_best, b_needed, b_pick, b_got)) :
    ∀ d k iv la ln, d ≤ m → d < k → (∀ i, i < d → iv i = 1) → qx_GR m (qx_Q n m sy lf rt el er a b) (fun e => (¬ iv e = 0 ∧ d ≤ e) ∧ e < m) d → wY_explain_48 post (nI a) (nI b) k (nI d - 1) g_maxTerms g_maxPats g_maxRules g_maxEvents (nI n) g_nPats g_nRules (nI m) xcI ln sy lf rt b_psym b_pl b_pr b_rl b_rr el er b_eRule xe0 b_w iv la b_sub b_val b_stand b_cost b_best b_needed b_pick b_got := by
  intro d
  induction d with
  | zero =>
    intro k iv la ln hd hk h1 gr
    cases k with
    | zero => omega
    | succ k =>
      rw [wY_explain_48]
      have feq : (fun e => (¬ iv e = 0 ∧ 0 ≤ e) ∧ e < m) = (fun e => ¬ iv e = 0 ∧ e < m) := funext fun e => propext ⟨fun z => ⟨z.1.1, z.2⟩, fun z => ⟨⟨z.1, Nat.zero_le _⟩, z.2⟩⟩
      rw [feq] at gr
      exact br_t (by decide) (qy_ex98 hm fun xc xe e => K iv la ln xc xe gr e)
  | succ d ih =>
    intro k iv la ln hd hk h1 gr
    cases k with
    | zero => omega
    | succ k =>
      rw [wY_explain_48, nI_pred]
      have id : vp_in (nI d) 64 := vp_in_nI (by omega) (by omega)
      refine br_f (nI_pos (by omega)) ⟨id, nm_r (e' := upd iv d 0) (by rw [nI_clamp (by omega), qy_b0]) (qy_close hn hm g he fun la' il => ?_)⟩
      have qi := qx_Q_il il ha hb
      have pe : ∀ i, i < m → (¬ upd iv d 0 i = 0 ↔ (i < d ∨ (((¬ iv i = 0 ∧ d + 1 ≤ i) ∧ i < m) ∧ d < i))) := by
        intro i hi
        by_cases z : i = d
        · subst z
          rw [pk_us]
          exact ⟨fun q => (q rfl).elim, fun q => by omega⟩
        · rw [pk_un z]
          constructor
          · intro q
            by_cases y : i < d
            · exact Or.inl y
            · exact Or.inr ⟨⟨⟨q, by omega⟩, hi⟩, by omega⟩
          · rintro (q | q)
            · rw [h1 i (by omega)]; decide
            · exact q.1.1.1
      have qe : qx_Q n m sy lf rt el er a b (fun i => ¬ upd iv d 0 i = 0) ↔ qx_Q n m sy lf rt el er a b (fun i => i < d ∨ (((¬ iv i = 0 ∧ d + 1 ≤ i) ∧ i < m) ∧ d < i)) :=
        ⟨fun q => qx_Q_mono (fun i hi z => (pe i hi).mp z) q, fun q => qx_Q_mono (fun i hi z => (pe i hi).mpr z) q⟩
      have grn : ∀ iv' : Nat → Int32, (∀ i, i ≠ d → iv' i = iv i) → (¬ iv' d = 0 ↔ ¬ qx_Q n m sy lf rt el er a b (fun i => ¬ upd iv d 0 i = 0)) → qx_GR m (qx_Q n m sy lf rt el er a b) (fun e => (¬ iv' e = 0 ∧ d ≤ e) ∧ e < m) d := by
        intro iv' hne hd'
        refine ⟨fun i k => ⟨k.1.2, k.2⟩, fun e h1' h2' => ?_⟩
        have inner : ∀ x, d ≤ x → (qx_Q n m sy lf rt el er a b (fun i => i < x ∨ (((¬ iv' i = 0 ∧ d ≤ i) ∧ i < m) ∧ x < i)) ↔ qx_Q n m sy lf rt el er a b (fun i => i < x ∨ (((¬ iv i = 0 ∧ d + 1 ≤ i) ∧ i < m) ∧ x < i))) := by
          intro x hx
          refine ⟨fun q => qx_Q_mono (fun i hi z => z.elim Or.inl (fun z => Or.inr ⟨⟨⟨?_, ?_⟩, hi⟩, z.2⟩)) q, fun q => qx_Q_mono (fun i hi z => z.elim Or.inl (fun z => Or.inr ⟨⟨⟨?_, ?_⟩, hi⟩, z.2⟩)) q⟩
          · rw [← hne i (by omega)]; exact z.1.1.1
          · omega
          · rw [hne i (by omega)]; exact z.1.1.1
          · omega
        by_cases z : e = d
        · subst z
          have i1 := inner e (Nat.le_refl _)
          constructor
          · intro k q
            exact (hd'.mp k.1.1) (qe.mpr (i1.mp q))
          · intro nq
            exact ⟨⟨hd'.mpr (fun q => nq (i1.mpr (qe.mp q))), Nat.le_refl _⟩, h2'⟩
        · have k := gr.2 e (by omega) h2'
          have i1 := inner e (by omega)
          constructor
          · intro w q
            refine k.mp ⟨⟨?_, by omega⟩, h2'⟩ (i1.mp q)
            rw [← hne e z]; exact w.1.1
          · intro nq
            have w := k.mpr (fun q => nq (i1.mpr q))
            refine ⟨⟨?_, h1'⟩, h2'⟩
            rw [hne e z]; exact w.1.1
      refine ⟨vp_in_nI (by omega) (by omega), vp_in_nI (by omega) (by omega), ?_⟩
      rw [show (nI a).toNatClampNeg = a from nI_clamp (by omega), show (nI b).toNatClampNeg = b from nI_clamp (by omega)]
      refine br_c (fun e => nm_r (e' := nI d - 1) (by rw [Int32.sub_eq_add_neg]) (ih k _ la' _ (by omega) (by omega) (fun i hi => ?_) (grn _ (fun i hi => pk_un hi) ?_))) (fun e => ⟨id, nm_r (e' := upd iv d 1) ?_ (nm_r (e' := nI d - 1) (by rw [Int32.sub_eq_add_neg]) (ih k _ la' _ (by omega) (by omega) (fun i hi => ?_) (grn _ (fun i hi => pk_un hi) ?_)))⟩)
      · rw [pk_un (by omega)]; exact h1 i (by omega)
      · rw [pk_us]
        exact ⟨fun q => (q rfl).elim, fun q => (q (qi.mp e)).elim⟩
      · rw [nI_clamp (by omega), qy_b1, qa_uu]
      · rw [pk_un (by omega)]; exact h1 i (by omega)
      · rw [pk_us]
        exact ⟨fun _ q => e (qi.mpr q), fun _ => by decide⟩
end
end
section
def qp_ti (np : Nat) (psy pl pr pi : Nat → Int32) : Prop :=
  (∀ p, 3 ≤ p → p < np → pi (qa_ky (psy p) (pl p) (pr p)).toNatClampNeg = nI (p + 1)) ∧
  (∀ k, k < 4232 → pi k = 0 ∨ ∃ p, 3 ≤ p ∧ p < np ∧ pi k = nI (p + 1) ∧ qa_ky (psy p) (pl p) (pr p) = nI k)
def qz_inv (lim lmp lmr lme n np nr m nk c ce : Nat) (cc cf oc : Int32) (sy lf rt ti psy pl pr ps ptop btp pi rl rr el er eru w ld mem usr syt sgt ord bT : Nat → Int32) (best : Nat → Int64) (tp : Nat → Nat) : Prop :=
  (lim ≤ 32 ∧ n ≤ lim ∧ lmp ≤ 32 ∧ np ≤ lmp ∧ lmr ≤ 6 ∧ nr ≤ lmr ∧ lme ≤ 64 ∧ m ≤ lme ∧ nk ≤ 64) ∧
  qx_ti n sy lf rt ti ∧ qx_xi n m c ce sy lf rt el er ld mem usr syt sgt cc ∧
  (qp_ok np psy pl pr ps ∧ (∀ q, q < np → ptop q = nI (tp q)) ∧ qp_tops np pl pr tp ∧ (∀ k q, k < 4 → q < 32 → (bt (btp k) q = true ↔ 3 ≤ q ∧ q < np ∧ tp q = k)) ∧ qp_ti np psy pl pr pi) ∧
  qr_ok np nr ps rl rr ∧ qk_wok w ∧ (cf = 0 ∨ qk_ok c sy lf rt ld w oc ord best bT)
def i_Rel (k : Nat) (u : SX) (v : SY) : Prop :=
  ∃ (lim : Nat) (lmp : Nat) (lmr : Nat) (lme : Nat) (n : Nat) (np : Nat) (nr : Nat) (m : Nat) (nk : Nat) (c : Nat) (ce : Nat), ∃ (f_matchPattern : Int32) (f_matchDepth : Int32) (f_levelCount : Int32) (f_groundLeft : Int32) (f_settledClasses : Int32) (f_reachedClasses : Int32) (cc : Int32) (cf : Int32) (oc : Int32), ∃ (sy : Nat → Int32) (lf : Nat → Int32) (rt : Nat → Int32) (ti : Nat → Int32) (psy : Nat → Int32) (pl : Nat → Int32) (pr : Nat → Int32) (ps : Nat → Int32) (ptop : Nat → Int32) (btp : Nat → Int32) (pi : Nat → Int32) (rl : Nat → Int32) (rr : Nat → Int32) (el : Nat → Int32) (er : Nat → Int32) (eru : Nat → Int32) (w : Nat → Int32) (ld : Nat → Int32) (mem : Nat → Int32) (usr : Nat → Int32) (syt : Nat → Int32) (sgt : Nat → Int32) (a_levelVar : Nat → Int32) (a_levelRest : Nat → Int32) (a_patValue : Nat → Int32) (a_standsFor : Nat → Int32) (ord : Nat → Int32) (bT : Nat → Int32) (a_gotTerm : Nat → Int32) (xe : Nat → Int32), ∃ (best : Nat → Int64) (a_treeCost : Nat → Int64), ∃ (g_labN : Int32), ∃ (b_in : Nat → Int32) (b_lab : Nat → Int32) (b_sub : Nat → Int32) (b_val : Nat → Int32) (b_stand : Nat → Int32) (b_needed : Nat → Int32) (b_pick : Nat → Int32) (b_got : Nat → Int32), ∃ (b_cost : Nat → Int64) (b_best : Nat → Int64), ∃ (tp : Nat → Nat), u = (nI lim, nI lmp, nI lmr, nI lme, nI n, nI np, nI nr, nI m, nI c, nI ce, cc, 0, f_matchPattern, f_matchDepth, f_levelCount, f_groundLeft, cf, f_settledClasses, f_reachedClasses, oc, nI nk, sy, lf, rt, ti, psy, pl, pr, ps, ptop, btp, pi, rl, rr, el, er, eru, w, ld, mem, usr, syt, sgt, a_levelVar, a_levelRest, a_patValue, a_standsFor, ord, best, bT, a_gotTerm, a_treeCost, xe) ∧ v = (nI lim, nI lmp, nI lmr, nI lme, nI n, nI np, nI nr, nI m, nI nk, g_labN, sy, lf, rt, psy, pl, pr, rl, rr, el, er, eru, xe, w, b_in, b_lab, b_sub, b_val, b_stand, b_cost, b_best, b_needed, b_pick, b_got) ∧ qz_inv lim lmp lmr lme n np nr m nk c ce cc cf oc sy lf rt ti psy pl pr ps ptop btp pi rl rr el er eru w ld mem usr syt sgt ord bT best tp
theorem qz_in {k : Nat} {lim lmp lmr lme n np nr m nk c ce : Nat} {f_matchPattern f_matchDepth f_levelCount f_groundLeft f_settledClasses f_reachedClasses cc cf oc : Int32} {sy lf rt ti psy pl pr ps ptop btp pi rl rr el er eru w ld mem usr syt sgt a_levelVar a_levelRest a_patValue a_standsFor ord bT a_gotTerm xe : Nat → Int32} {best a_treeCost : Nat → Int64} {g_labN : Int32} {b_in b_lab b_sub b_val b_stand b_needed b_pick b_got : Nat → Int32} {b_cost b_best : Nat → Int64} {tp : Nat → Nat} (h : qz_inv lim lmp lmr lme n np nr m nk c ce cc cf oc sy lf rt ti psy pl pr ps ptop btp pi rl rr el er eru w ld mem usr syt sgt ord bT best tp) : i_Rel k (nI lim, nI lmp, nI lmr, nI lme, nI n, nI np, nI nr, nI m, nI c, nI ce, cc, 0, f_matchPattern, f_matchDepth, f_levelCount, f_groundLeft, cf, f_settledClasses, f_reachedClasses, oc, nI nk, sy, lf, rt, ti, psy, pl, pr, ps, ptop, btp, pi, rl, rr, el, er, eru, w, ld, mem, usr, syt, sgt, a_levelVar, a_levelRest, a_patValue, a_standsFor, ord, best, bT, a_gotTerm, a_treeCost, xe) (nI lim, nI lmp, nI lmr, nI lme, nI n, nI np, nI nr, nI m, nI nk, g_labN, sy, lf, rt, psy, pl, pr, rl, rr, el, er, eru, xe, w, b_in, b_lab, b_sub, b_val, b_stand, b_cost, b_best, b_needed, b_pick, b_got) :=
  ⟨lim, lmp, lmr, lme, n, np, nr, m, nk, c, ce, f_matchPattern, f_matchDepth, f_levelCount, f_groundLeft, f_settledClasses, f_reachedClasses, cc, cf, oc, sy, lf, rt, ti, psy, pl, pr, ps, ptop, btp, pi, rl, rr, el, er, eru, w, ld, mem, usr, syt, sgt, a_levelVar, a_levelRest, a_patValue, a_standsFor, ord, bT, a_gotTerm, xe, best, a_treeCost, g_labN, b_in, b_lab, b_sub, b_val, b_stand, b_needed, b_pick, b_got, b_cost, b_best, tp, rfl, rfl, h⟩
theorem qz_el {P : SX → SY → Prop} (h : ∀ (lim lmp lmr lme n np nr m nk c ce : Nat) (f_matchPattern f_matchDepth f_levelCount f_groundLeft f_settledClasses f_reachedClasses cc cf oc : Int32) (sy lf rt ti psy pl pr ps ptop btp pi rl rr el er eru w ld mem usr syt sgt a_levelVar a_levelRest a_patValue a_standsFor ord bT a_gotTerm xe : Nat → Int32) (best a_treeCost : Nat → Int64) (g_labN : Int32) (b_in b_lab b_sub b_val b_stand b_needed b_pick b_got : Nat → Int32) (b_cost b_best : Nat → Int64) (tp : Nat → Nat), qz_inv lim lmp lmr lme n np nr m nk c ce cc cf oc sy lf rt ti psy pl pr ps ptop btp pi rl rr el er eru w ld mem usr syt sgt ord bT best tp → P (nI lim, nI lmp, nI lmr, nI lme, nI n, nI np, nI nr, nI m, nI c, nI ce, cc, 0, f_matchPattern, f_matchDepth, f_levelCount, f_groundLeft, cf, f_settledClasses, f_reachedClasses, oc, nI nk, sy, lf, rt, ti, psy, pl, pr, ps, ptop, btp, pi, rl, rr, el, er, eru, w, ld, mem, usr, syt, sgt, a_levelVar, a_levelRest, a_patValue, a_standsFor, ord, best, bT, a_gotTerm, a_treeCost, xe) (nI lim, nI lmp, nI lmr, nI lme, nI n, nI np, nI nr, nI m, nI nk, g_labN, sy, lf, rt, psy, pl, pr, rl, rr, el, er, eru, xe, w, b_in, b_lab, b_sub, b_val, b_stand, b_cost, b_best, b_needed, b_pick, b_got)) {k : Nat} {u : SX} {v : SY} (I : i_Rel k u v) : P u v :=
  Exists.elim I fun lim I => Exists.elim I fun lmp I => Exists.elim I fun lmr I => Exists.elim I fun lme I => Exists.elim I fun n I => Exists.elim I fun np I => Exists.elim I fun nr I => Exists.elim I fun m I => Exists.elim I fun nk I => Exists.elim I fun c I => Exists.elim I fun ce I => Exists.elim I fun f_matchPattern I => Exists.elim I fun f_matchDepth I => Exists.elim I fun f_levelCount I => Exists.elim I fun f_groundLeft I => Exists.elim I fun f_settledClasses I => Exists.elim I fun f_reachedClasses I => Exists.elim I fun cc I => Exists.elim I fun cf I => Exists.elim I fun oc I => Exists.elim I fun sy I => Exists.elim I fun lf I => Exists.elim I fun rt I => Exists.elim I fun ti I => Exists.elim I fun psy I => Exists.elim I fun pl I => Exists.elim I fun pr I => Exists.elim I fun ps I => Exists.elim I fun ptop I => Exists.elim I fun btp I => Exists.elim I fun pi I => Exists.elim I fun rl I => Exists.elim I fun rr I => Exists.elim I fun el I => Exists.elim I fun er I => Exists.elim I fun eru I => Exists.elim I fun w I => Exists.elim I fun ld I => Exists.elim I fun mem I => Exists.elim I fun usr I => Exists.elim I fun syt I => Exists.elim I fun sgt I => Exists.elim I fun a_levelVar I => Exists.elim I fun a_levelRest I => Exists.elim I fun a_patValue I => Exists.elim I fun a_standsFor I => Exists.elim I fun ord I => Exists.elim I fun bT I => Exists.elim I fun a_gotTerm I => Exists.elim I fun xe I => Exists.elim I fun best I => Exists.elim I fun a_treeCost I => Exists.elim I fun g_labN I => Exists.elim I fun b_in I => Exists.elim I fun b_lab I => Exists.elim I fun b_sub I => Exists.elim I fun b_val I => Exists.elim I fun b_stand I => Exists.elim I fun b_needed I => Exists.elim I fun b_pick I => Exists.elim I fun b_got I => Exists.elim I fun b_cost I => Exists.elim I fun b_best I => Exists.elim I fun tp I => Eq.mpr (congr (congrArg P I.1) I.2.1) (h lim lmp lmr lme n np nr m nk c ce f_matchPattern f_matchDepth f_levelCount f_groundLeft f_settledClasses f_reachedClasses cc cf oc sy lf rt ti psy pl pr ps ptop btp pi rl rr el er eru w ld mem usr syt sgt a_levelVar a_levelRest a_patValue a_standsFor ord bT a_gotTerm xe best a_treeCost g_labN b_in b_lab b_sub b_val b_stand b_needed b_pick b_got b_cost b_best tp I.2.2)
theorem i_up {k : Nat} {u : SX} {v : SY} (h : i_Rel k u v) : i_Rel (k + 5) u v := h
end
section
section
variable {f_termLimit f_patternLimit f_ruleLimit f_eventLimit f_patternCount f_ruleCount f_eventCount f_closedTerms f_closedEvents f_classCount f_dirty f_matchPattern f_matchDepth f_levelCount f_groundLeft f_costsFresh f_settledClasses f_reachedClasses f_orderCount f_explainedCount : Int32} {a_termSymbol a_termLeft a_termRight a_termIndex a_patSymbol a_patLeft a_patRight a_patSubs a_patTop a_byTop a_patternIndex a_ruleLeft a_ruleRight a_eventLeft a_eventRight a_eventRule a_symbolWeight a_leader a_members a_users a_symbolTerms a_signTerm a_levelVar a_levelRest a_patValue a_standsFor a_order a_bestTerm a_gotTerm a_explainedEvent : Nat → Int32} {a_best a_treeCost : Nat → Int64}
variable {g_maxTerms g_maxPats g_maxRules g_maxEvents g_nPats g_nRules g_nEvents g_nKept g_labN : Int32} {b_sym b_lef b_rig b_psym b_pl b_pr b_rl b_rr b_el b_er b_eRule b_kept b_w b_in b_lab b_sub b_val b_stand b_needed b_pick b_got : Nat → Int32} {b_cost b_best : Nat → Int64}
variable {n t : Nat} {v : Int32} {post : Int32 → Prop}
theorem qx_isT0 (h : v < 0 ∨ nI n ≤ v) (K : post 0) : wpX_isTerm post (f_termLimit, f_patternLimit, f_ruleLimit, f_eventLimit, nI n, f_patternCount, f_ruleCount, f_eventCount, f_closedTerms, f_closedEvents, f_classCount, f_dirty, f_matchPattern, f_matchDepth, f_levelCount, f_groundLeft, f_costsFresh, f_settledClasses, f_reachedClasses, f_orderCount, f_explainedCount, a_termSymbol, a_termLeft, a_termRight, a_termIndex, a_patSymbol, a_patLeft, a_patRight, a_patSubs, a_patTop, a_byTop, a_patternIndex, a_ruleLeft, a_ruleRight, a_eventLeft, a_eventRight, a_eventRule, a_symbolWeight, a_leader, a_members, a_users, a_symbolTerms, a_signTerm, a_levelVar, a_levelRest, a_patValue, a_standsFor, a_order, a_best, a_bestTerm, a_gotTerm, a_treeCost, a_explainedEvent) v := by
  unfold wpX_isTerm; exact ⟨fun _ => K, fun z => ⟨fun _ => K, fun y => (h.elim z y).elim⟩⟩
theorem qx_isT1 (ht : t < n) (hn : n < 2 ^ 31) (K : post 1) : wpX_isTerm post (f_termLimit, f_patternLimit, f_ruleLimit, f_eventLimit, nI n, f_patternCount, f_ruleCount, f_eventCount, f_closedTerms, f_closedEvents, f_classCount, f_dirty, f_matchPattern, f_matchDepth, f_levelCount, f_groundLeft, f_costsFresh, f_settledClasses, f_reachedClasses, f_orderCount, f_explainedCount, a_termSymbol, a_termLeft, a_termRight, a_termIndex, a_patSymbol, a_patLeft, a_patRight, a_patSubs, a_patTop, a_byTop, a_patternIndex, a_ruleLeft, a_ruleRight, a_eventLeft, a_eventRight, a_eventRule, a_symbolWeight, a_leader, a_members, a_users, a_symbolTerms, a_signTerm, a_levelVar, a_levelRest, a_patValue, a_standsFor, a_order, a_best, a_bestTerm, a_gotTerm, a_treeCost, a_explainedEvent) (nI t) := by
  unfold wpX_isTerm; exact br_f (nI_pos (by omega)) (br_f (nI_ge ht hn) K)
theorem qy_isT0 (h : v < 0 ∨ nI n ≤ v) (K : post 0) : wpY_isTerm post (g_maxTerms, g_maxPats, g_maxRules, g_maxEvents, nI n, g_nPats, g_nRules, g_nEvents, g_nKept, g_labN, b_sym, b_lef, b_rig, b_psym, b_pl, b_pr, b_rl, b_rr, b_el, b_er, b_eRule, b_kept, b_w, b_in, b_lab, b_sub, b_val, b_stand, b_cost, b_best, b_needed, b_pick, b_got) v := by
  unfold wpY_isTerm; exact ⟨fun _ => K, fun z => ⟨fun _ => K, fun y => (h.elim z y).elim⟩⟩
theorem qy_isT1 (ht : t < n) (hn : n < 2 ^ 31) (K : post 1) : wpY_isTerm post (g_maxTerms, g_maxPats, g_maxRules, g_maxEvents, nI n, g_nPats, g_nRules, g_nEvents, g_nKept, g_labN, b_sym, b_lef, b_rig, b_psym, b_pl, b_pr, b_rl, b_rr, b_el, b_er, b_eRule, b_kept, b_w, b_in, b_lab, b_sub, b_val, b_stand, b_cost, b_best, b_needed, b_pick, b_got) (nI t) := by
  unfold wpY_isTerm; exact br_f (nI_pos (by omega)) (br_f (nI_ge ht hn) K)
end
section
variable {f_termLimit f_patternLimit f_ruleLimit f_eventLimit f_termCount f_ruleCount f_eventCount f_closedTerms f_closedEvents f_classCount f_dirty f_matchPattern f_matchDepth f_levelCount f_groundLeft f_costsFresh f_settledClasses f_reachedClasses f_orderCount f_explainedCount : Int32} {a_termSymbol a_termLeft a_termRight a_termIndex a_patSymbol a_patLeft a_patRight a_patSubs a_patTop a_byTop a_patternIndex a_ruleLeft a_ruleRight a_eventLeft a_eventRight a_eventRule a_symbolWeight a_leader a_members a_users a_symbolTerms a_signTerm a_levelVar a_levelRest a_patValue a_standsFor a_order a_bestTerm a_gotTerm a_explainedEvent : Nat → Int32} {a_best a_treeCost : Nat → Int64}
variable {g_maxTerms g_maxPats g_maxRules g_maxEvents g_nTerms g_nRules g_nEvents g_nKept g_labN : Int32} {b_sym b_lef b_rig b_psym b_pl b_pr b_rl b_rr b_el b_er b_eRule b_kept b_w b_in b_lab b_sub b_val b_stand b_needed b_pick b_got : Nat → Int32} {b_cost b_best : Nat → Int64}
variable {n t : Nat} {v : Int32} {post : Int32 → Prop}
theorem qx_isP0 (h : v < 0 ∨ nI n ≤ v) (K : post 0) : wpX_isPattern post (f_termLimit, f_patternLimit, f_ruleLimit, f_eventLimit, f_termCount, nI n, f_ruleCount, f_eventCount, f_closedTerms, f_closedEvents, f_classCount, f_dirty, f_matchPattern, f_matchDepth, f_levelCount, f_groundLeft, f_costsFresh, f_settledClasses, f_reachedClasses, f_orderCount, f_explainedCount, a_termSymbol, a_termLeft, a_termRight, a_termIndex, a_patSymbol, a_patLeft, a_patRight, a_patSubs, a_patTop, a_byTop, a_patternIndex, a_ruleLeft, a_ruleRight, a_eventLeft, a_eventRight, a_eventRule, a_symbolWeight, a_leader, a_members, a_users, a_symbolTerms, a_signTerm, a_levelVar, a_levelRest, a_patValue, a_standsFor, a_order, a_best, a_bestTerm, a_gotTerm, a_treeCost, a_explainedEvent) v := by
  unfold wpX_isPattern; exact ⟨fun _ => K, fun z => ⟨fun _ => K, fun y => (h.elim z y).elim⟩⟩
theorem qx_isP1 (ht : t < n) (hn : n < 2 ^ 31) (K : post 1) : wpX_isPattern post (f_termLimit, f_patternLimit, f_ruleLimit, f_eventLimit, f_termCount, nI n, f_ruleCount, f_eventCount, f_closedTerms, f_closedEvents, f_classCount, f_dirty, f_matchPattern, f_matchDepth, f_levelCount, f_groundLeft, f_costsFresh, f_settledClasses, f_reachedClasses, f_orderCount, f_explainedCount, a_termSymbol, a_termLeft, a_termRight, a_termIndex, a_patSymbol, a_patLeft, a_patRight, a_patSubs, a_patTop, a_byTop, a_patternIndex, a_ruleLeft, a_ruleRight, a_eventLeft, a_eventRight, a_eventRule, a_symbolWeight, a_leader, a_members, a_users, a_symbolTerms, a_signTerm, a_levelVar, a_levelRest, a_patValue, a_standsFor, a_order, a_best, a_bestTerm, a_gotTerm, a_treeCost, a_explainedEvent) (nI t) := by
  unfold wpX_isPattern; exact br_f (nI_pos (by omega)) (br_f (nI_ge ht hn) K)
theorem qy_isP0 (h : v < 0 ∨ nI n ≤ v) (K : post 0) : wpY_isPattern post (g_maxTerms, g_maxPats, g_maxRules, g_maxEvents, g_nTerms, nI n, g_nRules, g_nEvents, g_nKept, g_labN, b_sym, b_lef, b_rig, b_psym, b_pl, b_pr, b_rl, b_rr, b_el, b_er, b_eRule, b_kept, b_w, b_in, b_lab, b_sub, b_val, b_stand, b_cost, b_best, b_needed, b_pick, b_got) v := by
  unfold wpY_isPattern; exact ⟨fun _ => K, fun z => ⟨fun _ => K, fun y => (h.elim z y).elim⟩⟩
theorem qy_isP1 (ht : t < n) (hn : n < 2 ^ 31) (K : post 1) : wpY_isPattern post (g_maxTerms, g_maxPats, g_maxRules, g_maxEvents, g_nTerms, nI n, g_nRules, g_nEvents, g_nKept, g_labN, b_sym, b_lef, b_rig, b_psym, b_pl, b_pr, b_rl, b_rr, b_el, b_er, b_eRule, b_kept, b_w, b_in, b_lab, b_sub, b_val, b_stand, b_cost, b_best, b_needed, b_pick, b_got) (nI t) := by
  unfold wpY_isPattern; exact br_f (nI_pos (by omega)) (br_f (nI_ge ht hn) K)
end
section
variable {f_termLimit f_patternLimit f_ruleLimit f_eventLimit f_termCount f_patternCount f_eventCount f_closedTerms f_closedEvents f_classCount f_dirty f_matchPattern f_matchDepth f_levelCount f_groundLeft f_costsFresh f_settledClasses f_reachedClasses f_orderCount f_explainedCount : Int32} {a_termSymbol a_termLeft a_termRight a_termIndex a_patSymbol a_patLeft a_patRight a_patSubs a_patTop a_byTop a_patternIndex a_ruleLeft a_ruleRight a_eventLeft a_eventRight a_eventRule a_symbolWeight a_leader a_members a_users a_symbolTerms a_signTerm a_levelVar a_levelRest a_patValue a_standsFor a_order a_bestTerm a_gotTerm a_explainedEvent : Nat → Int32} {a_best a_treeCost : Nat → Int64}
variable {n t : Nat} {v : Int32} {post : Int32 → Prop}
theorem qx_isR0 (h : v < 0 ∨ nI n ≤ v) (K : post 0) : wpX_isRule post (f_termLimit, f_patternLimit, f_ruleLimit, f_eventLimit, f_termCount, f_patternCount, nI n, f_eventCount, f_closedTerms, f_closedEvents, f_classCount, f_dirty, f_matchPattern, f_matchDepth, f_levelCount, f_groundLeft, f_costsFresh, f_settledClasses, f_reachedClasses, f_orderCount, f_explainedCount, a_termSymbol, a_termLeft, a_termRight, a_termIndex, a_patSymbol, a_patLeft, a_patRight, a_patSubs, a_patTop, a_byTop, a_patternIndex, a_ruleLeft, a_ruleRight, a_eventLeft, a_eventRight, a_eventRule, a_symbolWeight, a_leader, a_members, a_users, a_symbolTerms, a_signTerm, a_levelVar, a_levelRest, a_patValue, a_standsFor, a_order, a_best, a_bestTerm, a_gotTerm, a_treeCost, a_explainedEvent) v := by
  unfold wpX_isRule; exact ⟨fun _ => K, fun z => ⟨fun _ => K, fun y => (h.elim z y).elim⟩⟩
theorem qx_isR1 (ht : t < n) (hn : n < 2 ^ 31) (K : post 1) : wpX_isRule post (f_termLimit, f_patternLimit, f_ruleLimit, f_eventLimit, f_termCount, f_patternCount, nI n, f_eventCount, f_closedTerms, f_closedEvents, f_classCount, f_dirty, f_matchPattern, f_matchDepth, f_levelCount, f_groundLeft, f_costsFresh, f_settledClasses, f_reachedClasses, f_orderCount, f_explainedCount, a_termSymbol, a_termLeft, a_termRight, a_termIndex, a_patSymbol, a_patLeft, a_patRight, a_patSubs, a_patTop, a_byTop, a_patternIndex, a_ruleLeft, a_ruleRight, a_eventLeft, a_eventRight, a_eventRule, a_symbolWeight, a_leader, a_members, a_users, a_symbolTerms, a_signTerm, a_levelVar, a_levelRest, a_patValue, a_standsFor, a_order, a_best, a_bestTerm, a_gotTerm, a_treeCost, a_explainedEvent) (nI t) := by
  unfold wpX_isRule; exact br_f (nI_pos (by omega)) (br_f (nI_ge ht hn) K)
end
theorem qz_ix (v : Int32) {n : Nat} (hn : n < 2 ^ 31) : (v < 0 ∨ nI n ≤ v) ∨ ∃ t, t < n ∧ v = nI t := by
  rcases pk_ix v hn with h | h | h
  · exact Or.inl (Or.inl h)
  · exact Or.inl (Or.inr h)
  · exact Or.inr h
def qz_pf (p A B C : Int32) : Int32 := if p < 0 then -2 else if p ≤ 2 then (if p = 0 then A else if p = 1 then B else C) else -2
theorem qz_part {p A B C x : Int32} {N : Nat} {post : Int32 → Prop} (hx : vp_in x N) (K : post (qz_pf p A B C)) :
    ((p < 0 → post (-2)) ∧ (¬ p < 0 → ((p ≤ 2 → ((p = 0 → (vp_in x N ∧ post A)) ∧ (¬ p = 0 → ((p = 1 → (vp_in x N ∧ post B)) ∧ (¬ p = 1 → (vp_in x N ∧ post C)))))) ∧ (¬ p ≤ 2 → post (-2))))) := by
  unfold qz_pf at K
  refine br_c (fun h => by rwa [if_pos h] at K) (fun h => ?_)
  rw [if_neg h] at K
  refine br_c (fun h => ?_) (fun h => by rwa [if_neg h] at K)
  rw [if_pos h] at K
  refine br_c (fun h => ⟨hx, by rwa [if_pos h] at K⟩) (fun h => ?_)
  rw [if_neg h] at K
  exact br_c (fun h => ⟨hx, by rwa [if_pos h] at K⟩) (fun h => ⟨hx, by rwa [if_neg h] at K⟩)
theorem i_vc_termPart {k : Nat} {u : SX} {v : SY} (I : i_Rel k u v) (hk : k + 5 ≤ 2564) (v1 : Int32) (v2 : Int32) : wpX_termPart (fun r => wpY_termPart (fun r' => r' = r ∧ i_Rel (k + 5) u v) v v1 v2) u v1 v2 := by
  refine qz_el (P := fun u v => wpX_termPart (fun r => wpY_termPart (fun r' => r' = r ∧ i_Rel (k + 5) u v) v v1 v2) u v1 v2) ?_ I
  intro lim lmp lmr lme n np nr m nk c ce f_matchPattern f_matchDepth f_levelCount f_groundLeft f_settledClasses f_reachedClasses cc cf oc sy lf rt ti psy pl pr ps ptop btp pi rl rr el er eru w ld mem usr syt sgt a_levelVar a_levelRest a_patValue a_standsFor ord bT a_gotTerm xe best a_treeCost g_labN b_in b_lab b_sub b_val b_stand b_needed b_pick b_got b_cost b_best tp h
  have ⟨b1, b2, b3, b4, b5, b6, b7, b8, b9⟩ := h.1
  unfold wpX_termPart
  rcases qz_ix v1 (n := n) (by omega) with z | ⟨t, ht, rfl⟩
  · refine qx_isT0 z (br_t rfl ?_)
    unfold wpY_termPart
    exact qy_isT0 z (br_t rfl ⟨rfl, qz_in h⟩)
  · have it : vp_in (nI t) 32 := vp_in_nI (by omega) (by omega)
    refine qx_isT1 ht (by omega) (br_f (by decide) (qz_part (post := fun r => wpY_termPart (fun r' => r' = r ∧ i_Rel (k + 5) (nI lim, nI lmp, nI lmr, nI lme, nI n, nI np, nI nr, nI m, nI c, nI ce, cc, 0, f_matchPattern, f_matchDepth, f_levelCount, f_groundLeft, cf, f_settledClasses, f_reachedClasses, oc, nI nk, sy, lf, rt, ti, psy, pl, pr, ps, ptop, btp, pi, rl, rr, el, er, eru, w, ld, mem, usr, syt, sgt, a_levelVar, a_levelRest, a_patValue, a_standsFor, ord, best, bT, a_gotTerm, a_treeCost, xe) (nI lim, nI lmp, nI lmr, nI lme, nI n, nI np, nI nr, nI m, nI nk, g_labN, sy, lf, rt, psy, pl, pr, rl, rr, el, er, eru, xe, w, b_in, b_lab, b_sub, b_val, b_stand, b_cost, b_best, b_needed, b_pick, b_got)) (nI lim, nI lmp, nI lmr, nI lme, nI n, nI np, nI nr, nI m, nI nk, g_labN, sy, lf, rt, psy, pl, pr, rl, rr, el, er, eru, xe, w, b_in, b_lab, b_sub, b_val, b_stand, b_cost, b_best, b_needed, b_pick, b_got) (nI t) v2) it ?_))
    unfold wpY_termPart
    exact qy_isT1 ht (by omega) (br_f (by decide) (qz_part (post := fun r' => r' = _ ∧ i_Rel (k + 5) (nI lim, nI lmp, nI lmr, nI lme, nI n, nI np, nI nr, nI m, nI c, nI ce, cc, 0, f_matchPattern, f_matchDepth, f_levelCount, f_groundLeft, cf, f_settledClasses, f_reachedClasses, oc, nI nk, sy, lf, rt, ti, psy, pl, pr, ps, ptop, btp, pi, rl, rr, el, er, eru, w, ld, mem, usr, syt, sgt, a_levelVar, a_levelRest, a_patValue, a_standsFor, ord, best, bT, a_gotTerm, a_treeCost, xe) (nI lim, nI lmp, nI lmr, nI lme, nI n, nI np, nI nr, nI m, nI nk, g_labN, sy, lf, rt, psy, pl, pr, rl, rr, el, er, eru, xe, w, b_in, b_lab, b_sub, b_val, b_stand, b_cost, b_best, b_needed, b_pick, b_got)) it ⟨rfl, qz_in h⟩))
theorem i_vc_patternPart {k : Nat} {u : SX} {v : SY} (I : i_Rel k u v) (hk : k + 5 ≤ 2564) (v1 : Int32) (v2 : Int32) : wpX_patternPart (fun r => wpY_patternPart (fun r' => r' = r ∧ i_Rel (k + 5) u v) v v1 v2) u v1 v2 := by
  refine qz_el (P := fun u v => wpX_patternPart (fun r => wpY_patternPart (fun r' => r' = r ∧ i_Rel (k + 5) u v) v v1 v2) u v1 v2) ?_ I
  intro lim lmp lmr lme n np nr m nk c ce f_matchPattern f_matchDepth f_levelCount f_groundLeft f_settledClasses f_reachedClasses cc cf oc sy lf rt ti psy pl pr ps ptop btp pi rl rr el er eru w ld mem usr syt sgt a_levelVar a_levelRest a_patValue a_standsFor ord bT a_gotTerm xe best a_treeCost g_labN b_in b_lab b_sub b_val b_stand b_needed b_pick b_got b_cost b_best tp h
  have ⟨b1, b2, b3, b4, b5, b6, b7, b8, b9⟩ := h.1
  unfold wpX_patternPart
  rcases qz_ix v1 (n := np) (by omega) with z | ⟨t, ht, rfl⟩
  · refine qx_isP0 z (br_t rfl ?_)
    unfold wpY_patternPart
    exact qy_isP0 z (br_t rfl ⟨rfl, qz_in h⟩)
  · have it : vp_in (nI t) 32 := vp_in_nI (by omega) (by omega)
    refine qx_isP1 ht (by omega) (br_f (by decide) (qz_part (post := fun r => wpY_patternPart (fun r' => r' = r ∧ i_Rel (k + 5) (nI lim, nI lmp, nI lmr, nI lme, nI n, nI np, nI nr, nI m, nI c, nI ce, cc, 0, f_matchPattern, f_matchDepth, f_levelCount, f_groundLeft, cf, f_settledClasses, f_reachedClasses, oc, nI nk, sy, lf, rt, ti, psy, pl, pr, ps, ptop, btp, pi, rl, rr, el, er, eru, w, ld, mem, usr, syt, sgt, a_levelVar, a_levelRest, a_patValue, a_standsFor, ord, best, bT, a_gotTerm, a_treeCost, xe) (nI lim, nI lmp, nI lmr, nI lme, nI n, nI np, nI nr, nI m, nI nk, g_labN, sy, lf, rt, psy, pl, pr, rl, rr, el, er, eru, xe, w, b_in, b_lab, b_sub, b_val, b_stand, b_cost, b_best, b_needed, b_pick, b_got)) (nI lim, nI lmp, nI lmr, nI lme, nI n, nI np, nI nr, nI m, nI nk, g_labN, sy, lf, rt, psy, pl, pr, rl, rr, el, er, eru, xe, w, b_in, b_lab, b_sub, b_val, b_stand, b_cost, b_best, b_needed, b_pick, b_got) (nI t) v2) it ?_))
    unfold wpY_patternPart
    exact qy_isP1 ht (by omega) (br_f (by decide) (qz_part (post := fun r' => r' = _ ∧ i_Rel (k + 5) (nI lim, nI lmp, nI lmr, nI lme, nI n, nI np, nI nr, nI m, nI c, nI ce, cc, 0, f_matchPattern, f_matchDepth, f_levelCount, f_groundLeft, cf, f_settledClasses, f_reachedClasses, oc, nI nk, sy, lf, rt, ti, psy, pl, pr, ps, ptop, btp, pi, rl, rr, el, er, eru, w, ld, mem, usr, syt, sgt, a_levelVar, a_levelRest, a_patValue, a_standsFor, ord, best, bT, a_gotTerm, a_treeCost, xe) (nI lim, nI lmp, nI lmr, nI lme, nI n, nI np, nI nr, nI m, nI nk, g_labN, sy, lf, rt, psy, pl, pr, rl, rr, el, er, eru, xe, w, b_in, b_lab, b_sub, b_val, b_stand, b_cost, b_best, b_needed, b_pick, b_got)) it ⟨rfl, qz_in h⟩))
theorem i_vc_rulePart {k : Nat} {u : SX} {v : SY} (I : i_Rel k u v) (hk : k + 5 ≤ 2564) (v1 : Int32) (v2 : Int32) : wpX_rulePart (fun r => wpY_rulePart (fun r' => r' = r ∧ i_Rel (k + 5) u v) v v1 v2) u v1 v2 := by
  refine qz_el (P := fun u v => wpX_rulePart (fun r => wpY_rulePart (fun r' => r' = r ∧ i_Rel (k + 5) u v) v v1 v2) u v1 v2) ?_ I
  intro lim lmp lmr lme n np nr m nk c ce f_matchPattern f_matchDepth f_levelCount f_groundLeft f_settledClasses f_reachedClasses cc cf oc sy lf rt ti psy pl pr ps ptop btp pi rl rr el er eru w ld mem usr syt sgt a_levelVar a_levelRest a_patValue a_standsFor ord bT a_gotTerm xe best a_treeCost g_labN b_in b_lab b_sub b_val b_stand b_needed b_pick b_got b_cost b_best tp h
  have ⟨b1, b2, b3, b4, b5, b6, b7, b8, b9⟩ := h.1
  unfold wpX_rulePart
  rcases qz_ix v1 (n := nr) (by omega) with z | ⟨t, ht, rfl⟩
  · refine qx_isR0 z (br_t rfl ?_)
    unfold wpY_rulePart
    exact ⟨fun _ => ⟨rfl, qz_in h⟩, fun y => ⟨fun _ => ⟨rfl, qz_in h⟩, fun w => (z.elim y w).elim⟩⟩
  · have it : vp_in (nI t) 6 := vp_in_nI (by omega) (by omega)
    have fin : ∀ r : Int32, r = r ∧ i_Rel (k + 5) (nI lim, nI lmp, nI lmr, nI lme, nI n, nI np, nI nr, nI m, nI c, nI ce, cc, 0, f_matchPattern, f_matchDepth, f_levelCount, f_groundLeft, cf, f_settledClasses, f_reachedClasses, oc, nI nk, sy, lf, rt, ti, psy, pl, pr, ps, ptop, btp, pi, rl, rr, el, er, eru, w, ld, mem, usr, syt, sgt, a_levelVar, a_levelRest, a_patValue, a_standsFor, ord, best, bT, a_gotTerm, a_treeCost, xe) (nI lim, nI lmp, nI lmr, nI lme, nI n, nI np, nI nr, nI m, nI nk, g_labN, sy, lf, rt, psy, pl, pr, rl, rr, el, er, eru, xe, w, b_in, b_lab, b_sub, b_val, b_stand, b_cost, b_best, b_needed, b_pick, b_got) := fun r => ⟨rfl, qz_in h⟩
    refine qx_isR1 ht (by omega) (br_f (by decide) (br_c (fun h1 => ?_) (fun h1 => br_c (fun h2 => br_c (fun h3 => ⟨it, ?_⟩) (fun h3 => ⟨it, ?_⟩)) (fun h2 => ?_))))
    · unfold wpY_rulePart
      exact br_f (nI_pos (by omega)) (br_f (nI_ge ht (by omega)) (br_t h1 (fin _)))
    · unfold wpY_rulePart
      exact br_f (nI_pos (by omega)) (br_f (nI_ge ht (by omega)) (br_f h1 (br_t h2 (br_t h3 ⟨it, fin _⟩))))
    · unfold wpY_rulePart
      exact br_f (nI_pos (by omega)) (br_f (nI_ge ht (by omega)) (br_f h1 (br_t h2 (br_f h3 ⟨it, fin _⟩))))
    · unfold wpY_rulePart
      exact br_f (nI_pos (by omega)) (br_f (nI_ge ht (by omega)) (br_f h1 (br_f h2 (fin _))))
theorem i_vc_weight {k : Nat} {u : SX} {v : SY} (I : i_Rel k u v) (hk : k + 5 ≤ 2564) (v1 : Int32) : wpX_weight (fun r => wpY_weight (fun r' => r' = r ∧ i_Rel (k + 5) u v) v v1) u v1 := by
  refine qz_el (P := fun u v => wpX_weight (fun r => wpY_weight (fun r' => r' = r ∧ i_Rel (k + 5) u v) v v1) u v1) ?_ I
  intro lim lmp lmr lme n np nr m nk c ce f_matchPattern f_matchDepth f_levelCount f_groundLeft f_settledClasses f_reachedClasses cc cf oc sy lf rt ti psy pl pr ps ptop btp pi rl rr el er eru w ld mem usr syt sgt a_levelVar a_levelRest a_patValue a_standsFor ord bT a_gotTerm xe best a_treeCost g_labN b_in b_lab b_sub b_val b_stand b_needed b_pick b_got b_cost b_best tp h
  unfold wpX_weight
  refine br_c (fun h1 => ?_) (fun h1 => br_c (fun h2 => ?_) (fun h2 => ?_))
  · unfold wpY_weight
    exact br_t h1 ⟨rfl, qz_in h⟩
  · obtain ⟨j, hj, rfl⟩ := nI_of2 (n := 15) (by decide) h1 h2
    have ij : vp_in (nI j) 16 := vp_in_nI (by omega) (by omega)
    refine ⟨ij, ?_⟩
    unfold wpY_weight
    exact br_f h1 (br_t h2 ⟨ij, rfl, qz_in h⟩)
  · unfold wpY_weight
    exact br_f h1 (br_f h2 ⟨rfl, qz_in h⟩)
theorem i_vc_setWeight {k : Nat} {u : SX} {v : SY} (I : i_Rel k u v) (hk : k + 5 ≤ 2564) (v1 : Int32) (v2 : Int32) : wpX_setWeight (fun r u' => wpY_setWeight (fun r' v' => r' = r ∧ i_Rel (k + 5) u' v') v v1 v2) u v1 v2 := by
  refine qz_el (P := fun u v => wpX_setWeight (fun r u' => wpY_setWeight (fun r' v' => r' = r ∧ i_Rel (k + 5) u' v') v v1 v2) u v1 v2) ?_ I
  intro lim lmp lmr lme n np nr m nk c ce f_matchPattern f_matchDepth f_levelCount f_groundLeft f_settledClasses f_reachedClasses cc cf oc sy lf rt ti psy pl pr ps ptop btp pi rl rr el er eru w ld mem usr syt sgt a_levelVar a_levelRest a_patValue a_standsFor ord bT a_gotTerm xe best a_treeCost g_labN b_in b_lab b_sub b_val b_stand b_needed b_pick b_got b_cost b_best tp h
  have ⟨k1, k2, k3, k4, k5, k6, k7⟩ := h
  unfold wpX_setWeight
  refine br_c (fun h1 => ?_) (fun h1 => br_c (fun h2 => ?_) (fun h2 => br_c (fun h3 => ?_) (fun h3 => br_c (fun h4 => ?_) (fun h4 => ?_))))
  · unfold wpY_setWeight
    exact br_t h1 ⟨rfl, qz_in h⟩
  · unfold wpY_setWeight
    exact br_f h1 (br_t h2 ⟨rfl, qz_in h⟩)
  · unfold wpY_setWeight
    exact br_f h1 (br_f h2 (br_t h3 ⟨rfl, qz_in h⟩))
  · obtain ⟨j, hj, rfl⟩ := nI_of2 (n := 15) (M := 15) (by decide) h1 (Int32.not_lt.mp h2)
    have h30 : ¬ v2 < 0 := fun z => h3 (Int32.lt_trans z (by decide))
    obtain ⟨x, hx, rfl⟩ := nI_of2 (n := 1000) (M := 1000) (by decide) h30 h4
    have x1 : 1 ≤ x := by
      refine Classical.byContradiction fun z => h3 ?_
      have : x = 0 := by omega
      subst this; decide
    have ij : vp_in (nI j) 16 := vp_in_nI (by omega) (by omega)
    have cj : (nI j).toNatClampNeg = j := nI_clamp (by omega)
    refine ⟨ij, nm_r (e' := upd w j (nI x)) (by rw [cj]) ?_⟩
    unfold wpY_setWeight
    refine br_f h1 (br_f h2 (br_f h3 (br_t h4 ⟨ij, nm_r (e' := upd w j (nI x)) (by rw [cj]) ⟨rfl, qz_in ⟨k1, k2, k3, k4, k5, fun s hs => ?_, Or.inl rfl⟩⟩⟩)))
    by_cases z : s = j
    · subst z; exact ⟨x, x1, hx, pk_us⟩
    · rw [pk_un z]; exact k6 s hs
  · unfold wpY_setWeight
    exact br_f h1 (br_f h2 (br_f h3 (br_f h4 ⟨rfl, qz_in h⟩)))
theorem i_vc_eventPart {k : Nat} {u : SX} {v : SY} (I : i_Rel k u v) (hk : k + 5 ≤ 2564) (v1 : Int32) (v2 : Int32) : wpX_eventPart (fun r => wpY_eventPart (fun r' => r' = r ∧ i_Rel (k + 5) u v) v v1 v2) u v1 v2 := by
  refine qz_el (P := fun u v => wpX_eventPart (fun r => wpY_eventPart (fun r' => r' = r ∧ i_Rel (k + 5) u v) v v1 v2) u v1 v2) ?_ I
  intro lim lmp lmr lme n np nr m nk c ce f_matchPattern f_matchDepth f_levelCount f_groundLeft f_settledClasses f_reachedClasses cc cf oc sy lf rt ti psy pl pr ps ptop btp pi rl rr el er eru w ld mem usr syt sgt a_levelVar a_levelRest a_patValue a_standsFor ord bT a_gotTerm xe best a_treeCost g_labN b_in b_lab b_sub b_val b_stand b_needed b_pick b_got b_cost b_best tp h
  have ⟨b1, b2, b3, b4, b5, b6, b7, b8, b9⟩ := h.1
  unfold wpX_eventPart
  rcases qz_ix v1 (n := m) (by omega) with z | ⟨t, ht, rfl⟩
  · have Y : wpY_eventPart (fun r' => r' = -2 ∧ i_Rel (k + 5) (nI lim, nI lmp, nI lmr, nI lme, nI n, nI np, nI nr, nI m, nI c, nI ce, cc, 0, f_matchPattern, f_matchDepth, f_levelCount, f_groundLeft, cf, f_settledClasses, f_reachedClasses, oc, nI nk, sy, lf, rt, ti, psy, pl, pr, ps, ptop, btp, pi, rl, rr, el, er, eru, w, ld, mem, usr, syt, sgt, a_levelVar, a_levelRest, a_patValue, a_standsFor, ord, best, bT, a_gotTerm, a_treeCost, xe) (nI lim, nI lmp, nI lmr, nI lme, nI n, nI np, nI nr, nI m, nI nk, g_labN, sy, lf, rt, psy, pl, pr, rl, rr, el, er, eru, xe, w, b_in, b_lab, b_sub, b_val, b_stand, b_cost, b_best, b_needed, b_pick, b_got)) (nI lim, nI lmp, nI lmr, nI lme, nI n, nI np, nI nr, nI m, nI nk, g_labN, sy, lf, rt, psy, pl, pr, rl, rr, el, er, eru, xe, w, b_in, b_lab, b_sub, b_val, b_stand, b_cost, b_best, b_needed, b_pick, b_got) v1 v2 := by
      unfold wpY_eventPart
      exact ⟨fun _ => ⟨rfl, qz_in h⟩, fun y => ⟨fun _ => ⟨rfl, qz_in h⟩, fun w => (z.elim y w).elim⟩⟩
    exact ⟨fun _ => Y, fun y => ⟨fun _ => Y, fun w => (z.elim y w).elim⟩⟩
  · have it : vp_in (nI t) 64 := vp_in_nI (by omega) (by omega)
    refine br_f (nI_pos (by omega)) (br_f (nI_ge ht (by omega)) (qz_part (post := fun r => wpY_eventPart (fun r' => r' = r ∧ i_Rel (k + 5) (nI lim, nI lmp, nI lmr, nI lme, nI n, nI np, nI nr, nI m, nI c, nI ce, cc, 0, f_matchPattern, f_matchDepth, f_levelCount, f_groundLeft, cf, f_settledClasses, f_reachedClasses, oc, nI nk, sy, lf, rt, ti, psy, pl, pr, ps, ptop, btp, pi, rl, rr, el, er, eru, w, ld, mem, usr, syt, sgt, a_levelVar, a_levelRest, a_patValue, a_standsFor, ord, best, bT, a_gotTerm, a_treeCost, xe) (nI lim, nI lmp, nI lmr, nI lme, nI n, nI np, nI nr, nI m, nI nk, g_labN, sy, lf, rt, psy, pl, pr, rl, rr, el, er, eru, xe, w, b_in, b_lab, b_sub, b_val, b_stand, b_cost, b_best, b_needed, b_pick, b_got)) (nI lim, nI lmp, nI lmr, nI lme, nI n, nI np, nI nr, nI m, nI nk, g_labN, sy, lf, rt, psy, pl, pr, rl, rr, el, er, eru, xe, w, b_in, b_lab, b_sub, b_val, b_stand, b_cost, b_best, b_needed, b_pick, b_got) (nI t) v2) it ?_))
    unfold wpY_eventPart
    exact br_f (nI_pos (by omega)) (br_f (nI_ge ht (by omega)) (qz_part (post := fun r' => r' = _ ∧ i_Rel (k + 5) (nI lim, nI lmp, nI lmr, nI lme, nI n, nI np, nI nr, nI m, nI c, nI ce, cc, 0, f_matchPattern, f_matchDepth, f_levelCount, f_groundLeft, cf, f_settledClasses, f_reachedClasses, oc, nI nk, sy, lf, rt, ti, psy, pl, pr, ps, ptop, btp, pi, rl, rr, el, er, eru, w, ld, mem, usr, syt, sgt, a_levelVar, a_levelRest, a_patValue, a_standsFor, ord, best, bT, a_gotTerm, a_treeCost, xe) (nI lim, nI lmp, nI lmr, nI lme, nI n, nI np, nI nr, nI m, nI nk, g_labN, sy, lf, rt, psy, pl, pr, rl, rr, el, er, eru, xe, w, b_in, b_lab, b_sub, b_val, b_stand, b_cost, b_best, b_needed, b_pick, b_got)) it ⟨rfl, qz_in h⟩))
theorem i_vc_explained {k : Nat} {u : SX} {v : SY} (I : i_Rel k u v) (hk : k + 5 ≤ 2564) (v1 : Int32) : wpX_explained (fun r => wpY_explained (fun r' => r' = r ∧ i_Rel (k + 5) u v) v v1) u v1 := by
  refine qz_el (P := fun u v => wpX_explained (fun r => wpY_explained (fun r' => r' = r ∧ i_Rel (k + 5) u v) v v1) u v1) ?_ I
  intro lim lmp lmr lme n np nr m nk c ce f_matchPattern f_matchDepth f_levelCount f_groundLeft f_settledClasses f_reachedClasses cc cf oc sy lf rt ti psy pl pr ps ptop btp pi rl rr el er eru w ld mem usr syt sgt a_levelVar a_levelRest a_patValue a_standsFor ord bT a_gotTerm xe best a_treeCost g_labN b_in b_lab b_sub b_val b_stand b_needed b_pick b_got b_cost b_best tp h
  have ⟨b1, b2, b3, b4, b5, b6, b7, b8, b9⟩ := h.1
  unfold wpX_explained
  refine br_c (fun h1 => ?_) (fun h1 => ?_)
  · unfold wpY_explained
    exact br_t h1 ⟨rfl, qz_in h⟩
  · obtain ⟨j, hj, rfl⟩ := nI_of h1
    refine pk_lt j nk (fun lt => ⟨vp_in_nI (by omega) (by omega), ?_⟩) (fun ge => ?_)
    · unfold wpY_explained
      exact br_f h1 (br_t (nI_lt lt (by omega)) ⟨vp_in_nI (by omega) (by omega), rfl, qz_in h⟩)
    · unfold wpY_explained
      exact br_f h1 (br_f (nI_nlt ge (by omega)) ⟨rfl, qz_in h⟩)
theorem i_vc_limit {k : Nat} {u : SX} {v : SY} (I : i_Rel k u v) (hk : k + 5 ≤ 2564) (v1 : Int32) : wpX_limit (fun r => wpY_limit (fun r' => r' = r ∧ i_Rel (k + 5) u v) v v1) u v1 := by
  refine qz_el (P := fun u v => wpX_limit (fun r => wpY_limit (fun r' => r' = r ∧ i_Rel (k + 5) u v) v v1) u v1) ?_ I
  intro lim lmp lmr lme n np nr m nk c ce f_matchPattern f_matchDepth f_levelCount f_groundLeft f_settledClasses f_reachedClasses cc cf oc sy lf rt ti psy pl pr ps ptop btp pi rl rr el er eru w ld mem usr syt sgt a_levelVar a_levelRest a_patValue a_standsFor ord bT a_gotTerm xe best a_treeCost g_labN b_in b_lab b_sub b_val b_stand b_needed b_pick b_got b_cost b_best tp h
  unfold wpX_limit
  refine br_c (fun h1 => ?_) (fun h1 => br_c (fun h2 => ?_) (fun h2 => br_c (fun h3 => ?_) (fun h3 => br_c (fun h4 => ?_) (fun h4 => ?_))))
  · unfold wpY_limit
    exact br_t h1 ⟨rfl, qz_in h⟩
  · unfold wpY_limit
    exact br_f h1 (br_t h2 ⟨rfl, qz_in h⟩)
  · unfold wpY_limit
    exact br_f h1 (br_f h2 (br_t h3 ⟨rfl, qz_in h⟩))
  · unfold wpY_limit
    exact br_f h1 (br_f h2 (br_f h3 (br_t h4 ⟨rfl, qz_in h⟩)))
  · unfold wpY_limit
    exact br_f h1 (br_f h2 (br_f h3 (br_f h4 ⟨rfl, qz_in h⟩)))
theorem i_vc_state {k : Nat} {u : SX} {v : SY} (I : i_Rel k u v) (hk : k + 5 ≤ 2564) (v1 : Int32) (v2 : Int32) : wpX_state (fun r u' => wpY_state (fun r' v' => r' = r ∧ i_Rel (k + 5) u' v') v v1 v2) u v1 v2 := by
  refine qz_el (P := fun u v => wpX_state (fun r u' => wpY_state (fun r' v' => r' = r ∧ i_Rel (k + 5) u' v') v v1 v2) u v1 v2) ?_ I
  intro lim lmp lmr lme n np nr m nk c ce f_matchPattern f_matchDepth f_levelCount f_groundLeft f_settledClasses f_reachedClasses cc cf oc sy lf rt ti psy pl pr ps ptop btp pi rl rr el er eru w ld mem usr syt sgt a_levelVar a_levelRest a_patValue a_standsFor ord bT a_gotTerm xe best a_treeCost g_labN b_in b_lab b_sub b_val b_stand b_needed b_pick b_got b_cost b_best tp h
  have ⟨b1, b2, b3, b4, b5, b6, b7, b8, b9⟩ := h.1
  have ⟨k1, k2, k3, k4, k5, k6, k7⟩ := h
  unfold wpX_state
  rcases qz_ix v1 (n := n) (by omega) with z | ⟨t, ht, rfl⟩
  · refine qx_isT0 z (br_t rfl ?_)
    unfold wpY_state
    exact qy_isT0 z (br_t rfl ⟨rfl, qz_in h⟩)
  · refine qx_isT1 ht (by omega) (br_f (by decide) ?_)
    rcases qz_ix v2 (n := n) (by omega) with z | ⟨t', ht', rfl⟩
    · refine qx_isT0 z (br_t rfl ?_)
      unfold wpY_state
      exact qy_isT1 ht (by omega) (br_f (by decide) (qy_isT0 z (br_t rfl ⟨rfl, qz_in h⟩)))
    · refine qx_isT1 ht' (by omega) (br_f (by decide) (br_c (fun e => ?_) (fun e => pk_lt m lme (fun lt => qx_addEv (by omega) ?_) (fun ge => ?_))))
      · unfold wpY_state
        exact qy_isT1 ht (by omega) (br_f (by decide) (qy_isT1 ht' (by omega) (br_f (by decide) (br_t e ⟨rfl, qz_in h⟩))))
      · dsimp only
        rw [nI_pred]
        unfold wpY_state
        refine qy_isT1 ht (by omega) (br_f (by decide) (qy_isT1 ht' (by omega) (br_f (by decide) (br_f e (br_t (nI_lt lt (by omega)) (qy_addEv (by omega) ⟨rfl, qz_in ⟨⟨b1, b2, b3, b4, b5, b6, b7, by omega, b9⟩, k2, ?_, k4, k5, k6, k7⟩⟩))))))
        refine qx_xi_ext k3 k3.1 (by omega) (by omega) (by omega) (fun _ _ => ⟨rfl, rfl, rfl⟩) k3.2.2.2.2.1 (fun e he => ?_) (fun e he => ⟨pk_un (by omega), pk_un (by omega)⟩)
        by_cases z : e = m
        · subst z; rw [pk_us, pk_us]; exact ⟨t, t', ht, ht', rfl, rfl⟩
        · rw [pk_un z, pk_un z]; exact k3.2.2.2.2.2.1 e (by omega)
      · unfold wpY_state
        exact qy_isT1 ht (by omega) (br_f (by decide) (qy_isT1 ht' (by omega) (br_f (by decide) (br_f e (br_f (nI_nlt ge (by omega)) ⟨rfl, qz_in h⟩)))))
end
section
theorem qz_cf {n c : Nat} {cf cf' oc : Int32} {sy lf rt ld ld' w ord bT : Nat → Int32} {best : Nat → Int64} (h : cf' = 0 ∨ (cf' = cf ∧ ld' = ld ∧ c = n)) (k : cf = 0 ∨ qk_ok c sy lf rt ld w oc ord best bT) : cf' = 0 ∨ qk_ok n sy lf rt ld' w oc ord best bT := by
  rcases h with z | ⟨z1, rfl, rfl⟩
  · exact Or.inl z
  · rcases k with k | k
    · exact Or.inl (z1.trans k)
    · exact Or.inr k
theorem i_vc_find {k : Nat} {u : SX} {v : SY} (I : i_Rel k u v) (hk : k + 5 ≤ 2564) (v1 : Int32) : wpX_find (fun r u' => wpY_find (fun r' v' => r' = r ∧ i_Rel (k + 5) u' v') v v1) u v1 := by
  refine qz_el (P := fun u v => wpX_find (fun r u' => wpY_find (fun r' v' => r' = r ∧ i_Rel (k + 5) u' v') v v1) u v1) ?_ I
  intro lim lmp lmr lme n np nr m nk c ce f_matchPattern f_matchDepth f_levelCount f_groundLeft f_settledClasses f_reachedClasses cc cf oc sy lf rt ti psy pl pr ps ptop btp pi rl rr el er eru w ld mem usr syt sgt a_levelVar a_levelRest a_patValue a_standsFor ord bT a_gotTerm xe best a_treeCost g_labN b_in b_lab b_sub b_val b_stand b_needed b_pick b_got b_cost b_best tp h
  have ⟨b1, b2, b3, b4, b5, b6, b7, b8, b9⟩ := h.1
  have ⟨k1, k2, k3, k4, k5, k6, k7⟩ := h
  unfold wpX_find
  rcases qz_ix v1 (n := n) (by omega) with z | ⟨t, ht, rfl⟩
  · refine qx_isT0 z (br_t rfl ?_)
    unfold wpY_find
    exact qy_isT0 z (br_t rfl ⟨rfl, qz_in h⟩)
  · refine qx_isT1 ht (by omega) (br_f (by decide) (qx_sync k3 ?_))
    intro ld' mem' usr' syt' sgt' cc' cf' xi' il cfc
    refine ⟨vp_in_nI (by omega) (by omega), ?_⟩
    unfold wpY_find
    refine qy_isT1 ht (by omega) (br_f (by decide) (qy_closeAll (by omega) (by omega) k3.2.2.2.2.1 k3.2.2.2.2.2.1 ?_))
    intro iv la _ il'
    refine ⟨vp_in_nI (by omega) (by omega), ?_, qz_in ⟨k1, k2, xi', k4, k5, k6, qz_cf cfc k7⟩⟩
    rw [nI_clamp (by omega)]
    exact qc_un (by omega) il' il t ht
theorem i_vc_count {k : Nat} {u : SX} {v : SY} (I : i_Rel k u v) (hk : k + 5 ≤ 2564) (v1 : Int32) : wpX_count (fun r u' => wpY_count (fun r' v' => r' = r ∧ i_Rel (k + 5) u' v') v v1) u v1 := by
  refine qz_el (P := fun u v => wpX_count (fun r u' => wpY_count (fun r' v' => r' = r ∧ i_Rel (k + 5) u' v') v v1) u v1) ?_ I
  intro lim lmp lmr lme n np nr m nk c ce f_matchPattern f_matchDepth f_levelCount f_groundLeft f_settledClasses f_reachedClasses cc cf oc sy lf rt ti psy pl pr ps ptop btp pi rl rr el er eru w ld mem usr syt sgt a_levelVar a_levelRest a_patValue a_standsFor ord bT a_gotTerm xe best a_treeCost g_labN b_in b_lab b_sub b_val b_stand b_needed b_pick b_got b_cost b_best tp h
  have ⟨b1, b2, b3, b4, b5, b6, b7, b8, b9⟩ := h.1
  have ⟨k1, k2, k3, k4, k5, k6, k7⟩ := h
  unfold wpX_count
  refine br_c (fun h0 => ?_) (fun h0 => br_c (fun h1 => ?_) (fun h1 => br_c (fun h2 => ?_) (fun h2 => br_c (fun h3 => ?_) (fun h3 => br_c (fun h4 => ?_) (fun h4 => br_c (fun h5 => ?_) (fun h5 => ?_))))))
  · unfold wpY_count
    exact br_t h0 ⟨rfl, qz_in h⟩
  · unfold wpY_count
    exact br_f h0 (br_t h1 ⟨rfl, qz_in h⟩)
  · unfold wpY_count
    exact br_f h0 (br_f h1 (br_t h2 ⟨rfl, qz_in h⟩))
  · unfold wpY_count
    exact br_f h0 (br_f h1 (br_f h2 (br_t h3 ⟨rfl, qz_in h⟩)))
  · refine qx_sync k3 ?_
    intro ld' mem' usr' syt' sgt' cc' cf' xi' il cfc
    have h5 : ¬ v1 = 5 := by rw [h4]; decide
    unfold wpY_count
    refine br_f h0 (br_f h1 (br_f h2 (br_f h3 (br_f h5 (br_t h4 (qy_closeAll (by omega) (by omega) k3.2.2.2.2.1 k3.2.2.2.2.2.1 ?_))))))
    intro iv la _ il'
    have fin : ∀ r : Int32, r = cc' → (r = cc' ∧ i_Rel (k + 5) (nI lim, nI lmp, nI lmr, nI lme, nI n, nI np, nI nr, nI m, nI n, nI m, cc', 0, f_matchPattern, f_matchDepth, f_levelCount, f_groundLeft, cf', f_settledClasses, f_reachedClasses, oc, nI nk, sy, lf, rt, ti, psy, pl, pr, ps, ptop, btp, pi, rl, rr, el, er, eru, w, ld', mem', usr', syt', sgt', a_levelVar, a_levelRest, a_patValue, a_standsFor, ord, best, bT, a_gotTerm, a_treeCost, xe) (nI lim, nI lmp, nI lmr, nI lme, nI n, nI np, nI nr, nI m, nI nk, nI n, sy, lf, rt, psy, pl, pr, rl, rr, el, er, eru, xe, w, iv, la, b_sub, b_val, b_stand, b_cost, b_best, b_needed, b_pick, b_got)) := fun r e => ⟨e, qz_in ⟨k1, k2, xi', k4, k5, k6, qz_cf cfc k7⟩⟩
    refine loop_0 (fun kk i s => wY_count_65 (fun r' v' => r' = cc' ∧ i_Rel (k + 5) (nI lim, nI lmp, nI lmr, nI lme, nI n, nI np, nI nr, nI m, nI n, nI m, cc', 0, f_matchPattern, f_matchDepth, f_levelCount, f_groundLeft, cf', f_settledClasses, f_reachedClasses, oc, nI nk, sy, lf, rt, ti, psy, pl, pr, ps, ptop, btp, pi, rl, rr, el, er, eru, w, ld', mem', usr', syt', sgt', a_levelVar, a_levelRest, a_patValue, a_standsFor, ord, best, bT, a_gotTerm, a_treeCost, xe) v') (nI lim) (nI lmp) (nI lmr) (nI lme) (nI n) (nI np) (nI nr) (nI m) (nI nk) (nI n) sy lf rt psy pl pr rl rr el er eru xe w iv la b_sub b_val b_stand b_cost b_best b_needed b_pick b_got kk s (nI i)) (fun i s => s = nI (qa_cn (fun x => la x = nI x) i)) n 0 rfl ?_ ?_
    · intro kk s hs
      rw [wY_count_65]
      refine br_t (nI_le (Nat.le_refl _) (by omega)) (fin s ?_)
      rw [hs, xi'.2.2.2.2.2.2.1.1.2.2.2.2.2.2.1]
      congr 1
      exact qa_cn_eq fun x hx => by rw [qc_un (by omega) il' il x hx]
    · intro kk i s hi hs Kn
      rw [wY_count_65]
      refine br_f (nI_ge hi (by omega)) ⟨vp_in_nI (by omega) (by omega), ?_⟩
      rw [show (nI i).toNatClampNeg = i from nI_clamp (by omega)]
      refine br_c (fun e => nm_e (nm_r (nI_1 i) (Kn _ ?_))) (fun e => nm_r (nI_1 i) (Kn _ ?_))
      · rw [hs, nI_1]
        simp only [qa_cn]
        rw [qa_bt e]
      · rw [hs]
        simp only [qa_cn]
        rw [qa_bf e, Nat.add_zero]
  · unfold wpY_count
    exact br_f h0 (br_f h1 (br_f h2 (br_f h3 (br_t h5 ⟨rfl, qz_in h⟩))))
  · unfold wpY_count
    exact br_f h0 (br_f h1 (br_f h2 (br_f h3 (br_f h5 (br_f h4 ⟨rfl, qz_in h⟩)))))
theorem qk_ok_bt {c noc : Nat} {o B T : Nat → Nat} {sy lf rt ld w ord bT : Nat → Int32} {best : Nat → Int64} (h5 : qk_ib c sy lf rt ld w B) (h6 : ∀ l, l < c → ld l = nI l → best l = lN (B l) ∧ B l ≤ 4294967296000 ∧ bT l = nI (T l) ∧ T l < c ∧ ld (T l) = nI l ∧ qk_sum sy lf rt ld w B (T l) = B l ∧ ∀ t, t < c → ld t = nI l → qk_sum sy lf rt ld w B t = B l → T l ≤ t) : qk_bt c sy lf rt ld w B T :=
  ⟨h5, fun l hl el => ⟨(h6 l hl el).2.1, (h6 l hl el).2.2.2⟩⟩
theorem i_vc_bestCost {k : Nat} {u : SX} {v : SY} (I : i_Rel k u v) (hk : k + 5 ≤ 2564) (v1 : Int32) : wpX_bestCost (fun r u' => wpY_bestCost (fun r' v' => r' = r ∧ i_Rel (k + 5) u' v') v v1) u v1 := by
  refine qz_el (P := fun u v => wpX_bestCost (fun r u' => wpY_bestCost (fun r' v' => r' = r ∧ i_Rel (k + 5) u' v') v v1) u v1) ?_ I
  intro lim lmp lmr lme n np nr m nk c ce f_matchPattern f_matchDepth f_levelCount f_groundLeft f_settledClasses f_reachedClasses cc cf oc sy lf rt ti psy pl pr ps ptop btp pi rl rr el er eru w ld mem usr syt sgt a_levelVar a_levelRest a_patValue a_standsFor ord bT a_gotTerm xe best a_treeCost g_labN b_in b_lab b_sub b_val b_stand b_needed b_pick b_got b_cost b_best tp h
  have ⟨b1, b2, b3, b4, b5, b6, b7, b8, b9⟩ := h.1
  have ⟨k1, k2, k3, k4, k5, k6, k7⟩ := h
  unfold wpX_bestCost
  rcases qz_ix v1 (n := n) (by omega) with z | ⟨t, ht, rfl⟩
  · refine qx_isT0 z (br_t rfl ?_)
    unfold wpY_bestCost
    exact qy_isT0 z (br_t rfl ⟨rfl, qz_in h⟩)
  · refine qx_isT1 ht (by omega) (br_f (by decide) (qx_sync k3 ?_))
    intro ld' mem' usr' syt' sgt' cc' cf' xi' il cfc
    refine qx_refresh xi'.2.2.2.2.2.2.1.1 k6 (qz_cf cfc k7) ?_
    intro cf2 S2 R2 oc2 ord2 best2 bT2 ok2
    have ct : (nI t).toNatClampNeg = t := nI_clamp (by omega)
    obtain ⟨l, hl, el, rl⟩ := il.1 t ht
    refine ⟨vp_in_nI (by omega) (by omega), ?_⟩
    rw [ct, el]
    refine ⟨vp_in_nI (by omega) (by omega), ?_⟩
    rw [show (nI l).toNatClampNeg = l from nI_clamp (by omega)]
    have ok3 := ok2
    obtain ⟨noc, o, B, T, e1, e2, e3, e4, e5, e6, e7⟩ := ok3
    rw [(e6 l (by omega) rl).1]
    unfold wpY_bestCost
    refine qy_isT1 ht (by omega) (br_f (by decide) (qy_closeAll (by omega) (by omega) k3.2.2.2.2.1 k3.2.2.2.2.2.1 ?_))
    intro iv la _ il'
    have un := qc_un (by omega) il' il
    have bt' := qk_bt_ext (la := la) (by omega) k3.2.2.2.2.1 un (fun _ _ => ⟨rfl, rfl, rfl⟩) (qk_ok_bt (noc := noc) (o := o) (ord := ord2) e5 e6)
    refine qy_costs (by omega) il'.1 k3.2.2.2.2.1 k6 bt' ?_
    intro bY hb
    refine ⟨vp_in_nI (by omega) (by omega), ?_⟩
    rw [ct, un t ht, el]
    refine ⟨vp_in_nI (by omega) (by omega), ?_, qz_in ⟨k1, k2, xi', k4, k5, k6, Or.inr ok2⟩⟩
    rw [show (nI l).toNatClampNeg = l from nI_clamp (by omega)]
    exact hb l (by omega) (by rw [un l (by omega)]; exact rl)
theorem i_vc_explain {k : Nat} {u : SX} {v : SY} (I : i_Rel k u v) (hk : k + 5 ≤ 2564) (v1 : Int32) (v2 : Int32) : wpX_explain (fun r u' => wpY_explain (fun r' v' => r' = r ∧ i_Rel (k + 5) u' v') v v1 v2) u v1 v2 := by
  refine qz_el (P := fun u v => wpX_explain (fun r u' => wpY_explain (fun r' v' => r' = r ∧ i_Rel (k + 5) u' v') v v1 v2) u v1 v2) ?_ I
  intro lim lmp lmr lme n np nr m nk c ce f_matchPattern f_matchDepth f_levelCount f_groundLeft f_settledClasses f_reachedClasses cc cf oc sy lf rt ti psy pl pr ps ptop btp pi rl rr el er eru w ld mem usr syt sgt a_levelVar a_levelRest a_patValue a_standsFor ord bT a_gotTerm xe best a_treeCost g_labN b_in b_lab b_sub b_val b_stand b_needed b_pick b_got b_cost b_best tp h
  have ⟨b1, b2, b3, b4, b5, b6, b7, b8, b9⟩ := h.1
  have ⟨k1, k2, k3, k4, k5, k6, k7⟩ := h
  have g := k3.2.2.2.2.1
  have he := k3.2.2.2.2.2.1
  unfold wpX_explain
  rcases qz_ix v1 (n := n) (by omega) with z | ⟨a, ha, rfl⟩
  · refine qx_isT0 z (br_t rfl ?_)
    unfold wpY_explain
    exact qy_isT0 z (br_t rfl ⟨rfl, qz_in h⟩)
  · refine qx_isT1 ha (by omega) (br_f (by decide) ?_)
    rcases qz_ix v2 (n := n) (by omega) with z | ⟨b, hb, rfl⟩
    · refine qx_isT0 z (br_t rfl ?_)
      unfold wpY_explain
      exact qy_isT1 ha (by omega) (br_f (by decide) (qy_isT0 z (br_t rfl ⟨rfl, qz_in h⟩)))
    · refine qx_isT1 hb (by omega) (br_f (by decide) (qx_sync k3 ?_))
      intro ld' mem' usr' syt' sgt' cc' cf' xi' il cfc
      have ca : (nI a).toNatClampNeg = a := nI_clamp (by omega)
      have cb : (nI b).toNatClampNeg = b := nI_clamp (by omega)
      have ia : vp_in (nI a) 32 := vp_in_nI (by omega) (by omega)
      have ib : vp_in (nI b) 32 := vp_in_nI (by omega) (by omega)
      refine ⟨ia, ib, ?_⟩
      rw [ca, cb]
      have qx := qx_Q_il il ha hb
      refine br_c (fun e => ?_) (fun e => ?_)
      · have Q := qx.mp e
        refine ⟨m + 1, qx_ex52 (xe0 := xe) (by omega) (by omega) g he ha hb ?_ (m + 1) m 0 0 _ _ _ _ _ _ _ _ _ _ (by omega) (by omega) xi'.2.2.2.2.2.2.1.1.2.2.2.2.2.2.2 ⟨fun i z => by have z1 : bl 0 i = true := z.1; rw [ql_0] at z1; exact absurd z1 (by decide), fun e h1 h2 => by omega⟩ (qx_Q_mono (fun i hi _ => Or.inr hi) Q)⟩
        intro kp ld2 mem2 usr2 syt2 sgt2 cc2 xc xe2 gr kpe ci2
        unfold wpY_explain
        refine qy_isT1 ha (by omega) (br_f (by decide) (qy_isT1 hb (by omega) (br_f (by decide) (qy_closeAll (by omega) (by omega) g he ?_))))
        intro iv la hiv il'
        have un := qc_un (by omega) il' il
        refine ⟨ia, ib, ?_⟩
        rw [ca, cb]
        refine br_t (by rw [un a ha, un b hb]; exact e) (nm_e ⟨m + 1, qy_ex48 (xe0 := xe) (by omega) (by omega) g he ha hb ?_ m (m + 1) iv la _ (Nat.le_refl _) (by omega) (fun i hi => hiv i (by omega)) ⟨fun i z => ⟨z.1.2, z.2⟩, fun e h1 h2 => by omega⟩⟩)
        intro iv2 la2 ln2 xc2 xe3 gr2 kpe2
        have ke : ∀ i, i < m → bl kp i = decide (¬ iv2 i = 0) := by
          intro i hi
          have e := qx_GR_un gr gr2 i hi
          cases q : bl kp i
          · symm
            rw [decide_eq_false_iff_not]
            intro w
            have := (e.mpr ⟨w, hi⟩).1
            rw [q] at this; exact absurd this (by decide)
          · symm
            rw [decide_eq_true_eq]
            exact (e.mp ⟨q, hi⟩).1
        have kk := (qz_kp_ext (arr := xe) m ke).symm.trans kpe
        rw [kpe2] at kk
        cases kk
        have xle := qz_kp_le (bl kp) xe m
        rw [kpe] at xle
        dsimp only at xle
        refine ⟨rfl, qz_in ⟨⟨b1, b2, b3, b4, b5, b6, b7, b8, by omega⟩, k2, ⟨Nat.le_refl _, by omega, by omega, Nat.zero_le _, g, he, ci2, fun e hem => absurd hem (Nat.not_lt_zero _)⟩, k4, k5, k6, Or.inl rfl⟩⟩
      · unfold wpY_explain
        refine qy_isT1 ha (by omega) (br_f (by decide) (qy_isT1 hb (by omega) (br_f (by decide) (qy_closeAll (by omega) (by omega) g he ?_))))
        intro iv la _ il'
        have un := qc_un (by omega) il' il
        refine ⟨ia, ib, ?_⟩
        rw [ca, cb]
        exact br_f (by rw [un a ha, un b hb]; exact e) ⟨rfl, qz_in ⟨k1, k2, xi', k4, k5, k6, qz_cf cfc k7⟩⟩
end
section
section
variable {f_termLimit f_patternLimit f_ruleLimit f_eventLimit f_termCount f_patternCount f_ruleCount f_eventCount f_closedTerms f_closedEvents f_classCount f_dirty f_matchPattern f_matchDepth f_levelCount f_groundLeft f_costsFresh f_settledClasses f_reachedClasses f_orderCount f_explainedCount : Int32} {a_termSymbol a_termLeft a_termRight a_termIndex a_patSymbol a_patLeft a_patRight a_patSubs a_patTop a_byTop a_patternIndex a_ruleLeft a_ruleRight a_eventLeft a_eventRight a_eventRule a_symbolWeight a_leader a_members a_users a_symbolTerms a_signTerm a_levelVar a_levelRest a_patValue a_standsFor a_order a_bestTerm a_gotTerm a_explainedEvent : Nat → Int32} {a_best a_treeCost : Nat → Int64}
variable {g_maxTerms g_maxPats g_maxRules g_maxEvents g_nTerms g_nPats g_nRules g_nEvents g_nKept g_labN : Int32} {b_sym b_lef b_rig b_psym b_pl b_pr b_rl b_rr b_el b_er b_eRule b_kept b_w b_in b_lab b_sub b_val b_stand b_needed b_pick b_got : Nat → Int32} {b_cost b_best : Nat → Int64}
def qz_cl (v lo hi : Int32) : Int32 := if lo ≤ v then (if v ≤ hi then v else hi) else lo
theorem qx_clamp {post : Int32 → Prop} {v lo hi : Int32} (K : post (qz_cl v lo hi)) : wpX_clamp post (f_termLimit, f_patternLimit, f_ruleLimit, f_eventLimit, f_termCount, f_patternCount, f_ruleCount, f_eventCount, f_closedTerms, f_closedEvents, f_classCount, f_dirty, f_matchPattern, f_matchDepth, f_levelCount, f_groundLeft, f_costsFresh, f_settledClasses, f_reachedClasses, f_orderCount, f_explainedCount, a_termSymbol, a_termLeft, a_termRight, a_termIndex, a_patSymbol, a_patLeft, a_patRight, a_patSubs, a_patTop, a_byTop, a_patternIndex, a_ruleLeft, a_ruleRight, a_eventLeft, a_eventRight, a_eventRule, a_symbolWeight, a_leader, a_members, a_users, a_symbolTerms, a_signTerm, a_levelVar, a_levelRest, a_patValue, a_standsFor, a_order, a_best, a_bestTerm, a_gotTerm, a_treeCost, a_explainedEvent) v lo hi := by
  unfold wpX_clamp
  unfold qz_cl at K
  exact br_c (fun h => br_c (fun h2 => by rwa [if_pos h, if_pos h2] at K) (fun h2 => by rwa [if_pos h, if_neg h2] at K)) (fun h => by rwa [if_neg h] at K)
theorem qy_clamp {post : Int32 → Prop} {v lo hi : Int32} (K : post (qz_cl v lo hi)) : wpY_clamp post (g_maxTerms, g_maxPats, g_maxRules, g_maxEvents, g_nTerms, g_nPats, g_nRules, g_nEvents, g_nKept, g_labN, b_sym, b_lef, b_rig, b_psym, b_pl, b_pr, b_rl, b_rr, b_el, b_er, b_eRule, b_kept, b_w, b_in, b_lab, b_sub, b_val, b_stand, b_cost, b_best, b_needed, b_pick, b_got) v lo hi := by
  unfold wpY_clamp
  unfold qz_cl at K
  exact br_c (fun h => br_c (fun h2 => by rwa [if_pos h, if_pos h2] at K) (fun h2 => by rwa [if_pos h, if_neg h2] at K)) (fun h => by rwa [if_neg h] at K)
theorem qz_cl_n (v : Int32) {lo hi : Nat} (h : lo ≤ hi) (hh : hi < 2 ^ 31) : ∃ q, lo ≤ q ∧ q ≤ hi ∧ qz_cl v (nI lo) (nI hi) = nI q := by
  unfold qz_cl
  by_cases h1 : nI lo ≤ v
  · rw [if_pos h1]
    by_cases h2 : v ≤ nI hi
    · rw [if_pos h2]
      have h0 : ¬ v < 0 := by
        intro z
        have := Int32.le_trans h1 (Int32.le_of_lt z)
        have a := Int32.lt_of_le_of_lt h1 z
        exact nI_pos (by omega) a
      obtain ⟨j, hj, rfl⟩ := nI_of h0
      rw [nI_leI (by omega) hj] at h1
      rw [nI_leI hj (by omega)] at h2
      exact ⟨j, h1, h2, rfl⟩
    · rw [if_neg h2]; exact ⟨hi, h, Nat.le_refl _, rfl⟩
  · rw [if_neg h1]; exact ⟨lo, Nat.le_refl _, h, rfl⟩
end
theorem i_vc_matches {k : Nat} {u : SX} {v : SY} (I : i_Rel k u v) (hk : k + 5 ≤ 2564) (v1 : Int32) : wpX_matches (fun r u' => wpY_matches (fun r' v' => r' = r ∧ i_Rel (k + 5) u' v') v v1) u v1 := by
  refine qz_el (P := fun u v => wpX_matches (fun r u' => wpY_matches (fun r' v' => r' = r ∧ i_Rel (k + 5) u' v') v v1) u v1) ?_ I
  intro lim lmp lmr lme n np nr m nk c ce f_matchPattern f_matchDepth f_levelCount f_groundLeft f_settledClasses f_reachedClasses cc cf oc sy lf rt ti psy pl pr ps ptop btp pi rl rr el er eru w ld mem usr syt sgt a_levelVar a_levelRest a_patValue a_standsFor ord bT a_gotTerm xe best a_treeCost g_labN b_in b_lab b_sub b_val b_stand b_needed b_pick b_got b_cost b_best tp h
  have ⟨b1, b2, b3, b4, b5, b6, b7, b8, b9⟩ := h.1
  have ⟨k1, k2, k3, k4, k5, k6, k7⟩ := h
  obtain ⟨N, hN⟩ : ∃ N, N = 32768 := ⟨_, rfl⟩
  have g := k3.2.2.2.2.1
  have he := k3.2.2.2.2.2.1
  unfold wpX_matches
  rcases qz_ix v1 (n := nr) (by omega) with z | ⟨ru, hru, rfl⟩
  · refine qx_isR0 z (br_t rfl ?_)
    unfold wpY_matches
    refine ⟨fun _ => ⟨rfl, qz_in h⟩, fun y => br_f ?_ ⟨rfl, qz_in h⟩⟩
    rcases z with z | z
    · exact (y z).elim
    · exact Int32.not_lt.mpr z
  · obtain ⟨l, r, erl, err, l3, ln, rn, hv⟩ := k5.2 ru hru
    have ir : vp_in (nI ru) 6 := vp_in_nI (by omega) (by omega)
    refine qx_isR1 hru (by omega) (br_f (by decide) (qx_sync k3 ?_))
    intro ld' mem' usr' syt' sgt' cc' cf' xi' il cfc
    refine ⟨ir, ?_⟩
    rw [show (nI ru).toNatClampNeg = ru from nI_clamp (by omega), erl]
    have ci := xi'.2.2.2.2.2.2.1
    refine qx_start ci.1 ci.2.1 k4.1 k4.2.1 k4.2.2.1 k4.2.2.2.1 l3 ln ?_
    intro md lcI gl lva rest pv it
    have R : qx_rc n np sy lf rt ld' mem' usr' syt' sgt' psy pl pr ps ptop btp cc' tp := ⟨ci.1, ci.2.1, k4.1, k4.2.1, k4.2.2.1, k4.2.2.2.1⟩
    refine ⟨N + 1, qx_m29 (s0 := ((n, sy, lf, rt), (m, el, er, eru))) (lim := lim) (lme := lme) (x := r) (y := nI ru) hN R ?_ (N + 1) 0 0 0 md gl rest pv (by omega) (by omega) (by omega) rfl it⟩
    intro cnt md2 gl2 rest2 pv2 fo
    unfold wpY_matches
    refine br_f (nI_pos (by omega)) (br_t (nI_lt hru (by omega)) (qy_closeAll (by omega) (by omega) g he ?_))
    intro iv la _ il'
    have un := qc_un (by omega) il' il
    have hMa := qm_Ma_ext (psy := psy) (pl := pl) (pr := pr) (ps := ps) (ld' := la) (c := n) (by omega) g (fun _ _ => ⟨rfl, rfl, rfl⟩) un
    have hW := qm_v_ext (psy := psy) (pl := pl) (pr := pr) (ld' := la) (c := n) (by omega) g (fun _ _ => ⟨rfl, rfl, rfl⟩) un
    have gk : qi_gk lim (n, sy, lf, rt) := ⟨b2, g, qi_ti_un (by omega) k2⟩
    refine qy_scan (act := false) (E0 := (m, el, er, eru)) (sy0 := sy) (lf0 := lf) (rt0 := rt) hN b1 b7 (by omega) g il'.1 k4.1 (show ru < 6 by omega) erl err l3 ln rn hv ⟨gk, qi_ge_rf _, b8, qi_ge_rf _, he⟩ rfl ?_ ?_
    · intro n2 sy2 lf2 rt2 m2 el2 er2 eru2 cnt2 sb va st fo2 ok2
      rw [hMa, hW, fo] at fo2
      cases fo2
      exact ⟨rfl, qz_in ⟨k1, k2, xi', k4, k5, k6, qz_cf cfc k7⟩⟩
    · intro n2 sy2 lf2 rt2 m2 el2 er2 eru2 cnt2 sb va st fo2 ok2
      rw [hMa, hW, fo] at fo2
      cases fo2
theorem qz_rinv {N : Nat} (lim lmp lmr lme n np nr m nk c ce : Nat) (f_matchPattern f_matchDepth f_levelCount f_groundLeft f_settledClasses f_reachedClasses cc cf oc : Int32) (sy lf rt ti psy pl pr ps ptop btp pi rl rr el er eru w ld mem usr syt sgt a_levelVar a_levelRest a_patValue a_standsFor ord bT a_gotTerm xe : Nat → Int32) (best a_treeCost : Nat → Int64) (g_labN : Int32) (b_in b_lab b_sub b_val b_stand b_needed b_pick b_got : Nat → Int32) (b_cost b_best : Nat → Int64) (tp : Nat → Nat) (h : qz_inv lim lmp lmr lme n np nr m nk c ce cc cf oc sy lf rt ti psy pl pr ps ptop btp pi rl rr el er eru w ld mem usr syt sgt ord bT best tp) {n' m' : Nat} {sy' lf' rt' ti' el' er' eru' ld' mem' usr' syt' sgt' : Nat → Int32} {cc' cf' : Int32} (cfc : cf' = 0 ∨ (cf' = cf ∧ ld' = ld ∧ c = n))
    (ok : qm_ok lim lme (n, sy, lf, rt) (m, el, er, eru) ((n', sy', lf', rt'), (m', el', er', eru'))) (t' : qx_ti n' sy' lf' rt' ti') (xi' : qx_xi n' m' n m sy' lf' rt' el' er' ld' mem' usr' syt' sgt' cc') :
    qz_inv lim lmp lmr lme n' np nr m' nk n m cc' cf' oc sy' lf' rt' ti' psy pl pr ps ptop btp pi rl rr el' er' eru' w ld' mem' usr' syt' sgt' ord bT best tp := by
  have ⟨b1, b2, b3, b4, b5, b6, b7, b8, b9⟩ := h.1
  have ⟨k1, k2, k3, k4, k5, k6, k7⟩ := h
  have a2 : n' ≤ lim := ok.1.1
  have a4 : m' ≤ lme := ok.2.2.1
  refine ⟨⟨b1, a2, b3, b4, b5, b6, b7, a4, b9⟩, t', xi', k4, k5, k6, ?_⟩
  rcases qz_cf cfc k7 with z | z
  · exact Or.inl z
  · exact Or.inr (qk_ok_ext (by omega) k3.2.2.2.2.1 ok.2.1.2 z)
theorem i_vc_applyRule {k : Nat} {u : SX} {v : SY} (I : i_Rel k u v) (hk : k + 5 ≤ 2564) (v1 : Int32) : wpX_applyRule (fun r u' => wpY_applyRule (fun r' v' => r' = r ∧ i_Rel (k + 5) u' v') v v1) u v1 := by
  refine qz_el (P := fun u v => wpX_applyRule (fun r u' => wpY_applyRule (fun r' v' => r' = r ∧ i_Rel (k + 5) u' v') v v1) u v1) ?_ I
  intro lim lmp lmr lme n np nr m nk c ce f_matchPattern f_matchDepth f_levelCount f_groundLeft f_settledClasses f_reachedClasses cc cf oc sy lf rt ti psy pl pr ps ptop btp pi rl rr el er eru w ld mem usr syt sgt a_levelVar a_levelRest a_patValue a_standsFor ord bT a_gotTerm xe best a_treeCost g_labN b_in b_lab b_sub b_val b_stand b_needed b_pick b_got b_cost b_best tp h
  have ⟨b1, b2, b3, b4, b5, b6, b7, b8, b9⟩ := h.1
  have ⟨k1, k2, k3, k4, k5, k6, k7⟩ := h
  obtain ⟨N, hN⟩ : ∃ N, N = 32768 := ⟨_, rfl⟩
  have g := k3.2.2.2.2.1
  have he := k3.2.2.2.2.2.1
  unfold wpX_applyRule
  rcases qz_ix v1 (n := nr) (by omega) with z | ⟨ru, hru, rfl⟩
  · refine qx_isR0 z (br_t rfl ?_)
    unfold wpY_applyRule
    refine ⟨fun _ => ⟨rfl, qz_in h⟩, fun y => br_f ?_ ⟨rfl, qz_in h⟩⟩
    rcases z with z | z
    · exact (y z).elim
    · exact Int32.not_lt.mpr z
  · refine qx_isR1 hru (by omega) (br_f (by decide) ?_)
    rw [nI_1]
    refine qx_round (cnt := 1) rfl hN b1 b2 b7 b8 k3 k2 k4.1 k4.2.1 k4.2.2.1 k4.2.2.2.1 k5 (by omega) ?_
    intro ld' mem' usr' syt' sgt' cc' cf' ok n' sy' lf' rt' m' el' er' eru' tot mp md lcI gl lva rest pv st ti' il cfc rd ok' t' xi'
    unfold wpY_applyRule
    refine br_f (nI_pos (by omega)) (br_t (nI_lt hru (by omega)) ?_)
    rw [nI_1]
    refine qy_round (cnt := 1) rfl hN b1 b2 b7 b8 ⟨b2, g, qi_ti_un (by omega) k2⟩ he k4.1 k5 (by omega) ?_
    intro iv la ok2 n2 sy2 lf2 rt2 m2 el2 er2 eru2 tot2 sb va st2 il' rd2
    have un := qc_un (by omega) il' il
    rw [qm_Ma_ext (psy := psy) (pl := pl) (pr := pr) (ps := ps) (ld' := la) (c := n) (by omega) g (fun _ _ => ⟨rfl, rfl, rfl⟩) un, qm_v_ext (psy := psy) (pl := pl) (pr := pr) (ld' := la) (c := n) (by omega) g (fun _ _ => ⟨rfl, rfl, rfl⟩) un, rd] at rd2
    cases rd2
    exact ⟨rfl, qz_in (qz_rinv (N := N) lim lmp lmr lme n np nr m nk c ce f_matchPattern f_matchDepth f_levelCount f_groundLeft f_settledClasses f_reachedClasses cc cf oc sy lf rt ti psy pl pr ps ptop btp pi rl rr el er eru w ld mem usr syt sgt a_levelVar a_levelRest a_patValue a_standsFor ord bT a_gotTerm xe best a_treeCost g_labN b_in b_lab b_sub b_val b_stand b_needed b_pick b_got b_cost b_best tp h cfc ok' t' xi')⟩
theorem qz_run {post : Int32 → SX → Prop} {kk q N : Nat} (hN : N = 32768) (hq : q ≤ 8) :
    ∀ fuel i (lim lmp lmr lme n np nr m nk c ce : Nat) (f_matchPattern f_matchDepth f_levelCount f_groundLeft f_settledClasses f_reachedClasses cc cf oc : Int32) (sy lf rt ti psy pl pr ps ptop btp pi rl rr el er eru w ld mem usr syt sgt a_levelVar a_levelRest a_patValue a_standsFor ord bT a_gotTerm xe : Nat → Int32) (best a_treeCost : Nat → Int64) (g_labN : Int32) (b_in b_lab b_sub b_val b_stand b_needed b_pick b_got : Nat → Int32) (b_cost b_best : Nat → Int64) (tp : Nat → Nat), qz_inv lim lmp lmr lme n np nr m nk c ce cc cf oc sy lf rt ti psy pl pr ps ptop btp pi rl rr el er eru w ld mem usr syt sgt ord bT best tp → i ≤ q → q - i < fuel →
      (∀ r u', (∀ g_labN b_in b_lab b_sub b_val b_stand, wY_run_11 (fun r' v' => r' = r ∧ i_Rel kk u' v') (nI q) fuel (nI i) (nI lim) (nI lmp) (nI lmr) (nI lme) (nI n) (nI np) (nI nr) (nI m) (nI nk) g_labN sy lf rt psy pl pr rl rr el er eru xe w b_in b_lab b_sub b_val b_stand b_cost b_best b_needed b_pick b_got) → post r u') → wX_run_11 post (nI q) fuel (nI i) (nI lim) (nI lmp) (nI lmr) (nI lme) (nI n) (nI np) (nI nr) (nI m) (nI c) (nI ce) cc 0 f_matchPattern f_matchDepth f_levelCount f_groundLeft cf f_settledClasses f_reachedClasses oc (nI nk) sy lf rt ti psy pl pr ps ptop btp pi rl rr el er eru w ld mem usr syt sgt a_levelVar a_levelRest a_patValue a_standsFor ord best bT a_gotTerm a_treeCost xe := by
  intro fuel
  induction fuel with
  | zero => intro i lim lmp lmr lme n np nr m nk c ce f_matchPattern f_matchDepth f_levelCount f_groundLeft f_settledClasses f_reachedClasses cc cf oc sy lf rt ti psy pl pr ps ptop btp pi rl rr el er eru w ld mem usr syt sgt a_levelVar a_levelRest a_patValue a_standsFor ord bT a_gotTerm xe best a_treeCost g_labN b_in b_lab b_sub b_val b_stand b_needed b_pick b_got b_cost b_best tp h hi hf; omega
  | succ fuel ih =>
    intro i lim lmp lmr lme n np nr m nk c ce f_matchPattern f_matchDepth f_levelCount f_groundLeft f_settledClasses f_reachedClasses cc cf oc sy lf rt ti psy pl pr ps ptop btp pi rl rr el er eru w ld mem usr syt sgt a_levelVar a_levelRest a_patValue a_standsFor ord bT a_gotTerm xe best a_treeCost g_labN b_in b_lab b_sub b_val b_stand b_needed b_pick b_got b_cost b_best tp h hi hf hpost
    have ⟨b1, b2, b3, b4, b5, b6, b7, b8, b9⟩ := h.1
    have ⟨k1, k2, k3, k4, k5, k6, k7⟩ := h
    have g := k3.2.2.2.2.1
    have he := k3.2.2.2.2.2.1
    rw [wX_run_11]
    refine pk_le q i (fun le => hpost _ _ fun g_labN b_in b_lab b_sub b_val b_stand => ?_) (fun lt => ?_)
    · rw [wY_run_11]
      exact br_t (nI_le le (by omega)) ⟨rfl, qz_in h⟩
    · refine qx_round (first := 0) (cnt := nr) (Nat.zero_add nr) hN b1 b2 b7 b8 k3 k2 k4.1 k4.2.1 k4.2.2.1 k4.2.2.2.1 k5 (by omega) ?_
      intro ld' mem' usr' syt' sgt' cc' cf' ok n' sy' lf' rt' m' el' er' eru' tot mp md lcI gl lva rest pv st ti' il cfc rd ok' t' xi'
      have inv' := qz_rinv (N := N) lim lmp lmr lme n np nr m nk c ce f_matchPattern f_matchDepth f_levelCount f_groundLeft f_settledClasses f_reachedClasses cc cf oc sy lf rt ti psy pl pr ps ptop btp pi rl rr el er eru w ld mem usr syt sgt a_levelVar a_levelRest a_patValue a_standsFor ord bT a_gotTerm xe best a_treeCost g_labN b_in b_lab b_sub b_val b_stand b_needed b_pick b_got b_cost b_best tp h cfc ok' t' xi'
      have Yr : ∀ (postY : Int32 → SY → Prop) g_labN b_in b_lab b_sub b_val b_stand, (∀ g_labN b_in b_lab b_sub b_val b_stand, postY (if ok = true then nI tot else -3) (nI lim, nI lmp, nI lmr, nI lme, nI n', nI np, nI nr, nI m', nI nk, g_labN, sy', lf', rt', psy, pl, pr, rl, rr, el', er', eru', xe, w, b_in, b_lab, b_sub, b_val, b_stand, b_cost, b_best, b_needed, b_pick, b_got)) → wpY_round postY (nI lim, nI lmp, nI lmr, nI lme, nI n, nI np, nI nr, nI m, nI nk, g_labN, sy, lf, rt, psy, pl, pr, rl, rr, el, er, eru, xe, w, b_in, b_lab, b_sub, b_val, b_stand, b_cost, b_best, b_needed, b_pick, b_got) 0 (nI nr) := by
        intro postY g_labN b_in b_lab b_sub b_val b_stand KY
        have := qy_round (post := postY) (N := N) (first := 0) (cnt := nr) (lim := lim) (lme := lme) (n := n) (m := m) (np := np) (nr := nr) (sy := sy) (lf := lf) (rt := rt) (el := el) (er := er) (eru := eru) (iv := b_in) (la := b_lab) (psy := psy) (pl := pl) (pr := pr) (ps := ps) (rl := rl) (rr := rr) (sb := b_sub) (va := b_val) (st := b_stand) (g_maxPats := nI lmp) (g_maxRules := nI lmr) (g_nPats := nI np) (g_nRules := nI nr) (g_nKept := nI nk) (g_labN := g_labN) (b_kept := xe) (b_w := w) (b_needed := b_needed) (b_pick := b_pick) (b_got := b_got) (b_cost := b_cost) (b_best := b_best) (Nat.zero_add nr) hN b1 b2 b7 b8 ⟨b2, g, qi_ti_un (by omega) k2⟩ he k4.1 k5 (by omega) (fun iv la ok2 n2 sy2 lf2 rt2 m2 el2 er2 eru2 tot2 sb va st2 il' rd2 => by
          have un := qc_un (by omega) il' il
          rw [qm_Ma_ext (psy := psy) (pl := pl) (pr := pr) (ps := ps) (ld' := la) (c := n) (by omega) g (fun _ _ => ⟨rfl, rfl, rfl⟩) un, qm_v_ext (psy := psy) (pl := pl) (pr := pr) (ld' := la) (c := n) (by omega) g (fun _ _ => ⟨rfl, rfl, rfl⟩) un, rd] at rd2
          cases rd2
          exact KY _ _ _ _ _ _)
        exact this
      refine br_c (fun e => hpost _ _ fun g_labN b_in b_lab b_sub b_val b_stand => ?_) (fun e => br_c (fun e2 => hpost _ _ fun g_labN b_in b_lab b_sub b_val b_stand => ?_) (fun e2 => nm_r (nI_1 i) ?_))
      · rw [wY_run_11]
        exact br_f (nI_ge lt (by omega)) (Yr _ _ _ _ _ _ _ fun g_labN b_in b_lab b_sub b_val b_stand => br_t e ⟨rfl, qz_in inv'⟩)
      · rw [wY_run_11]
        exact br_f (nI_ge lt (by omega)) (Yr _ _ _ _ _ _ _ fun g_labN b_in b_lab b_sub b_val b_stand => br_f e (br_t e2 ⟨rfl, qz_in inv'⟩))
      · refine ih (i + 1) lim lmp lmr lme n' np nr m' nk n m mp md lcI gl f_settledClasses f_reachedClasses cc' cf' oc sy' lf' rt' ti' psy pl pr ps ptop btp pi rl rr el' er' eru' w ld' mem' usr' syt' sgt' lva rest pv st ord bT a_gotTerm xe best a_treeCost g_labN b_in b_lab b_sub b_val b_stand b_needed b_pick b_got b_cost b_best tp inv' (by omega) (by omega) ?_
        intro r u' H
        refine hpost r u' fun g_labN b_in b_lab b_sub b_val b_stand => ?_
        rw [wY_run_11]
        exact br_f (nI_ge lt (by omega)) (Yr _ _ _ _ _ _ _ fun g_labN b_in b_lab b_sub b_val b_stand => br_f e (br_f e2 (nm_r (nI_1 i) (H g_labN b_in b_lab b_sub b_val b_stand))))
theorem i_vc_run {k : Nat} {u : SX} {v : SY} (I : i_Rel k u v) (hk : k + 5 ≤ 2564) (v1 : Int32) : wpX_run (fun r u' => wpY_run (fun r' v' => r' = r ∧ i_Rel (k + 5) u' v') v v1) u v1 := by
  refine qz_el (P := fun u v => wpX_run (fun r u' => wpY_run (fun r' v' => r' = r ∧ i_Rel (k + 5) u' v') v v1) u v1) ?_ I
  intro lim lmp lmr lme n np nr m nk c ce f_matchPattern f_matchDepth f_levelCount f_groundLeft f_settledClasses f_reachedClasses cc cf oc sy lf rt ti psy pl pr ps ptop btp pi rl rr el er eru w ld mem usr syt sgt a_levelVar a_levelRest a_patValue a_standsFor ord bT a_gotTerm xe best a_treeCost g_labN b_in b_lab b_sub b_val b_stand b_needed b_pick b_got b_cost b_best tp h
  obtain ⟨N, hN⟩ : ∃ N, N = 32768 := ⟨_, rfl⟩
  obtain ⟨q, _, hq, eq⟩ := qz_cl_n v1 (lo := 0) (hi := 8) (by omega) (by omega)
  unfold wpX_run
  refine qx_clamp ?_
  rw [show qz_cl v1 0 8 = nI q from eq]
  refine ⟨q + 1, qz_run (kk := k + 5) hN hq (q + 1) 0 lim lmp lmr lme n np nr m nk c ce f_matchPattern f_matchDepth f_levelCount f_groundLeft f_settledClasses f_reachedClasses cc cf oc sy lf rt ti psy pl pr ps ptop btp pi rl rr el er eru w ld mem usr syt sgt a_levelVar a_levelRest a_patValue a_standsFor ord bT a_gotTerm xe best a_treeCost g_labN b_in b_lab b_sub b_val b_stand b_needed b_pick b_got b_cost b_best tp h (by omega) (by omega) ?_⟩
  intro r u' H
  unfold wpY_run
  refine qy_clamp ?_
  rw [show qz_cl v1 0 8 = nI q from eq]
  exact ⟨q + 1, H g_labN b_in b_lab b_sub b_val b_stand⟩
end
section
theorem i_vc_extract {k : Nat} {u : SX} {v : SY} (I : i_Rel k u v) (hk : k + 5 ≤ 2564) (v1 : Int32) : wpX_extract (fun r u' => wpY_extract (fun r' v' => r' = r ∧ i_Rel (k + 5) u' v') v v1) u v1 := by
  refine qz_el (P := fun u v => wpX_extract (fun r u' => wpY_extract (fun r' v' => r' = r ∧ i_Rel (k + 5) u' v') v v1) u v1) ?_ I
  intro lim lmp lmr lme n np nr m nk c ce f_matchPattern f_matchDepth f_levelCount f_groundLeft f_settledClasses f_reachedClasses cc cf oc sy lf rt ti psy pl pr ps ptop btp pi rl rr el er eru w ld mem usr syt sgt a_levelVar a_levelRest a_patValue a_standsFor ord bT a_gotTerm xe best a_treeCost g_labN b_in b_lab b_sub b_val b_stand b_needed b_pick b_got b_cost b_best tp h
  have ⟨b1, b2, b3, b4, b5, b6, b7, b8, b9⟩ := h.1
  have ⟨k1, k2, k3, k4, k5, k6, k7⟩ := h
  have g := k3.2.2.2.2.1
  have he := k3.2.2.2.2.2.1
  unfold wpX_extract
  rcases qz_ix v1 (n := n) (by omega) with z | ⟨t, ht, rfl⟩
  · refine qx_isT0 z (br_t rfl ?_)
    unfold wpY_extract
    exact qy_isT0 z (br_t rfl ⟨rfl, qz_in h⟩)
  · refine qx_isT1 ht (by omega) (br_f (by decide) (qx_sync k3 ?_))
    intro ld' mem' usr' syt' sgt' cc' cf' xi' il cfc
    refine qx_refresh xi'.2.2.2.2.2.2.1.1 k6 (qz_cf cfc k7) ?_
    intro cf2 S2 R2 oc2 ord2 best2 bT2 ok2
    have ct : (nI t).toNatClampNeg = t := nI_clamp (by omega)
    obtain ⟨l, hl, elt, rlt⟩ := il.1 t ht
    have ok3 := ok2
    obtain ⟨noc, o, B, T, rfl, e2, e3, e4, e5, e6, e7⟩ := ok3
    have bt0 := qk_ok_bt (noc := noc) (o := o) (ord := ord2) e5 e6
    have X : qe_cx n sy lf rt ld' w noc o B T := ⟨by omega, g, il.1, k6, bt0, e2, fun i hi => (e3 i hi).2, e4, e7⟩
    have gk : qi_gk lim (n, sy, lf, rt) := ⟨b2, g, qi_ti_un (by omega) k2⟩
    refine ⟨vp_in_nI (by omega) (by omega), nm_r (e' := nI l) (by rw [ct, elt]) (qx_need X (by omega) rlt (fun i hi => (e3 i hi).1) (fun x hx ex => (e6 x hx ex).2.2.1) ?_)⟩
    intro N hNd
    have Y : ∀ (postY : Int32 → SY → Prop),
        (∀ n2 sy2 lf2 rt2 g2 g_labN b_in b_lab b_best b_needed b_pick b_got, qe_fo lim sy lf rt ld' T o (bt N) (n, sy, lf, rt) a_gotTerm noc = (true, (n2, sy2, lf2, rt2), g2) → postY (g2 l) (nI lim, nI lmp, nI lmr, nI lme, nI n2, nI np, nI nr, nI m, nI nk, g_labN, sy2, lf2, rt2, psy, pl, pr, rl, rr, el, er, eru, xe, w, b_in, b_lab, b_sub, b_val, b_stand, b_cost, b_best, b_needed, b_pick, b_got)) →
        (∀ n2 sy2 lf2 rt2 g2 g_labN b_in b_lab b_best b_needed b_pick b_got, qe_fo lim sy lf rt ld' T o (bt N) (n, sy, lf, rt) a_gotTerm noc = (false, (n2, sy2, lf2, rt2), g2) → postY (-3) (nI lim, nI lmp, nI lmr, nI lme, nI n, nI np, nI nr, nI m, nI nk, g_labN, sy2, lf2, rt2, psy, pl, pr, rl, rr, el, er, eru, xe, w, b_in, b_lab, b_sub, b_val, b_stand, b_cost, b_best, b_needed, b_pick, b_got)) → wpY_extract postY (nI lim, nI lmp, nI lmr, nI lme, nI n, nI np, nI nr, nI m, nI nk, g_labN, sy, lf, rt, psy, pl, pr, rl, rr, el, er, eru, xe, w, b_in, b_lab, b_sub, b_val, b_stand, b_cost, b_best, b_needed, b_pick, b_got) (nI t) := by
      intro postY KT KF
      unfold wpY_extract
      refine qy_isT1 ht (by omega) (br_f (by decide) (qy_closeAll (by omega) (by omega) g he ?_))
      intro iv la _ il'
      have un := qc_un (by omega) il' il
      have bt' := qk_bt_ext (la := la) (by omega) g un (fun _ _ => ⟨rfl, rfl, rfl⟩) bt0
      have X' := qe_cx_ext un X
      have hNd' := qe_nd_ext un X hNd
      refine qy_costs (by omega) il'.1 g k6 bt' ?_
      intro bY hb
      have et : la t = nI l := by rw [un t ht]; exact elt
      refine nm_e ⟨n + 1, qy_e26 X' hNd' ht et hb ?_ n (n + 1) _ _ (Nat.le_refl _) (by omega) (fun x h1 h2 => by omega) (fun x hx ex hT => by have := (bt'.2 x hx ex).2.1; omega)⟩
      intro nd pk hpk hnd
      refine ⟨n + 1, qy_e216 (got0 := a_gotTerm) b1 X' hNd' gk ht et hb hpk ?_ ?_ (n + 1) 0 0 n sy lf rt b_got a_gotTerm nd (by omega) (by omega) (by omega) (by have := X.2.2.2.2.2.1; omega) rfl (fun j hj => absurd hj (Nat.not_lt_zero _)) (fun x hx => ?_)⟩
      · intro n2 sy2 lf2 rt2 got2 g2 nd2 fo
        rw [qe_fo_ext un X noc (Nat.le_refl _)] at fo
        exact KT n2 sy2 lf2 rt2 g2 _ _ _ _ _ _ _ fo
      · intro n2 sy2 lf2 rt2 got2 g2 nd2 fo
        rw [qe_fo_ext un X noc (Nat.le_refl _)] at fo
        exact KF n2 sy2 lf2 rt2 g2 _ _ _ _ _ _ _ fo
      · rcases hnd x hx with z | z
        · exact Or.inl ⟨z.1, fun w => by rw [z.2] at w; exact absurd w.1 (by decide)⟩
        · obtain ⟨j, hj, ej⟩ := e4 x hx (hNd.2.1 x z.2).2
          exact Or.inr ⟨z.1, z.2, j, Nat.zero_le _, hj, ej⟩
    refine ⟨noc + 1, qx_x41 (got0 := a_gotTerm) b1 X hNd gk (fun i hi => (e3 i hi).1) (fun x hx ex => (e6 x hx ex).2.2.1) ?_ ?_ (noc + 1) 0 n sy lf rt ti a_gotTerm (by omega) (by omega) rfl k2⟩
    · intro n1 sy1 lf1 rt1 ti1 got1 fo1 t1
      have bi := qe_fo_i (got := a_gotTerm) b1 X hNd gk noc (Nat.le_refl _)
      rw [fo1] at bi
      have a1 : n ≤ n1 := bi.2.1.1
      have a2 : n1 ≤ lim := bi.1.1
      refine Y _ ?_ ?_
      · intro n2 sy2 lf2 rt2 g2 g_labN b_in b_lab b_best b_needed b_pick b_got fo
        rw [fo1] at fo
        cases fo
        refine ⟨rfl, qz_in ⟨⟨b1, a2, b3, b4, b5, b6, b7, b8, b9⟩, t1, ?_, k4, k5, k6, Or.inr (qk_ok_ext (by omega) g bi.2.1.2 ok2)⟩⟩
        exact qx_xi_ext xi' a1 (by omega) (Nat.le_refl _) (by omega) bi.2.1.2 bi.1.2.1 (fun e hem => by
          obtain ⟨a, b, ha, hb, ea, eb⟩ := he e hem
          exact ⟨a, b, by omega, by omega, ea, eb⟩) (fun _ _ => ⟨rfl, rfl⟩)
      · intro n2 sy2 lf2 rt2 g2 g_labN b_in b_lab b_best b_needed b_pick b_got fo
        rw [fo1] at fo
        cases fo
    · intro n1 sy1 lf1 rt1 ti1 got1 fo1 t1
      have bi := qe_fo_i (got := a_gotTerm) b1 X hNd gk noc (Nat.le_refl _)
      rw [fo1] at bi
      have cut := qi_gk_cut gk bi.2.1
      refine Y _ ?_ ?_
      · intro n2 sy2 lf2 rt2 g2 g_labN b_in b_lab b_best b_needed b_pick b_got fo
        rw [fo1] at fo
        cases fo
      · intro n2 sy2 lf2 rt2 g2 g_labN b_in b_lab b_best b_needed b_pick b_got fo
        rw [fo1] at fo
        cases fo
        refine ⟨rfl, qz_in ⟨⟨b1, b2, b3, b4, b5, b6, b7, b8, b9⟩, t1, ?_, k4, k5, k6, Or.inr (qk_ok_ext (by omega) g bi.2.1.2 ok2)⟩⟩
        exact qx_xi_ext xi' (Nat.le_refl _) (by omega) (Nat.le_refl _) (by omega) bi.2.1.2 cut.1.2.1 he (fun _ _ => ⟨rfl, rfl⟩)
theorem i_vc_term {k : Nat} {u : SX} {v : SY} (I : i_Rel k u v) (hk : k + 5 ≤ 2564) (v1 : Int32) (v2 : Int32) (v3 : Int32) : wpX_term (fun r u' => wpY_term (fun r' v' => r' = r ∧ i_Rel (k + 5) u' v') v v1 v2 v3) u v1 v2 v3 := by
  refine qz_el (P := fun u v => wpX_term (fun r u' => wpY_term (fun r' v' => r' = r ∧ i_Rel (k + 5) u' v') v v1 v2 v3) u v1 v2 v3) ?_ I
  intro lim lmp lmr lme n np nr m nk c ce f_matchPattern f_matchDepth f_levelCount f_groundLeft f_settledClasses f_reachedClasses cc cf oc sy lf rt ti psy pl pr ps ptop btp pi rl rr el er eru w ld mem usr syt sgt a_levelVar a_levelRest a_patValue a_standsFor ord bT a_gotTerm xe best a_treeCost g_labN b_in b_lab b_sub b_val b_stand b_needed b_pick b_got b_cost b_best tp h
  have ⟨b1, b2, b3, b4, b5, b6, b7, b8, b9⟩ := h.1
  have ⟨k1, k2, k3, k4, k5, k6, k7⟩ := h
  have g := k3.2.2.2.2.1
  have he := k3.2.2.2.2.2.1
  unfold wpX_term
  refine br_c (fun h1 => ?_) (fun h1 => br_c (fun h2 => ?_) (fun h2 => ?_))
  · unfold wpY_term
    exact br_t h1 ⟨rfl, qz_in h⟩
  · obtain ⟨s, hs, rfl⟩ := nI_of2 (n := 15) (M := 15) (by decide) h1 h2
    have core : qa_sg n (nI s) (qi_a (nI s) v2) (qi_b (nI s) v3) → (∀ postY, wY_term_47 postY (nI s) v2 v3 (nI lim) (nI lmp) (nI lmr) (nI lme) (nI n) (nI np) (nI nr) (nI m) (nI nk) g_labN sy lf rt psy pl pr rl rr el er eru xe w b_in b_lab b_sub b_val b_stand b_cost b_best b_needed b_pick b_got → wpY_term postY (nI lim, nI lmp, nI lmr, nI lme, nI n, nI np, nI nr, nI m, nI nk, g_labN, sy, lf, rt, psy, pl, pr, rl, rr, el, er, eru, xe, w, b_in, b_lab, b_sub, b_val, b_stand, b_cost, b_best, b_needed, b_pick, b_got) (nI s) v2 v3) → wX_term_47 (fun r u' => wpY_term (fun r' v' => r' = r ∧ i_Rel (k + 5) u' v') (nI lim, nI lmp, nI lmr, nI lme, nI n, nI np, nI nr, nI m, nI nk, g_labN, sy, lf, rt, psy, pl, pr, rl, rr, el, er, eru, xe, w, b_in, b_lab, b_sub, b_val, b_stand, b_cost, b_best, b_needed, b_pick, b_got) (nI s) v2 v3) (nI s) v2 v3 (nI lim) (nI lmp) (nI lmr) (nI lme) (nI n) (nI np) (nI nr) (nI m) (nI c) (nI ce) cc 0 f_matchPattern f_matchDepth f_levelCount f_groundLeft cf f_settledClasses f_reachedClasses oc (nI nk) sy lf rt ti psy pl pr ps ptop btp pi rl rr el er eru w ld mem usr syt sgt a_levelVar a_levelRest a_patValue a_standsFor ord best bT a_gotTerm a_treeCost xe := by
      intro sg hY
      unfold wX_term_47
      refine qx_intern b1 b2 g sg k2 ?_
      intro r n' sy' lf' rt' ti' e t'
      refine hY _ ?_
      unfold wY_term_47
      refine qy_intern b1 b2 ?_
      intro r2 n2 sy2 lf2 rt2 e2
      have ee := e.trans e2.symm
      cases ee
      have kp := qi_keep b1 b2 g sg e
      have ag : ∀ t, t < c → sy' t = sy t ∧ lf' t = lf t ∧ rt' t = rt t := fun t ht => kp.2.2.2.1 t (by have := k3.1; omega)
      refine ⟨rfl, qz_in ⟨⟨b1, kp.2.1, b3, b4, b5, b6, b7, b8, b9⟩, t', ?_, k4, k5, k6, ?_⟩⟩
      · exact qx_xi_ext k3 (by have := k3.1; have := kp.1; omega) (by have := kp.2.1; omega) (Nat.le_refl _) (by omega) ag kp.2.2.1 (fun e hem => by
          obtain ⟨a, b, ha, hb, ea, eb⟩ := he e hem
          have := kp.1
          exact ⟨a, b, by omega, by omega, ea, eb⟩) (fun _ _ => ⟨rfl, rfl⟩)
      · rcases k7 with z | z
        · exact Or.inl z
        · exact Or.inr (qk_ok_ext (by have := k3.1; omega) (fun t ht => g t (by have := k3.1; omega)) ag z)
    have Y0 : ∀ {postY : Int32 → SY → Prop}, ((nI s < 8 → wY_term_30 postY (nI s) v2 v3 (nI lim) (nI lmp) (nI lmr) (nI lme) (nI n) (nI np) (nI nr) (nI m) (nI nk) g_labN sy lf rt psy pl pr rl rr el er eru xe w b_in b_lab b_sub b_val b_stand b_cost b_best b_needed b_pick b_got) ∧ (¬ nI s < 8 → wpY_isTerm (fun r => ((r = 0 → postY (-2) (nI lim, nI lmp, nI lmr, nI lme, nI n, nI np, nI nr, nI m, nI nk, g_labN, sy, lf, rt, psy, pl, pr, rl, rr, el, er, eru, xe, w, b_in, b_lab, b_sub, b_val, b_stand, b_cost, b_best, b_needed, b_pick, b_got)) ∧ (¬ r = 0 → wY_term_30 postY (nI s) v2 v3 (nI lim) (nI lmp) (nI lmr) (nI lme) (nI n) (nI np) (nI nr) (nI m) (nI nk) g_labN sy lf rt psy pl pr rl rr el er eru xe w b_in b_lab b_sub b_val b_stand b_cost b_best b_needed b_pick b_got))) (nI lim, nI lmp, nI lmr, nI lme, nI n, nI np, nI nr, nI m, nI nk, g_labN, sy, lf, rt, psy, pl, pr, rl, rr, el, er, eru, xe, w, b_in, b_lab, b_sub, b_val, b_stand, b_cost, b_best, b_needed, b_pick, b_got) v2)) → wpY_term postY (nI lim, nI lmp, nI lmr, nI lme, nI n, nI np, nI nr, nI m, nI nk, g_labN, sy, lf, rt, psy, pl, pr, rl, rr, el, er, eru, xe, w, b_in, b_lab, b_sub, b_val, b_stand, b_cost, b_best, b_needed, b_pick, b_got) (nI s) v2 v3 := by
      intro postY K
      unfold wpY_term
      exact br_f h1 (br_t h2 K)
    have s8 : (nI s < 8 ↔ s < 8) := nI_ltI (b := 8) (by omega) (by decide)
    have s12 : (nI s < 12 ↔ s < 12) := nI_ltI (b := 12) (by omega) (by decide)
    have qa8 : s < 8 → qi_a (nI s) v2 = -1 := fun z => if_neg (nI_ge (b := 8) z (by decide))
    have qa8' : ¬ s < 8 → qi_a (nI s) v2 = v2 := fun z => if_pos (nI_le (a := 8) (by omega) (by omega))
    have qb12 : s < 12 → qi_b (nI s) v3 = -1 := fun z => if_neg (nI_ge (b := 12) z (by decide))
    have qb12' : ¬ s < 12 → qi_b (nI s) v3 = v3 := fun z => if_pos (nI_le (a := 12) (by omega) (by omega))
    by_cases c8 : s < 8
    · refine br_t (s8.mpr c8) ?_
      unfold wX_term_30
      refine br_t (s12.mpr (by omega)) (core ⟨s, by omega, rfl, Or.inl ⟨c8, qa8 c8, qb12 (by omega)⟩⟩ fun postY K => Y0 (br_t (s8.mpr c8) ?_))
      unfold wY_term_30
      exact br_t (s12.mpr (by omega)) K
    · refine br_f (fun z => c8 (s8.mp z)) ?_
      rcases qz_ix v2 (n := n) (by omega) with z | ⟨a, ha, rfl⟩
      · refine qx_isT0 z (br_t rfl (Y0 (br_f (fun z => c8 (s8.mp z)) (qy_isT0 z (br_t rfl ⟨rfl, qz_in h⟩)))))
      · refine qx_isT1 ha (by omega) (br_f (by decide) ?_)
        unfold wX_term_30
        by_cases c12 : s < 12
        · refine br_t (s12.mpr c12) (core ⟨s, by omega, rfl, Or.inr (Or.inl ⟨by omega, c12, ⟨a, ha, qa8' c8⟩, qb12 c12⟩)⟩ fun postY K => Y0 (br_f (fun z => c8 (s8.mp z)) (qy_isT1 ha (by omega) (br_f (by decide) ?_))))
          unfold wY_term_30
          exact br_t (s12.mpr c12) K
        · refine br_f (fun z => c12 (s12.mp z)) ?_
          rcases qz_ix v3 (n := n) (by omega) with z | ⟨b, hb, rfl⟩
          · refine qx_isT0 z (br_t rfl (Y0 (br_f (fun z => c8 (s8.mp z)) (qy_isT1 ha (by omega) (br_f (by decide) ?_)))))
            unfold wY_term_30
            exact br_f (fun z => c12 (s12.mp z)) (qy_isT0 z (br_t rfl ⟨rfl, qz_in h⟩))
          · refine qx_isT1 hb (by omega) (br_f (by decide) (core ⟨s, by omega, rfl, Or.inr (Or.inr ⟨by omega, ⟨a, ha, qa8' c8⟩, ⟨b, hb, qb12' c12⟩⟩)⟩ fun postY K => Y0 (br_f (fun z => c8 (s8.mp z)) (qy_isT1 ha (by omega) (br_f (by decide) ?_)))))
            unfold wY_term_30
            exact br_f (fun z => c12 (s12.mp z)) (qy_isT1 hb (by omega) (br_f (by decide) K))
  · unfold wpY_term
    exact br_f h1 (br_f h2 ⟨rfl, qz_in h⟩)
end
section
def qz_ad (T : Nat → Int64) (s : Int64) (x : Int32) : Int64 := if x = -1 then s else s + T x.toNatClampNeg
def qz_tt (sy lf rt w : Nat → Int32) : Nat → Nat → Int64
  | 0 => fun _ => 0
  | i + 1 => vp_updL (qz_tt sy lf rt w i) i (qz_ad (qz_tt sy lf rt w i) (qz_ad (qz_tt sy lf rt w i) (w (sy i).toNatClampNeg).toInt64 (lf i)) (rt i))
theorem qz_ad_e {T T' : Nat → Int64} {s : Int64} {x : Int32} {i : Nat} (hi : i ≤ 32) (hx : x = -1 ∨ ∃ j, j < i ∧ x = nI j) (e : ∀ j, j < i → T j = T' j) : qz_ad T s x = qz_ad T' s x := by
  unfold qz_ad
  rcases hx with rfl | ⟨j, hj, rfl⟩
  · rfl
  · rw [nI_clamp (by omega), e j hj]
theorem qz_tt_st {sy lf rt w : Nat → Int32} {i j : Nat} (h : j < i) : qz_tt sy lf rt w (i + 1) j = qz_tt sy lf rt w i j := pk_uLn (by omega)
section
variable {f_termLimit f_patternLimit f_ruleLimit f_eventLimit f_termCount f_patternCount f_ruleCount f_eventCount f_closedTerms f_closedEvents f_classCount f_dirty f_matchPattern f_matchDepth f_levelCount f_groundLeft f_costsFresh f_settledClasses f_reachedClasses f_orderCount f_explainedCount : Int32} {a_termIndex a_patSymbol a_patLeft a_patRight a_patSubs a_patTop a_byTop a_patternIndex a_ruleLeft a_ruleRight a_eventLeft a_eventRight a_eventRule a_leader a_members a_users a_symbolTerms a_signTerm a_levelVar a_levelRest a_patValue a_standsFor a_order a_bestTerm a_gotTerm a_explainedEvent : Nat → Int32} {a_best : Nat → Int64}
variable {n t : Nat} {sy lf rt w : Nat → Int32}
theorem qx_tc56 {post : Int64 → SX → Prop} {J : Int32 → (Nat → Int32) → (Nat → Int32) → (Nat → Int32) → (Nat → Int32) → (Nat → Int32) → (Nat → Int32) → (Nat → Int32) → (Nat → Int32) → (Nat → Int32) → (Nat → Int32) → (Nat → Int32) → (Nat → Int32) → (Nat → Int32) → (Nat → Int32) → (Nat → Int32) → (Nat → Int32) → (Nat → Int32) → (Nat → Int32) → (Nat → Int32) → (Nat → Int32) → (Nat → Int32) → (Nat → Int32) → (Nat → Int32) → (Nat → Int32) → (Nat → Int32) → (Nat → Int32) → (Nat → Int32) → (Nat → Int64) → (Nat → Int32) → (Nat → Int32) → (Nat → Int64) → (Nat → Int32) → Prop} {x1 : Int32} {x3 : Int64} {i : Nat} {tc : Nat → Int64} (hi : i < 32) (hr : rt i = -1 ∨ ∃ j, j < i ∧ rt i = nI j) (K : J (nI (i + 1)) sy lf rt a_termIndex a_patSymbol a_patLeft a_patRight a_patSubs a_patTop a_byTop a_patternIndex a_ruleLeft a_ruleRight a_eventLeft a_eventRight a_eventRule w a_leader a_members a_users a_symbolTerms a_signTerm a_levelVar a_levelRest a_patValue a_standsFor a_order a_best a_bestTerm a_gotTerm (vp_updL tc i (qz_ad tc x3 (rt i))) a_explainedEvent) : wX_termCost_56 post J x1 (nI i) x3 f_termLimit f_patternLimit f_ruleLimit f_eventLimit f_termCount f_patternCount f_ruleCount f_eventCount f_closedTerms f_closedEvents f_classCount f_dirty f_matchPattern f_matchDepth f_levelCount f_groundLeft f_costsFresh f_settledClasses f_reachedClasses f_orderCount f_explainedCount sy lf rt a_termIndex a_patSymbol a_patLeft a_patRight a_patSubs a_patTop a_byTop a_patternIndex a_ruleLeft a_ruleRight a_eventLeft a_eventRight a_eventRule w a_leader a_members a_users a_symbolTerms a_signTerm a_levelVar a_levelRest a_patValue a_standsFor a_order a_best a_bestTerm a_gotTerm tc a_explainedEvent := by
  have ii : vp_in (nI i) 32 := vp_in_nI hi (by omega)
  have ci : (nI i).toNatClampNeg = i := nI_clamp (by omega)
  unfold wX_termCost_56
  refine ⟨ii, ?_⟩
  rw [ci]
  unfold qz_ad at K
  rcases hr with e | ⟨j, hj, e⟩
  · rw [e, if_pos rfl] at K
    rw [e]
    exact br_t rfl ⟨ii, nm_e (nm_r (nI_1 i) K)⟩
  · rw [e, if_neg (qa_ne1 (by omega))] at K
    rw [e]
    exact br_f (qa_ne1 (by omega)) ⟨ii, vp_in_nI (by omega) (by omega), nm_e ⟨ii, nm_e (nm_r (nI_1 i) K)⟩⟩
theorem qx_tc14 {post : Int64 → SX → Prop} (hn : n ≤ 32) (ht : t < n) (g : ∀ t, t < n → qa_tok sy lf rt t) (K : ∀ tc, post (qz_tt sy lf rt w (t + 1) t) (f_termLimit, f_patternLimit, f_ruleLimit, f_eventLimit, f_termCount, f_patternCount, f_ruleCount, f_eventCount, f_closedTerms, f_closedEvents, f_classCount, f_dirty, f_matchPattern, f_matchDepth, f_levelCount, f_groundLeft, f_costsFresh, f_settledClasses, f_reachedClasses, f_orderCount, f_explainedCount, sy, lf, rt, a_termIndex, a_patSymbol, a_patLeft, a_patRight, a_patSubs, a_patTop, a_byTop, a_patternIndex, a_ruleLeft, a_ruleRight, a_eventLeft, a_eventRight, a_eventRule, w, a_leader, a_members, a_users, a_symbolTerms, a_signTerm, a_levelVar, a_levelRest, a_patValue, a_standsFor, a_order, a_best, a_bestTerm, a_gotTerm, tc, a_explainedEvent)) :
    ∀ k i tc, i ≤ t + 1 → t + 1 - i < k → (∀ j, j < i → tc j = qz_tt sy lf rt w i j) → wX_termCost_14 post (nI t) f_termLimit f_patternLimit f_ruleLimit f_eventLimit f_termCount f_patternCount f_ruleCount f_eventCount f_closedTerms f_closedEvents f_classCount f_dirty f_matchPattern f_matchDepth f_levelCount f_groundLeft f_costsFresh f_settledClasses f_reachedClasses f_orderCount f_explainedCount k (nI i) sy lf rt a_termIndex a_patSymbol a_patLeft a_patRight a_patSubs a_patTop a_byTop a_patternIndex a_ruleLeft a_ruleRight a_eventLeft a_eventRight a_eventRule w a_leader a_members a_users a_symbolTerms a_signTerm a_levelVar a_levelRest a_patValue a_standsFor a_order a_best a_bestTerm a_gotTerm tc a_explainedEvent := by
  intro k
  induction k with
  | zero => intro i tc _ h; omega
  | succ k ih =>
    intro i tc hi hk h
    rw [wX_termCost_14]
    refine pk_lt t i (fun lt => ⟨vp_in_nI (by omega) (by omega), ?_⟩) (fun le => ?_)
    · have : i = t + 1 := by omega
      subst this
      rw [show (nI t).toNatClampNeg = t from nI_clamp (by omega), h t (by omega)]
      exact K tc
    · have gi := g i (by omega)
      obtain ⟨s, hs, es⟩ := qa_sg_s gi
      have ii : vp_in (nI i) 32 := vp_in_nI (by omega) (by omega)
      refine ⟨ii, ?_⟩
      rw [show (nI i).toNatClampNeg = i from nI_clamp (by omega)]
      have nx : wX_termCost_14 post (nI t) f_termLimit f_patternLimit f_ruleLimit f_eventLimit f_termCount f_patternCount f_ruleCount f_eventCount f_closedTerms f_closedEvents f_classCount f_dirty f_matchPattern f_matchDepth f_levelCount f_groundLeft f_costsFresh f_settledClasses f_reachedClasses f_orderCount f_explainedCount k (nI (i + 1)) sy lf rt a_termIndex a_patSymbol a_patLeft a_patRight a_patSubs a_patTop a_byTop a_patternIndex a_ruleLeft a_ruleRight a_eventLeft a_eventRight a_eventRule w a_leader a_members a_users a_symbolTerms a_signTerm a_levelVar a_levelRest a_patValue a_standsFor a_order a_best a_bestTerm a_gotTerm (vp_updL tc i (qz_ad tc (qz_ad tc (w (sy i).toNatClampNeg).toInt64 (lf i)) (rt i))) a_explainedEvent := by
        refine ih (i + 1) _ (by omega) (by omega) fun j hj => ?_
        by_cases z : j = i
        · subst z
          rw [pk_uLs, qz_tt, pk_uLs, qz_ad_e (by omega) (qa_sg_a gi) h, qz_ad_e (by omega) (qa_sg_b gi) h]
        · rw [pk_uLn z, qz_tt_st (by omega)]; exact h j (by omega)
      refine ⟨by rw [es]; exact vp_in_nI hs (by omega), nm_e ⟨ii, ?_⟩⟩
      have lch := qa_sg_a gi
      unfold qz_ad at nx
      rcases lch with e | ⟨j, hj, e⟩
      · rw [e, if_pos rfl] at nx
        rw [e]
        exact br_t rfl (qx_tc56 (by omega) (qa_sg_b gi) nx)
      · rw [e, if_neg (qa_ne1 (by omega))] at nx
        rw [e]
        exact br_f (qa_ne1 (by omega)) ⟨ii, vp_in_nI (by omega) (by omega), nm_e (qx_tc56 (by omega) (qa_sg_b gi) nx)⟩
end
section
variable {g_maxTerms g_maxPats g_maxRules g_maxEvents g_nTerms g_nPats g_nRules g_nEvents g_nKept g_labN : Int32} {b_psym b_pl b_pr b_rl b_rr b_el b_er b_eRule b_kept b_in b_lab b_sub b_val b_stand b_needed b_pick b_got : Nat → Int32} {b_best : Nat → Int64}
variable {n t : Nat} {sy lf rt w : Nat → Int32}
theorem qy_tc66 {post : Int64 → SY → Prop} {J : Int32 → (Nat → Int32) → (Nat → Int32) → (Nat → Int32) → (Nat → Int32) → (Nat → Int32) → (Nat → Int32) → (Nat → Int32) → (Nat → Int32) → (Nat → Int32) → (Nat → Int32) → (Nat → Int32) → (Nat → Int32) → (Nat → Int32) → (Nat → Int32) → (Nat → Int32) → (Nat → Int32) → (Nat → Int32) → (Nat → Int32) → (Nat → Int64) → (Nat → Int64) → (Nat → Int32) → (Nat → Int32) → (Nat → Int32) → Prop} {x1 : Int32} {i : Nat} {tc : Nat → Int64} (hi : i < 32) (hr : rt i = -1 ∨ ∃ j, j < i ∧ rt i = nI j) (K : J (nI (i + 1)) sy lf rt b_psym b_pl b_pr b_rl b_rr b_el b_er b_eRule b_kept w b_in b_lab b_sub b_val b_stand (vp_updL tc i (qz_ad tc (tc i) (rt i))) b_best b_needed b_pick b_got) : wY_termCost_66 post J x1 (nI i) g_maxTerms g_maxPats g_maxRules g_maxEvents g_nTerms g_nPats g_nRules g_nEvents g_nKept g_labN sy lf rt b_psym b_pl b_pr b_rl b_rr b_el b_er b_eRule b_kept w b_in b_lab b_sub b_val b_stand tc b_best b_needed b_pick b_got := by
  have ii : vp_in (nI i) 32 := vp_in_nI hi (by omega)
  have ci : (nI i).toNatClampNeg = i := nI_clamp (by omega)
  unfold wY_termCost_66
  refine ⟨ii, ?_⟩
  rw [ci]
  unfold qz_ad at K
  rcases hr with e | ⟨j, hj, e⟩
  · rw [e, if_pos rfl] at K
    have same : vp_updL tc i (tc i) = tc := by
      funext x
      by_cases z : x = i
      · subst z; exact pk_uLs
      · exact pk_uLn z
    rw [same] at K
    rw [e]
    exact br_t qa_1lt (nm_r (nI_1 i) K)
  · rw [e, if_neg (qa_ne1 (by omega))] at K
    rw [e]
    exact br_f (nI_pos (by omega)) ⟨ii, ii, vp_in_nI (by omega) (by omega), ii, nm_e (nm_r (nI_1 i) K)⟩
theorem qy_tc14 {post : Int64 → SY → Prop} (hn : n ≤ 32) (ht : t < n) (g : ∀ t, t < n → qa_tok sy lf rt t) (K : ∀ tc, post (qz_tt sy lf rt w (t + 1) t) (g_maxTerms, g_maxPats, g_maxRules, g_maxEvents, g_nTerms, g_nPats, g_nRules, g_nEvents, g_nKept, g_labN, sy, lf, rt, b_psym, b_pl, b_pr, b_rl, b_rr, b_el, b_er, b_eRule, b_kept, w, b_in, b_lab, b_sub, b_val, b_stand, tc, b_best, b_needed, b_pick, b_got)) :
    ∀ k i tc, i ≤ t + 1 → t + 1 - i < k → (∀ j, j < i → tc j = qz_tt sy lf rt w i j) → wY_termCost_14 post (nI t) g_maxTerms g_maxPats g_maxRules g_maxEvents g_nTerms g_nPats g_nRules g_nEvents g_nKept g_labN k (nI i) sy lf rt b_psym b_pl b_pr b_rl b_rr b_el b_er b_eRule b_kept w b_in b_lab b_sub b_val b_stand tc b_best b_needed b_pick b_got := by
  intro k
  induction k with
  | zero => intro i tc _ h; omega
  | succ k ih =>
    intro i tc hi hk h
    rw [wY_termCost_14]
    refine pk_lt t i (fun lt => ⟨vp_in_nI (by omega) (by omega), ?_⟩) (fun le => ?_)
    · have : i = t + 1 := by omega
      subst this
      rw [show (nI t).toNatClampNeg = t from nI_clamp (by omega), h t (by omega)]
      exact K tc
    · have gi := g i (by omega)
      obtain ⟨s, hs, es⟩ := qa_sg_s gi
      have ii : vp_in (nI i) 32 := vp_in_nI (by omega) (by omega)
      refine ⟨ii, ?_⟩
      rw [show (nI i).toNatClampNeg = i from nI_clamp (by omega)]
      have nx : ∀ tc1 : Nat → Int64, (∀ j, j < i → tc1 j = qz_tt sy lf rt w i j) → tc1 i = qz_ad (qz_tt sy lf rt w i) (w (sy i).toNatClampNeg).toInt64 (lf i) → wY_termCost_14 post (nI t) g_maxTerms g_maxPats g_maxRules g_maxEvents g_nTerms g_nPats g_nRules g_nEvents g_nKept g_labN k (nI (i + 1)) sy lf rt b_psym b_pl b_pr b_rl b_rr b_el b_er b_eRule b_kept w b_in b_lab b_sub b_val b_stand (vp_updL tc1 i (qz_ad tc1 (tc1 i) (rt i))) b_best b_needed b_pick b_got := by
        intro tc1 h1 h2
        refine ih (i + 1) _ (by omega) (by omega) fun j hj => ?_
        by_cases z : j = i
        · subst z
          rw [pk_uLs, qz_tt, pk_uLs, qz_ad_e (by omega) (qa_sg_b gi) h1, h2]
        · rw [pk_uLn z, qz_tt_st (by omega)]; exact h1 j (by omega)
      refine ⟨by rw [es]; exact vp_in_nI hs (by omega), ii, nm_e ⟨ii, ?_⟩⟩
      have b0 : ∀ j, j < i → vp_updL tc i (w (sy i).toNatClampNeg).toInt64 j = qz_tt sy lf rt w i j := fun j hj => by rw [pk_uLn (by omega)]; exact h j hj
      rcases qa_sg_a gi with e | ⟨j, hj, e⟩
      · rw [e]
        refine br_t qa_1lt (qy_tc66 (by omega) (qa_sg_b gi) (nx _ b0 ?_))
        rw [pk_uLs, e]
        exact (if_pos rfl).symm
      · rw [e]
        refine br_f (nI_pos (by omega)) ⟨ii, ii, vp_in_nI (by omega) (by omega), ii, nm_e (qy_tc66 (by omega) (qa_sg_b gi) (nx _ (fun x hx => ?_) ?_))⟩
        · rw [pk_uLn (by omega)]; exact b0 x hx
        · rw [pk_uLs, pk_uLs, e, show (nI j).toNatClampNeg = j from nI_clamp (by omega), b0 j hj]
          unfold qz_ad
          rw [if_neg (qa_ne1 (by omega)), nI_clamp (by omega)]
end
theorem i_vc_termCost {k : Nat} {u : SX} {v : SY} (I : i_Rel k u v) (hk : k + 5 ≤ 2564) (v1 : Int32) : wpX_termCost (fun r u' => wpY_termCost (fun r' v' => r' = r ∧ i_Rel (k + 5) u' v') v v1) u v1 := by
  refine qz_el (P := fun u v => wpX_termCost (fun r u' => wpY_termCost (fun r' v' => r' = r ∧ i_Rel (k + 5) u' v') v v1) u v1) ?_ I
  intro lim lmp lmr lme n np nr m nk c ce f_matchPattern f_matchDepth f_levelCount f_groundLeft f_settledClasses f_reachedClasses cc cf oc sy lf rt ti psy pl pr ps ptop btp pi rl rr el er eru w ld mem usr syt sgt a_levelVar a_levelRest a_patValue a_standsFor ord bT a_gotTerm xe best a_treeCost g_labN b_in b_lab b_sub b_val b_stand b_needed b_pick b_got b_cost b_best tp h
  have ⟨b1, b2, b3, b4, b5, b6, b7, b8, b9⟩ := h.1
  have g := h.2.2.1.2.2.2.2.1
  unfold wpX_termCost
  rcases qz_ix v1 (n := n) (by omega) with z | ⟨t, ht, rfl⟩
  · refine qx_isT0 z (br_t rfl ?_)
    unfold wpY_termCost
    exact qy_isT0 z (br_t rfl ⟨rfl, qz_in h⟩)
  · refine qx_isT1 ht (by omega) (br_f (by decide) ⟨t + 2, qx_tc14 (by omega) ht g ?_ (t + 2) 0 a_treeCost (by omega) (by omega) (fun j hj => absurd hj (Nat.not_lt_zero _))⟩)
    intro tc
    unfold wpY_termCost
    exact qy_isT1 ht (by omega) (br_f (by decide) ⟨t + 2, qy_tc14 (by omega) ht g (fun tc' => ⟨rfl, qz_in h⟩) (t + 2) 0 b_cost (by omega) (by omega) (fun j hj => absurd hj (Nat.not_lt_zero _))⟩)
theorem qz_sub3 {ps : Nat → Int32} {l r : Nat} : ((ps r &&& 7) &&& (ps l ^^^ (-1))) = 0 ↔ ∀ v, v < 3 → bt (ps r) v = true → bt (ps l) v = true := by
  have bb : ∀ i, i < 32 → bt ((ps r &&& 7) &&& (ps l ^^^ (-1))) i = ((bt (ps r) i && decide (i < 3)) && !bt (ps l) i) := by
    intro i hi
    rw [b_and, b_and, qb_not _ hi, qb_b7 i hi]
  constructor
  · intro e v hv b
    have q := bb v (by omega)
    rw [e, b_0, b, decide_eq_true hv] at q
    cases w : bt (ps l) v
    · rw [w] at q; exact absurd q (by decide)
    · rfl
  · intro h
    refine b_ext fun i hi => ?_
    rw [bb i hi, b_0]
    by_cases z : i < 3
    · cases q : bt (ps r) i
      · rfl
      · rw [h i z q, decide_eq_true z]; rfl
    · rw [decide_eq_false z, Bool.and_false]; rfl
theorem i_vc_rule {k : Nat} {u : SX} {v : SY} (I : i_Rel k u v) (hk : k + 5 ≤ 2564) (v1 : Int32) (v2 : Int32) : wpX_rule (fun r u' => wpY_rule (fun r' v' => r' = r ∧ i_Rel (k + 5) u' v') v v1 v2) u v1 v2 := by
  refine qz_el (P := fun u v => wpX_rule (fun r u' => wpY_rule (fun r' v' => r' = r ∧ i_Rel (k + 5) u' v') v v1 v2) u v1 v2) ?_ I
  intro lim lmp lmr lme n np nr m nk c ce f_matchPattern f_matchDepth f_levelCount f_groundLeft f_settledClasses f_reachedClasses cc cf oc sy lf rt ti psy pl pr ps ptop btp pi rl rr el er eru w ld mem usr syt sgt a_levelVar a_levelRest a_patValue a_standsFor ord bT a_gotTerm xe best a_treeCost g_labN b_in b_lab b_sub b_val b_stand b_needed b_pick b_got b_cost b_best tp h
  have ⟨b1, b2, b3, b4, b5, b6, b7, b8, b9⟩ := h.1
  have ⟨k1, k2, k3, k4, k5, k6, k7⟩ := h
  have hp := k4.1
  unfold wpX_rule
  rcases qz_ix v1 (n := np) (by omega) with z | ⟨l, hl, rfl⟩
  · refine qx_isP0 z (br_t rfl ?_)
    unfold wpY_rule
    exact qy_isP0 z (br_t rfl ⟨rfl, qz_in h⟩)
  · refine qx_isP1 hl (by omega) (br_f (by decide) ?_)
    rcases qz_ix v2 (n := np) (by omega) with z | ⟨r, hr, rfl⟩
    · refine qx_isP0 z (br_t rfl ?_)
      unfold wpY_rule
      exact qy_isP1 hl (by omega) (br_f (by decide) (qy_isP0 z (br_t rfl ⟨rfl, qz_in h⟩)))
    · refine qx_isP1 hr (by omega) (br_f (by decide) ?_)
      refine pk_le 3 l (fun le => ⟨vp_in_nI (by omega) (by omega), vp_in_nI (by omega) (by omega), ?_⟩) (fun lt => ?_)
      · rw [show (nI l).toNatClampNeg = l from nI_clamp (by omega), show (nI r).toNatClampNeg = r from nI_clamp (by omega)]
        have Y : ∀ (postY : Int32 → SY → Prop), (∀ b_sub, (∀ v, v < 3 → bt (ps r) v = true → bt (ps l) v = true) → wY_rule_101 postY (nI l) (nI r) (nI lim) (nI lmp) (nI lmr) (nI lme) (nI n) (nI np) (nI nr) (nI m) (nI nk) g_labN sy lf rt psy pl pr rl rr el er eru xe w b_in b_lab b_sub b_val b_stand b_cost b_best b_needed b_pick b_got) → (∀ b_sub, ¬ (∀ v, v < 3 → bt (ps r) v = true → bt (ps l) v = true) → postY (-2) (nI lim, nI lmp, nI lmr, nI lme, nI n, nI np, nI nr, nI m, nI nk, g_labN, sy, lf, rt, psy, pl, pr, rl, rr, el, er, eru, xe, w, b_in, b_lab, b_sub, b_val, b_stand, b_cost, b_best, b_needed, b_pick, b_got)) → wpY_rule postY (nI lim, nI lmp, nI lmr, nI lme, nI n, nI np, nI nr, nI m, nI nk, g_labN, sy, lf, rt, psy, pl, pr, rl, rr, el, er, eru, xe, w, b_in, b_lab, b_sub, b_val, b_stand, b_cost, b_best, b_needed, b_pick, b_got) (nI l) (nI r) := by
          intro postY KT KF
          unfold wpY_rule
          refine qy_isP1 hl (by omega) (br_f (by decide) (qy_isP1 hr (by omega) (br_f (by decide) (br_t (nI_le (a := 3) le (by omega)) (qy_mark hp hr ?_)))))
          intro sb hsb
          refine nm_r (hsb 0 (by omega)) (nm_r (hsb 1 (by omega)) (nm_r (hsb 2 (by omega)) (qy_mark hp hl ?_)))
          intro sb2 hsb2
          have s0 := hsb2 0 (by omega)
          have s1 := hsb2 1 (by omega)
          have s2 := hsb2 2 (by omega)
          have t01 : ∀ {u : Bool}, (if u = true then (1 : Int32) else 0) = 0 ↔ u = false := by
            intro u; cases u <;> simp
          have bad : ∀ v, v < 3 → bt (ps r) v = true → bt (ps l) v = false → postY (-2) (nI lim, nI lmp, nI lmr, nI lme, nI n, nI np, nI nr, nI m, nI nk, g_labN, sy, lf, rt, psy, pl, pr, rl, rr, el, er, eru, xe, w, b_in, b_lab, sb2, b_val, b_stand, b_cost, b_best, b_needed, b_pick, b_got) := fun v hv b1 b2 => KF sb2 (fun z => by rw [z v hv b1] at b2; exact absurd b2 (by decide))
          have nf : ∀ {u : Bool}, ¬ u = false → u = true := fun {u} z => by cases u; exact (z rfl).elim; rfl
          have st2 : (bt (ps r) 0 = true → bt (ps l) 0 = true) → (bt (ps r) 1 = true → bt (ps l) 1 = true) → wY_rule_84 postY (nI l) (nI r) (if bt (ps r) 2 = true then 1 else 0) (nI lim) (nI lmp) (nI lmr) (nI lme) (nI n) (nI np) (nI nr) (nI m) (nI nk) g_labN sy lf rt psy pl pr rl rr el er eru xe w b_in b_lab sb2 b_val b_stand b_cost b_best b_needed b_pick b_got := by
            intro g0 g1
            have ok : (bt (ps r) 2 = true → bt (ps l) 2 = true) → wY_rule_101 postY (nI l) (nI r) (nI lim) (nI lmp) (nI lmr) (nI lme) (nI n) (nI np) (nI nr) (nI m) (nI nk) g_labN sy lf rt psy pl pr rl rr el er eru xe w b_in b_lab sb2 b_val b_stand b_cost b_best b_needed b_pick b_got := by
              intro g2
              refine KT sb2 fun v hv => ?_
              match v, hv with
              | 0, _ => exact g0
              | 1, _ => exact g1
              | 2, _ => exact g2
            unfold wY_rule_84
            refine ek_if t01 (fun e => ok (fun z => by rw [e] at z; exact absurd z (by decide))) (fun e => ?_)
            rw [s2]
            exact ek_if t01 (fun e2 => bad 2 (by omega) (nf e) e2) (fun e2 => ok (fun _ => nf e2))
          have st1 : (bt (ps r) 0 = true → bt (ps l) 0 = true) → wY_rule_70 postY (nI l) (nI r) (if bt (ps r) 1 = true then 1 else 0) (if bt (ps r) 2 = true then 1 else 0) (nI lim) (nI lmp) (nI lmr) (nI lme) (nI n) (nI np) (nI nr) (nI m) (nI nk) g_labN sy lf rt psy pl pr rl rr el er eru xe w b_in b_lab sb2 b_val b_stand b_cost b_best b_needed b_pick b_got := by
            intro g0
            unfold wY_rule_70
            refine ek_if t01 (fun e => st2 g0 (fun z => by rw [e] at z; exact absurd z (by decide))) (fun e => ?_)
            rw [s1]
            exact ek_if t01 (fun e2 => bad 1 (by omega) (nf e) e2) (fun e2 => st2 g0 (fun _ => nf e2))
          refine ek_if t01 (fun e => st1 (fun z => by rw [e] at z; exact absurd z (by decide))) (fun e => ?_)
          rw [s0]
          exact ek_if t01 (fun e2 => bad 0 (by omega) (nf e) e2) (fun e2 => st1 (fun _ => nf e2))
        refine ek_if qz_sub3 (fun ok => ?_) (fun bad => Y _ (fun _ z => (bad z).elim) (fun b_sub _ => ⟨rfl, qz_in h⟩))
        refine pk_lt nr lmr (fun lt => ?_) (fun ge => Y _ (fun b_sub _ => ?_) (fun _ z => (z ok).elim))
        · have ir : vp_in (nI nr) 6 := vp_in_nI (by omega) (by omega)
          have cr : (nI nr).toNatClampNeg = nr := nI_clamp (by omega)
          refine ⟨ir, nm_r (e' := upd rl nr (nI l)) (by rw [cr]) ⟨ir, nm_r (e' := upd rr nr (nI r)) (by rw [cr]) (nm_r (nI_1 nr) (Y _ (fun b_sub _ => ?_) (fun _ z => (z ok).elim)))⟩⟩
          unfold wY_rule_101
          refine br_t (nI_lt lt (by omega)) ⟨ir, nm_r (e' := upd rl nr (nI l)) (by rw [cr]) ⟨ir, nm_r (e' := upd rr nr (nI r)) (by rw [cr]) (nm_r (nI_1 nr) ?_)⟩⟩
          rw [nI_pred]
          refine ⟨rfl, qz_in ⟨⟨b1, b2, b3, b4, b5, by omega, b7, b8, b9⟩, k2, k3, k4, ⟨by omega, fun ru hru => ?_⟩, k6, k7⟩⟩
          by_cases z : ru = nr
          · subst z; rw [pk_us, pk_us]; exact ⟨l, r, rfl, rfl, le, hl, hr, ok⟩
          · rw [pk_un z, pk_un z]; exact k5.2 ru (by omega)
        · unfold wY_rule_101
          exact br_f (nI_nlt ge (by omega)) ⟨rfl, qz_in h⟩
      · unfold wpY_rule
        exact qy_isP1 hl (by omega) (br_f (by decide) (qy_isP1 hr (by omega) (br_f (by decide) (br_f (nI_ge (b := 3) lt (by omega)) ⟨rfl, qz_in h⟩))))
end
section
theorem qz_np {np kk top : Nat} {psy pl pr ps ptop btp pi : Nat → Int32} {tp : Nat → Nat} {s a b subs : Int32} (hp : qp_ok np psy pl pr ps) (htop : ∀ q, q < np → ptop q = nI (tp q)) (htp : qp_tops np pl pr tp) (hby : ∀ k q, k < 4 → q < 32 → (bt (btp k) q = true ↔ 3 ≤ q ∧ q < np ∧ tp q = k)) (hti : qp_ti np psy pl pr pi)
    (hnp : np < 32) (sg : qa_sg np s a b) (hk : kk < 4232) (ek : qa_ky s a b = nI kk) (f : ∀ p, 3 ≤ p → p < np → ¬ qi_m psy pl pr s a b p) (hsub : ∀ q, q < 32 → bt subs q = (decide (q = np) || qp_sb ps a q || qp_sb ps b q)) (ht : top = max (qp_tx tp a) (qp_tx tp b)) (h4 : top < 4) :
    qp_ok (np + 1) (upd psy np s) (upd pl np a) (upd pr np b) (upd ps np subs) ∧ (∀ q, q < np + 1 → upd ptop np (nI top) q = nI (if q = np then top else tp q)) ∧ qp_tops (np + 1) (upd pl np a) (upd pr np b) (fun q => if q = np then top else tp q) ∧
    (∀ k q, k < 4 → q < 32 → (bt (upd btp top (btp top ||| ((1 : Int32) <<< (nI np &&& 31))) k) q = true ↔ 3 ≤ q ∧ q < np + 1 ∧ (if q = np then top else tp q) = k)) ∧ qp_ti (np + 1) (upd psy np s) (upd pl np a) (upd pr np b) (upd pi kk (nI (np + 1))) := by
  have h3 := hp.1
  have old : ∀ p, p < np → upd psy np s p = psy p ∧ upd pl np a p = pl p ∧ upd pr np b p = pr p := fun p hp => ⟨pk_un (by omega), pk_un (by omega), pk_un (by omega)⟩
  have sbe : ∀ {x : Int32} {q : Nat}, (x = -1 ∨ ∃ j, j < np ∧ x = nI j) → qp_sb (upd ps np subs) x q = qp_sb ps x q := by
    rintro x q (rfl | ⟨j, hj, rfl⟩)
    · rw [qp_sb1, qp_sb1]
    · rw [qp_sbN _ (by omega), qp_sbN _ (by omega), pk_un (by omega)]
  have txe : ∀ {x : Int32}, (x = -1 ∨ ∃ j, j < np ∧ x = nI j) → qp_tx (fun q => if q = np then top else tp q) x = qp_tx tp x := by
    rintro x (rfl | ⟨j, hj, rfl⟩)
    · rw [qp_tx1, qp_tx1]
    · rw [qp_txN _ (by omega), qp_txN _ (by omega)]; exact if_neg (by omega)
  have up : ∀ {m : Nat} {x : Int32}, m ≤ np → (x = -1 ∨ ∃ j, j < m ∧ x = nI j) → (x = -1 ∨ ∃ j, j < np ∧ x = nI j) := fun hm hx => hx.elim Or.inl (fun ⟨j, hj, e⟩ => Or.inr ⟨j, by omega, e⟩)
  refine ⟨⟨by omega, by omega, fun p h => ?_, fun p h1 h2 => ?_, fun p q h1 h2 => ?_⟩, fun q hq => ?_, ⟨fun p h => ?_, fun p h1 h2 => ?_⟩, fun k q hk' hq => ?_, ⟨fun p h1 h2 => ?_, fun j hj => ?_⟩⟩
  · have o := old p (by omega)
    rw [o.1, o.2.1, o.2.2]; exact hp.2.2.1 p h
  · unfold qa_tok
    by_cases z : p = np
    · subst z; rw [pk_us, pk_us, pk_us]; exact sg
    · have o := old p (by omega)
      rw [o.1, o.2.1, o.2.2]; exact hp.2.2.2.1 p h1 (by omega)
  · by_cases z : p = np
    · subst z
      rw [pk_us, pk_us, pk_us, sbe (qa_sg_a sg), sbe (qa_sg_b sg)]
      exact hsub q h2
    · have o := old p (by omega)
      have ch := qp_ch hp (show p < np by omega)
      rw [o.2.1, o.2.2, pk_un z, sbe (up (by omega) ch.1), sbe (up (by omega) ch.2)]
      exact hp.2.2.2.2 p q (by omega) h2
  · by_cases z : q = np
    · subst z; rw [pk_us, if_pos rfl]
    · rw [pk_un z, if_neg z]; exact htop q (by omega)
  · dsimp only
    rw [if_neg (by omega)]; exact htp.1 p h
  · by_cases z : p = np
    · subst z
      rw [pk_us, pk_us, txe (qa_sg_a sg), txe (qa_sg_b sg)]; exact (if_pos rfl).trans ht
    · have o := old p (by omega)
      have ch := qp_ch hp (show p < np by omega)
      rw [o.2.1, o.2.2, txe (up (by omega) ch.1), txe (up (by omega) ch.2)]
      exact (if_neg z).trans (htp.2 p h1 (by omega))
  · by_cases z : k = top
    · subst z
      rw [pk_us, b_or, Bool.or_eq_true, qb_s hnp hq, decide_eq_true_eq, hby k q hk' hq]
      by_cases w : q = np
      · subst w
        rw [if_pos rfl]
        exact ⟨fun _ => ⟨by omega, by omega, rfl⟩, fun _ => Or.inr rfl⟩
      · rw [if_neg w]
        exact ⟨fun y => y.elim (fun y => ⟨y.1, by omega, y.2.2⟩) (fun y => (w y).elim), fun y => Or.inl ⟨y.1, by omega, y.2.2⟩⟩
    · rw [pk_un z, hby k q hk' hq]
      by_cases w : q = np
      · subst w
        rw [if_pos rfl]
        exact ⟨fun y => by omega, fun y => (z y.2.2.symm).elim⟩
      · rw [if_neg w]
        exact ⟨fun y => ⟨y.1, by omega, y.2.2⟩, fun y => ⟨y.1, by omega, y.2.2⟩⟩
  · have ne : ∀ t, 3 ≤ t → t < np → ¬ qa_ky (psy t) (pl t) (pr t) = nI kk := by
      intro t h1 h2 e
      exact f t h1 h2 (qa_ky_inj (qa_sg_mono (m' := 32) (by omega) (hp.2.2.2.1 t h1 h2)) (qa_sg_mono (by omega) sg) (by rw [e, ek]))
    by_cases z : p = np
    · subst z; rw [pk_us, pk_us, pk_us, ek, nI_clamp (by omega), pk_us]
    · have o := old p (by omega)
      rw [o.1, o.2.1, o.2.2]
      obtain ⟨k', hk', ek'⟩ := qa_ky_in (qa_sg_mono (m' := 32) (by omega) (hp.2.2.2.1 p h1 (by omega)))
      have e1 := hti.1 p h1 (by omega)
      have n1 := ne p h1 (by omega)
      rw [ek', nI_clamp (by omega)] at e1 ⊢
      rw [pk_un]
      · exact e1
      · rintro rfl; exact n1 ek'
  · by_cases z : j = kk
    · subst z
      exact Or.inr ⟨np, by omega, by omega, pk_us, by rw [pk_us, pk_us, pk_us, ek]⟩
    · rw [pk_un z]
      rcases hti.2 j hj with e | ⟨t, h1, h2, e1, e2⟩
      · exact Or.inl e
      · have o := old t h2
        exact Or.inr ⟨t, h1, by omega, e1, by rw [o.1, o.2.1, o.2.2]; exact e2⟩
section
variable {f_termLimit f_ruleLimit f_eventLimit f_termCount f_ruleCount f_eventCount f_closedTerms f_closedEvents f_classCount f_dirty f_matchPattern f_matchDepth f_levelCount f_groundLeft f_costsFresh f_settledClasses f_reachedClasses f_orderCount f_explainedCount : Int32} {a_termSymbol a_termLeft a_termRight a_termIndex a_ruleLeft a_ruleRight a_eventLeft a_eventRight a_eventRule a_symbolWeight a_leader a_members a_users a_symbolTerms a_signTerm a_levelVar a_levelRest a_patValue a_standsFor a_order a_bestTerm a_gotTerm a_explainedEvent : Nat → Int32} {a_best a_treeCost : Nat → Int64}
variable {f_patternCount : Int32}
variable {lmp np : Nat} {psy pl pr ps ptop btp pi : Nat → Int32} {tp : Nat → Nat}
theorem qx_p228 {post : Int32 → SX → Prop} {subs : Int32} {top : Nat} (hn : np < 32) (h4 : top < 4) (K : post (nI np) (f_termLimit, nI lmp, f_ruleLimit, f_eventLimit, f_termCount, f_patternCount, f_ruleCount, f_eventCount, f_closedTerms, f_closedEvents, f_classCount, f_dirty, f_matchPattern, f_matchDepth, f_levelCount, f_groundLeft, f_costsFresh, f_settledClasses, f_reachedClasses, f_orderCount, f_explainedCount, a_termSymbol, a_termLeft, a_termRight, a_termIndex, psy, pl, pr, upd ps np subs, upd ptop np (nI top), upd btp top (btp top ||| ((1 : Int32) <<< (nI np &&& 31))), pi, a_ruleLeft, a_ruleRight, a_eventLeft, a_eventRight, a_eventRule, a_symbolWeight, a_leader, a_members, a_users, a_symbolTerms, a_signTerm, a_levelVar, a_levelRest, a_patValue, a_standsFor, a_order, a_best, a_bestTerm, a_gotTerm, a_treeCost, a_explainedEvent)) : wX_pattern_228 post (nI np) subs (nI top) f_termLimit (nI lmp) f_ruleLimit f_eventLimit f_termCount f_patternCount f_ruleCount f_eventCount f_closedTerms f_closedEvents f_classCount f_dirty f_matchPattern f_matchDepth f_levelCount f_groundLeft f_costsFresh f_settledClasses f_reachedClasses f_orderCount f_explainedCount a_termSymbol a_termLeft a_termRight a_termIndex psy pl pr ps ptop btp pi a_ruleLeft a_ruleRight a_eventLeft a_eventRight a_eventRule a_symbolWeight a_leader a_members a_users a_symbolTerms a_signTerm a_levelVar a_levelRest a_patValue a_standsFor a_order a_best a_bestTerm a_gotTerm a_treeCost a_explainedEvent := by
  have i1 : vp_in (nI np) 32 := vp_in_nI hn (by omega)
  have c1 : (nI np).toNatClampNeg = np := nI_clamp (by omega)
  have i2 : vp_in (nI top) 4 := vp_in_nI h4 (by omega)
  unfold wX_pattern_228
  exact ⟨i1, nm_r (e' := upd ps np subs) (by rw [c1]) ⟨i1, nm_r (e' := upd ptop np (nI top)) (by rw [c1]) ⟨i2, i2, nm_r (e' := upd btp top (btp top ||| ((1 : Int32) <<< (nI np &&& 31)))) (by rw [nI_clamp (by omega)]) K⟩⟩⟩
end
theorem i_vc_pattern {k : Nat} {u : SX} {v : SY} (I : i_Rel k u v) (hk : k + 5 ≤ 2564) (v1 : Int32) (v2 : Int32) (v3 : Int32) : wpX_pattern (fun r u' => wpY_pattern (fun r' v' => r' = r ∧ i_Rel (k + 5) u' v') v v1 v2 v3) u v1 v2 v3 := by
  refine qz_el (P := fun u v => wpX_pattern (fun r u' => wpY_pattern (fun r' v' => r' = r ∧ i_Rel (k + 5) u' v') v v1 v2 v3) u v1 v2 v3) ?_ I
  intro lim lmp lmr lme n np nr m nk c ce f_matchPattern f_matchDepth f_levelCount f_groundLeft f_settledClasses f_reachedClasses cc cf oc sy lf rt ti psy pl pr ps ptop btp pi rl rr el er eru w ld mem usr syt sgt a_levelVar a_levelRest a_patValue a_standsFor ord bT a_gotTerm xe best a_treeCost g_labN b_in b_lab b_sub b_val b_stand b_needed b_pick b_got b_cost b_best tp h
  have ⟨b1, b2, b3, b4, b5, b6, b7, b8, b9⟩ := h.1
  have ⟨k1, k2, k3, k4, k5, k6, k7⟩ := h
  have hp := k4.1
  have htop := k4.2.1
  have htp := k4.2.2.1
  unfold wpX_pattern
  refine br_c (fun h1 => ?_) (fun h1 => br_c (fun h2 => ?_) (fun h2 => ?_))
  · unfold wpY_pattern
    exact br_t h1 ⟨rfl, qz_in h⟩
  · obtain ⟨s, hs, rfl⟩ := nI_of2 (n := 15) (M := 15) (by decide) h1 h2
    have s8 : (nI s < 8 ↔ s < 8) := nI_ltI (b := 8) (by omega) (by decide)
    have s12 : (nI s < 12 ↔ s < 12) := nI_ltI (b := 12) (by omega) (by decide)
    have qa8 : s < 8 → qi_a (nI s) v2 = -1 := fun z => if_neg (nI_ge (b := 8) z (by decide))
    have qa8' : ¬ s < 8 → qi_a (nI s) v2 = v2 := fun z => if_pos (nI_le (a := 8) (by omega) (by omega))
    have qb12 : s < 12 → qi_b (nI s) v3 = -1 := fun z => if_neg (nI_ge (b := 12) z (by decide))
    have qb12' : ¬ s < 12 → qi_b (nI s) v3 = v3 := fun z => if_pos (nI_le (a := 12) (by omega) (by omega))
    have Ysearch : ∀ (postY : Int32 → SY → Prop) (a b : Int32), (∀ p, 3 ≤ p → p < np → qi_m psy pl pr (nI s) a b p → (∀ p', 3 ≤ p' → p' < p → ¬ qi_m psy pl pr (nI s) a b p') → postY (nI p) (nI lim, nI lmp, nI lmr, nI lme, nI n, nI np, nI nr, nI m, nI nk, g_labN, sy, lf, rt, psy, pl, pr, rl, rr, el, er, eru, xe, w, b_in, b_lab, b_sub, b_val, b_stand, b_cost, b_best, b_needed, b_pick, b_got)) →
        ((∀ p, 3 ≤ p → p < np → ¬ qi_m psy pl pr (nI s) a b p) → (np < lmp → postY (nI np) (nI lim, nI lmp, nI lmr, nI lme, nI n, nI (np + 1), nI nr, nI m, nI nk, g_labN, sy, lf, rt, upd psy np (nI s), upd pl np a, upd pr np b, rl, rr, el, er, eru, xe, w, b_in, b_lab, b_sub, b_val, b_stand, b_cost, b_best, b_needed, b_pick, b_got)) ∧ (¬ np < lmp → postY (-3) (nI lim, nI lmp, nI lmr, nI lme, nI n, nI np, nI nr, nI m, nI nk, g_labN, sy, lf, rt, psy, pl, pr, rl, rr, el, er, eru, xe, w, b_in, b_lab, b_sub, b_val, b_stand, b_cost, b_best, b_needed, b_pick, b_got))) → ∃ kk, wY_pattern_76 postY (nI s) a b (nI lim) (nI lmp) (nI lmr) (nI lme) (nI n) (nI np) (nI nr) (nI m) (nI nk) g_labN sy lf rt psy pl pr rl rr el er eru xe w b_in b_lab b_sub b_val b_stand b_cost b_best b_needed b_pick b_got kk 3 := by
      intro postY a b K1 K2
      refine pk_loop (fun kk i (_ : Unit) => wY_pattern_76 postY (nI s) a b (nI lim) (nI lmp) (nI lmr) (nI lme) (nI n) (nI np) (nI nr) (nI m) (nI nk) g_labN sy lf rt psy pl pr rl rr el er eru xe w b_in b_lab b_sub b_val b_stand b_cost b_best b_needed b_pick b_got kk (nI i)) (fun i _ => ∀ p, 3 ≤ p → p < i → ¬ qi_m psy pl pr (nI s) a b p) np 3 () hp.1 (fun p h1 h2 => by omega) ?_ ?_
      · intro kk _ f
        rw [wY_pattern_76]
        have K := K2 f
        have i1 : np < lmp → vp_in (nI np) 32 := fun z => vp_in_nI (by omega) (by omega)
        have c1 : (nI np).toNatClampNeg = np := nI_clamp (by omega)
        refine br_t (nI_le (Nat.le_refl _) (by omega)) (pk_lt np lmp (fun lt => ⟨i1 lt, nm_r (e' := upd psy np (nI s)) (by rw [c1]) ⟨i1 lt, nm_r (e' := upd pl np a) (by rw [c1]) ⟨i1 lt, nm_r (e' := upd pr np b) (by rw [c1]) (nm_r (nI_1 np) ?_)⟩⟩⟩) (fun ge => K.2 (by omega)))
        rw [nI_pred]; exact K.1 lt
      · intro kk t _ ht f Kn
        rw [wY_pattern_76]
        have it : vp_in (nI t) 32 := vp_in_nI (by omega) (by omega)
        refine br_f (nI_ge ht (by omega)) ⟨it, ?_⟩
        rw [show (nI t).toNatClampNeg = t from nI_clamp (by omega)]
        have no : ¬ qi_m psy pl pr (nI s) a b t → ∀ x, x = nI t + 1 → wY_pattern_76 postY (nI s) a b (nI lim) (nI lmp) (nI lmr) (nI lme) (nI n) (nI np) (nI nr) (nI m) (nI nk) g_labN sy lf rt psy pl pr rl rr el er eru xe w b_in b_lab b_sub b_val b_stand b_cost b_best b_needed b_pick b_got kk x := by
          intro hh
          refine nm_r (nI_1 t) (Kn () fun p h1 h2 => ?_)
          by_cases z : p = t
          · subst z; exact hh
          · exact f p h1 (by omega)
        refine br_c (fun e1 => ⟨it, br_c (fun e2 => ⟨it, br_c (fun e3 => ?_) (fun e3 => no (fun z => e3 z.2.2))⟩) (fun e2 => no (fun z => e2 z.2.1))⟩) (fun e1 => no (fun z => e1 z.1))
        by_cases t3 : 3 ≤ t
        · exact K1 t t3 ht ⟨e1, e2, e3⟩ f
        · have := hp.2.2.1 t (by omega)
          rw [this.1] at e1
          exact (qa_1ne (by omega) e1).elim
    have core : qa_sg np (nI s) (qi_a (nI s) v2) (qi_b (nI s) v3) → (∀ postY, (∃ kk, wY_pattern_76 postY (nI s) (qi_a (nI s) v2) (qi_b (nI s) v3) (nI lim) (nI lmp) (nI lmr) (nI lme) (nI n) (nI np) (nI nr) (nI m) (nI nk) g_labN sy lf rt psy pl pr rl rr el er eru xe w b_in b_lab b_sub b_val b_stand b_cost b_best b_needed b_pick b_got kk 3) → wpY_pattern postY (nI lim, nI lmp, nI lmr, nI lme, nI n, nI np, nI nr, nI m, nI nk, g_labN, sy, lf, rt, psy, pl, pr, rl, rr, el, er, eru, xe, w, b_in, b_lab, b_sub, b_val, b_stand, b_cost, b_best, b_needed, b_pick, b_got) (nI s) v2 v3) → wX_pattern_47 (fun r u' => wpY_pattern (fun r' v' => r' = r ∧ i_Rel (k + 5) u' v') (nI lim, nI lmp, nI lmr, nI lme, nI n, nI np, nI nr, nI m, nI nk, g_labN, sy, lf, rt, psy, pl, pr, rl, rr, el, er, eru, xe, w, b_in, b_lab, b_sub, b_val, b_stand, b_cost, b_best, b_needed, b_pick, b_got) (nI s) v2 v3) (nI s) v2 v3 (nI lim) (nI lmp) (nI lmr) (nI lme) (nI n) (nI np) (nI nr) (nI m) (nI c) (nI ce) cc 0 f_matchPattern f_matchDepth f_levelCount f_groundLeft cf f_settledClasses f_reachedClasses oc (nI nk) sy lf rt ti psy pl pr ps ptop btp pi rl rr el er eru w ld mem usr syt sgt a_levelVar a_levelRest a_patValue a_standsFor ord best bT a_gotTerm a_treeCost xe := by
      intro sg hY
      have sg32 := qa_sg_mono (m' := 32) (by omega) sg
      obtain ⟨kk, hkk, ek⟩ := qa_ky_in sg32
      have ik : vp_in (nI kk) 4232 := vp_in_nI hkk (by omega)
      have ck : (nI kk).toNatClampNeg = kk := nI_clamp (by omega)
      have hit : ∀ p, 3 ≤ p → p < np → qi_m psy pl pr (nI s) (qi_a (nI s) v2) (qi_b (nI s) v3) p → pi kk = nI (p + 1) := by
        intro p h1 h2 m
        have := k4.2.2.2.2.1 p h1 h2
        rwa [m.1, m.2.1, m.2.2, ek, ck] at this
      unfold wX_pattern_47
      refine qx_key ?_
      rw [← qi_ky, ek]
      refine ⟨ik, ?_⟩
      rw [ck]
      rcases k4.2.2.2.2.2 kk hkk with e | ⟨p, p3, pn, e1, e2⟩
      · have f : ∀ p, 3 ≤ p → p < np → ¬ qi_m psy pl pr (nI s) (qi_a (nI s) v2) (qi_b (nI s) v3) p := by
          intro p h1 h2 m
          have := hit p h1 h2 m
          rw [e] at this
          exact absurd (qa_inj (a := 0) (by omega) (by omega) this) (by omega)
        refine br_t e (pk_lt np lmp (fun lt => ?_) (fun ge => hY _ (Ysearch _ _ _ (fun p h1 h2 m _ => (f p h1 h2 m).elim) (fun _ => ⟨fun z => by omega, fun _ => ⟨rfl, qz_in h⟩⟩))))
        have i1 : vp_in (nI np) 32 := vp_in_nI (by omega) (by omega)
        have c1 : (nI np).toNatClampNeg = np := nI_clamp (by omega)
        have fin : ∀ subs top, (∀ q, q < 32 → bt subs q = (decide (q = np) || qp_sb ps (qi_a (nI s) v2) q || qp_sb ps (qi_b (nI s) v3) q)) → top = max (qp_tx tp (qi_a (nI s) v2)) (qp_tx tp (qi_b (nI s) v3)) → top < 4 →
            wpY_pattern (fun r' v' => r' = nI np ∧ i_Rel (k + 5) (nI lim, nI lmp, nI lmr, nI lme, nI n, nI (np + 1), nI nr, nI m, nI c, nI ce, cc, 0, f_matchPattern, f_matchDepth, f_levelCount, f_groundLeft, cf, f_settledClasses, f_reachedClasses, oc, nI nk, sy, lf, rt, ti, upd psy np (nI s), upd pl np (qi_a (nI s) v2), upd pr np (qi_b (nI s) v3), upd ps np subs, upd ptop np (nI top), upd btp top (btp top ||| ((1 : Int32) <<< (nI np &&& 31))), upd pi kk (nI (np + 1)), rl, rr, el, er, eru, w, ld, mem, usr, syt, sgt, a_levelVar, a_levelRest, a_patValue, a_standsFor, ord, best, bT, a_gotTerm, a_treeCost, xe) v') (nI lim, nI lmp, nI lmr, nI lme, nI n, nI np, nI nr, nI m, nI nk, g_labN, sy, lf, rt, psy, pl, pr, rl, rr, el, er, eru, xe, w, b_in, b_lab, b_sub, b_val, b_stand, b_cost, b_best, b_needed, b_pick, b_got) (nI s) v2 v3 := by
          intro subs top hsub ht h4
          refine hY _ (Ysearch _ _ _ (fun p h1 h2 m _ => (f p h1 h2 m).elim) (fun _ => ⟨fun _ => ⟨rfl, ?_⟩, fun z => (z lt).elim⟩))
          have nk4 := qz_np hp htop htp k4.2.2.2.1 k4.2.2.2.2 (by omega) sg hkk ek f hsub ht h4
          refine qz_in (tp := fun q => if q = np then top else tp q) ⟨⟨b1, b2, b3, by omega, b5, b6, b7, b8, b9⟩, k2, k3, nk4, ⟨k5.1, fun ru hru => ?_⟩, k6, k7⟩
          obtain ⟨l, r, e1, e2, l3, ln, rn, hv⟩ := k5.2 ru hru
          refine ⟨l, r, e1, e2, l3, by omega, by omega, fun v hv' bv => ?_⟩
          rw [pk_un (by omega)] at bv ⊢
          exact hv v hv' bv
        refine nm_r (nI_1 np) ⟨ik, nm_r (e' := upd pi kk (nI (np + 1))) (by rw [qx_bv (by omega)]) ⟨i1, nm_r (e' := upd psy np (nI s)) (by rw [c1]) ⟨i1, nm_r (e' := upd pl np (-1)) (by rw [c1]) ⟨i1, nm_r (e' := upd pr np (-1)) (by rw [c1]) (nm_e ?_)⟩⟩⟩⟩
        have bit : ∀ q, q < 32 → bt ((1 : Int32) <<< (nI np &&& 31)) q = decide (q = np) := fun q hq => qb_s (by omega) hq
        by_cases c8 : s < 8
        · refine br_t (s8.mpr c8) ?_
          rw [qa8 c8, qb12 (by omega)] at fin
          unfold wX_pattern_184
          refine br_t (s12.mpr (by omega)) (qx_p228 (top := 0) (by omega) (by omega) (fin _ 0 (fun q hq => ?_) ?_ (by omega)))
          · rw [bit q hq, qp_sb1, Bool.or_false, Bool.or_false]
          · rw [qp_tx1]; rfl
        · refine br_f (fun z => c8 (s8.mp z)) ⟨i1, ?_⟩
          rw [qa8' c8] at fin sg
          obtain ⟨a, ha, rfl⟩ : ∃ a, a < np ∧ v2 = nI a := by
            obtain ⟨k', hk', e', cc'⟩ := sg
            have : s = k' := qa_inj (by omega) (by omega) e'
            subst this
            rcases cc' with ⟨q, _⟩ | ⟨_, _, q, _⟩ | ⟨_, q, _⟩
            · omega
            · exact q
            · exact q
          have ia : vp_in (nI a) 32 := vp_in_nI (by omega) (by omega)
          have ca : (nI a).toNatClampNeg = a := nI_clamp (by omega)
          have ta := qp_tp3 hp htp a ha
          refine nm_r (e' := upd pl np (nI a)) (by rw [c1, qa_uu]) ⟨ia, nm_r (e' := ((1 : Int32) <<< (nI np &&& 31)) ||| ps a) (by rw [ca]) ⟨ia, nm_r (e' := nI (tp a)) (by rw [ca]; exact htop a ha) ?_⟩⟩
          unfold wX_pattern_184
          by_cases c12 : s < 12
          · rw [qb12 c12] at fin
            refine br_t (s12.mpr c12) (qx_p228 (by omega) (by omega) (fin _ (tp a) (fun q hq => ?_) ?_ (by omega)))
            · rw [b_or, bit q hq, qp_sb1, qp_sbN _ (by omega), Bool.or_false]
            · rw [qp_tx1, qp_txN _ (by omega)]; exact (Nat.max_eq_left (Nat.zero_le _)).symm
          · rw [qb12' c12] at fin sg
            obtain ⟨b, hb, rfl⟩ : ∃ b, b < np ∧ v3 = nI b := by
              obtain ⟨k', hk', e', cc'⟩ := sg
              have : s = k' := qa_inj (by omega) (by omega) e'
              subst this
              rcases cc' with ⟨q, _⟩ | ⟨_, q, _, _⟩ | ⟨_, _, q⟩
              · omega
              · omega
              · exact q
            have ib : vp_in (nI b) 32 := vp_in_nI (by omega) (by omega)
            have cb : (nI b).toNatClampNeg = b := nI_clamp (by omega)
            have tb := qp_tp3 hp htp b hb
            have sb : ∀ q, q < 32 → bt ((((1 : Int32) <<< (nI np &&& 31)) ||| ps a) ||| ps b) q = (decide (q = np) || qp_sb ps (nI a) q || qp_sb ps (nI b) q) := by
              intro q hq
              rw [b_or, b_or, bit q hq, qp_sbN _ (by omega), qp_sbN _ (by omega)]
            have mx : max (qp_tx tp (nI a)) (qp_tx tp (nI b)) = max (tp a) (tp b) := by rw [qp_txN _ (by omega), qp_txN _ (by omega)]
            refine br_f (fun z => c12 (s12.mp z)) ⟨i1, nm_r (e' := upd pr np (nI b)) (by rw [c1, qa_uu]) ⟨ib, nm_r (e' := (((1 : Int32) <<< (nI np &&& 31)) ||| ps a) ||| ps b) (by rw [cb]) ⟨ib, ?_⟩⟩⟩
            rw [cb, htop b hb]
            refine pk_le (tp b) (tp a) (fun le => qx_p228 (by omega) (by omega) (fin _ (tp a) sb ?_ (by omega))) (fun gt => ⟨ib, nm_e (qx_p228 (by omega) (by omega) (fin _ (tp b) sb ?_ (by omega)))⟩)
            · rw [mx, Nat.max_eq_left le]
            · rw [mx, Nat.max_eq_right (by omega)]
      · have m : qi_m psy pl pr (nI s) (qi_a (nI s) v2) (qi_b (nI s) v3) p := qa_ky_inj (qa_sg_mono (m' := 32) (by omega) (hp.2.2.2.1 p p3 pn)) sg32 (by rw [e2, ek])
        refine br_f (by rw [e1]; exact nI_ne0 (by omega) (by omega)) ⟨ik, ?_⟩
        rw [e1, nI_pred]
        refine hY _ (Ysearch _ _ _ (fun p' h1 h2 m' _ => ?_) (fun f => (f p p3 pn m).elim))
        have := (hit p' h1 h2 m').symm.trans e1
        have : p' = p := by have := qa_inj (by omega) (by omega) this; omega
        subst this
        exact ⟨rfl, qz_in h⟩
    have Y0 : ∀ {postY : Int32 → SY → Prop}, ((nI s < 8 → wY_pattern_30 postY (nI s) v2 v3 (nI lim) (nI lmp) (nI lmr) (nI lme) (nI n) (nI np) (nI nr) (nI m) (nI nk) g_labN sy lf rt psy pl pr rl rr el er eru xe w b_in b_lab b_sub b_val b_stand b_cost b_best b_needed b_pick b_got) ∧ (¬ nI s < 8 → wpY_isPattern (fun r => ((r = 0 → postY (-2) (nI lim, nI lmp, nI lmr, nI lme, nI n, nI np, nI nr, nI m, nI nk, g_labN, sy, lf, rt, psy, pl, pr, rl, rr, el, er, eru, xe, w, b_in, b_lab, b_sub, b_val, b_stand, b_cost, b_best, b_needed, b_pick, b_got)) ∧ (¬ r = 0 → wY_pattern_30 postY (nI s) v2 v3 (nI lim) (nI lmp) (nI lmr) (nI lme) (nI n) (nI np) (nI nr) (nI m) (nI nk) g_labN sy lf rt psy pl pr rl rr el er eru xe w b_in b_lab b_sub b_val b_stand b_cost b_best b_needed b_pick b_got))) (nI lim, nI lmp, nI lmr, nI lme, nI n, nI np, nI nr, nI m, nI nk, g_labN, sy, lf, rt, psy, pl, pr, rl, rr, el, er, eru, xe, w, b_in, b_lab, b_sub, b_val, b_stand, b_cost, b_best, b_needed, b_pick, b_got) v2)) → wpY_pattern postY (nI lim, nI lmp, nI lmr, nI lme, nI n, nI np, nI nr, nI m, nI nk, g_labN, sy, lf, rt, psy, pl, pr, rl, rr, el, er, eru, xe, w, b_in, b_lab, b_sub, b_val, b_stand, b_cost, b_best, b_needed, b_pick, b_got) (nI s) v2 v3 := by
      intro postY K
      unfold wpY_pattern
      exact br_f h1 (br_t h2 K)
    have Y47 : ∀ {postY : Int32 → SY → Prop}, (∃ kk, wY_pattern_76 postY (nI s) (qi_a (nI s) v2) (qi_b (nI s) v3) (nI lim) (nI lmp) (nI lmr) (nI lme) (nI n) (nI np) (nI nr) (nI m) (nI nk) g_labN sy lf rt psy pl pr rl rr el er eru xe w b_in b_lab b_sub b_val b_stand b_cost b_best b_needed b_pick b_got kk 3) → wY_pattern_47 postY (nI s) v2 v3 (nI lim) (nI lmp) (nI lmr) (nI lme) (nI n) (nI np) (nI nr) (nI m) (nI nk) g_labN sy lf rt psy pl pr rl rr el er eru xe w b_in b_lab b_sub b_val b_stand b_cost b_best b_needed b_pick b_got := by
      intro postY K
      unfold wY_pattern_47
      refine br_c (fun z8 => ?_) (fun z8 => ?_)
      · rw [show qi_a (nI s) v2 = v2 from if_pos z8] at K
        unfold wY_pattern_58
        refine br_c (fun z12 => ?_) (fun z12 => ?_)
        · rw [show qi_b (nI s) v3 = v3 from if_pos z12] at K; exact K
        · rw [show qi_b (nI s) v3 = -1 from if_neg z12] at K; exact K
      · rw [show qi_a (nI s) v2 = -1 from if_neg z8] at K
        unfold wY_pattern_58
        refine br_c (fun z12 => ?_) (fun z12 => ?_)
        · rw [show qi_b (nI s) v3 = v3 from if_pos z12] at K; exact K
        · rw [show qi_b (nI s) v3 = -1 from if_neg z12] at K; exact K
    by_cases c8 : s < 8
    · refine br_t (s8.mpr c8) ?_
      unfold wX_pattern_30
      refine br_t (s12.mpr (by omega)) (core ⟨s, by omega, rfl, Or.inl ⟨c8, qa8 c8, qb12 (by omega)⟩⟩ fun postY K => Y0 (br_t (s8.mpr c8) ?_))
      unfold wY_pattern_30
      exact br_t (s12.mpr (by omega)) (Y47 K)
    · refine br_f (fun z => c8 (s8.mp z)) ?_
      rcases qz_ix v2 (n := np) (by omega) with z | ⟨a, ha, rfl⟩
      · refine qx_isP0 z (br_t rfl (Y0 (br_f (fun z => c8 (s8.mp z)) (qy_isP0 z (br_t rfl ⟨rfl, qz_in h⟩)))))
      · refine qx_isP1 ha (by omega) (br_f (by decide) ?_)
        unfold wX_pattern_30
        by_cases c12 : s < 12
        · refine br_t (s12.mpr c12) (core ⟨s, by omega, rfl, Or.inr (Or.inl ⟨by omega, c12, ⟨a, ha, qa8' c8⟩, qb12 c12⟩)⟩ fun postY K => Y0 (br_f (fun z => c8 (s8.mp z)) (qy_isP1 ha (by omega) (br_f (by decide) ?_))))
          unfold wY_pattern_30
          exact br_t (s12.mpr c12) (Y47 K)
        · refine br_f (fun z => c12 (s12.mp z)) ?_
          rcases qz_ix v3 (n := np) (by omega) with z | ⟨b, hb, rfl⟩
          · refine qx_isP0 z (br_t rfl (Y0 (br_f (fun z => c8 (s8.mp z)) (qy_isP1 ha (by omega) (br_f (by decide) ?_)))))
            unfold wY_pattern_30
            exact br_f (fun z => c12 (s12.mp z)) (qy_isP0 z (br_t rfl ⟨rfl, qz_in h⟩))
          · refine qx_isP1 hb (by omega) (br_f (by decide) (core ⟨s, by omega, rfl, Or.inr (Or.inr ⟨by omega, ⟨a, ha, qa8' c8⟩, ⟨b, hb, qb12' c12⟩⟩)⟩ fun postY K => Y0 (br_f (fun z => c8 (s8.mp z)) (qy_isP1 ha (by omega) (br_f (by decide) ?_)))))
            unfold wY_pattern_30
            exact br_f (fun z => c12 (s12.mp z)) (qy_isP1 hb (by omega) (br_f (by decide) (Y47 K)))
  · unfold wpY_pattern
    exact br_f h1 (br_f h2 ⟨rfl, qz_in h⟩)
end
section
theorem qb_msk {m : Int32} {j : Nat} (hm : ∀ i, i < 32 → bt m i = decide (i = j)) (hj : j < 32) (y : Int32) : (y &&& m) = 0 ↔ bt y j = false := by
  constructor
  · intro h
    have e : bt (y &&& m) j = bt 0 j := by rw [h]
    rw [b_and, b_0, hm j hj] at e
    simpa using e
  · intro h
    refine b_ext fun i hi => ?_
    rw [b_and, b_0, hm i hi]
    by_cases z : i = j
    · subst z; rw [h]; rfl
    · rw [decide_eq_false z, Bool.and_false]
theorem qb_b2 : ∀ i, i < 32 → bt 2 i = decide (i = 1) := by decide +kernel
theorem qb_b4 : ∀ i, i < 32 → bt 4 i = decide (i = 2) := by decide +kernel
def qz_fl (u : Bool) : Int32 := if u = true then 1 else 0
theorem qz_fl2 {c : Prop} {u : Bool} (P : Int32 → Prop) (e : c ↔ u = false) (K : P (qz_fl u)) : (c → P 0) ∧ (¬ c → P 1) := by
  cases u
  · exact br_t (e.mpr rfl) K
  · exact br_f (fun z => absurd (e.mp z) (by decide)) K
theorem qz_fl0 {u : Bool} : qz_fl u = 0 ↔ u = false := by cases u <;> simp [qz_fl]
theorem i_vc_value {k : Nat} {u : SX} {v : SY} (I : i_Rel k u v) (hk : k + 5 ≤ 2564) (v1 : Int32) (v2 : Int32) (v3 : Int32) (v4 : Int32) : wpX_value (fun r u' => wpY_value (fun r' v' => r' = r ∧ i_Rel (k + 5) u' v') v v1 v2 v3 v4) u v1 v2 v3 v4 := by
  refine qz_el (P := fun u v => wpX_value (fun r u' => wpY_value (fun r' v' => r' = r ∧ i_Rel (k + 5) u' v') v v1 v2 v3 v4) u v1 v2 v3 v4) ?_ I
  intro lim lmp lmr lme n np nr m nk c ce f_matchPattern f_matchDepth f_levelCount f_groundLeft f_settledClasses f_reachedClasses cc cf oc sy lf rt ti psy pl pr ps ptop btp pi rl rr el er eru w ld mem usr syt sgt a_levelVar a_levelRest a_patValue a_standsFor ord bT a_gotTerm xe best a_treeCost g_labN b_in b_lab b_sub b_val b_stand b_needed b_pick b_got b_cost b_best tp h
  have ⟨b1, b2, b3, b4, b5, b6, b7, b8, b9⟩ := h.1
  have ⟨k1, k2, k3, k4, k5, k6, k7⟩ := h
  have hp := k4.1
  have g := k3.2.2.2.2.1
  have he := k3.2.2.2.2.2.1
  unfold wpX_value
  rcases qz_ix v1 (n := np) (by omega) with z | ⟨p, pn, rfl⟩
  · refine qx_isP0 z (br_t rfl ?_)
    unfold wpY_value
    exact qy_isP0 z (br_t rfl ⟨rfl, qz_in h⟩)
  · have ip : vp_in (nI p) 32 := vp_in_nI (by omega) (by omega)
    have cp : (nI p).toNatClampNeg = p := nI_clamp (by omega)
    have t01 : ∀ {u : Bool}, (if u = true then (1 : Int32) else 0) = 0 ↔ u = false := by
      intro u; cases u <;> simp
    have nf : ∀ {u : Bool}, ¬ u = false → u = true := fun {u} z => by cases u; exact (z rfl).elim; rfl
    have XY : ∀ (postX : Int32 → SX → Prop),
        ((bt (ps p) 0 = true ∧ (v2 < 0 ∨ nI n ≤ v2)) ∨ ((bt (ps p) 0 = false ∨ ∃ t, t < n ∧ v2 = nI t) ∧ bt (ps p) 1 = true ∧ (v3 < 0 ∨ nI n ≤ v3)) ∨ ((bt (ps p) 0 = false ∨ ∃ t, t < n ∧ v2 = nI t) ∧ (bt (ps p) 1 = false ∨ ∃ t, t < n ∧ v3 = nI t) ∧ bt (ps p) 2 = true ∧ (v4 < 0 ∨ nI n ≤ v4)) → postX (-2) (nI lim, nI lmp, nI lmr, nI lme, nI n, nI np, nI nr, nI m, nI c, nI ce, cc, 0, f_matchPattern, f_matchDepth, f_levelCount, f_groundLeft, cf, f_settledClasses, f_reachedClasses, oc, nI nk, sy, lf, rt, ti, psy, pl, pr, ps, ptop, btp, pi, rl, rr, el, er, eru, w, ld, mem, usr, syt, sgt, a_levelVar, a_levelRest, a_patValue, a_standsFor, ord, best, bT, a_gotTerm, a_treeCost, xe)) →
        (((bt (ps p) 0 = false ∨ ∃ t, t < n ∧ v2 = nI t) ∧ (bt (ps p) 1 = false ∨ ∃ t, t < n ∧ v3 = nI t) ∧ (bt (ps p) 2 = false ∨ ∃ t, t < n ∧ v4 = nI t)) → wX_value_110 postX (nI p) v2 v3 v4 (ps p) (qz_fl (bt (ps p) 0)) (qz_fl (bt (ps p) 1)) (qz_fl (bt (ps p) 2)) (nI lim) (nI lmp) (nI lmr) (nI lme) (nI n) (nI np) (nI nr) (nI m) (nI c) (nI ce) cc 0 f_matchPattern f_matchDepth f_levelCount f_groundLeft cf f_settledClasses f_reachedClasses oc (nI nk) sy lf rt ti psy pl pr ps ptop btp pi rl rr el er eru w ld mem usr syt sgt a_levelVar a_levelRest a_patValue a_standsFor ord best bT a_gotTerm a_treeCost xe) →
        wX_value_31 postX (nI p) v2 v3 v4 (ps p) (qz_fl (bt (ps p) 0)) (nI lim) (nI lmp) (nI lmr) (nI lme) (nI n) (nI np) (nI nr) (nI m) (nI c) (nI ce) cc 0 f_matchPattern f_matchDepth f_levelCount f_groundLeft cf f_settledClasses f_reachedClasses oc (nI nk) sy lf rt ti psy pl pr ps ptop btp pi rl rr el er eru w ld mem usr syt sgt a_levelVar a_levelRest a_patValue a_standsFor ord best bT a_gotTerm a_treeCost xe := by
      intro postX KB KG
      unfold wX_value_31
      refine qz_fl2 (fun z => wX_value_45 postX (nI p) v2 v3 v4 (ps p) (qz_fl (bt (ps p) 0)) z (nI lim) (nI lmp) (nI lmr) (nI lme) (nI n) (nI np) (nI nr) (nI m) (nI c) (nI ce) cc 0 f_matchPattern f_matchDepth f_levelCount f_groundLeft cf f_settledClasses f_reachedClasses oc (nI nk) sy lf rt ti psy pl pr ps ptop btp pi rl rr el er eru w ld mem usr syt sgt a_levelVar a_levelRest a_patValue a_standsFor ord best bT a_gotTerm a_treeCost xe) (qb_msk qb_b2 (by omega) (ps p)) ?_
      unfold wX_value_45
      refine qz_fl2 (fun z => wX_value_59 postX (nI p) v2 v3 v4 (ps p) (qz_fl (bt (ps p) 0)) (qz_fl (bt (ps p) 1)) z (nI lim) (nI lmp) (nI lmr) (nI lme) (nI n) (nI np) (nI nr) (nI m) (nI c) (nI ce) cc 0 f_matchPattern f_matchDepth f_levelCount f_groundLeft cf f_settledClasses f_reachedClasses oc (nI nk) sy lf rt ti psy pl pr ps ptop btp pi rl rr el er eru w ld mem usr syt sgt a_levelVar a_levelRest a_patValue a_standsFor ord best bT a_gotTerm a_treeCost xe) (qb_msk qb_b4 (by omega) (ps p)) ?_
      have st2 : (bt (ps p) 0 = false ∨ ∃ t, t < n ∧ v2 = nI t) → (bt (ps p) 1 = false ∨ ∃ t, t < n ∧ v3 = nI t) → wX_value_93 postX (nI p) v2 v3 v4 (ps p) (qz_fl (bt (ps p) 0)) (qz_fl (bt (ps p) 1)) (qz_fl (bt (ps p) 2)) (nI lim) (nI lmp) (nI lmr) (nI lme) (nI n) (nI np) (nI nr) (nI m) (nI c) (nI ce) cc 0 f_matchPattern f_matchDepth f_levelCount f_groundLeft cf f_settledClasses f_reachedClasses oc (nI nk) sy lf rt ti psy pl pr ps ptop btp pi rl rr el er eru w ld mem usr syt sgt a_levelVar a_levelRest a_patValue a_standsFor ord best bT a_gotTerm a_treeCost xe := by
        intro g0 g1
        unfold wX_value_93
        refine ek_if qz_fl0 (fun e => KG ⟨g0, g1, Or.inl e⟩) (fun e => ?_)
        rcases qz_ix v4 (n := n) (by omega) with z | ⟨t, ht, e4⟩
        · exact qx_isT0 z (br_t rfl (KB (Or.inr (Or.inr ⟨g0, g1, nf e, z⟩))))
        · have K := KG ⟨g0, g1, Or.inr ⟨t, ht, e4⟩⟩
          rw [e4] at K ⊢
          exact qx_isT1 ht (by omega) (br_f (by decide) K)
      have st1 : (bt (ps p) 0 = false ∨ ∃ t, t < n ∧ v2 = nI t) → wX_value_77 postX (nI p) v2 v3 v4 (ps p) (qz_fl (bt (ps p) 0)) (qz_fl (bt (ps p) 1)) (qz_fl (bt (ps p) 2)) (nI lim) (nI lmp) (nI lmr) (nI lme) (nI n) (nI np) (nI nr) (nI m) (nI c) (nI ce) cc 0 f_matchPattern f_matchDepth f_levelCount f_groundLeft cf f_settledClasses f_reachedClasses oc (nI nk) sy lf rt ti psy pl pr ps ptop btp pi rl rr el er eru w ld mem usr syt sgt a_levelVar a_levelRest a_patValue a_standsFor ord best bT a_gotTerm a_treeCost xe := by
        intro g0
        unfold wX_value_77
        refine ek_if qz_fl0 (fun e => st2 g0 (Or.inl e)) (fun e => ?_)
        rcases qz_ix v3 (n := n) (by omega) with z | ⟨t, ht, e3⟩
        · exact qx_isT0 z (br_t rfl (KB (Or.inr (Or.inl ⟨g0, nf e, z⟩))))
        · have K := st2 g0 (Or.inr ⟨t, ht, e3⟩)
          rw [e3] at K ⊢
          exact qx_isT1 ht (by omega) (br_f (by decide) K)
      unfold wX_value_59
      refine ek_if qz_fl0 (fun e => st1 (Or.inl e)) (fun e => ?_)
      rcases qz_ix v2 (n := n) (by omega) with z | ⟨t, ht, e2⟩
      · exact qx_isT0 z (br_t rfl (KB (Or.inl ⟨nf e, z⟩)))
      · have K := st1 (Or.inr ⟨t, ht, e2⟩)
        rw [e2] at K ⊢
        exact qx_isT1 ht (by omega) (br_f (by decide) K)
    refine qx_isP1 pn (by omega) (br_f (by decide) ⟨ip, nm_r (e' := ps p) (by rw [cp]) (qz_fl2 (fun z => wX_value_31 _ (nI p) v2 v3 v4 (ps p) z (nI lim) (nI lmp) (nI lmr) (nI lme) (nI n) (nI np) (nI nr) (nI m) (nI c) (nI ce) cc 0 f_matchPattern f_matchDepth f_levelCount f_groundLeft cf f_settledClasses f_reachedClasses oc (nI nk) sy lf rt ti psy pl pr ps ptop btp pi rl rr el er eru w ld mem usr syt sgt a_levelVar a_levelRest a_patValue a_standsFor ord best bT a_gotTerm a_treeCost xe) (qb_one (ps p)) (XY _ (fun bad => ?_) (fun good => ?_)))⟩)
    · -- Y: -2 too
      unfold wpY_value
      refine qy_isP1 pn (by omega) (br_f (by decide) (qy_mark hp pn ?_))
      intro sb hsb
      have s0 := hsb 0 (by omega)
      have s1 := hsb 1 (by omega)
      have s2 := hsb 2 (by omega)
      have fin : ∀ b_sub, (-2 : Int32) = -2 ∧ i_Rel (k + 5) (nI lim, nI lmp, nI lmr, nI lme, nI n, nI np, nI nr, nI m, nI c, nI ce, cc, 0, f_matchPattern, f_matchDepth, f_levelCount, f_groundLeft, cf, f_settledClasses, f_reachedClasses, oc, nI nk, sy, lf, rt, ti, psy, pl, pr, ps, ptop, btp, pi, rl, rr, el, er, eru, w, ld, mem, usr, syt, sgt, a_levelVar, a_levelRest, a_patValue, a_standsFor, ord, best, bT, a_gotTerm, a_treeCost, xe) (nI lim, nI lmp, nI lmr, nI lme, nI n, nI np, nI nr, nI m, nI nk, g_labN, sy, lf, rt, psy, pl, pr, rl, rr, el, er, eru, xe, w, b_in, b_lab, b_sub, b_val, b_stand, b_cost, b_best, b_needed, b_pick, b_got) := fun _ => ⟨rfl, qz_in h⟩
      have f50 : (bt (ps p) 2 = true ∧ (v4 < 0 ∨ nI n ≤ v4)) → wY_value_50 (fun r' v' => r' = -2 ∧ i_Rel (k + 5) (nI lim, nI lmp, nI lmr, nI lme, nI n, nI np, nI nr, nI m, nI c, nI ce, cc, 0, f_matchPattern, f_matchDepth, f_levelCount, f_groundLeft, cf, f_settledClasses, f_reachedClasses, oc, nI nk, sy, lf, rt, ti, psy, pl, pr, ps, ptop, btp, pi, rl, rr, el, er, eru, w, ld, mem, usr, syt, sgt, a_levelVar, a_levelRest, a_patValue, a_standsFor, ord, best, bT, a_gotTerm, a_treeCost, xe) v') (nI p) v2 v3 v4 (nI lim) (nI lmp) (nI lmr) (nI lme) (nI n) (nI np) (nI nr) (nI m) (nI nk) g_labN sy lf rt psy pl pr rl rr el er eru xe w b_in b_lab sb b_val b_stand b_cost b_best b_needed b_pick b_got := by
        intro bd
        unfold wY_value_50
        rw [s2]
        exact ek_if t01 (fun e => by rw [bd.1] at e; exact absurd e (by decide)) (fun _ => qy_isT0 bd.2 (br_t rfl (fin sb)))
      have f33 : ((bt (ps p) 1 = true ∧ (v3 < 0 ∨ nI n ≤ v3)) ∨ ((bt (ps p) 1 = false ∨ ∃ t, t < n ∧ v3 = nI t) ∧ bt (ps p) 2 = true ∧ (v4 < 0 ∨ nI n ≤ v4))) → wY_value_33 (fun r' v' => r' = -2 ∧ i_Rel (k + 5) (nI lim, nI lmp, nI lmr, nI lme, nI n, nI np, nI nr, nI m, nI c, nI ce, cc, 0, f_matchPattern, f_matchDepth, f_levelCount, f_groundLeft, cf, f_settledClasses, f_reachedClasses, oc, nI nk, sy, lf, rt, ti, psy, pl, pr, ps, ptop, btp, pi, rl, rr, el, er, eru, w, ld, mem, usr, syt, sgt, a_levelVar, a_levelRest, a_patValue, a_standsFor, ord, best, bT, a_gotTerm, a_treeCost, xe) v') (nI p) v2 v3 v4 (nI lim) (nI lmp) (nI lmr) (nI lme) (nI n) (nI np) (nI nr) (nI m) (nI nk) g_labN sy lf rt psy pl pr rl rr el er eru xe w b_in b_lab sb b_val b_stand b_cost b_best b_needed b_pick b_got := by
        intro bd
        unfold wY_value_33
        rw [s1]
        rcases bd with bd | bd
        · exact ek_if t01 (fun e => by rw [bd.1] at e; exact absurd e (by decide)) (fun _ => qy_isT0 bd.2 (br_t rfl (fin sb)))
        · have K := f50 bd.2
          refine ek_if t01 (fun _ => K) (fun e => ?_)
          rcases bd.1 with q | ⟨t, ht, q⟩
          · exact (e q).elim
          · rw [q] at K ⊢
            exact qy_isT1 ht (by omega) (br_f (by decide) K)
      dsimp only
      rw [s0]
      rcases bad with bd | bd | bd
      · exact ek_if t01 (fun e => by rw [bd.1] at e; exact absurd e (by decide)) (fun _ => qy_isT0 bd.2 (br_t rfl (fin sb)))
      · have K := f33 (Or.inl bd.2)
        refine ek_if t01 (fun _ => K) (fun e => ?_)
        rcases bd.1 with q | ⟨t, ht, q⟩
        · exact (e q).elim
        · rw [q] at K ⊢
          exact qy_isT1 ht (by omega) (br_f (by decide) K)
      · have K := f33 (Or.inr bd.2)
        refine ek_if t01 (fun _ => K) (fun e => ?_)
        rcases bd.1 with q | ⟨t, ht, q⟩
        · exact (e q).elim
        · rw [q] at K ⊢
          exact qy_isT1 ht (by omega) (br_f (by decide) K)
    · obtain ⟨g0, g1, g2⟩ := good
      unfold wX_value_110
      refine qx_sync k3 ?_
      intro ld' mem' usr' syt' sgt' cc' cf' xi' il cfc
      have ci := xi'.2.2.2.2.2.2.1
      have fin : ∀ pv2 : Nat → Int32, (bt (ps p) 0 = true → ∃ t, t < n ∧ v2 = nI t ∧ pv2 0 = ld' t) → (bt (ps p) 1 = true → ∃ t, t < n ∧ v3 = nI t ∧ pv2 1 = ld' t) → (bt (ps p) 2 = true → ∃ t, t < n ∧ v4 = nI t ∧ pv2 2 = ld' t) →
          wX_value_166 (fun r u' => wpY_value (fun r' v' => r' = r ∧ i_Rel (k + 5) u' v') (nI lim, nI lmp, nI lmr, nI lme, nI n, nI np, nI nr, nI m, nI nk, g_labN, sy, lf, rt, psy, pl, pr, rl, rr, el, er, eru, xe, w, b_in, b_lab, b_sub, b_val, b_stand, b_cost, b_best, b_needed, b_pick, b_got) (nI p) v2 v3 v4) (nI p) (ps p) (nI lim) (nI lmp) (nI lmr) (nI lme) (nI n) (nI np) (nI nr) (nI m) (nI n) (nI m) cc' 0 f_matchPattern f_matchDepth f_levelCount f_groundLeft cf' f_settledClasses f_reachedClasses oc (nI nk) sy lf rt ti psy pl pr ps ptop btp pi rl rr el er eru w ld' mem' usr' syt' sgt' a_levelVar a_levelRest pv2 a_standsFor ord best bT a_gotTerm a_treeCost xe := by
        intro pv2 p0 p1 p2
        have pvs : ∀ w, w < 3 → bt (ps p) w = true → ∃ j, j < n ∧ pv2 w = nI j := by
          intro w hw bw
          have q : ∃ t, t < n ∧ pv2 w = ld' t := by
            match w, hw with
            | 0, _ => obtain ⟨t, ht, _, e⟩ := p0 bw; exact ⟨t, ht, e⟩
            | 1, _ => obtain ⟨t, ht, _, e⟩ := p1 bw; exact ⟨t, ht, e⟩
            | 2, _ => obtain ⟨t, ht, _, e⟩ := p2 bw; exact ⟨t, ht, e⟩
          obtain ⟨t, ht, e⟩ := q
          obtain ⟨j, hj, e1, _⟩ := il.1 t ht
          exact ⟨j, by omega, e.trans e1⟩
        have Y : ∀ postY : Int32 → SY → Prop, (∀ g_labN b_in b_lab b_sub b_val, postY (qm_v n sy lf rt ld' psy pl pr pv2 p) (nI lim, nI lmp, nI lmr, nI lme, nI n, nI np, nI nr, nI m, nI nk, g_labN, sy, lf, rt, psy, pl, pr, rl, rr, el, er, eru, xe, w, b_in, b_lab, b_sub, b_val, b_stand, b_cost, b_best, b_needed, b_pick, b_got)) → wpY_value postY (nI lim, nI lmp, nI lmr, nI lme, nI n, nI np, nI nr, nI m, nI nk, g_labN, sy, lf, rt, psy, pl, pr, rl, rr, el, er, eru, xe, w, b_in, b_lab, b_sub, b_val, b_stand, b_cost, b_best, b_needed, b_pick, b_got) (nI p) v2 v3 v4 := by
          intro postY KY
          unfold wpY_value
          refine qy_isP1 pn (by omega) (br_f (by decide) (qy_mark hp pn ?_))
          intro sb hsb
          have s0 := hsb 0 (by omega)
          have s1 := hsb 1 (by omega)
          have s2 := hsb 2 (by omega)
          have f71 : wY_value_71 postY (nI p) v2 v3 v4 (nI lim) (nI lmp) (nI lmr) (nI lme) (nI n) (nI np) (nI nr) (nI m) (nI nk) g_labN sy lf rt psy pl pr rl rr el er eru xe w b_in b_lab sb b_val b_stand b_cost b_best b_needed b_pick b_got := by
            unfold wY_value_71
            refine qy_closeAll (by omega) (by omega) g he ?_
            intro iv la _ il'
            have un := qc_un (by omega) il' il
            have hW := qm_v_ext (psy := psy) (pl := pl) (pr := pr) (ld' := la) (c := n) (by omega) g (fun _ _ => ⟨rfl, rfl, rfl⟩) un
            have last : ∀ x y z, (bt (ps p) 0 = true → x = pv2 0) → (bt (ps p) 1 = true → y = pv2 1) → (bt (ps p) 2 = true → z = pv2 2) → wY_value_137 postY (nI p) x y z (nI lim) (nI lmp) (nI lmr) (nI lme) (nI n) (nI np) (nI nr) (nI m) (nI nk) (nI n) sy lf rt psy pl pr rl rr el er eru xe w iv la sb b_val b_stand b_cost b_best b_needed b_pick b_got := by
              intro x y z ex ey ez
              unfold wY_value_137
              refine qy_valueOf hp (by omega) g il'.1 pn ?_
              intro sb2 va2
              rw [hW, qm_v_A (B := pv2) hp p pn (fun w hw bw => ?_)]
              · exact KY _ _ _ _ _
              · match w, hw with
                | 0, _ => exact ex bw
                | 1, _ => exact ey bw
                | 2, _ => exact ez bw
            have g115 : ∀ x y, (bt (ps p) 0 = true → x = pv2 0) → (bt (ps p) 1 = true → y = pv2 1) → wY_value_115 postY (nI p) v4 x y (nI lim) (nI lmp) (nI lmr) (nI lme) (nI n) (nI np) (nI nr) (nI m) (nI nk) (nI n) sy lf rt psy pl pr rl rr el er eru xe w iv la sb b_val b_stand b_cost b_best b_needed b_pick b_got := by
              intro x y ex ey
              unfold wY_value_115
              rw [s2]
              refine ek_if t01 (fun e => last _ _ _ ex ey (fun z => by rw [e] at z; exact absurd z (by decide))) (fun e => ?_)
              obtain ⟨t, ht, e4, e5⟩ := p2 (nf e)
              rw [e4]
              refine ⟨vp_in_nI (by omega) (by omega), last _ _ _ ex ey (fun _ => ?_)⟩
              rw [nI_clamp (by omega), un t ht, e5]
            have g94 : ∀ x, (bt (ps p) 0 = true → x = pv2 0) → wY_value_94 postY (nI p) v3 v4 x (nI lim) (nI lmp) (nI lmr) (nI lme) (nI n) (nI np) (nI nr) (nI m) (nI nk) (nI n) sy lf rt psy pl pr rl rr el er eru xe w iv la sb b_val b_stand b_cost b_best b_needed b_pick b_got := by
              intro x ex
              unfold wY_value_94
              rw [s1]
              refine ek_if t01 (fun e => g115 _ _ ex (fun z => by rw [e] at z; exact absurd z (by decide))) (fun e => ?_)
              obtain ⟨t, ht, e4, e5⟩ := p1 (nf e)
              rw [e4]
              refine ⟨vp_in_nI (by omega) (by omega), g115 _ _ ex (fun _ => ?_)⟩
              rw [nI_clamp (by omega), un t ht, e5]
            dsimp only
            rw [s0]
            refine ek_if t01 (fun e => g94 _ (fun z => by rw [e] at z; exact absurd z (by decide))) (fun e => ?_)
            obtain ⟨t, ht, e4, e5⟩ := p0 (nf e)
            rw [e4]
            refine ⟨vp_in_nI (by omega) (by omega), g94 _ (fun _ => ?_)⟩
            rw [nI_clamp (by omega), un t ht, e5]
          have f50 : wY_value_50 postY (nI p) v2 v3 v4 (nI lim) (nI lmp) (nI lmr) (nI lme) (nI n) (nI np) (nI nr) (nI m) (nI nk) g_labN sy lf rt psy pl pr rl rr el er eru xe w b_in b_lab sb b_val b_stand b_cost b_best b_needed b_pick b_got := by
            unfold wY_value_50
            rw [s2]
            refine ek_if t01 (fun _ => f71) (fun e => ?_)
            obtain ⟨t, ht, e4, _⟩ := p2 (nf e)
            have K := f71
            rw [e4] at K ⊢
            exact qy_isT1 ht (by omega) (br_f (by decide) K)
          have f33 : wY_value_33 postY (nI p) v2 v3 v4 (nI lim) (nI lmp) (nI lmr) (nI lme) (nI n) (nI np) (nI nr) (nI m) (nI nk) g_labN sy lf rt psy pl pr rl rr el er eru xe w b_in b_lab sb b_val b_stand b_cost b_best b_needed b_pick b_got := by
            unfold wY_value_33
            rw [s1]
            refine ek_if t01 (fun _ => f50) (fun e => ?_)
            obtain ⟨t, ht, e4, _⟩ := p1 (nf e)
            have K := f50
            rw [e4] at K ⊢
            exact qy_isT1 ht (by omega) (br_f (by decide) K)
          dsimp only
          rw [s0]
          refine ek_if t01 (fun _ => f33) (fun e => ?_)
          obtain ⟨t, ht, e4, _⟩ := p0 (nf e)
          have K := f33
          rw [e4] at K ⊢
          exact qy_isT1 ht (by omega) (br_f (by decide) K)
        have inv' : qz_inv lim lmp lmr lme n np nr m nk n m cc' cf' oc sy lf rt ti psy pl pr ps ptop btp pi rl rr el er eru w ld' mem' usr' syt' sgt' ord bT best tp := ⟨k1, k2, xi', k4, k5, k6, qz_cf cfc k7⟩
        unfold wX_value_166
        refine qx_eval (S := qi_S ps p) (A := pv2) ci.1 ci.2.1 hp (fun q b => ?_) (fun q x b cx => ?_) ?_ ?_
        · rw [qi_S_t hp pn] at b
          have := qp_le hp p pn q b.1
          exact ⟨b.2, by omega⟩
        · rcases qi_S_cl hp pn q x b cx with z | z
          · exact Or.inl z
          · rw [qi_S_t hp pn] at b
            obtain ⟨j, hj, e⟩ := pvs x z (qp_dn hp p pn q x b.1 cx)
            exact Or.inr ⟨(qm_v3 z).symm, j, hj, e⟩
        · intro pv' h1 h2
          refine br_f (by decide) ⟨ip, ?_⟩
          rw [cp]
          have e : pv' p = qm_v n sy lf rt ld' psy pl pr pv2 p := by
            by_cases z : p < 3
            · rw [h2 p (by rw [qi_S_b, decide_eq_false (by omega), Bool.and_false]), qm_v3 z]
            · exact (h1 p ((qi_S_t hp pn).mpr ⟨qp_self hp pn, by omega⟩)).1
          rw [e]
          exact Y _ (fun g_labN b_in b_lab b_sub b_val => ⟨rfl, qz_in inv'⟩)
        · intro pv' q h2 bq e
          have ev := qm_v_sub (A := pv2) hp (by omega) g il.1 p pn q ((qi_S_t hp pn).mp bq).1 e
          rw [ev] at Y
          exact br_t rfl (Y _ (fun g_labN b_in b_lab b_sub b_val => ⟨rfl, qz_in inv'⟩))
      have gt : ∀ {u : Bool} {x : Int32}, (u = false ∨ ∃ t, t < n ∧ x = nI t) → ¬ u = false → ∃ t, t < n ∧ x = nI t := fun q z => q.elim (fun q => (z q).elim) id
      have f148 : ∀ pv2 : Nat → Int32, (bt (ps p) 0 = true → ∃ t, t < n ∧ v2 = nI t ∧ pv2 0 = ld' t) → (bt (ps p) 1 = true → ∃ t, t < n ∧ v3 = nI t ∧ pv2 1 = ld' t) →
          wX_value_148 (fun r u' => wpY_value (fun r' v' => r' = r ∧ i_Rel (k + 5) u' v') (nI lim, nI lmp, nI lmr, nI lme, nI n, nI np, nI nr, nI m, nI nk, g_labN, sy, lf, rt, psy, pl, pr, rl, rr, el, er, eru, xe, w, b_in, b_lab, b_sub, b_val, b_stand, b_cost, b_best, b_needed, b_pick, b_got) (nI p) v2 v3 v4) (nI p) v4 (ps p) (qz_fl (bt (ps p) 2)) (nI lim) (nI lmp) (nI lmr) (nI lme) (nI n) (nI np) (nI nr) (nI m) (nI n) (nI m) cc' 0 f_matchPattern f_matchDepth f_levelCount f_groundLeft cf' f_settledClasses f_reachedClasses oc (nI nk) sy lf rt ti psy pl pr ps ptop btp pi rl rr el er eru w ld' mem' usr' syt' sgt' a_levelVar a_levelRest pv2 a_standsFor ord best bT a_gotTerm a_treeCost xe := by
        intro pv2 p0 p1
        unfold wX_value_148
        refine ek_if qz_fl0 (fun e => fin pv2 p0 p1 (fun z => by rw [e] at z; exact absurd z (by decide))) (fun e => ?_)
        obtain ⟨t, ht, e4⟩ := gt g2 e
        refine ⟨by rw [e4]; exact vp_in_nI (by omega) (by omega), nm_e (fin _ (fun z => ?_) (fun z => ?_) (fun _ => ⟨t, ht, e4, ?_⟩))⟩
        · rw [pk_un (by decide)]; exact p0 z
        · rw [pk_un (by decide)]; exact p1 z
        · rw [pk_us, e4, nI_clamp (by omega)]
      have f131 : ∀ pv2 : Nat → Int32, (bt (ps p) 0 = true → ∃ t, t < n ∧ v2 = nI t ∧ pv2 0 = ld' t) →
          wX_value_131 (fun r u' => wpY_value (fun r' v' => r' = r ∧ i_Rel (k + 5) u' v') (nI lim, nI lmp, nI lmr, nI lme, nI n, nI np, nI nr, nI m, nI nk, g_labN, sy, lf, rt, psy, pl, pr, rl, rr, el, er, eru, xe, w, b_in, b_lab, b_sub, b_val, b_stand, b_cost, b_best, b_needed, b_pick, b_got) (nI p) v2 v3 v4) (nI p) v3 v4 (ps p) (qz_fl (bt (ps p) 1)) (qz_fl (bt (ps p) 2)) (nI lim) (nI lmp) (nI lmr) (nI lme) (nI n) (nI np) (nI nr) (nI m) (nI n) (nI m) cc' 0 f_matchPattern f_matchDepth f_levelCount f_groundLeft cf' f_settledClasses f_reachedClasses oc (nI nk) sy lf rt ti psy pl pr ps ptop btp pi rl rr el er eru w ld' mem' usr' syt' sgt' a_levelVar a_levelRest pv2 a_standsFor ord best bT a_gotTerm a_treeCost xe := by
        intro pv2 p0
        unfold wX_value_131
        refine ek_if qz_fl0 (fun e => f148 pv2 p0 (fun z => by rw [e] at z; exact absurd z (by decide))) (fun e => ?_)
        obtain ⟨t, ht, e4⟩ := gt g1 e
        refine ⟨by rw [e4]; exact vp_in_nI (by omega) (by omega), nm_e (f148 _ (fun z => ?_) (fun _ => ⟨t, ht, e4, ?_⟩))⟩
        · rw [pk_un (by decide)]; exact p0 z
        · rw [pk_us, e4, nI_clamp (by omega)]
      refine ek_if qz_fl0 (fun e => f131 _ (fun z => by rw [e] at z; exact absurd z (by decide))) (fun e => ?_)
      obtain ⟨t, ht, e4⟩ := gt g0 e
      refine ⟨by rw [e4]; exact vp_in_nI (by omega) (by omega), nm_e (f131 _ (fun _ => ⟨t, ht, e4, ?_⟩))⟩
      rw [pk_us, e4, nI_clamp (by omega)]
end
section
def qz_ini (a : Int32) : Nat → Nat → Int32
  | 0 => fun _ => 0
  | i + 1 => upd (qz_ini a i) i a
theorem qz_ini_v {a : Int32} : ∀ {i j : Nat}, j < i → qz_ini a i j = a
  | 0, _, h => absurd h (Nat.not_lt_zero _)
  | i + 1, j, h => by
    rw [qz_ini]
    by_cases z : j = i
    · subst z; exact pk_us
    · rw [pk_un z]; exact qz_ini_v (by omega)
section
variable {f_termLimit f_patternLimit f_ruleLimit f_eventLimit f_termCount f_patternCount f_ruleCount f_eventCount f_closedTerms f_closedEvents f_classCount f_dirty f_matchPattern f_matchDepth f_levelCount f_groundLeft f_costsFresh f_settledClasses f_reachedClasses f_orderCount f_explainedCount : Int32} {a_termSymbol a_termLeft a_termRight a_termIndex a_byTop a_patternIndex a_ruleLeft a_ruleRight a_eventLeft a_eventRight a_eventRule a_leader a_members a_users a_symbolTerms a_signTerm a_levelVar a_levelRest a_patValue a_standsFor a_order a_bestTerm a_gotTerm a_explainedEvent : Nat → Int32} {a_best a_treeCost : Nat → Int64}
theorem qx_ini {post : SX → Prop} (K : ∀ ps ptop, (∀ v, v < 3 → ps v = (1 : Int32) <<< (nI v &&& 31) ∧ ptop v = nI (v + 1)) → post (f_termLimit, f_patternLimit, f_ruleLimit, f_eventLimit, f_termCount, 3, f_ruleCount, f_eventCount, f_closedTerms, f_closedEvents, f_classCount, f_dirty, f_matchPattern, f_matchDepth, f_levelCount, f_groundLeft, f_costsFresh, f_settledClasses, f_reachedClasses, f_orderCount, f_explainedCount, a_termSymbol, a_termLeft, a_termRight, a_termIndex, qz_ini (-1) 3, qz_ini (-1) 3, qz_ini (-1) 3, ps, ptop, a_byTop, a_patternIndex, a_ruleLeft, a_ruleRight, a_eventLeft, a_eventRight, a_eventRule, qz_ini 1 16, a_leader, a_members, a_users, a_symbolTerms, a_signTerm, a_levelVar, a_levelRest, a_patValue, a_standsFor, a_order, a_best, a_bestTerm, a_gotTerm, a_treeCost, a_explainedEvent)) :
    ∃ k, wX_init_314 post f_termLimit f_patternLimit f_ruleLimit f_eventLimit f_termCount f_patternCount f_ruleCount f_eventCount f_closedTerms f_closedEvents f_classCount f_dirty f_matchPattern f_matchDepth f_levelCount f_groundLeft f_costsFresh f_settledClasses f_reachedClasses f_orderCount f_explainedCount k 0 a_termSymbol a_termLeft a_termRight a_termIndex (fun _ => 0) (fun _ => 0) (fun _ => 0) (fun _ => 0) (fun _ => 0) a_byTop a_patternIndex a_ruleLeft a_ruleRight a_eventLeft a_eventRight a_eventRule (fun _ => 0) a_leader a_members a_users a_symbolTerms a_signTerm a_levelVar a_levelRest a_patValue a_standsFor a_order a_best a_bestTerm a_gotTerm a_treeCost a_explainedEvent := by
  refine loop_0 (fun k i s => wX_init_314 post f_termLimit f_patternLimit f_ruleLimit f_eventLimit f_termCount f_patternCount f_ruleCount f_eventCount f_closedTerms f_closedEvents f_classCount f_dirty f_matchPattern f_matchDepth f_levelCount f_groundLeft f_costsFresh f_settledClasses f_reachedClasses f_orderCount f_explainedCount k (nI i) a_termSymbol a_termLeft a_termRight a_termIndex (fun _ => 0) (fun _ => 0) (fun _ => 0) (fun _ => 0) (fun _ => 0) a_byTop a_patternIndex a_ruleLeft a_ruleRight a_eventLeft a_eventRight a_eventRule s a_leader a_members a_users a_symbolTerms a_signTerm a_levelVar a_levelRest a_patValue a_standsFor a_order a_best a_bestTerm a_gotTerm a_treeCost a_explainedEvent) (fun i s => s = qz_ini 1 i) 16 (fun _ => 0) rfl ?_ ?_
  · intro k s hs
    subst hs
    rw [wX_init_314]
    refine br_t (by decide) (loop_0 (σ := (Nat → Int32) × (Nat → Int32) × (Nat → Int32)) (fun k i s => wX_init_338 post f_termLimit f_patternLimit f_ruleLimit f_eventLimit f_termCount f_patternCount f_ruleCount f_eventCount f_closedTerms f_closedEvents f_classCount f_dirty f_matchPattern f_matchDepth f_levelCount f_groundLeft f_costsFresh f_settledClasses f_reachedClasses f_orderCount f_explainedCount k (nI i) a_termSymbol a_termLeft a_termRight a_termIndex s.1 s.1 s.1 s.2.1 s.2.2 a_byTop a_patternIndex a_ruleLeft a_ruleRight a_eventLeft a_eventRight a_eventRule (qz_ini 1 16) a_leader a_members a_users a_symbolTerms a_signTerm a_levelVar a_levelRest a_patValue a_standsFor a_order a_best a_bestTerm a_gotTerm a_treeCost a_explainedEvent) (fun i s => s.1 = qz_ini (-1) i ∧ ∀ v, v < i → s.2.1 v = (1 : Int32) <<< (nI v &&& 31) ∧ s.2.2 v = nI (v + 1)) 3 (fun _ => 0, fun _ => 0, fun _ => 0) ⟨rfl, fun v hv => absurd hv (Nat.not_lt_zero _)⟩ ?_ ?_)
    · rintro k ⟨a, ps, ptop⟩ ⟨h1, h2⟩
      dsimp only at h1 h2 ⊢
      subst h1
      rw [wX_init_338]
      exact br_t (by decide) (K ps ptop h2)
    · rintro k i ⟨a, ps, ptop⟩ hi ⟨h1, h2⟩ Kn
      dsimp only at h1 h2 ⊢
      subst h1
      rw [wX_init_338]
      have ii : vp_in (nI i) 32 := vp_in_nI (by omega) (by omega)
      have ci : (nI i).toNatClampNeg = i := nI_clamp (by omega)
      refine br_f (nI_ge (b := 3) hi (by decide)) ⟨ii, nm_r (e' := qz_ini (-1) (i + 1)) (by rw [ci]; rfl) ⟨ii, nm_r (e' := qz_ini (-1) (i + 1)) (by rw [ci]; rfl) ⟨ii, nm_r (e' := qz_ini (-1) (i + 1)) (by rw [ci]; rfl) ⟨ii, nm_r (e' := upd ps i ((1 : Int32) <<< (nI i &&& 31))) (by rw [ci]) ⟨ii, nm_r (e' := upd ptop i (nI (i + 1))) (by rw [ci, nI_1]) (nm_r (nI_1 i) (Kn (qz_ini (-1) (i + 1), upd ps i ((1 : Int32) <<< (nI i &&& 31)), upd ptop i (nI (i + 1))) ⟨rfl, fun v hv => ?_⟩))⟩⟩⟩⟩⟩
      dsimp only
      by_cases z : v = i
      · subst z; rw [pk_us, pk_us]; exact ⟨rfl, rfl⟩
      · rw [pk_un z, pk_un z]; exact h2 v (by omega)
  · intro k i s hi hs Kn
    subst hs
    rw [wX_init_314]
    exact br_f (nI_ge (b := 16) hi (by decide)) ⟨vp_in_nI hi (by omega), nm_r (e' := qz_ini 1 (i + 1)) (by rw [nI_clamp (by omega)]; rfl) (nm_r (nI_1 i) (Kn _ rfl))⟩
end
section
variable {g_maxTerms g_maxPats g_maxRules g_maxEvents g_nTerms g_nPats g_nRules g_nEvents g_nKept g_labN : Int32} {b_sym b_lef b_rig b_rl b_rr b_el b_er b_eRule b_kept b_in b_lab b_sub b_val b_stand b_needed b_pick b_got : Nat → Int32} {b_cost b_best : Nat → Int64}
theorem qy_ini {post : SY → Prop} (K : post (g_maxTerms, g_maxPats, g_maxRules, g_maxEvents, g_nTerms, g_nPats, g_nRules, g_nEvents, g_nKept, g_labN, b_sym, b_lef, b_rig, qz_ini (-1) 3, qz_ini (-1) 3, qz_ini (-1) 3, b_rl, b_rr, b_el, b_er, b_eRule, b_kept, qz_ini 1 16, b_in, b_lab, b_sub, b_val, b_stand, b_cost, b_best, b_needed, b_pick, b_got)) :
    ∃ k, wY_init_247 post g_maxTerms g_maxPats g_maxRules g_maxEvents g_nTerms g_nPats g_nRules g_nEvents g_nKept g_labN k 0 b_sym b_lef b_rig (fun _ => 0) (fun _ => 0) (fun _ => 0) b_rl b_rr b_el b_er b_eRule b_kept (fun _ => 0) b_in b_lab b_sub b_val b_stand b_cost b_best b_needed b_pick b_got := by
  refine loop_0 (fun k i s => wY_init_247 post g_maxTerms g_maxPats g_maxRules g_maxEvents g_nTerms g_nPats g_nRules g_nEvents g_nKept g_labN k (nI i) b_sym b_lef b_rig s s s b_rl b_rr b_el b_er b_eRule b_kept (fun _ => 0) b_in b_lab b_sub b_val b_stand b_cost b_best b_needed b_pick b_got) (fun i s => s = qz_ini (-1) i) 3 (fun _ => 0) rfl ?_ ?_
  · intro k s hs
    subst hs
    rw [wY_init_247]
    refine br_t (by decide) (loop_0 (fun k i s => wY_init_286 post g_maxTerms g_maxPats g_maxRules g_maxEvents g_nTerms g_nPats g_nRules g_nEvents g_nKept g_labN k (nI i) b_sym b_lef b_rig (qz_ini (-1) 3) (qz_ini (-1) 3) (qz_ini (-1) 3) b_rl b_rr b_el b_er b_eRule b_kept s b_in b_lab b_sub b_val b_stand b_cost b_best b_needed b_pick b_got) (fun i s => s = qz_ini 1 i) 16 (fun _ => 0) rfl ?_ ?_)
    · intro k s hs
      subst hs
      rw [wY_init_286]
      exact br_t (by decide) K
    · intro k i s hi hs Kn
      subst hs
      rw [wY_init_286]
      exact br_f (nI_ge (b := 16) hi (by decide)) ⟨vp_in_nI hi (by omega), nm_r (e' := qz_ini 1 (i + 1)) (by rw [nI_clamp (by omega)]; rfl) (nm_r (nI_1 i) (Kn _ rfl))⟩
  · intro k i s hi hs Kn
    subst hs
    rw [wY_init_247]
    have ii : vp_in (nI i) 32 := vp_in_nI (by omega) (by omega)
    have ci : (nI i).toNatClampNeg = i := nI_clamp (by omega)
    exact br_f (nI_ge (b := 3) hi (by decide)) ⟨ii, nm_r (e' := qz_ini (-1) (i + 1)) (by rw [ci]; rfl) ⟨ii, nm_r (e' := qz_ini (-1) (i + 1)) (by rw [ci]; rfl) ⟨ii, nm_r (e' := qz_ini (-1) (i + 1)) (by rw [ci]; rfl) (nm_r (nI_1 i) (Kn _ rfl))⟩⟩⟩
end
theorem qz_inv0 {lim lmp lmr lme : Nat} {ps ptop : Nat → Int32} (h1 : lim ≤ 32) (h2 : lmp ≤ 32) (h2' : 3 ≤ lmp) (h3 : lmr ≤ 6) (h4 : lme ≤ 64) (h : ∀ v, v < 3 → ps v = (1 : Int32) <<< (nI v &&& 31) ∧ ptop v = nI (v + 1)) :
    qz_inv lim lmp lmr lme 0 3 0 0 0 0 0 0 0 0 (fun _ => 0) (fun _ => 0) (fun _ => 0) (fun _ => 0) (qz_ini (-1) 3) (qz_ini (-1) 3) (qz_ini (-1) 3) ps ptop (fun _ => 0) (fun _ => 0) (fun _ => 0) (fun _ => 0) (fun _ => 0) (fun _ => 0) (fun _ => 0) (qz_ini 1 16) (fun _ => 0) (fun _ => 0) (fun _ => 0) (fun _ => 0) (fun _ => 0) (fun _ => 0) (fun _ => 0) (fun _ => 0) (fun q => q + 1) := by
  have z : ∀ {P : Prop} {x : Nat}, x < 0 → P := fun h => absurd h (Nat.not_lt_zero _)
  refine ⟨⟨h1, by omega, h2, h2', h3, by omega, h4, by omega, by omega⟩, ⟨fun t ht => z ht, fun k _ => Or.inl rfl⟩, ⟨Nat.le_refl _, by omega, by omega, Nat.le_refl _, fun t ht => z ht, fun e he => z he, ⟨⟨by omega, fun t ht => z ht, fun x hx => z hx, fun l t hl => z hl, fun l t hl => z hl, fun s t hs ht => ?_, rfl, fun k _ => ⟨0, by omega, rfl⟩⟩, ⟨fun t ht e => ?_, fun t ht => z ht⟩, fun f hf x y hx => z hx⟩, fun e he => z he⟩, ⟨⟨by omega, by omega, fun p hp => ⟨qz_ini_v hp, qz_ini_v hp, qz_ini_v hp⟩, fun p h3 hp => by omega, fun p q hp hq => ?_⟩, fun q hq => (h q hq).2, ⟨fun p hp => rfl, fun p h3 hp => by omega⟩, fun k q hk hq => ?_, ⟨fun p h3 hp => by omega, fun k _ => Or.inl rfl⟩⟩, ⟨by omega, fun ru hru => z hru⟩, fun s hs => ⟨1, by omega, by omega, qz_ini_v hs⟩, Or.inl rfl⟩
  · rw [b_0]; exact ⟨fun q => absurd q (by decide), fun q => z q.1⟩
  · rw [b_0] at e; exact absurd e (by decide)
  · rw [(h p hp).1, qb_s (by omega) hq, qz_ini_v hp, qp_sb1, Bool.or_false, Bool.or_false]
  · rw [b_0]; exact ⟨fun q => absurd q (by decide), fun q => by omega⟩
theorem i_vc0 (k0 : Int32) (k1 : Int32) (k2 : Int32) (k3 : Int32) : wpX_init (fun u => wpY_init (fun v => i_Rel 4 u v) k0 k1 k2 k3) k0 k1 k2 k3 := by
  obtain ⟨lim, l1, l2, e0⟩ := qz_cl_n k0 (lo := 8) (hi := 32) (by omega) (by omega)
  obtain ⟨lmp, l3, l4, e1⟩ := qz_cl_n k1 (lo := 6) (hi := 32) (by omega) (by omega)
  obtain ⟨lmr, l5, l6, e2⟩ := qz_cl_n k2 (lo := 1) (hi := 6) (by omega) (by omega)
  obtain ⟨lme, l7, l8, e3⟩ := qz_cl_n k3 (lo := 4) (hi := 64) (by omega) (by omega)
  have e0 : qz_cl k0 8 32 = nI lim := e0
  have e1 : qz_cl k1 6 32 = nI lmp := e1
  have e2 : qz_cl k2 1 6 = nI lmr := e2
  have e3 : qz_cl k3 4 64 = nI lme := e3
  unfold wpX_init
  refine qx_clamp (qx_clamp (qx_clamp (qx_clamp ?_)))
  rw [e0, e1, e2, e3]
  refine qx_ini ?_
  intro ps ptop hpp
  unfold wpY_init
  refine qy_clamp (qy_clamp (qy_clamp (qy_clamp ?_)))
  rw [e0, e1, e2, e3]
  refine qy_ini ?_
  exact qz_in (qz_inv0 l2 l4 (by omega) l6 l8 hpp)
end
