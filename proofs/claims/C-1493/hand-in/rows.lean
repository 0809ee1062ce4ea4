section
/-! pure rows to paste: stores, nI and lN arithmetic, masks, shifts, narrowing, branches by naturals (pk_le, pk_lt, pk_eq), loops (lp1 .. lp16: the measure of the state; rp1 ..: recursion), negatives. Take what you need -/
theorem pk_us {f : Nat → Int32} {k : Nat} {x : Int32} : upd f k x k = x := if_pos rfl
theorem pk_un {f : Nat → Int32} {k j : Nat} {x : Int32} (h : j ≠ k) : upd f k x j = f j := if_neg h
theorem pk_uLs {f : Nat → Int64} {k : Nat} {x : Int64} : vp_updL f k x k = x := if_pos rfl
theorem pk_uLn {f : Nat → Int64} {k j : Nat} {x : Int64} (h : j ≠ k) : vp_updL f k x j = f j := if_neg h
theorem pk_sub {a b : Nat} (h : b ≤ a) : nI a - nI b = nI (a - b) := by
  obtain ⟨c, rfl⟩ : ∃ c, a = c + b := ⟨a - b, by omega⟩
  rw [← nI_add, Int32.add_sub_cancel, Nat.add_sub_cancel]
theorem pk_m1 (n : Nat) : nI (n + 1) + (-1) = nI n := by
  rw [← nI_1, Int32.add_assoc, show (1 : Int32) + (-1) = 0 from rfl, Int32.add_zero]
theorem pk_mul (a b : Nat) : nI a * nI b = nI (a * b) := (Int32.ofNat_mul a b).symm
theorem pk_div {a d : Nat} (ha : a < 2 ^ 31) (h0 : 0 < d) (hd : d < 2 ^ 31) : nI a / nI d = nI (a / d) := by
  apply Int32.toInt_inj.mp
  rw [lg_idiv_nonneg (by rw [nI_toInt ha]; omega) (by rw [nI_toInt hd]; omega), nI_toInt ha, nI_toInt hd, nI_toInt (Nat.lt_of_le_of_lt (Nat.div_le_self a d) ha)]
  first | rfl | exact (Int.natCast_ediv _ _).symm
theorem pk_rem {a d : Nat} (ha : a < 2 ^ 31) (h0 : 0 < d) (hd : d < 2 ^ 31) : nI a - nI a / nI d * nI d = nI (a % d) := by
  rw [pk_div ha h0 hd, pk_mul, pk_sub (Nat.div_mul_le_self a d)]
  exact congrArg nI (by have := Nat.div_add_mod' a d; omega)
theorem pk_sub_toInt {a b : Nat} (ha : a < 2 ^ 30) (hb : b < 2 ^ 30) : (nI a - nI b).toInt = (a : Int) - b := by
  rw [Int32.toInt_sub, nI_toInt (by omega), nI_toInt (by omega)]
  exact Int.bmod_eq_of_le (by omega) (by omega)
theorem pk_sneg {a b : Nat} (hb : b < 2 ^ 30) (h : a < b) : nI a - nI b < 0 := by
  rw [Int32.lt_iff_toInt_lt, pk_sub_toInt (by omega) hb, show (0 : Int32).toInt = 0 from by decide]
  omega
theorem pk_ix (x : Int32) {n : Nat} (hn : n < 2 ^ 31) : x < 0 ∨ nI n ≤ x ∨ ∃ j : Nat, j < n ∧ x = nI j := by
  by_cases h : x < 0
  · exact Or.inl h
  · obtain ⟨j, hj, rfl⟩ := nI_of h
    by_cases h2 : j < n
    · exact Or.inr (Or.inr ⟨j, h2, rfl⟩)
    · exact Or.inr (Or.inl (nI_le (by omega) hj))
theorem pk_le {x y : Int32} {A B : Prop} (a b : Nat) (f : a ≤ b → A) (g : b < a → B) (hx : x = nI a := by rfl) (hy : y = nI b := by rfl) (ha : a < 2 ^ 31 := by omega) (hb : b < 2 ^ 31 := by omega) : (x ≤ y → A) ∧ (¬ x ≤ y → B) := by
  subst hx hy
  rw [nI_leI ha hb]
  exact ⟨f, fun z => g (by omega)⟩
theorem pk_lt {x y : Int32} {A B : Prop} (a b : Nat) (f : a < b → A) (g : b ≤ a → B) (hx : x = nI a := by rfl) (hy : y = nI b := by rfl) (ha : a < 2 ^ 31 := by omega) (hb : b < 2 ^ 31 := by omega) : (x < y → A) ∧ (¬ x < y → B) := by
  subst hx hy
  rw [nI_ltI ha hb]
  exact ⟨f, fun z => g (by omega)⟩
theorem pk_eq {x y : Int32} {A B : Prop} (a b : Nat) (f : a = b → A) (g : a ≠ b → B) (hx : x = nI a := by rfl) (hy : y = nI b := by rfl) (ha : a < 2 ^ 31 := by omega) (hb : b < 2 ^ 31 := by omega) : (x = y → A) ∧ (¬ x = y → B) := by
  subst hx hy
  rw [nI_eq ha hb]
  exact ⟨f, g⟩
theorem pk_in {x : Int32} (n N : Nat) (h : n < N) (hx : x = nI n := by rfl) (hN : N < 2 ^ 31 := by omega) : vp_in x N := by
  subst hx
  exact vp_in_nI h hN
theorem pk_cl {x : Int32} (n : Nat) (hx : x = nI n := by rfl) (h : n < 2 ^ 31 := by omega) : x.toNatClampNeg = n := by
  subst hx
  exact nI_clamp h
theorem pk_tn {n : Nat} (h : n < 2 ^ 32) : (nI n).toBitVec.toNat = n := Nat.mod_eq_of_lt h
theorem pk_and (x : Int32) {m : Int32} (k : Nat) (hm : m.toBitVec.toNat = 2 ^ k - 1) : x &&& m = nI (x.toBitVec.toNat % 2 ^ k) := by
  apply Int32.toBitVec_inj.mp
  apply BitVec.eq_of_toNat_eq
  rw [Int32.toBitVec_and, BitVec.toNat_and, hm, Nat.and_two_pow_sub_one_eq_mod]
  show _ = (BitVec.ofNat 32 _).toNat
  rw [BitVec.toNat_ofNat]
  exact (Nat.mod_eq_of_lt (Nat.lt_of_le_of_lt (Nat.mod_le _ _) x.toBitVec.isLt)).symm
theorem pk_andN {n : Nat} (h : n < 2 ^ 32) {m : Int32} (k : Nat) (hm : m.toBitVec.toNat = 2 ^ k - 1) : nI n &&& m = nI (n % 2 ^ k) := by
  rw [pk_and _ k hm, pk_tn h]
theorem pk_andE (x : Int32) {m : Int32} (k : Nat) (hm : m.toBitVec.toNat = 2 ^ k - 1) : ∃ j : Nat, j < 2 ^ k ∧ x &&& m = nI j := ⟨_, Nat.mod_lt _ (Nat.two_pow_pos k), pk_and x k hm⟩
theorem pk_andIn (x : Int32) {m : Int32} (k : Nat) (hm : m.toBitVec.toNat = 2 ^ k - 1) (hk : k ≤ 30) : vp_in (x &&& m) (2 ^ k) := by
  obtain ⟨j, hj, e⟩ := pk_andE x k hm
  rw [e]
  exact vp_in_nI hj (Nat.lt_of_le_of_lt (Nat.pow_le_pow_right (by decide) hk) (by decide))
theorem pk_shl (a s : Int32) (k : Nat) (hs : (s.toBitVec.smod 32).toNat = k) : (a <<< s).toBitVec.toNat = a.toBitVec.toNat * 2 ^ k % 2 ^ 32 := by
  show (a.toBitVec <<< (s.toBitVec.smod 32).toNat).toNat = _
  rw [hs, BitVec.toNat_shiftLeft, Nat.shiftLeft_eq]
theorem pk_shlN {n : Nat} (s : Int32) (k : Nat) (hs : (s.toBitVec.smod 32).toNat = k) (h : n * 2 ^ k < 2 ^ 32) : nI n <<< s = nI (n * 2 ^ k) := by
  apply Int32.toBitVec_inj.mp
  apply BitVec.eq_of_toNat_eq
  have hn : n < 2 ^ 32 := Nat.lt_of_le_of_lt (Nat.le_mul_of_pos_right n (Nat.two_pow_pos k)) h
  rw [pk_shl _ _ k hs, pk_tn hn, pk_tn h, Nat.mod_eq_of_lt h]
theorem pk_shr (a s : Int32) (k : Nat) (hs : (s.toBitVec.smod 32).toNat = k) : (a >>> s).toInt = a.toInt >>> k := by
  show (a.toBitVec.sshiftRight (s.toBitVec.smod 32).toNat).toInt = _
  rw [hs, BitVec.toInt_sshiftRight]
  rfl
theorem pk_shrN {n : Nat} (h : n < 2 ^ 31) (s : Int32) (k : Nat) (hs : (s.toBitVec.smod 32).toNat = k) : nI n >>> s = nI (n / 2 ^ k) := by
  apply Int32.toInt_inj.mp
  have h2 : n / 2 ^ k ≤ n := Nat.div_le_self _ _
  rw [pk_shr _ _ k hs, nI_toInt h, nI_toInt (by omega), Int.shiftRight_eq_div_pow]
  rfl
theorem pk_ushr (x s : Int32) (k : Nat) (hs : ((s.toUInt32 &&& Int32.toUInt32 31).toBitVec % 32).toNat = k) : (x.toUInt32 >>> (s.toUInt32 &&& Int32.toUInt32 31)).toInt32.toBitVec.toNat = x.toBitVec.toNat / 2 ^ k := by
  have e : (x.toUInt32 >>> (s.toUInt32 &&& Int32.toUInt32 31)).toInt32.toBitVec = x.toBitVec >>> k := by
    rw [← hs]
    exact UInt32.toBitVec_shiftRight _ _
  rw [e, BitVec.toNat_ushiftRight, Nat.shiftRight_eq_div_pow]
theorem pk_ushrN {n : Nat} (hn : n < 2 ^ 32) (s : Int32) (k : Nat) (hs : ((s.toUInt32 &&& Int32.toUInt32 31).toBitVec % 32).toNat = k) : ((nI n).toUInt32 >>> (s.toUInt32 &&& Int32.toUInt32 31)).toInt32 = nI (n / 2 ^ k) := by
  apply Int32.toBitVec_inj.mp
  apply BitVec.eq_of_toNat_eq
  rw [pk_ushr _ s k hs, pk_tn hn, pk_tn (Nat.lt_of_le_of_lt (Nat.div_le_self _ _) hn)]
theorem pk_nb (z : Int32) : narrow .byte (.int z.toInt8.toInt32) = .int z.toInt8.toInt32 := congrArg Value.int (by simp)
theorem pk_ns (z : Int32) : narrow .short (.int z.toInt16.toInt32) = .int z.toInt16.toInt32 := congrArg Value.int (by simp)
theorem pk_fb (r : Int32) : fits .byte (.int r.toInt8.toInt32) = true := by
  have ⟨a, b⟩ := lg_i2b_range r
  have h1 : (-128 : Int32).toInt = -128 := by decide
  have h2 : (127 : Int32).toInt = 127 := by decide
  simp only [fits, Bool.and_eq_true, decide_eq_true_eq, Int32.le_iff_toInt_le, h1, h2]
  omega
theorem pk_fs (r : Int32) : fits .short (.int r.toInt16.toInt32) = true := by
  have ⟨a, b⟩ := lg_i2s_range r
  have h1 : (-32768 : Int32).toInt = -32768 := by decide
  have h2 : (32767 : Int32).toInt = 32767 := by decide
  simp only [fits, Bool.and_eq_true, decide_eq_true_eq, Int32.le_iff_toInt_le, h1, h2]
  omega
theorem pk_charN {q : Nat} (hq : q < 65536) : narrow .char (.int (nI q)) = .int (nI q) ∧ fits .char (.int (nI q)) = true := by
  constructor
  · have e : (nI q).toUInt32.toUInt16.toUInt32.toInt32 = nI q := by
      apply Int32.toBitVec_inj.mp
      apply BitVec.eq_of_toNat_eq
      show (nI q).toUInt32.toUInt16.toUInt32.toNat = q % 2 ^ 32
      rw [UInt16.toNat_toUInt32, UInt32.toNat_toUInt16, show (nI q).toUInt32.toNat = q % 2 ^ 32 from rfl]
      omega
    exact congrArg Value.int e
  · have a : (0 : Int32) ≤ nI q := nI_pos' (by omega)
    have b : nI q ≤ 65535 := nI_le (b := 65535) (by omega) (by decide)
    show (decide ((0 : Int32) ≤ nI q) && decide (nI q ≤ 65535)) = true
    rw [decide_eq_true a, decide_eq_true b]
    rfl
theorem pk_char (x : Int32) : (x.toUInt32 % 65536).toInt32 = nI (x.toBitVec.toNat % 65536) := by
  apply Int32.toBitVec_inj.mp
  apply BitVec.eq_of_toNat_eq
  rw [pk_tn (by omega)]
  show (x.toUInt32 % 65536).toNat = _
  rw [UInt32.toNat_mod]
  rfl
theorem pk_nc (x : Int32) : narrow .char (.int (x.toUInt32 % 65536).toInt32) = .int (x.toUInt32 % 65536).toInt32 := by
  rw [pk_char]
  exact (pk_charN (Nat.mod_lt _ (by decide))).1
theorem pk_fc (x : Int32) : fits .char (.int (x.toUInt32 % 65536).toInt32) = true := by
  rw [pk_char]
  exact (pk_charN (Nat.mod_lt _ (by decide))).2
theorem pk_vb (z : Int32) : vp_nar .byte z.toInt8.toInt32 = z.toInt8.toInt32 := by rw [vp_nar_byte]; simp
theorem pk_vs (z : Int32) : vp_nar .short z.toInt16.toInt32 = z.toInt16.toInt32 := by rw [vp_nar_short]; simp
theorem pk_vc (z : Int32) : vp_nar .char (z.toUInt32 % 65536).toInt32 = (z.toUInt32 % 65536).toInt32 := Value.int.inj (pk_nc z)
theorem pk_lT {n : Nat} (h : n < 2 ^ 63) : (lN n).toInt = (n : Int) := lg_ofNat_toInt h
theorem pk_lLT {a b : Nat} (ha : a < 2 ^ 63) (hb : b < 2 ^ 63) : lN a < lN b ↔ a < b := by
  rw [Int64.lt_iff_toInt_lt, pk_lT ha, pk_lT hb]; omega
theorem pk_lLE {a b : Nat} (ha : a < 2 ^ 63) (hb : b < 2 ^ 63) : lN a ≤ lN b ↔ a ≤ b := by
  rw [Int64.le_iff_toInt_le, pk_lT ha, pk_lT hb]; omega
theorem pk_lEQ {a b : Nat} (ha : a < 2 ^ 63) (hb : b < 2 ^ 63) : lN a = lN b ↔ a = b := by
  rw [← Int64.toInt_inj, pk_lT ha, pk_lT hb]; omega
theorem pk_lOf {x : Int64} (h : ¬ x < 0) : ∃ k : Nat, k < 2 ^ 63 ∧ x = lN k := by
  rw [Int64.lt_iff_toInt_lt] at h
  have h0 : (0 : Int64).toInt = 0 := by decide
  have hx := Int64.toInt_lt x
  refine ⟨x.toInt.toNat, by omega, Int64.toInt_inj.mp ?_⟩
  rw [pk_lT (by omega)]
  omega
theorem pk_lDiv {a b : Nat} (ha : a < 2 ^ 63) (h0 : 0 < b) (hb : b < 2 ^ 63) : lN a / lN b = lN (a / b) := by
  apply Int64.toInt_inj.mp
  rw [lg_ldiv_nonneg (by rw [pk_lT ha]; omega) (by rw [pk_lT hb]; omega), pk_lT ha, pk_lT hb, pk_lT (Nat.lt_of_le_of_lt (Nat.div_le_self a b) ha)]
  rfl
theorem pk_lRem {a b : Nat} (ha : a < 2 ^ 63) (h0 : 0 < b) (hb : b < 2 ^ 63) : lN a - lN a / lN b * lN b = lN (a % b) := by
  rw [pk_lDiv ha h0 hb, lN_mul, lN_sub (Nat.div_mul_le_self a b)]
  exact congrArg lN (by have := Nat.div_add_mod' a b; omega)
theorem pk_loop {σ : Type} (W : Nat → Nat → σ → Prop) (I : Nat → σ → Prop) (e i0 : Nat) (s : σ) (hi : i0 ≤ e) (h0 : I i0 s) (hx : ∀ n s, I e s → W (n + 1) e s)
    (hs : ∀ n i s, i < e → I i s → (∀ s', I (i + 1) s' → W n (i + 1) s') → W (n + 1) i s) : ∃ n, W n i0 s :=
  ⟨e + 1, loop_i W I e hx hs (e + 1) i0 s hi (by omega) h0⟩
theorem pk_loopD {σ : Type} (W : Nat → Nat → σ → Prop) (I : Nat → σ → Prop) (hx : ∀ n s, I 0 s → W (n + 1) 0 s)
    (hs : ∀ n i s, I (i + 1) s → (∀ s', I i s' → W n i s') → W (n + 1) (i + 1) s) : ∀ (e : Nat) (s : σ), I e s → W (e + 1) e s := by
  intro e
  induction e with
  | zero => exact fun s h => hx 0 s h
  | succ e ih => exact fun s h => hs (e + 1) e s h (fun s' h' => ih s' h')
theorem lp1 {A1 : Type} (W : Nat → A1 → Prop) (I : A1 → Prop) (μ : A1 → Nat) (hs : ∀ (n : Nat) (a1 : A1), I a1 → (∀ (b1 : A1), I b1 → μ b1 < μ a1 → W n b1) → W (n + 1) a1) (a1 : A1) (h : I a1) : ∃ n, W n a1 :=
  loop_m (σ := A1) (fun n s => W n s) (fun s => I s) (fun s => μ s) (fun n s hI hk => hs n s hI (fun b1 h9 hm => hk b1 h9 hm)) a1 h
theorem lp2 {A1 A2 : Type} (W : Nat → A1 → A2 → Prop) (I : A1 → A2 → Prop) (μ : A1 → A2 → Nat) (hs : ∀ (n : Nat) (a1 : A1) (a2 : A2), I a1 a2 → (∀ (b1 : A1) (b2 : A2), I b1 b2 → μ b1 b2 < μ a1 a2 → W n b1 b2) → W (n + 1) a1 a2) (a1 : A1) (a2 : A2) (h : I a1 a2) : ∃ n, W n a1 a2 :=
  loop_m (σ := A1 × A2) (fun n s => W n s.1 s.2) (fun s => I s.1 s.2) (fun s => μ s.1 s.2) (fun n s hI hk => hs n s.1 s.2 hI (fun b1 b2 h9 hm => hk (b1, b2) h9 hm)) (a1, a2) h
theorem lp3 {A1 A2 A3 : Type} (W : Nat → A1 → A2 → A3 → Prop) (I : A1 → A2 → A3 → Prop) (μ : A1 → A2 → A3 → Nat) (hs : ∀ (n : Nat) (a1 : A1) (a2 : A2) (a3 : A3), I a1 a2 a3 → (∀ (b1 : A1) (b2 : A2) (b3 : A3), I b1 b2 b3 → μ b1 b2 b3 < μ a1 a2 a3 → W n b1 b2 b3) → W (n + 1) a1 a2 a3) (a1 : A1) (a2 : A2) (a3 : A3) (h : I a1 a2 a3) : ∃ n, W n a1 a2 a3 :=
  loop_m (σ := A1 × A2 × A3) (fun n s => W n s.1 s.2.1 s.2.2) (fun s => I s.1 s.2.1 s.2.2) (fun s => μ s.1 s.2.1 s.2.2) (fun n s hI hk => hs n s.1 s.2.1 s.2.2 hI (fun b1 b2 b3 h9 hm => hk (b1, b2, b3) h9 hm)) (a1, a2, a3) h
theorem lp4 {A1 A2 A3 A4 : Type} (W : Nat → A1 → A2 → A3 → A4 → Prop) (I : A1 → A2 → A3 → A4 → Prop) (μ : A1 → A2 → A3 → A4 → Nat) (hs : ∀ (n : Nat) (a1 : A1) (a2 : A2) (a3 : A3) (a4 : A4), I a1 a2 a3 a4 → (∀ (b1 : A1) (b2 : A2) (b3 : A3) (b4 : A4), I b1 b2 b3 b4 → μ b1 b2 b3 b4 < μ a1 a2 a3 a4 → W n b1 b2 b3 b4) → W (n + 1) a1 a2 a3 a4) (a1 : A1) (a2 : A2) (a3 : A3) (a4 : A4) (h : I a1 a2 a3 a4) : ∃ n, W n a1 a2 a3 a4 :=
  loop_m (σ := A1 × A2 × A3 × A4) (fun n s => W n s.1 s.2.1 s.2.2.1 s.2.2.2) (fun s => I s.1 s.2.1 s.2.2.1 s.2.2.2) (fun s => μ s.1 s.2.1 s.2.2.1 s.2.2.2) (fun n s hI hk => hs n s.1 s.2.1 s.2.2.1 s.2.2.2 hI (fun b1 b2 b3 b4 h9 hm => hk (b1, b2, b3, b4) h9 hm)) (a1, a2, a3, a4) h
theorem lp5 {A1 A2 A3 A4 A5 : Type} (W : Nat → A1 → A2 → A3 → A4 → A5 → Prop) (I : A1 → A2 → A3 → A4 → A5 → Prop) (μ : A1 → A2 → A3 → A4 → A5 → Nat) (hs : ∀ (n : Nat) (a1 : A1) (a2 : A2) (a3 : A3) (a4 : A4) (a5 : A5), I a1 a2 a3 a4 a5 → (∀ (b1 : A1) (b2 : A2) (b3 : A3) (b4 : A4) (b5 : A5), I b1 b2 b3 b4 b5 → μ b1 b2 b3 b4 b5 < μ a1 a2 a3 a4 a5 → W n b1 b2 b3 b4 b5) → W (n + 1) a1 a2 a3 a4 a5) (a1 : A1) (a2 : A2) (a3 : A3) (a4 : A4) (a5 : A5) (h : I a1 a2 a3 a4 a5) : ∃ n, W n a1 a2 a3 a4 a5 :=
  loop_m (σ := A1 × A2 × A3 × A4 × A5) (fun n s => W n s.1 s.2.1 s.2.2.1 s.2.2.2.1 s.2.2.2.2) (fun s => I s.1 s.2.1 s.2.2.1 s.2.2.2.1 s.2.2.2.2) (fun s => μ s.1 s.2.1 s.2.2.1 s.2.2.2.1 s.2.2.2.2) (fun n s hI hk => hs n s.1 s.2.1 s.2.2.1 s.2.2.2.1 s.2.2.2.2 hI (fun b1 b2 b3 b4 b5 h9 hm => hk (b1, b2, b3, b4, b5) h9 hm)) (a1, a2, a3, a4, a5) h
theorem lp6 {A1 A2 A3 A4 A5 A6 : Type} (W : Nat → A1 → A2 → A3 → A4 → A5 → A6 → Prop) (I : A1 → A2 → A3 → A4 → A5 → A6 → Prop) (μ : A1 → A2 → A3 → A4 → A5 → A6 → Nat) (hs : ∀ (n : Nat) (a1 : A1) (a2 : A2) (a3 : A3) (a4 : A4) (a5 : A5) (a6 : A6), I a1 a2 a3 a4 a5 a6 → (∀ (b1 : A1) (b2 : A2) (b3 : A3) (b4 : A4) (b5 : A5) (b6 : A6), I b1 b2 b3 b4 b5 b6 → μ b1 b2 b3 b4 b5 b6 < μ a1 a2 a3 a4 a5 a6 → W n b1 b2 b3 b4 b5 b6) → W (n + 1) a1 a2 a3 a4 a5 a6) (a1 : A1) (a2 : A2) (a3 : A3) (a4 : A4) (a5 : A5) (a6 : A6) (h : I a1 a2 a3 a4 a5 a6) : ∃ n, W n a1 a2 a3 a4 a5 a6 :=
  loop_m (σ := A1 × A2 × A3 × A4 × A5 × A6) (fun n s => W n s.1 s.2.1 s.2.2.1 s.2.2.2.1 s.2.2.2.2.1 s.2.2.2.2.2) (fun s => I s.1 s.2.1 s.2.2.1 s.2.2.2.1 s.2.2.2.2.1 s.2.2.2.2.2) (fun s => μ s.1 s.2.1 s.2.2.1 s.2.2.2.1 s.2.2.2.2.1 s.2.2.2.2.2) (fun n s hI hk => hs n s.1 s.2.1 s.2.2.1 s.2.2.2.1 s.2.2.2.2.1 s.2.2.2.2.2 hI (fun b1 b2 b3 b4 b5 b6 h9 hm => hk (b1, b2, b3, b4, b5, b6) h9 hm)) (a1, a2, a3, a4, a5, a6) h
theorem lp7 {A1 A2 A3 A4 A5 A6 A7 : Type} (W : Nat → A1 → A2 → A3 → A4 → A5 → A6 → A7 → Prop) (I : A1 → A2 → A3 → A4 → A5 → A6 → A7 → Prop) (μ : A1 → A2 → A3 → A4 → A5 → A6 → A7 → Nat) (hs : ∀ (n : Nat) (a1 : A1) (a2 : A2) (a3 : A3) (a4 : A4) (a5 : A5) (a6 : A6) (a7 : A7), I a1 a2 a3 a4 a5 a6 a7 → (∀ (b1 : A1) (b2 : A2) (b3 : A3) (b4 : A4) (b5 : A5) (b6 : A6) (b7 : A7), I b1 b2 b3 b4 b5 b6 b7 → μ b1 b2 b3 b4 b5 b6 b7 < μ a1 a2 a3 a4 a5 a6 a7 → W n b1 b2 b3 b4 b5 b6 b7) → W (n + 1) a1 a2 a3 a4 a5 a6 a7) (a1 : A1) (a2 : A2) (a3 : A3) (a4 : A4) (a5 : A5) (a6 : A6) (a7 : A7) (h : I a1 a2 a3 a4 a5 a6 a7) : ∃ n, W n a1 a2 a3 a4 a5 a6 a7 :=
  loop_m (σ := A1 × A2 × A3 × A4 × A5 × A6 × A7) (fun n s => W n s.1 s.2.1 s.2.2.1 s.2.2.2.1 s.2.2.2.2.1 s.2.2.2.2.2.1 s.2.2.2.2.2.2) (fun s => I s.1 s.2.1 s.2.2.1 s.2.2.2.1 s.2.2.2.2.1 s.2.2.2.2.2.1 s.2.2.2.2.2.2) (fun s => μ s.1 s.2.1 s.2.2.1 s.2.2.2.1 s.2.2.2.2.1 s.2.2.2.2.2.1 s.2.2.2.2.2.2) (fun n s hI hk => hs n s.1 s.2.1 s.2.2.1 s.2.2.2.1 s.2.2.2.2.1 s.2.2.2.2.2.1 s.2.2.2.2.2.2 hI (fun b1 b2 b3 b4 b5 b6 b7 h9 hm => hk (b1, b2, b3, b4, b5, b6, b7) h9 hm)) (a1, a2, a3, a4, a5, a6, a7) h
theorem lp8 {A1 A2 A3 A4 A5 A6 A7 A8 : Type} (W : Nat → A1 → A2 → A3 → A4 → A5 → A6 → A7 → A8 → Prop) (I : A1 → A2 → A3 → A4 → A5 → A6 → A7 → A8 → Prop) (μ : A1 → A2 → A3 → A4 → A5 → A6 → A7 → A8 → Nat) (hs : ∀ (n : Nat) (a1 : A1) (a2 : A2) (a3 : A3) (a4 : A4) (a5 : A5) (a6 : A6) (a7 : A7) (a8 : A8), I a1 a2 a3 a4 a5 a6 a7 a8 → (∀ (b1 : A1) (b2 : A2) (b3 : A3) (b4 : A4) (b5 : A5) (b6 : A6) (b7 : A7) (b8 : A8), I b1 b2 b3 b4 b5 b6 b7 b8 → μ b1 b2 b3 b4 b5 b6 b7 b8 < μ a1 a2 a3 a4 a5 a6 a7 a8 → W n b1 b2 b3 b4 b5 b6 b7 b8) → W (n + 1) a1 a2 a3 a4 a5 a6 a7 a8) (a1 : A1) (a2 : A2) (a3 : A3) (a4 : A4) (a5 : A5) (a6 : A6) (a7 : A7) (a8 : A8) (h : I a1 a2 a3 a4 a5 a6 a7 a8) : ∃ n, W n a1 a2 a3 a4 a5 a6 a7 a8 :=
  loop_m (σ := A1 × A2 × A3 × A4 × A5 × A6 × A7 × A8) (fun n s => W n s.1 s.2.1 s.2.2.1 s.2.2.2.1 s.2.2.2.2.1 s.2.2.2.2.2.1 s.2.2.2.2.2.2.1 s.2.2.2.2.2.2.2) (fun s => I s.1 s.2.1 s.2.2.1 s.2.2.2.1 s.2.2.2.2.1 s.2.2.2.2.2.1 s.2.2.2.2.2.2.1 s.2.2.2.2.2.2.2) (fun s => μ s.1 s.2.1 s.2.2.1 s.2.2.2.1 s.2.2.2.2.1 s.2.2.2.2.2.1 s.2.2.2.2.2.2.1 s.2.2.2.2.2.2.2) (fun n s hI hk => hs n s.1 s.2.1 s.2.2.1 s.2.2.2.1 s.2.2.2.2.1 s.2.2.2.2.2.1 s.2.2.2.2.2.2.1 s.2.2.2.2.2.2.2 hI (fun b1 b2 b3 b4 b5 b6 b7 b8 h9 hm => hk (b1, b2, b3, b4, b5, b6, b7, b8) h9 hm)) (a1, a2, a3, a4, a5, a6, a7, a8) h
theorem lp9 {A1 A2 A3 A4 A5 A6 A7 A8 A9 : Type} (W : Nat → A1 → A2 → A3 → A4 → A5 → A6 → A7 → A8 → A9 → Prop) (I : A1 → A2 → A3 → A4 → A5 → A6 → A7 → A8 → A9 → Prop) (μ : A1 → A2 → A3 → A4 → A5 → A6 → A7 → A8 → A9 → Nat) (hs : ∀ (n : Nat) (a1 : A1) (a2 : A2) (a3 : A3) (a4 : A4) (a5 : A5) (a6 : A6) (a7 : A7) (a8 : A8) (a9 : A9), I a1 a2 a3 a4 a5 a6 a7 a8 a9 → (∀ (b1 : A1) (b2 : A2) (b3 : A3) (b4 : A4) (b5 : A5) (b6 : A6) (b7 : A7) (b8 : A8) (b9 : A9), I b1 b2 b3 b4 b5 b6 b7 b8 b9 → μ b1 b2 b3 b4 b5 b6 b7 b8 b9 < μ a1 a2 a3 a4 a5 a6 a7 a8 a9 → W n b1 b2 b3 b4 b5 b6 b7 b8 b9) → W (n + 1) a1 a2 a3 a4 a5 a6 a7 a8 a9) (a1 : A1) (a2 : A2) (a3 : A3) (a4 : A4) (a5 : A5) (a6 : A6) (a7 : A7) (a8 : A8) (a9 : A9) (h : I a1 a2 a3 a4 a5 a6 a7 a8 a9) : ∃ n, W n a1 a2 a3 a4 a5 a6 a7 a8 a9 :=
  loop_m (σ := A1 × A2 × A3 × A4 × A5 × A6 × A7 × A8 × A9) (fun n s => W n s.1 s.2.1 s.2.2.1 s.2.2.2.1 s.2.2.2.2.1 s.2.2.2.2.2.1 s.2.2.2.2.2.2.1 s.2.2.2.2.2.2.2.1 s.2.2.2.2.2.2.2.2) (fun s => I s.1 s.2.1 s.2.2.1 s.2.2.2.1 s.2.2.2.2.1 s.2.2.2.2.2.1 s.2.2.2.2.2.2.1 s.2.2.2.2.2.2.2.1 s.2.2.2.2.2.2.2.2) (fun s => μ s.1 s.2.1 s.2.2.1 s.2.2.2.1 s.2.2.2.2.1 s.2.2.2.2.2.1 s.2.2.2.2.2.2.1 s.2.2.2.2.2.2.2.1 s.2.2.2.2.2.2.2.2) (fun n s hI hk => hs n s.1 s.2.1 s.2.2.1 s.2.2.2.1 s.2.2.2.2.1 s.2.2.2.2.2.1 s.2.2.2.2.2.2.1 s.2.2.2.2.2.2.2.1 s.2.2.2.2.2.2.2.2 hI (fun b1 b2 b3 b4 b5 b6 b7 b8 b9 h9 hm => hk (b1, b2, b3, b4, b5, b6, b7, b8, b9) h9 hm)) (a1, a2, a3, a4, a5, a6, a7, a8, a9) h
theorem lp10 {A1 A2 A3 A4 A5 A6 A7 A8 A9 A10 : Type} (W : Nat → A1 → A2 → A3 → A4 → A5 → A6 → A7 → A8 → A9 → A10 → Prop) (I : A1 → A2 → A3 → A4 → A5 → A6 → A7 → A8 → A9 → A10 → Prop) (μ : A1 → A2 → A3 → A4 → A5 → A6 → A7 → A8 → A9 → A10 → Nat) (hs : ∀ (n : Nat) (a1 : A1) (a2 : A2) (a3 : A3) (a4 : A4) (a5 : A5) (a6 : A6) (a7 : A7) (a8 : A8) (a9 : A9) (a10 : A10), I a1 a2 a3 a4 a5 a6 a7 a8 a9 a10 → (∀ (b1 : A1) (b2 : A2) (b3 : A3) (b4 : A4) (b5 : A5) (b6 : A6) (b7 : A7) (b8 : A8) (b9 : A9) (b10 : A10), I b1 b2 b3 b4 b5 b6 b7 b8 b9 b10 → μ b1 b2 b3 b4 b5 b6 b7 b8 b9 b10 < μ a1 a2 a3 a4 a5 a6 a7 a8 a9 a10 → W n b1 b2 b3 b4 b5 b6 b7 b8 b9 b10) → W (n + 1) a1 a2 a3 a4 a5 a6 a7 a8 a9 a10) (a1 : A1) (a2 : A2) (a3 : A3) (a4 : A4) (a5 : A5) (a6 : A6) (a7 : A7) (a8 : A8) (a9 : A9) (a10 : A10) (h : I a1 a2 a3 a4 a5 a6 a7 a8 a9 a10) : ∃ n, W n a1 a2 a3 a4 a5 a6 a7 a8 a9 a10 :=
  loop_m (σ := A1 × A2 × A3 × A4 × A5 × A6 × A7 × A8 × A9 × A10) (fun n s => W n s.1 s.2.1 s.2.2.1 s.2.2.2.1 s.2.2.2.2.1 s.2.2.2.2.2.1 s.2.2.2.2.2.2.1 s.2.2.2.2.2.2.2.1 s.2.2.2.2.2.2.2.2.1 s.2.2.2.2.2.2.2.2.2) (fun s => I s.1 s.2.1 s.2.2.1 s.2.2.2.1 s.2.2.2.2.1 s.2.2.2.2.2.1 s.2.2.2.2.2.2.1 s.2.2.2.2.2.2.2.1 s.2.2.2.2.2.2.2.2.1 s.2.2.2.2.2.2.2.2.2) (fun s => μ s.1 s.2.1 s.2.2.1 s.2.2.2.1 s.2.2.2.2.1 s.2.2.2.2.2.1 s.2.2.2.2.2.2.1 s.2.2.2.2.2.2.2.1 s.2.2.2.2.2.2.2.2.1 s.2.2.2.2.2.2.2.2.2) (fun n s hI hk => hs n s.1 s.2.1 s.2.2.1 s.2.2.2.1 s.2.2.2.2.1 s.2.2.2.2.2.1 s.2.2.2.2.2.2.1 s.2.2.2.2.2.2.2.1 s.2.2.2.2.2.2.2.2.1 s.2.2.2.2.2.2.2.2.2 hI (fun b1 b2 b3 b4 b5 b6 b7 b8 b9 b10 h9 hm => hk (b1, b2, b3, b4, b5, b6, b7, b8, b9, b10) h9 hm)) (a1, a2, a3, a4, a5, a6, a7, a8, a9, a10) h
theorem lp11 {A1 A2 A3 A4 A5 A6 A7 A8 A9 A10 A11 : Type} (W : Nat → A1 → A2 → A3 → A4 → A5 → A6 → A7 → A8 → A9 → A10 → A11 → Prop) (I : A1 → A2 → A3 → A4 → A5 → A6 → A7 → A8 → A9 → A10 → A11 → Prop) (μ : A1 → A2 → A3 → A4 → A5 → A6 → A7 → A8 → A9 → A10 → A11 → Nat) (hs : ∀ (n : Nat) (a1 : A1) (a2 : A2) (a3 : A3) (a4 : A4) (a5 : A5) (a6 : A6) (a7 : A7) (a8 : A8) (a9 : A9) (a10 : A10) (a11 : A11), I a1 a2 a3 a4 a5 a6 a7 a8 a9 a10 a11 → (∀ (b1 : A1) (b2 : A2) (b3 : A3) (b4 : A4) (b5 : A5) (b6 : A6) (b7 : A7) (b8 : A8) (b9 : A9) (b10 : A10) (b11 : A11), I b1 b2 b3 b4 b5 b6 b7 b8 b9 b10 b11 → μ b1 b2 b3 b4 b5 b6 b7 b8 b9 b10 b11 < μ a1 a2 a3 a4 a5 a6 a7 a8 a9 a10 a11 → W n b1 b2 b3 b4 b5 b6 b7 b8 b9 b10 b11) → W (n + 1) a1 a2 a3 a4 a5 a6 a7 a8 a9 a10 a11) (a1 : A1) (a2 : A2) (a3 : A3) (a4 : A4) (a5 : A5) (a6 : A6) (a7 : A7) (a8 : A8) (a9 : A9) (a10 : A10) (a11 : A11) (h : I a1 a2 a3 a4 a5 a6 a7 a8 a9 a10 a11) : ∃ n, W n a1 a2 a3 a4 a5 a6 a7 a8 a9 a10 a11 :=
  loop_m (σ := A1 × A2 × A3 × A4 × A5 × A6 × A7 × A8 × A9 × A10 × A11) (fun n s => W n s.1 s.2.1 s.2.2.1 s.2.2.2.1 s.2.2.2.2.1 s.2.2.2.2.2.1 s.2.2.2.2.2.2.1 s.2.2.2.2.2.2.2.1 s.2.2.2.2.2.2.2.2.1 s.2.2.2.2.2.2.2.2.2.1 s.2.2.2.2.2.2.2.2.2.2) (fun s => I s.1 s.2.1 s.2.2.1 s.2.2.2.1 s.2.2.2.2.1 s.2.2.2.2.2.1 s.2.2.2.2.2.2.1 s.2.2.2.2.2.2.2.1 s.2.2.2.2.2.2.2.2.1 s.2.2.2.2.2.2.2.2.2.1 s.2.2.2.2.2.2.2.2.2.2) (fun s => μ s.1 s.2.1 s.2.2.1 s.2.2.2.1 s.2.2.2.2.1 s.2.2.2.2.2.1 s.2.2.2.2.2.2.1 s.2.2.2.2.2.2.2.1 s.2.2.2.2.2.2.2.2.1 s.2.2.2.2.2.2.2.2.2.1 s.2.2.2.2.2.2.2.2.2.2) (fun n s hI hk => hs n s.1 s.2.1 s.2.2.1 s.2.2.2.1 s.2.2.2.2.1 s.2.2.2.2.2.1 s.2.2.2.2.2.2.1 s.2.2.2.2.2.2.2.1 s.2.2.2.2.2.2.2.2.1 s.2.2.2.2.2.2.2.2.2.1 s.2.2.2.2.2.2.2.2.2.2 hI (fun b1 b2 b3 b4 b5 b6 b7 b8 b9 b10 b11 h9 hm => hk (b1, b2, b3, b4, b5, b6, b7, b8, b9, b10, b11) h9 hm)) (a1, a2, a3, a4, a5, a6, a7, a8, a9, a10, a11) h
theorem lp12 {A1 A2 A3 A4 A5 A6 A7 A8 A9 A10 A11 A12 : Type} (W : Nat → A1 → A2 → A3 → A4 → A5 → A6 → A7 → A8 → A9 → A10 → A11 → A12 → Prop) (I : A1 → A2 → A3 → A4 → A5 → A6 → A7 → A8 → A9 → A10 → A11 → A12 → Prop) (μ : A1 → A2 → A3 → A4 → A5 → A6 → A7 → A8 → A9 → A10 → A11 → A12 → Nat) (hs : ∀ (n : Nat) (a1 : A1) (a2 : A2) (a3 : A3) (a4 : A4) (a5 : A5) (a6 : A6) (a7 : A7) (a8 : A8) (a9 : A9) (a10 : A10) (a11 : A11) (a12 : A12), I a1 a2 a3 a4 a5 a6 a7 a8 a9 a10 a11 a12 → (∀ (b1 : A1) (b2 : A2) (b3 : A3) (b4 : A4) (b5 : A5) (b6 : A6) (b7 : A7) (b8 : A8) (b9 : A9) (b10 : A10) (b11 : A11) (b12 : A12), I b1 b2 b3 b4 b5 b6 b7 b8 b9 b10 b11 b12 → μ b1 b2 b3 b4 b5 b6 b7 b8 b9 b10 b11 b12 < μ a1 a2 a3 a4 a5 a6 a7 a8 a9 a10 a11 a12 → W n b1 b2 b3 b4 b5 b6 b7 b8 b9 b10 b11 b12) → W (n + 1) a1 a2 a3 a4 a5 a6 a7 a8 a9 a10 a11 a12) (a1 : A1) (a2 : A2) (a3 : A3) (a4 : A4) (a5 : A5) (a6 : A6) (a7 : A7) (a8 : A8) (a9 : A9) (a10 : A10) (a11 : A11) (a12 : A12) (h : I a1 a2 a3 a4 a5 a6 a7 a8 a9 a10 a11 a12) : ∃ n, W n a1 a2 a3 a4 a5 a6 a7 a8 a9 a10 a11 a12 :=
  loop_m (σ := A1 × A2 × A3 × A4 × A5 × A6 × A7 × A8 × A9 × A10 × A11 × A12) (fun n s => W n s.1 s.2.1 s.2.2.1 s.2.2.2.1 s.2.2.2.2.1 s.2.2.2.2.2.1 s.2.2.2.2.2.2.1 s.2.2.2.2.2.2.2.1 s.2.2.2.2.2.2.2.2.1 s.2.2.2.2.2.2.2.2.2.1 s.2.2.2.2.2.2.2.2.2.2.1 s.2.2.2.2.2.2.2.2.2.2.2) (fun s => I s.1 s.2.1 s.2.2.1 s.2.2.2.1 s.2.2.2.2.1 s.2.2.2.2.2.1 s.2.2.2.2.2.2.1 s.2.2.2.2.2.2.2.1 s.2.2.2.2.2.2.2.2.1 s.2.2.2.2.2.2.2.2.2.1 s.2.2.2.2.2.2.2.2.2.2.1 s.2.2.2.2.2.2.2.2.2.2.2) (fun s => μ s.1 s.2.1 s.2.2.1 s.2.2.2.1 s.2.2.2.2.1 s.2.2.2.2.2.1 s.2.2.2.2.2.2.1 s.2.2.2.2.2.2.2.1 s.2.2.2.2.2.2.2.2.1 s.2.2.2.2.2.2.2.2.2.1 s.2.2.2.2.2.2.2.2.2.2.1 s.2.2.2.2.2.2.2.2.2.2.2) (fun n s hI hk => hs n s.1 s.2.1 s.2.2.1 s.2.2.2.1 s.2.2.2.2.1 s.2.2.2.2.2.1 s.2.2.2.2.2.2.1 s.2.2.2.2.2.2.2.1 s.2.2.2.2.2.2.2.2.1 s.2.2.2.2.2.2.2.2.2.1 s.2.2.2.2.2.2.2.2.2.2.1 s.2.2.2.2.2.2.2.2.2.2.2 hI (fun b1 b2 b3 b4 b5 b6 b7 b8 b9 b10 b11 b12 h9 hm => hk (b1, b2, b3, b4, b5, b6, b7, b8, b9, b10, b11, b12) h9 hm)) (a1, a2, a3, a4, a5, a6, a7, a8, a9, a10, a11, a12) h
theorem lp13 {A1 A2 A3 A4 A5 A6 A7 A8 A9 A10 A11 A12 A13 : Type} (W : Nat → A1 → A2 → A3 → A4 → A5 → A6 → A7 → A8 → A9 → A10 → A11 → A12 → A13 → Prop) (I : A1 → A2 → A3 → A4 → A5 → A6 → A7 → A8 → A9 → A10 → A11 → A12 → A13 → Prop) (μ : A1 → A2 → A3 → A4 → A5 → A6 → A7 → A8 → A9 → A10 → A11 → A12 → A13 → Nat) (hs : ∀ (n : Nat) (a1 : A1) (a2 : A2) (a3 : A3) (a4 : A4) (a5 : A5) (a6 : A6) (a7 : A7) (a8 : A8) (a9 : A9) (a10 : A10) (a11 : A11) (a12 : A12) (a13 : A13), I a1 a2 a3 a4 a5 a6 a7 a8 a9 a10 a11 a12 a13 → (∀ (b1 : A1) (b2 : A2) (b3 : A3) (b4 : A4) (b5 : A5) (b6 : A6) (b7 : A7) (b8 : A8) (b9 : A9) (b10 : A10) (b11 : A11) (b12 : A12) (b13 : A13), I b1 b2 b3 b4 b5 b6 b7 b8 b9 b10 b11 b12 b13 → μ b1 b2 b3 b4 b5 b6 b7 b8 b9 b10 b11 b12 b13 < μ a1 a2 a3 a4 a5 a6 a7 a8 a9 a10 a11 a12 a13 → W n b1 b2 b3 b4 b5 b6 b7 b8 b9 b10 b11 b12 b13) → W (n + 1) a1 a2 a3 a4 a5 a6 a7 a8 a9 a10 a11 a12 a13) (a1 : A1) (a2 : A2) (a3 : A3) (a4 : A4) (a5 : A5) (a6 : A6) (a7 : A7) (a8 : A8) (a9 : A9) (a10 : A10) (a11 : A11) (a12 : A12) (a13 : A13) (h : I a1 a2 a3 a4 a5 a6 a7 a8 a9 a10 a11 a12 a13) : ∃ n, W n a1 a2 a3 a4 a5 a6 a7 a8 a9 a10 a11 a12 a13 :=
  loop_m (σ := A1 × A2 × A3 × A4 × A5 × A6 × A7 × A8 × A9 × A10 × A11 × A12 × A13) (fun n s => W n s.1 s.2.1 s.2.2.1 s.2.2.2.1 s.2.2.2.2.1 s.2.2.2.2.2.1 s.2.2.2.2.2.2.1 s.2.2.2.2.2.2.2.1 s.2.2.2.2.2.2.2.2.1 s.2.2.2.2.2.2.2.2.2.1 s.2.2.2.2.2.2.2.2.2.2.1 s.2.2.2.2.2.2.2.2.2.2.2.1 s.2.2.2.2.2.2.2.2.2.2.2.2) (fun s => I s.1 s.2.1 s.2.2.1 s.2.2.2.1 s.2.2.2.2.1 s.2.2.2.2.2.1 s.2.2.2.2.2.2.1 s.2.2.2.2.2.2.2.1 s.2.2.2.2.2.2.2.2.1 s.2.2.2.2.2.2.2.2.2.1 s.2.2.2.2.2.2.2.2.2.2.1 s.2.2.2.2.2.2.2.2.2.2.2.1 s.2.2.2.2.2.2.2.2.2.2.2.2) (fun s => μ s.1 s.2.1 s.2.2.1 s.2.2.2.1 s.2.2.2.2.1 s.2.2.2.2.2.1 s.2.2.2.2.2.2.1 s.2.2.2.2.2.2.2.1 s.2.2.2.2.2.2.2.2.1 s.2.2.2.2.2.2.2.2.2.1 s.2.2.2.2.2.2.2.2.2.2.1 s.2.2.2.2.2.2.2.2.2.2.2.1 s.2.2.2.2.2.2.2.2.2.2.2.2) (fun n s hI hk => hs n s.1 s.2.1 s.2.2.1 s.2.2.2.1 s.2.2.2.2.1 s.2.2.2.2.2.1 s.2.2.2.2.2.2.1 s.2.2.2.2.2.2.2.1 s.2.2.2.2.2.2.2.2.1 s.2.2.2.2.2.2.2.2.2.1 s.2.2.2.2.2.2.2.2.2.2.1 s.2.2.2.2.2.2.2.2.2.2.2.1 s.2.2.2.2.2.2.2.2.2.2.2.2 hI (fun b1 b2 b3 b4 b5 b6 b7 b8 b9 b10 b11 b12 b13 h9 hm => hk (b1, b2, b3, b4, b5, b6, b7, b8, b9, b10, b11, b12, b13) h9 hm)) (a1, a2, a3, a4, a5, a6, a7, a8, a9, a10, a11, a12, a13) h
theorem lp14 {A1 A2 A3 A4 A5 A6 A7 A8 A9 A10 A11 A12 A13 A14 : Type} (W : Nat → A1 → A2 → A3 → A4 → A5 → A6 → A7 → A8 → A9 → A10 → A11 → A12 → A13 → A14 → Prop) (I : A1 → A2 → A3 → A4 → A5 → A6 → A7 → A8 → A9 → A10 → A11 → A12 → A13 → A14 → Prop) (μ : A1 → A2 → A3 → A4 → A5 → A6 → A7 → A8 → A9 → A10 → A11 → A12 → A13 → A14 → Nat) (hs : ∀ (n : Nat) (a1 : A1) (a2 : A2) (a3 : A3) (a4 : A4) (a5 : A5) (a6 : A6) (a7 : A7) (a8 : A8) (a9 : A9) (a10 : A10) (a11 : A11) (a12 : A12) (a13 : A13) (a14 : A14), I a1 a2 a3 a4 a5 a6 a7 a8 a9 a10 a11 a12 a13 a14 → (∀ (b1 : A1) (b2 : A2) (b3 : A3) (b4 : A4) (b5 : A5) (b6 : A6) (b7 : A7) (b8 : A8) (b9 : A9) (b10 : A10) (b11 : A11) (b12 : A12) (b13 : A13) (b14 : A14), I b1 b2 b3 b4 b5 b6 b7 b8 b9 b10 b11 b12 b13 b14 → μ b1 b2 b3 b4 b5 b6 b7 b8 b9 b10 b11 b12 b13 b14 < μ a1 a2 a3 a4 a5 a6 a7 a8 a9 a10 a11 a12 a13 a14 → W n b1 b2 b3 b4 b5 b6 b7 b8 b9 b10 b11 b12 b13 b14) → W (n + 1) a1 a2 a3 a4 a5 a6 a7 a8 a9 a10 a11 a12 a13 a14) (a1 : A1) (a2 : A2) (a3 : A3) (a4 : A4) (a5 : A5) (a6 : A6) (a7 : A7) (a8 : A8) (a9 : A9) (a10 : A10) (a11 : A11) (a12 : A12) (a13 : A13) (a14 : A14) (h : I a1 a2 a3 a4 a5 a6 a7 a8 a9 a10 a11 a12 a13 a14) : ∃ n, W n a1 a2 a3 a4 a5 a6 a7 a8 a9 a10 a11 a12 a13 a14 :=
  loop_m (σ := A1 × A2 × A3 × A4 × A5 × A6 × A7 × A8 × A9 × A10 × A11 × A12 × A13 × A14) (fun n s => W n s.1 s.2.1 s.2.2.1 s.2.2.2.1 s.2.2.2.2.1 s.2.2.2.2.2.1 s.2.2.2.2.2.2.1 s.2.2.2.2.2.2.2.1 s.2.2.2.2.2.2.2.2.1 s.2.2.2.2.2.2.2.2.2.1 s.2.2.2.2.2.2.2.2.2.2.1 s.2.2.2.2.2.2.2.2.2.2.2.1 s.2.2.2.2.2.2.2.2.2.2.2.2.1 s.2.2.2.2.2.2.2.2.2.2.2.2.2) (fun s => I s.1 s.2.1 s.2.2.1 s.2.2.2.1 s.2.2.2.2.1 s.2.2.2.2.2.1 s.2.2.2.2.2.2.1 s.2.2.2.2.2.2.2.1 s.2.2.2.2.2.2.2.2.1 s.2.2.2.2.2.2.2.2.2.1 s.2.2.2.2.2.2.2.2.2.2.1 s.2.2.2.2.2.2.2.2.2.2.2.1 s.2.2.2.2.2.2.2.2.2.2.2.2.1 s.2.2.2.2.2.2.2.2.2.2.2.2.2) (fun s => μ s.1 s.2.1 s.2.2.1 s.2.2.2.1 s.2.2.2.2.1 s.2.2.2.2.2.1 s.2.2.2.2.2.2.1 s.2.2.2.2.2.2.2.1 s.2.2.2.2.2.2.2.2.1 s.2.2.2.2.2.2.2.2.2.1 s.2.2.2.2.2.2.2.2.2.2.1 s.2.2.2.2.2.2.2.2.2.2.2.1 s.2.2.2.2.2.2.2.2.2.2.2.2.1 s.2.2.2.2.2.2.2.2.2.2.2.2.2) (fun n s hI hk => hs n s.1 s.2.1 s.2.2.1 s.2.2.2.1 s.2.2.2.2.1 s.2.2.2.2.2.1 s.2.2.2.2.2.2.1 s.2.2.2.2.2.2.2.1 s.2.2.2.2.2.2.2.2.1 s.2.2.2.2.2.2.2.2.2.1 s.2.2.2.2.2.2.2.2.2.2.1 s.2.2.2.2.2.2.2.2.2.2.2.1 s.2.2.2.2.2.2.2.2.2.2.2.2.1 s.2.2.2.2.2.2.2.2.2.2.2.2.2 hI (fun b1 b2 b3 b4 b5 b6 b7 b8 b9 b10 b11 b12 b13 b14 h9 hm => hk (b1, b2, b3, b4, b5, b6, b7, b8, b9, b10, b11, b12, b13, b14) h9 hm)) (a1, a2, a3, a4, a5, a6, a7, a8, a9, a10, a11, a12, a13, a14) h
theorem lp15 {A1 A2 A3 A4 A5 A6 A7 A8 A9 A10 A11 A12 A13 A14 A15 : Type} (W : Nat → A1 → A2 → A3 → A4 → A5 → A6 → A7 → A8 → A9 → A10 → A11 → A12 → A13 → A14 → A15 → Prop) (I : A1 → A2 → A3 → A4 → A5 → A6 → A7 → A8 → A9 → A10 → A11 → A12 → A13 → A14 → A15 → Prop) (μ : A1 → A2 → A3 → A4 → A5 → A6 → A7 → A8 → A9 → A10 → A11 → A12 → A13 → A14 → A15 → Nat) (hs : ∀ (n : Nat) (a1 : A1) (a2 : A2) (a3 : A3) (a4 : A4) (a5 : A5) (a6 : A6) (a7 : A7) (a8 : A8) (a9 : A9) (a10 : A10) (a11 : A11) (a12 : A12) (a13 : A13) (a14 : A14) (a15 : A15), I a1 a2 a3 a4 a5 a6 a7 a8 a9 a10 a11 a12 a13 a14 a15 → (∀ (b1 : A1) (b2 : A2) (b3 : A3) (b4 : A4) (b5 : A5) (b6 : A6) (b7 : A7) (b8 : A8) (b9 : A9) (b10 : A10) (b11 : A11) (b12 : A12) (b13 : A13) (b14 : A14) (b15 : A15), I b1 b2 b3 b4 b5 b6 b7 b8 b9 b10 b11 b12 b13 b14 b15 → μ b1 b2 b3 b4 b5 b6 b7 b8 b9 b10 b11 b12 b13 b14 b15 < μ a1 a2 a3 a4 a5 a6 a7 a8 a9 a10 a11 a12 a13 a14 a15 → W n b1 b2 b3 b4 b5 b6 b7 b8 b9 b10 b11 b12 b13 b14 b15) → W (n + 1) a1 a2 a3 a4 a5 a6 a7 a8 a9 a10 a11 a12 a13 a14 a15) (a1 : A1) (a2 : A2) (a3 : A3) (a4 : A4) (a5 : A5) (a6 : A6) (a7 : A7) (a8 : A8) (a9 : A9) (a10 : A10) (a11 : A11) (a12 : A12) (a13 : A13) (a14 : A14) (a15 : A15) (h : I a1 a2 a3 a4 a5 a6 a7 a8 a9 a10 a11 a12 a13 a14 a15) : ∃ n, W n a1 a2 a3 a4 a5 a6 a7 a8 a9 a10 a11 a12 a13 a14 a15 :=
  loop_m (σ := A1 × A2 × A3 × A4 × A5 × A6 × A7 × A8 × A9 × A10 × A11 × A12 × A13 × A14 × A15) (fun n s => W n s.1 s.2.1 s.2.2.1 s.2.2.2.1 s.2.2.2.2.1 s.2.2.2.2.2.1 s.2.2.2.2.2.2.1 s.2.2.2.2.2.2.2.1 s.2.2.2.2.2.2.2.2.1 s.2.2.2.2.2.2.2.2.2.1 s.2.2.2.2.2.2.2.2.2.2.1 s.2.2.2.2.2.2.2.2.2.2.2.1 s.2.2.2.2.2.2.2.2.2.2.2.2.1 s.2.2.2.2.2.2.2.2.2.2.2.2.2.1 s.2.2.2.2.2.2.2.2.2.2.2.2.2.2) (fun s => I s.1 s.2.1 s.2.2.1 s.2.2.2.1 s.2.2.2.2.1 s.2.2.2.2.2.1 s.2.2.2.2.2.2.1 s.2.2.2.2.2.2.2.1 s.2.2.2.2.2.2.2.2.1 s.2.2.2.2.2.2.2.2.2.1 s.2.2.2.2.2.2.2.2.2.2.1 s.2.2.2.2.2.2.2.2.2.2.2.1 s.2.2.2.2.2.2.2.2.2.2.2.2.1 s.2.2.2.2.2.2.2.2.2.2.2.2.2.1 s.2.2.2.2.2.2.2.2.2.2.2.2.2.2) (fun s => μ s.1 s.2.1 s.2.2.1 s.2.2.2.1 s.2.2.2.2.1 s.2.2.2.2.2.1 s.2.2.2.2.2.2.1 s.2.2.2.2.2.2.2.1 s.2.2.2.2.2.2.2.2.1 s.2.2.2.2.2.2.2.2.2.1 s.2.2.2.2.2.2.2.2.2.2.1 s.2.2.2.2.2.2.2.2.2.2.2.1 s.2.2.2.2.2.2.2.2.2.2.2.2.1 s.2.2.2.2.2.2.2.2.2.2.2.2.2.1 s.2.2.2.2.2.2.2.2.2.2.2.2.2.2) (fun n s hI hk => hs n s.1 s.2.1 s.2.2.1 s.2.2.2.1 s.2.2.2.2.1 s.2.2.2.2.2.1 s.2.2.2.2.2.2.1 s.2.2.2.2.2.2.2.1 s.2.2.2.2.2.2.2.2.1 s.2.2.2.2.2.2.2.2.2.1 s.2.2.2.2.2.2.2.2.2.2.1 s.2.2.2.2.2.2.2.2.2.2.2.1 s.2.2.2.2.2.2.2.2.2.2.2.2.1 s.2.2.2.2.2.2.2.2.2.2.2.2.2.1 s.2.2.2.2.2.2.2.2.2.2.2.2.2.2 hI (fun b1 b2 b3 b4 b5 b6 b7 b8 b9 b10 b11 b12 b13 b14 b15 h9 hm => hk (b1, b2, b3, b4, b5, b6, b7, b8, b9, b10, b11, b12, b13, b14, b15) h9 hm)) (a1, a2, a3, a4, a5, a6, a7, a8, a9, a10, a11, a12, a13, a14, a15) h
theorem lp16 {A1 A2 A3 A4 A5 A6 A7 A8 A9 A10 A11 A12 A13 A14 A15 A16 : Type} (W : Nat → A1 → A2 → A3 → A4 → A5 → A6 → A7 → A8 → A9 → A10 → A11 → A12 → A13 → A14 → A15 → A16 → Prop) (I : A1 → A2 → A3 → A4 → A5 → A6 → A7 → A8 → A9 → A10 → A11 → A12 → A13 → A14 → A15 → A16 → Prop) (μ : A1 → A2 → A3 → A4 → A5 → A6 → A7 → A8 → A9 → A10 → A11 → A12 → A13 → A14 → A15 → A16 → Nat) (hs : ∀ (n : Nat) (a1 : A1) (a2 : A2) (a3 : A3) (a4 : A4) (a5 : A5) (a6 : A6) (a7 : A7) (a8 : A8) (a9 : A9) (a10 : A10) (a11 : A11) (a12 : A12) (a13 : A13) (a14 : A14) (a15 : A15) (a16 : A16), I a1 a2 a3 a4 a5 a6 a7 a8 a9 a10 a11 a12 a13 a14 a15 a16 → (∀ (b1 : A1) (b2 : A2) (b3 : A3) (b4 : A4) (b5 : A5) (b6 : A6) (b7 : A7) (b8 : A8) (b9 : A9) (b10 : A10) (b11 : A11) (b12 : A12) (b13 : A13) (b14 : A14) (b15 : A15) (b16 : A16), I b1 b2 b3 b4 b5 b6 b7 b8 b9 b10 b11 b12 b13 b14 b15 b16 → μ b1 b2 b3 b4 b5 b6 b7 b8 b9 b10 b11 b12 b13 b14 b15 b16 < μ a1 a2 a3 a4 a5 a6 a7 a8 a9 a10 a11 a12 a13 a14 a15 a16 → W n b1 b2 b3 b4 b5 b6 b7 b8 b9 b10 b11 b12 b13 b14 b15 b16) → W (n + 1) a1 a2 a3 a4 a5 a6 a7 a8 a9 a10 a11 a12 a13 a14 a15 a16) (a1 : A1) (a2 : A2) (a3 : A3) (a4 : A4) (a5 : A5) (a6 : A6) (a7 : A7) (a8 : A8) (a9 : A9) (a10 : A10) (a11 : A11) (a12 : A12) (a13 : A13) (a14 : A14) (a15 : A15) (a16 : A16) (h : I a1 a2 a3 a4 a5 a6 a7 a8 a9 a10 a11 a12 a13 a14 a15 a16) : ∃ n, W n a1 a2 a3 a4 a5 a6 a7 a8 a9 a10 a11 a12 a13 a14 a15 a16 :=
  loop_m (σ := A1 × A2 × A3 × A4 × A5 × A6 × A7 × A8 × A9 × A10 × A11 × A12 × A13 × A14 × A15 × A16) (fun n s => W n s.1 s.2.1 s.2.2.1 s.2.2.2.1 s.2.2.2.2.1 s.2.2.2.2.2.1 s.2.2.2.2.2.2.1 s.2.2.2.2.2.2.2.1 s.2.2.2.2.2.2.2.2.1 s.2.2.2.2.2.2.2.2.2.1 s.2.2.2.2.2.2.2.2.2.2.1 s.2.2.2.2.2.2.2.2.2.2.2.1 s.2.2.2.2.2.2.2.2.2.2.2.2.1 s.2.2.2.2.2.2.2.2.2.2.2.2.2.1 s.2.2.2.2.2.2.2.2.2.2.2.2.2.2.1 s.2.2.2.2.2.2.2.2.2.2.2.2.2.2.2) (fun s => I s.1 s.2.1 s.2.2.1 s.2.2.2.1 s.2.2.2.2.1 s.2.2.2.2.2.1 s.2.2.2.2.2.2.1 s.2.2.2.2.2.2.2.1 s.2.2.2.2.2.2.2.2.1 s.2.2.2.2.2.2.2.2.2.1 s.2.2.2.2.2.2.2.2.2.2.1 s.2.2.2.2.2.2.2.2.2.2.2.1 s.2.2.2.2.2.2.2.2.2.2.2.2.1 s.2.2.2.2.2.2.2.2.2.2.2.2.2.1 s.2.2.2.2.2.2.2.2.2.2.2.2.2.2.1 s.2.2.2.2.2.2.2.2.2.2.2.2.2.2.2) (fun s => μ s.1 s.2.1 s.2.2.1 s.2.2.2.1 s.2.2.2.2.1 s.2.2.2.2.2.1 s.2.2.2.2.2.2.1 s.2.2.2.2.2.2.2.1 s.2.2.2.2.2.2.2.2.1 s.2.2.2.2.2.2.2.2.2.1 s.2.2.2.2.2.2.2.2.2.2.1 s.2.2.2.2.2.2.2.2.2.2.2.1 s.2.2.2.2.2.2.2.2.2.2.2.2.1 s.2.2.2.2.2.2.2.2.2.2.2.2.2.1 s.2.2.2.2.2.2.2.2.2.2.2.2.2.2.1 s.2.2.2.2.2.2.2.2.2.2.2.2.2.2.2) (fun n s hI hk => hs n s.1 s.2.1 s.2.2.1 s.2.2.2.1 s.2.2.2.2.1 s.2.2.2.2.2.1 s.2.2.2.2.2.2.1 s.2.2.2.2.2.2.2.1 s.2.2.2.2.2.2.2.2.1 s.2.2.2.2.2.2.2.2.2.1 s.2.2.2.2.2.2.2.2.2.2.1 s.2.2.2.2.2.2.2.2.2.2.2.1 s.2.2.2.2.2.2.2.2.2.2.2.2.1 s.2.2.2.2.2.2.2.2.2.2.2.2.2.1 s.2.2.2.2.2.2.2.2.2.2.2.2.2.2.1 s.2.2.2.2.2.2.2.2.2.2.2.2.2.2.2 hI (fun b1 b2 b3 b4 b5 b6 b7 b8 b9 b10 b11 b12 b13 b14 b15 b16 h9 hm => hk (b1, b2, b3, b4, b5, b6, b7, b8, b9, b10, b11, b12, b13, b14, b15, b16) h9 hm)) (a1, a2, a3, a4, a5, a6, a7, a8, a9, a10, a11, a12, a13, a14, a15, a16) h
theorem pk_least (P : Nat → Prop) (h : ∃ k, P k) : ∃ k, P k ∧ ∀ j, j < k → ¬ P j := by
  obtain ⟨k, hk⟩ := h
  induction k using Nat.strongRecOn with
  | ind k ih =>
    by_cases e : ∃ j, j < k ∧ P j
    · obtain ⟨j, hj, pj⟩ := e
      exact ih j hj pj
    · exact ⟨k, hk, fun j hj pj => e ⟨j, hj, pj⟩⟩
theorem rp1 {ρ A1 : Type} (W : Nat → (ρ → Prop) → A1 → Prop) (ok : A1 → Prop) (μ : A1 → Nat) (val : A1 → ρ)
    (hs : ∀ (d : Nat) (post : ρ → Prop) (a1 : A1), ok a1 → post (val a1) → (∀ (post' : ρ → Prop) (b1 : A1), ok b1 → μ b1 < μ a1 → post' (val b1) → W d post' b1) → W (d + 1) post a1) :
    ∀ (d : Nat) (post : ρ → Prop) (a1 : A1), ok a1 → μ a1 < d → post (val a1) → W d post a1 := by
  intro d
  induction d with
  | zero => intro post a1 _ h; omega
  | succ d ih =>
    intro post a1 ho hm hp
    exact hs d post a1 ho hp (fun post' b1 ho' hm' hp' => ih post' b1 ho' (by omega) hp')
theorem rp2 {ρ A1 A2 : Type} (W : Nat → (ρ → Prop) → A1 → A2 → Prop) (ok : A1 → A2 → Prop) (μ : A1 → A2 → Nat) (val : A1 → A2 → ρ)
    (hs : ∀ (d : Nat) (post : ρ → Prop) (a1 : A1) (a2 : A2), ok a1 a2 → post (val a1 a2) → (∀ (post' : ρ → Prop) (b1 : A1) (b2 : A2), ok b1 b2 → μ b1 b2 < μ a1 a2 → post' (val b1 b2) → W d post' b1 b2) → W (d + 1) post a1 a2) :
    ∀ (d : Nat) (post : ρ → Prop) (a1 : A1) (a2 : A2), ok a1 a2 → μ a1 a2 < d → post (val a1 a2) → W d post a1 a2 := by
  intro d
  induction d with
  | zero => intro post a1 a2 _ h; omega
  | succ d ih =>
    intro post a1 a2 ho hm hp
    exact hs d post a1 a2 ho hp (fun post' b1 b2 ho' hm' hp' => ih post' b1 b2 ho' (by omega) hp')
theorem rp3 {ρ A1 A2 A3 : Type} (W : Nat → (ρ → Prop) → A1 → A2 → A3 → Prop) (ok : A1 → A2 → A3 → Prop) (μ : A1 → A2 → A3 → Nat) (val : A1 → A2 → A3 → ρ)
    (hs : ∀ (d : Nat) (post : ρ → Prop) (a1 : A1) (a2 : A2) (a3 : A3), ok a1 a2 a3 → post (val a1 a2 a3) → (∀ (post' : ρ → Prop) (b1 : A1) (b2 : A2) (b3 : A3), ok b1 b2 b3 → μ b1 b2 b3 < μ a1 a2 a3 → post' (val b1 b2 b3) → W d post' b1 b2 b3) → W (d + 1) post a1 a2 a3) :
    ∀ (d : Nat) (post : ρ → Prop) (a1 : A1) (a2 : A2) (a3 : A3), ok a1 a2 a3 → μ a1 a2 a3 < d → post (val a1 a2 a3) → W d post a1 a2 a3 := by
  intro d
  induction d with
  | zero => intro post a1 a2 a3 _ h; omega
  | succ d ih =>
    intro post a1 a2 a3 ho hm hp
    exact hs d post a1 a2 a3 ho hp (fun post' b1 b2 b3 ho' hm' hp' => ih post' b1 b2 b3 ho' (by omega) hp')
theorem rp4 {ρ A1 A2 A3 A4 : Type} (W : Nat → (ρ → Prop) → A1 → A2 → A3 → A4 → Prop) (ok : A1 → A2 → A3 → A4 → Prop) (μ : A1 → A2 → A3 → A4 → Nat) (val : A1 → A2 → A3 → A4 → ρ)
    (hs : ∀ (d : Nat) (post : ρ → Prop) (a1 : A1) (a2 : A2) (a3 : A3) (a4 : A4), ok a1 a2 a3 a4 → post (val a1 a2 a3 a4) → (∀ (post' : ρ → Prop) (b1 : A1) (b2 : A2) (b3 : A3) (b4 : A4), ok b1 b2 b3 b4 → μ b1 b2 b3 b4 < μ a1 a2 a3 a4 → post' (val b1 b2 b3 b4) → W d post' b1 b2 b3 b4) → W (d + 1) post a1 a2 a3 a4) :
    ∀ (d : Nat) (post : ρ → Prop) (a1 : A1) (a2 : A2) (a3 : A3) (a4 : A4), ok a1 a2 a3 a4 → μ a1 a2 a3 a4 < d → post (val a1 a2 a3 a4) → W d post a1 a2 a3 a4 := by
  intro d
  induction d with
  | zero => intro post a1 a2 a3 a4 _ h; omega
  | succ d ih =>
    intro post a1 a2 a3 a4 ho hm hp
    exact hs d post a1 a2 a3 a4 ho hp (fun post' b1 b2 b3 b4 ho' hm' hp' => ih post' b1 b2 b3 b4 ho' (by omega) hp')
theorem rp5 {ρ A1 A2 A3 A4 A5 : Type} (W : Nat → (ρ → Prop) → A1 → A2 → A3 → A4 → A5 → Prop) (ok : A1 → A2 → A3 → A4 → A5 → Prop) (μ : A1 → A2 → A3 → A4 → A5 → Nat) (val : A1 → A2 → A3 → A4 → A5 → ρ)
    (hs : ∀ (d : Nat) (post : ρ → Prop) (a1 : A1) (a2 : A2) (a3 : A3) (a4 : A4) (a5 : A5), ok a1 a2 a3 a4 a5 → post (val a1 a2 a3 a4 a5) → (∀ (post' : ρ → Prop) (b1 : A1) (b2 : A2) (b3 : A3) (b4 : A4) (b5 : A5), ok b1 b2 b3 b4 b5 → μ b1 b2 b3 b4 b5 < μ a1 a2 a3 a4 a5 → post' (val b1 b2 b3 b4 b5) → W d post' b1 b2 b3 b4 b5) → W (d + 1) post a1 a2 a3 a4 a5) :
    ∀ (d : Nat) (post : ρ → Prop) (a1 : A1) (a2 : A2) (a3 : A3) (a4 : A4) (a5 : A5), ok a1 a2 a3 a4 a5 → μ a1 a2 a3 a4 a5 < d → post (val a1 a2 a3 a4 a5) → W d post a1 a2 a3 a4 a5 := by
  intro d
  induction d with
  | zero => intro post a1 a2 a3 a4 a5 _ h; omega
  | succ d ih =>
    intro post a1 a2 a3 a4 a5 ho hm hp
    exact hs d post a1 a2 a3 a4 a5 ho hp (fun post' b1 b2 b3 b4 b5 ho' hm' hp' => ih post' b1 b2 b3 b4 b5 ho' (by omega) hp')
theorem rp6 {ρ A1 A2 A3 A4 A5 A6 : Type} (W : Nat → (ρ → Prop) → A1 → A2 → A3 → A4 → A5 → A6 → Prop) (ok : A1 → A2 → A3 → A4 → A5 → A6 → Prop) (μ : A1 → A2 → A3 → A4 → A5 → A6 → Nat) (val : A1 → A2 → A3 → A4 → A5 → A6 → ρ)
    (hs : ∀ (d : Nat) (post : ρ → Prop) (a1 : A1) (a2 : A2) (a3 : A3) (a4 : A4) (a5 : A5) (a6 : A6), ok a1 a2 a3 a4 a5 a6 → post (val a1 a2 a3 a4 a5 a6) → (∀ (post' : ρ → Prop) (b1 : A1) (b2 : A2) (b3 : A3) (b4 : A4) (b5 : A5) (b6 : A6), ok b1 b2 b3 b4 b5 b6 → μ b1 b2 b3 b4 b5 b6 < μ a1 a2 a3 a4 a5 a6 → post' (val b1 b2 b3 b4 b5 b6) → W d post' b1 b2 b3 b4 b5 b6) → W (d + 1) post a1 a2 a3 a4 a5 a6) :
    ∀ (d : Nat) (post : ρ → Prop) (a1 : A1) (a2 : A2) (a3 : A3) (a4 : A4) (a5 : A5) (a6 : A6), ok a1 a2 a3 a4 a5 a6 → μ a1 a2 a3 a4 a5 a6 < d → post (val a1 a2 a3 a4 a5 a6) → W d post a1 a2 a3 a4 a5 a6 := by
  intro d
  induction d with
  | zero => intro post a1 a2 a3 a4 a5 a6 _ h; omega
  | succ d ih =>
    intro post a1 a2 a3 a4 a5 a6 ho hm hp
    exact hs d post a1 a2 a3 a4 a5 a6 ho hp (fun post' b1 b2 b3 b4 b5 b6 ho' hm' hp' => ih post' b1 b2 b3 b4 b5 b6 ho' (by omega) hp')
theorem rec_p {σ ρ : Type} (W : Nat → (ρ → Prop) → σ → Prop) (ok : σ → Prop) (μ : σ → Nat) (val : σ → ρ)
    (hs : ∀ d s post, ok s → post (val s) → (∀ s' post', ok s' → μ s' < μ s → post' (val s') → W d post' s') → W (d + 1) post s) :
    ∀ d s post, ok s → μ s < d → post (val s) → W d post s := by
  intro d
  induction d with
  | zero => intro s post _ h; omega
  | succ d ih =>
    intro s post ho hm hp
    exact hs d s post ho hp (fun s' post' ho' hm' hp' => ih s' post' ho' (by omega) hp')
theorem rec_q {σ ρ : Type} (W : Nat → (ρ → Prop) → σ → Prop) (ok : σ → Prop) (μ : σ → Nat) (Q : σ → ρ → Prop)
    (hs : ∀ d s post, ok s → (∀ r, Q s r → post r) → (∀ s' post', ok s' → μ s' < μ s → (∀ r, Q s' r → post' r) → W d post' s') → W (d + 1) post s) :
    ∀ d s post, ok s → μ s < d → (∀ r, Q s r → post r) → W d post s := by
  intro d
  induction d with
  | zero => intro s post _ h; omega
  | succ d ih =>
    intro s post ho hm hp
    exact hs d s post ho hp (fun s' post' ho' hm' hp' => ih s' post' ho' (by omega) hp')
def bx_sum (f : Nat → Int32) : Nat → Int32
  | 0 => 0
  | n + 1 => bx_sum f n + f n
theorem ek_u {A : Prop} {B : Nat → Prop} {k N : Nat} (hk : k < N) (h : B k) : (some k = none → A) ∧ (∀ y : Nat, some k = some y → (y < N ∧ B y)) :=
  ⟨fun z => absurd z (Option.some_ne_none k), fun _ e => (by cases e; exact ⟨hk, h⟩)⟩
theorem ek_nu {A : Prop} {B : Nat → Prop} (h : A) : ((none : Option Nat) = none → A) ∧ (∀ y : Nat, (none : Option Nat) = some y → B y) :=
  ⟨fun _ => h, fun _ e => (by cases e)⟩
theorem ek_if {c d A B : Prop} (e : c ↔ d) (f : d → A) (g : ¬ d → B) : (c → A) ∧ (¬ c → B) :=
  ⟨fun z => f (e.mp z), fun z => g (fun y => z (e.mpr y))⟩
theorem ek_v {α : Sort _} {P : α → Prop} {a b : α} (e : a = b) (h : P b) : P a := e ▸ h
theorem co_some {x : Option Nat} {A : Prop} {B : Nat → Prop} (i : Nat) (h : B i) (hx : x = some i := by rfl) : (x = none → A) ∧ (∀ y : Nat, x = some y → B y) := by
  subst hx
  exact ⟨fun e => (nomatch e), fun y e => Option.some.inj e ▸ h⟩
theorem co_none {x : Option Nat} {A : Prop} {B : Nat → Prop} (h : A) (hx : x = none := by rfl) : (x = none → A) ∧ (∀ y : Nat, x = some y → B y) := by
  subst hx
  exact ⟨fun _ => h, fun y e => (nomatch e)⟩
theorem co_any {x : Option Nat} {A : Prop} {B : Nat → Prop} (hn : x = none → A) (hs : ∀ i : Nat, x = some i → B i) : (x = none → A) ∧ (∀ y : Nat, x = some y → B y) := ⟨hn, hs⟩
theorem co_2 {P : Nat → Prop} (h0 : P 0) (h1 : P 1) {i : Nat} (hi : i < 2) : P i :=
  match i, hi with
  | 0, _ => h0
  | 1, _ => h1
theorem co_3 {P : Nat → Prop} (h0 : P 0) (h1 : P 1) (h2 : P 2) {i : Nat} (hi : i < 3) : P i :=
  match i, hi with
  | 0, _ => h0
  | 1, _ => h1
  | 2, _ => h2
theorem co_4 {P : Nat → Prop} (h0 : P 0) (h1 : P 1) (h2 : P 2) (h3 : P 3) {i : Nat} (hi : i < 4) : P i :=
  match i, hi with
  | 0, _ => h0
  | 1, _ => h1
  | 2, _ => h2
  | 3, _ => h3
theorem co_dec {N : Nat} {P : Nat → Prop} [DecidablePred P] (h : (List.range N).all (fun i => decide (P i)) = true) {i : Nat} (hi : i < N) : P i := by
  have := List.all_eq_true.mp h i (List.mem_range.mpr hi)
  exact of_decide_eq_true this
theorem co_tab {α : Type} {l : List α} {d : α} {P : α → Prop} (h : ∀ a, a ∈ l → P a) {i : Nat} (hi : i < l.length) : P (l.getD i d) := by
  rw [List.getD_eq_getElem?_getD, List.getElem?_eq_getElem hi]
  exact h _ (List.getElem_mem hi)
theorem pk_mu {x : Int32} {L : Nat} (h0 : ¬ x < 0) (h : ¬ nI L ≤ x) (hL : L < 2 ^ 31) : ∃ j : Nat, j < L ∧ x = nI j ∧ x + 1 = nI (j + 1) ∧ x.toNatClampNeg = j ∧ L - (x + 1).toNatClampNeg < L - x.toNatClampNeg := by
  obtain ⟨j, hj, rfl⟩ := nI_of h0
  have hl : j < L := Nat.not_le.mp fun q => h (nI_le q hj)
  refine ⟨j, hl, rfl, nI_1 j, nI_clamp hj, ?_⟩
  rw [nI_1, nI_clamp (by omega), nI_clamp hj]
  omega
theorem op_s {α : Type} {r : Option α} {A : Prop} {B : α → Prop} {y : α} (h : r = some y) (b : B y) : (r = none → A) ∧ ∀ z, r = some z → B z :=
  ⟨fun e => (by rw [h] at e; cases e), fun z e => (by rw [h] at e; cases e; exact b)⟩
def l_holds {α : Type} (a : Nat → Option Nat) (LP : List Nat) (p : Nat → α) (c : Nat) (b : Nat → α) : Prop :=
  ∀ j, j < c → ∃ y, a j = some y ∧ y ∈ LP ∧ p y = b j
theorem l_holds_0 {α : Type} {a : Nat → Option Nat} {LP : List Nat} {p b : Nat → α} : l_holds a LP p 0 b := fun j h => absurd h (Nat.not_lt_zero j)
theorem l_in_new (LP : List Nat) (q : Nat) : q ∈ LP ++ [q] := List.mem_append.mpr (Or.inr (List.mem_singleton.mpr rfl))
def l_sum (b : Nat → Int32) : Nat → Int32
  | 0 => 0
  | k + 1 => l_sum b k + b k
theorem sb_shr0 (x : Int32) : x >>> ((0 : Int32) &&& 31) = x := by
  rw [show ((0 : Int32) &&& 31) = 0 by decide]
  simp
theorem sb_shl0 (x : Int32) : x <<< ((0 : Int32) &&& 31) = x := by
  rw [show ((0 : Int32) &&& 31) = 0 by decide]
  simp
theorem sb_cl0 : (0 : Int32).toNatClampNeg = 0 := by decide
theorem sb_m1 {p : Nat} (h : 0 < p) : nI p + (-1) = nI (p - 1) := by
  obtain ⟨q, rfl⟩ : ∃ q, p = q + 1 := ⟨p - 1, by omega⟩
  exact pk_m1 q
def sb_b (c : Nat) : Int32 := (nI c).toInt8.toInt32
theorem sb_byte : ∀ c, c < 256 → sb_b c &&& 255 = nI c ∧ ((nI c).toUInt32 % 65536).toInt32 = nI c ∧ nI c ≤ 255 := by decide +kernel
def sb_Fit (a : Nat → Int32) : Prop := ∀ j, fits .byte (.int (a j)) = true
def sb_Lat (t : Nat → Nat) (n : Nat) (a : Nat → Int32) : Prop := ∀ j, j < n → t j < 256 ∧ a j = sb_b (t j)
theorem sb_fitB (c : Nat) : fits .byte (.int (sb_b c)) = true := pk_fb _
theorem sb_fit0 : sb_Fit (fun _ => 0) := fun _ => by
  show fits .byte (.int 0) = true
  decide
theorem sb_fitU {a : Nat → Int32} {k : Nat} {x : Int32} (h : sb_Fit a) (hx : fits .byte (.int x) = true) : sb_Fit (upd a k x) := by
  intro j
  by_cases e : j = k
  · subst e
    rw [pk_us]
    exact hx
  · rw [pk_un e]
    exact h j
def sb_cat (t : Nat → Nat) (n : Nat) (s : Nat → Nat) : Nat → Nat := fun j => if j < n then t j else s (j - n)
theorem sb_cat_lo {t s : Nat → Nat} {n j : Nat} (h : j < n) : sb_cat t n s j = t j := if_pos h
theorem sb_cat_hi {t s : Nat → Nat} {n j : Nat} : sb_cat t n s (n + j) = s j := by
  show (if n + j < n then t (n + j) else s (n + j - n)) = s j
  rw [if_neg (by omega), Nat.add_sub_cancel_left]
theorem sb_latPut {t s : Nat → Nat} {n w : Nat} {a a' : Nat → Int32} (h : sb_Lat t n a) (hk : ∀ j, j < n → a' j = a j) (hs : ∀ i, i < w → s i < 256 ∧ a' (n + i) = sb_b (s i)) : sb_Lat (sb_cat t n s) (n + w) a' := by
  intro j hj
  by_cases e : j < n
  · rw [sb_cat_lo e, hk j e]
    exact h j e
  · obtain ⟨i, rfl⟩ : ∃ i, j = n + i := ⟨j - n, by omega⟩
    rw [sb_cat_hi]
    exact hs i (by omega)
theorem sb_latKeep {t : Nat → Nat} {n : Nat} {a a' : Nat → Int32} (h : sb_Lat t n a) (hk : ∀ j, j < n → a' j = a j) : sb_Lat t n a' := fun j hj => by
  rw [hk j hj]
  exact h j hj
def sb_cap (q m : Nat) : Nat := if q ≤ m then m else if 2 * m + 2 < q then q else 2 * m + 2
def sb_Room (q m mc ms : Nat) : Prop := q ≤ m ∨ (1 ≤ mc ∧ sb_cap q m ≤ ms ∧ sb_cap q m ≤ 65536)
theorem sb_cap_ge (q m : Nat) : q ≤ sb_cap q m := by
  unfold sb_cap
  split
  · omega
  · split <;> omega
theorem sb_cap_gem (q m : Nat) : m ≤ sb_cap q m := by
  unfold sb_cap
  split
  · omega
  · split <;> omega
theorem sb_cap_le {q m mc ms : Nat} (hm : m ≤ 65536) (hr : sb_Room q m mc ms) : sb_cap q m ≤ 65536 := by
  rcases hr with h | h
  · rw [sb_cap, if_pos h]
    exact hm
  · exact h.2.2
theorem sb_at {P : Int32 → Prop} {x y : Int32} (e : x = y) (h : P y) : P x := e ▸ h
def sb_dg (w : Nat) : Nat := if w < 10 then 1 else if w < 100 then 2 else if w < 1000 then 3 else if w < 10000 then 4 else if w < 100000 then 5 else if w < 1000000 then 6 else if w < 10000000 then 7 else if w < 100000000 then 8 else if w < 1000000000 then 9 else 10
def sb_dec (v : Nat) : Nat → Nat := fun i => 48 + v / 10 ^ (sb_dg v - 1 - i) % 10
theorem sb_dg_in (w : Nat) : 1 ≤ sb_dg w ∧ sb_dg w ≤ 10 := by
  unfold sb_dg
  constructor <;> (repeat' split) <;> omega
theorem sb_dg100 {w : Nat} (h : 100 ≤ w) (hw : w < 2 ^ 31) : sb_dg w = sb_dg (w / 100) + 2 := by
  rw [sb_dg, sb_dg, if_neg (show ¬ w < 10 by omega), if_neg (show ¬ w < 100 by omega)]
  by_cases h3 : w < 1000
  · rw [if_pos h3, if_pos (show w / 100 < 10 by omega)]
  rw [if_neg h3, if_neg (show ¬ w / 100 < 10 by omega)]
  by_cases h4 : w < 10000
  · rw [if_pos h4, if_pos (show w / 100 < 100 by omega)]
  rw [if_neg h4, if_neg (show ¬ w / 100 < 100 by omega)]
  by_cases h5 : w < 100000
  · rw [if_pos h5, if_pos (show w / 100 < 1000 by omega)]
  rw [if_neg h5, if_neg (show ¬ w / 100 < 1000 by omega)]
  by_cases h6 : w < 1000000
  · rw [if_pos h6, if_pos (show w / 100 < 10000 by omega)]
  rw [if_neg h6, if_neg (show ¬ w / 100 < 10000 by omega)]
  by_cases h7 : w < 10000000
  · rw [if_pos h7, if_pos (show w / 100 < 100000 by omega)]
  rw [if_neg h7, if_neg (show ¬ w / 100 < 100000 by omega)]
  by_cases h8 : w < 100000000
  · rw [if_pos h8, if_pos (show w / 100 < 1000000 by omega)]
  rw [if_neg h8, if_neg (show ¬ w / 100 < 1000000 by omega)]
  by_cases h9 : w < 1000000000
  · rw [if_pos h9, if_pos (show w / 100 < 10000000 by omega)]
  rw [if_neg h9, if_neg (show ¬ w / 100 < 10000000 by omega)]
  rw [if_pos (show w / 100 < 100000000 by omega)]
theorem sb_negT {w : Nat} (h : w < 2 ^ 31) : (-nI w).toInt = -(w : Int) := by
  rw [Int32.toInt_neg, nI_toInt h]
  exact Int.bmod_eq_of_le (by omega) (by omega)
theorem sb_nle {a b : Nat} (ha : a < 2 ^ 31) (hb : b < 2 ^ 31) : -nI a ≤ -nI b ↔ b ≤ a := by
  rw [Int32.le_iff_toInt_le, sb_negT ha, sb_negT hb]
  omega
theorem sb_nlt {a b : Nat} (ha : a < 2 ^ 31) (hb : b < 2 ^ 31) : -nI a < -nI b ↔ b < a := by
  rw [Int32.lt_iff_toInt_lt, sb_negT ha, sb_negT hb]
  omega
theorem sb_cmp {A B : Prop} {x : Int32} (v c : Nat) (f : c ≤ v → A) (g : v < c → B) (hv : v < 2 ^ 31) (hx : x = -nI c := by rfl) (hc : c < 2 ^ 31 := by omega) : (-nI v ≤ x → A) ∧ (¬ -nI v ≤ x → B) := by
  subst hx
  rw [sb_nle hv hc]
  exact ⟨f, fun z => g (by omega)⟩
theorem sb_ndiv {w : Nat} (hw : w < 2 ^ 31) : (-nI w) / 100 = -nI (w / 100) := by
  apply Int32.toInt_inj.mp
  have h100 : (100 : Int32).toInt = 100 := by decide
  rw [Int32.toInt_div, sb_negT hw, h100, sb_negT (by omega), Int.neg_tdiv, Int.tdiv_eq_ediv_of_nonneg (by omega), Int.bmod_eq_of_le (by omega) (by omega)]
  omega
theorem sb_nrem {w : Nat} (hw : w < 2 ^ 31) : (-nI (w / 100)) * 100 - (-nI w) = nI (w % 100) := by
  have h := pk_rem (a := w) (d := 100) hw (by decide) (by decide)
  rw [pk_div hw (by decide) (by decide)] at h
  rw [← h]
  show (-nI (w / 100)) * nI 100 - (-nI w) = nI w - nI (w / 100) * nI 100
  rw [Int32.neg_mul, Int32.sub_neg, Int32.add_comm, ← Int32.sub_eq_add_neg]
end
section
section GRF
/-! An abstract graph: kinds (0 test, 1 begin, 2 end, 3 fork, 5 note, 6 match), operands, ordered successors. -/
abbrev gr_N : Type := Nat → Int32
abbrev gr_T : Type := (Nat → Nat) × (Nat → Nat) × (Nat → List Nat)
abbrev gr_E : Type := Bool × Bool × Bool
def gr_mk (S : Nat → Bool) (l : Nat) : Nat → Bool := fun j => if j = l then true else S j
theorem gr_mk_s {S : Nat → Bool} {l : Nat} : gr_mk S l l = true := if_pos rfl
theorem gr_mk_n {S : Nat → Bool} {l j : Nat} (h : j ≠ l) : gr_mk S l j = S j := if_neg h
theorem gr_mk_le {S : Nat → Bool} {l j : Nat} (h : S j = true) : gr_mk S l j = true := by
  unfold gr_mk; split
  · rfl
  · exact h
theorem gr_mk_inv {S : Nat → Bool} {l j : Nat} (h : gr_mk S l j = true) : j = l ∨ S j = true := by
  unfold gr_mk at h; split at h
  · exact Or.inl ‹_›
  · exact Or.inr h
/-- the labels that follow without reading -/
def gr_q (G : gr_T) (e : gr_E) (l : Nat) : List Nat :=
  if G.1 l = 1 ∧ e.1 = false then [] else if G.1 l = 2 ∧ e.2.1 = false then [] else G.2.2 l
def gr_pl {α : Type} (G : gr_T) (nt : Nat → α → α) (l : Nat) (a : α) : α := if G.1 l = 5 then nt (G.2.1 l) a else a
def gr_sx {α : Type} (G : gr_T) (e : gr_E) (nt : Nat → α → α) (l : Nat) (a : α) : List (Nat × α) := (gr_q G e l).map (fun q => (q, gr_pl G nt l a))
def ly_f {α : Type} (G : gr_T) (e : gr_E) (nt : Nat → α → α) : Nat → (Nat → Bool) → List (Nat × α) → Option ((Nat → Bool) × List (Nat × α) × Option α)
  | 0, _, _ => none
  | _ + 1, S, [] => some (S, [], none)
  | f + 1, S, (l, a) :: st =>
    if G.1 l = 6 then (if e.2.2 = true then some (S, [], some a) else ly_f G e nt f S st)
    else if S l = true then ly_f G e nt f S st
    else if G.1 l = 0 then (ly_f G e nt f (gr_mk S l) st).map (fun r => (r.1, (l, a) :: r.2.1, r.2.2))
    else ly_f G e nt f (gr_mk S l) (gr_sx G e nt l a ++ st)
def ly_R {α : Type} (G : gr_T) (e : gr_E) (nt : Nat → α → α) (S : Nat → Bool) (st : List (Nat × α)) (r : (Nat → Bool) × List (Nat × α) × Option α) : Prop := ∃ f, ly_f G e nt f S st = some r
section LY
variable {α : Type} {G : gr_T} {e : gr_E} {nt : Nat → α → α} {S : Nat → Bool} {l : Nat} {a : α} {st : List (Nat × α)} {r : (Nat → Bool) × List (Nat × α) × Option α}
theorem ly_0 : ly_f G e nt 0 S st = none := by cases st <;> rfl
theorem ly_c {f : Nat} : ly_f G e nt (f + 1) S ((l, a) :: st) = if G.1 l = 6 then (if e.2.2 = true then some (S, [], some a) else ly_f G e nt f S st)
    else if S l = true then ly_f G e nt f S st
    else if G.1 l = 0 then (ly_f G e nt f (gr_mk S l) st).map (fun r => (r.1, (l, a) :: r.2.1, r.2.2))
    else ly_f G e nt f (gr_mk S l) (gr_sx G e nt l a ++ st) := rfl
theorem ly_nil : ly_R G e nt S [] (S, [], none) := ⟨1, rfl⟩
theorem ly_nil' (h : ly_R G e nt S [] r) : r = (S, [], none) := by
  obtain ⟨f, h⟩ := h
  cases f with
  | zero => cases h
  | succ f => cases h; rfl
theorem ly_m1 (k : G.1 l = 6) (c : e.2.2 = true) : ly_R G e nt S ((l, a) :: st) (S, [], some a) := ⟨1, by rw [ly_c, if_pos k, if_pos c]⟩
theorem ly_m1' (k : G.1 l = 6) (c : e.2.2 = true) (h : ly_R G e nt S ((l, a) :: st) r) : r = (S, [], some a) := by
  obtain ⟨f, h⟩ := h
  cases f with
  | zero => cases h
  | succ f => rw [ly_c, if_pos k, if_pos c] at h; cases h; rfl
theorem ly_m0 (k : G.1 l = 6) (c : ¬ e.2.2 = true) (h : ly_R G e nt S st r) : ly_R G e nt S ((l, a) :: st) r := by
  obtain ⟨f, h⟩ := h
  exact ⟨f + 1, by rw [ly_c, if_pos k, if_neg c]; exact h⟩
theorem ly_m0' (k : G.1 l = 6) (c : ¬ e.2.2 = true) (h : ly_R G e nt S ((l, a) :: st) r) : ly_R G e nt S st r := by
  obtain ⟨f, h⟩ := h
  cases f with
  | zero => cases h
  | succ f => rw [ly_c, if_pos k, if_neg c] at h; exact ⟨f, h⟩
theorem ly_s (k : ¬ G.1 l = 6) (c : S l = true) (h : ly_R G e nt S st r) : ly_R G e nt S ((l, a) :: st) r := by
  obtain ⟨f, h⟩ := h
  exact ⟨f + 1, by rw [ly_c, if_neg k, if_pos c]; exact h⟩
theorem ly_s' (k : ¬ G.1 l = 6) (c : S l = true) (h : ly_R G e nt S ((l, a) :: st) r) : ly_R G e nt S st r := by
  obtain ⟨f, h⟩ := h
  cases f with
  | zero => cases h
  | succ f => rw [ly_c, if_neg k, if_pos c] at h; exact ⟨f, h⟩
theorem ly_t {S' : Nat → Bool} {T : List (Nat × α)} {ov : Option α} (k : G.1 l = 0) (c : ¬ S l = true) (h : ly_R G e nt (gr_mk S l) st (S', T, ov)) : ly_R G e nt S ((l, a) :: st) (S', (l, a) :: T, ov) := by
  obtain ⟨f, h⟩ := h
  exact ⟨f + 1, by rw [ly_c, if_neg (by omega), if_neg c, if_pos k, h]; rfl⟩
theorem ly_t' (k : G.1 l = 0) (c : ¬ S l = true) (h : ly_R G e nt S ((l, a) :: st) r) : ∃ S' T ov, ly_R G e nt (gr_mk S l) st (S', T, ov) ∧ r = (S', (l, a) :: T, ov) := by
  obtain ⟨f, h⟩ := h
  cases f with
  | zero => cases h
  | succ f =>
    rw [ly_c, if_neg (by omega), if_neg c, if_pos k] at h
    match hh : ly_f G e nt f (gr_mk S l) st with
    | none => rw [hh] at h; cases h
    | some (S', T, ov) => rw [hh] at h; cases h; exact ⟨S', T, ov, ⟨f, hh⟩, rfl⟩
theorem ly_e (k : ¬ G.1 l = 6) (k0 : ¬ G.1 l = 0) (c : ¬ S l = true) (h : ly_R G e nt (gr_mk S l) (gr_sx G e nt l a ++ st) r) : ly_R G e nt S ((l, a) :: st) r := by
  obtain ⟨f, h⟩ := h
  exact ⟨f + 1, by rw [ly_c, if_neg k, if_neg c, if_neg k0]; exact h⟩
theorem ly_e' (k : ¬ G.1 l = 6) (k0 : ¬ G.1 l = 0) (c : ¬ S l = true) (h : ly_R G e nt S ((l, a) :: st) r) : ly_R G e nt (gr_mk S l) (gr_sx G e nt l a ++ st) r := by
  obtain ⟨f, h⟩ := h
  cases f with
  | zero => cases h
  | succ f => rw [ly_c, if_neg k, if_neg c, if_neg k0] at h; exact ⟨f, h⟩
end LY
theorem ly_ind {α : Type} {G : gr_T} {e : gr_E} {nt : Nat → α → α} {P : (Nat → Bool) → List (Nat × α) → (Nat → Bool) → List (Nat × α) → Option α → Prop}
    (h0 : ∀ S, P S [] S [] none)
    (hm1 : ∀ S l a st, G.1 l = 6 → e.2.2 = true → P S ((l, a) :: st) S [] (some a))
    (hm0 : ∀ S l a st S' T ov, G.1 l = 6 → ¬ e.2.2 = true → P S st S' T ov → P S ((l, a) :: st) S' T ov)
    (hs : ∀ S l a st S' T ov, ¬ G.1 l = 6 → S l = true → P S st S' T ov → P S ((l, a) :: st) S' T ov)
    (ht : ∀ S l a st S' T ov, G.1 l = 0 → ¬ S l = true → P (gr_mk S l) st S' T ov → P S ((l, a) :: st) S' ((l, a) :: T) ov)
    (he : ∀ S l a st S' T ov, ¬ G.1 l = 6 → ¬ G.1 l = 0 → ¬ S l = true → P (gr_mk S l) (gr_sx G e nt l a ++ st) S' T ov → P S ((l, a) :: st) S' T ov)
    : ∀ S st S' T ov, ly_R G e nt S st (S', T, ov) → P S st S' T ov := by
  have main : ∀ f S st S' T ov, ly_f G e nt f S st = some (S', T, ov) → P S st S' T ov := by
    intro f
    induction f with
    | zero => intro S st S' T ov h; cases h
    | succ f ih =>
      intro S st S' T ov h
      match st with
      | [] => cases h; exact h0 S
      | (l, a) :: st =>
        rw [ly_c] at h
        by_cases k : G.1 l = 6
        · rw [if_pos k] at h
          by_cases c : e.2.2 = true
          · rw [if_pos c] at h; cases h; exact hm1 _ l a st k c
          · rw [if_neg c] at h; exact hm0 _ l a st _ _ _ k c (ih _ _ _ _ _ h)
        · rw [if_neg k] at h
          by_cases c : S l = true
          · rw [if_pos c] at h; exact hs _ l a st _ _ _ k c (ih _ _ _ _ _ h)
          · rw [if_neg c] at h
            by_cases k0 : G.1 l = 0
            · rw [if_pos k0] at h
              match hh : ly_f G e nt f (gr_mk S l) st with
              | none => rw [hh] at h; cases h
              | some (S2, T2, ov2) => rw [hh] at h; cases h; exact ht _ l a st _ _ _ k0 c (ih _ _ _ _ _ hh)
            · rw [if_neg k0] at h; exact he _ l a st _ _ _ k k0 c (ih _ _ _ _ _ h)
  exact fun S st S' T ov ⟨f, h⟩ => main f S st S' T ov h
section LYB
variable {α : Type} {G : gr_T} {e : gr_E} {nt : Nat → α → α}
theorem ly_det {S : Nat → Bool} {st : List (Nat × α)} {S' : Nat → Bool} {T : List (Nat × α)} {ov : Option α} (h : ly_R G e nt S st (S', T, ov)) : ∀ r, ly_R G e nt S st r → r = (S', T, ov) := by
  refine ly_ind (P := fun S st S' T ov => ∀ r, ly_R G e nt S st r → r = (S', T, ov)) ?_ ?_ ?_ ?_ ?_ ?_ S st S' T ov h
  · intro S r h; exact ly_nil' h
  · intro S l a st k c r h; exact ly_m1' k c h
  · intro S l a st S' T ov k c ih r h; exact ih r (ly_m0' k c h)
  · intro S l a st S' T ov k c ih r h; exact ih r (ly_s' k c h)
  · intro S l a st S' T ov k c ih r h
    obtain ⟨S2, T2, ov2, h2, rfl⟩ := ly_t' k c h
    cases ih _ h2; rfl
  · intro S l a st S' T ov k k0 c ih r h; exact ih r (ly_e' k k0 c h)
/-- two stacks one behind the other -/
theorem ly_app {S : Nat → Bool} {A B : List (Nat × α)} {S1 : Nat → Bool} {T1 : List (Nat × α)} {ov1 : Option α} (h : ly_R G e nt S A (S1, T1, ov1)) :
    (∀ x, ov1 = some x → ly_R G e nt S (A ++ B) (S1, T1, ov1)) ∧ (ov1 = none → ∀ S2 T2 ov2, ly_R G e nt S1 B (S2, T2, ov2) → ly_R G e nt S (A ++ B) (S2, T1 ++ T2, ov2)) := by
  refine ly_ind (P := fun S A S1 T1 ov1 => (∀ x, ov1 = some x → ly_R G e nt S (A ++ B) (S1, T1, ov1)) ∧ (ov1 = none → ∀ S2 T2 ov2, ly_R G e nt S1 B (S2, T2, ov2) → ly_R G e nt S (A ++ B) (S2, T1 ++ T2, ov2))) ?_ ?_ ?_ ?_ ?_ ?_ S A S1 T1 ov1 h
  · intro S; exact ⟨(fun x h => nomatch h), fun _ S2 T2 ov2 h => h⟩
  · intro S l a st k c; exact ⟨fun x _ => ly_m1 k c, fun h => nomatch h⟩
  · intro S l a st S' T ov k c ih; exact ⟨fun x hx => ly_m0 k c (ih.1 x hx), fun hx S2 T2 ov2 h2 => ly_m0 k c (ih.2 hx S2 T2 ov2 h2)⟩
  · intro S l a st S' T ov k c ih; exact ⟨fun x hx => ly_s k c (ih.1 x hx), fun hx S2 T2 ov2 h2 => ly_s k c (ih.2 hx S2 T2 ov2 h2)⟩
  · intro S l a st S' T ov k c ih; exact ⟨fun x hx => ly_t k c (ih.1 x hx), fun hx S2 T2 ov2 h2 => ly_t k c (ih.2 hx S2 T2 ov2 h2)⟩
  · intro S l a st S' T ov k k0 c ih
    refine ⟨fun x hx => ly_e k k0 c ?_, fun hx S2 T2 ov2 h2 => ly_e k k0 c ?_⟩
    · have := ih.1 x hx; rw [List.append_assoc] at this; exact this
    · have := ih.2 hx S2 T2 ov2 h2; rw [List.append_assoc] at this; exact this
theorem ly_map {β : Type} {nt' : Nat → β → β} (g : α → β) (hg : ∀ k a, g (nt k a) = nt' k (g a)) {S : Nat → Bool} {A : List (Nat × α)} {S1 : Nat → Bool} {T1 : List (Nat × α)} {ov1 : Option α} (h : ly_R G e nt S A (S1, T1, ov1)) :
    ly_R G e nt' S (A.map (fun t => (t.1, g t.2))) (S1, T1.map (fun t => (t.1, g t.2)), ov1.map g) := by
  refine ly_ind (P := fun S A S1 T1 ov1 => ly_R G e nt' S (A.map (fun t => (t.1, g t.2))) (S1, T1.map (fun t => (t.1, g t.2)), ov1.map g)) ?_ ?_ ?_ ?_ ?_ ?_ S A S1 T1 ov1 h
  · intro S; exact ly_nil
  · intro S l a st k c; exact ly_m1 k c
  · intro S l a st S' T ov k c ih; exact ly_m0 k c ih
  · intro S l a st S' T ov k c ih; exact ly_s k c ih
  · intro S l a st S' T ov k c ih; exact ly_t k c ih
  · intro S l a st S' T ov k k0 c ih
    refine ly_e k k0 c ?_
    have e1 : (gr_sx G e nt l a ++ st).map (fun t => (t.1, g t.2)) = gr_sx G e nt' l (g a) ++ st.map (fun t => (t.1, g t.2)) := by
      rw [List.map_append]
      congr 1
      unfold gr_sx gr_pl
      rw [List.map_map]
      apply List.map_congr_left
      intro q _
      simp only [Function.comp]
      split
      · rw [hg]
      · rfl
    rw [e1] at ih
    exact ih
/-- what was marked before stays marked -/
theorem ly_mono {S : Nat → Bool} {A : List (Nat × α)} {S1 : Nat → Bool} {T1 : List (Nat × α)} {ov1 : Option α} (h : ly_R G e nt S A (S1, T1, ov1)) : ∀ j, S j = true → S1 j = true := by
  refine ly_ind (P := fun S A S1 T1 ov1 => ∀ j, S j = true → S1 j = true) ?_ ?_ ?_ ?_ ?_ ?_ S A S1 T1 ov1 h
  · intro S j h; exact h
  · intro S l a st k c j h; exact h
  · intro S l a st S' T ov k c ih; exact ih
  · intro S l a st S' T ov k c ih; exact ih
  · intro S l a st S' T ov k c ih j hj; exact ih j (gr_mk_le hj)
  · intro S l a st S' T ov k k0 c ih j hj; exact ih j (gr_mk_le hj)
/-- labels: within M -/
def gr_ok (G : gr_T) (M : Nat) : Prop := ∀ l, l < M → ∀ q, q ∈ G.2.2 l → q < M
theorem gr_q_in {l q : Nat} (h : q ∈ gr_q G e l) : q ∈ G.2.2 l := by
  unfold gr_q at h
  split at h
  · cases h
  · split at h
    · cases h
    · exact h
theorem gr_sx_in {l : Nat} {a : α} {t : Nat × α} (h : t ∈ gr_sx G e nt l a) : t.1 ∈ G.2.2 l := by
  unfold gr_sx at h
  obtain ⟨q, hq, rfl⟩ := List.mem_map.mp h
  exact gr_q_in hq
end LYB
/-- how many of the first n are unmarked -/
def gr_u (S : Nat → Bool) : Nat → Nat
  | 0 => 0
  | n + 1 => gr_u S n + (if S n = true then 0 else 1)
theorem gr_u_s {S : Nat → Bool} {n : Nat} : gr_u S (n + 1) = gr_u S n + (if S n = true then 0 else 1) := rfl
theorem gr_u_le (S : Nat → Bool) : ∀ n, gr_u S n ≤ n := by
  intro n
  induction n with
  | zero => exact Nat.le_refl 0
  | succ n ih => rw [gr_u_s]; split <;> omega
theorem gr_u_out {S : Nat → Bool} {l : Nat} : ∀ n, n ≤ l → gr_u (gr_mk S l) n = gr_u S n := by
  intro n
  induction n with
  | zero => intro _; rfl
  | succ n ih => intro h; rw [gr_u_s, gr_u_s, ih (by omega), gr_mk_n (by omega)]
theorem gr_u_mk {S : Nat → Bool} {l : Nat} (h0 : ¬ S l = true) : ∀ n, l < n → gr_u (gr_mk S l) n + 1 = gr_u S n := by
  intro n
  induction n with
  | zero => intro h; omega
  | succ n ih =>
    intro h
    by_cases e : l = n
    · subst e
      rw [gr_u_s, gr_u_s, gr_u_out l (Nat.le_refl l), gr_mk_s, if_pos rfl, if_neg h0]
    · have := ih (by omega)
      rw [gr_u_s, gr_u_s, gr_mk_n (fun z => e z.symm)]
      omega
theorem ly_tot {α : Type} {G : gr_T} {e : gr_E} {nt : Nat → α → α} {M : Nat} (hG : gr_ok G M) : ∀ u S (st : List (Nat × α)), gr_u S M ≤ u → (∀ t, t ∈ st → t.1 < M) → ∃ S' T ov, ly_R G e nt S st (S', T, ov) := by
  intro u
  induction u with
  | zero =>
    intro S st
    induction st with
    | nil => intro _ _; exact ⟨_, _, _, ly_nil⟩
    | cons t st ih =>
      intro hu hst
      obtain ⟨l, a⟩ := t
      obtain ⟨S', T, ov, h⟩ := ih hu (fun t ht => hst t (List.mem_cons_of_mem _ ht))
      by_cases k : G.1 l = 6
      · by_cases c : e.2.2 = true
        · exact ⟨_, _, _, ly_m1 k c⟩
        · exact ⟨_, _, _, ly_m0 k c h⟩
      · by_cases c : S l = true
        · exact ⟨_, _, _, ly_s k c h⟩
        · exfalso
          have hl : l < M := hst (l, a) List.mem_cons_self
          have := gr_u_mk c M hl
          omega
  | succ u ihu =>
    intro S st
    induction st with
    | nil => intro _ _; exact ⟨_, _, _, ly_nil⟩
    | cons t st ih =>
      intro hu hst
      obtain ⟨l, a⟩ := t
      have hl : l < M := hst (l, a) List.mem_cons_self
      have hst' : ∀ t, t ∈ st → t.1 < M := fun t ht => hst t (List.mem_cons_of_mem _ ht)
      by_cases k : G.1 l = 6
      · by_cases c : e.2.2 = true
        · exact ⟨_, _, _, ly_m1 k c⟩
        · obtain ⟨S', T, ov, h⟩ := ih hu hst'
          exact ⟨_, _, _, ly_m0 k c h⟩
      · by_cases c : S l = true
        · obtain ⟨S', T, ov, h⟩ := ih hu hst'
          exact ⟨_, _, _, ly_s k c h⟩
        · have hm := gr_u_mk c M hl
          by_cases k0 : G.1 l = 0
          · obtain ⟨S', T, ov, h⟩ := ihu (gr_mk S l) st (by omega) hst'
            exact ⟨_, _, _, ly_t k0 c h⟩
          · obtain ⟨S', T, ov, h⟩ := ihu (gr_mk S l) (gr_sx G e nt l a ++ st) (by omega) (by
              intro t ht
              rcases List.mem_append.mp ht with h1 | h1
              · exact hG l hl _ (gr_sx_in h1)
              · exact hst' t h1)
            exact ⟨_, _, _, ly_e k k0 c h⟩
end GRF
end
section
section PIK
/-! Layer after layer (Pike), seeds, dead sets -/
def nt_a (i : Nat) : Nat → gr_N → gr_N := fun k N => upd N k (nI i)
def pk_sd (e0 i : Nat) : Nat × gr_N := (e0, fun k => if k = 0 then nI i else -1)
def pk_ss (e0 : Nat) (sk : Bool) (i : Nat) : List (Nat × gr_N) := if sk = true then [pk_sd e0 i] else []
def pk_nx {α : Type} (G : gr_T) (c : Nat) (T : List (Nat × α)) : List (Nat × α) := T.flatMap (fun t => if (G.2.1 t.1).testBit c = true then (G.2.2 t.1).map (fun q => (q, t.2)) else [])
def pk_e (wh : Bool) (n i : Nat) : gr_E := (decide (i = 0), decide (i = n), !wh || decide (i = n))
def pk_fin (i : Nat) (ov : Option gr_N) : Option gr_N := ov.map (fun N => upd N 7 (nI i))
def pk_or (a b : Option gr_N) : Option gr_N := match a with
  | some x => some x
  | none => b
theorem pk_or_n {a b : Option gr_N} (h : pk_or a b = none) : a = none ∧ b = none := by
  cases a with
  | none => exact ⟨rfl, h⟩
  | some x => cases h
theorem pk_fin_n {i : Nat} {ov : Option gr_N} (h : pk_fin i ov = none) : ov = none := by
  cases ov with
  | none => rfl
  | some x => cases h
theorem pk_nx_app {α : Type} {G : gr_T} {c : Nat} {A B : List (Nat × α)} : pk_nx G c (A ++ B) = pk_nx G c A ++ pk_nx G c B := List.flatMap_append
theorem pk_nx_c {α : Type} {G : gr_T} {c : Nat} {t : Nat × α} {B : List (Nat × α)} : pk_nx G c (t :: B) = (if (G.2.1 t.1).testBit c = true then (G.2.2 t.1).map (fun q => (q, t.2)) else []) ++ pk_nx G c B := List.flatMap_cons
theorem pk_nx_mem {α : Type} {G : gr_T} {c : Nat} {T : List (Nat × α)} {t : Nat × α} (h : t ∈ pk_nx G c T) : ∃ l, (l, t.2) ∈ T ∧ (G.2.1 l).testBit c = true ∧ t.1 ∈ G.2.2 l := by
  unfold pk_nx at h
  obtain ⟨s, hs, h⟩ := List.mem_flatMap.mp h
  split at h
  · obtain ⟨q, hq, rfl⟩ := List.mem_map.mp h
    exact ⟨s.1, hs, ‹_›, hq⟩
  · cases h
theorem pk_nx_in {α : Type} {G : gr_T} {c l q : Nat} {a : α} {T : List (Nat × α)} (h : (l, a) ∈ T) (hb : (G.2.1 l).testBit c = true) (hq : q ∈ G.2.2 l) : (q, a) ∈ pk_nx G c T := by
  unfold pk_nx
  refine List.mem_flatMap.mpr ⟨(l, a), h, ?_⟩
  rw [if_pos hb]
  exact List.mem_map.mpr ⟨q, hq, rfl⟩
section PKR
variable (G : gr_T) (e0 : Nat) (tx : Nat → Nat) (wh : Bool) (n : Nat)
def pk_R : Nat → Nat → List (Nat × gr_N) → Bool → Option gr_N → Prop
  | 0, i, L, _, a => ∃ S T ov, ly_R G (pk_e wh n i) (nt_a i) (fun _ => false) L (S, T, ov) ∧ a = pk_fin i ov
  | r + 1, i, L, sk, a => ∃ S T ov, ly_R G (pk_e wh n i) (nt_a i) (fun _ => false) L (S, T, ov) ∧ ∃ a', pk_R r (i + 1) (pk_nx G (tx i) T ++ pk_ss e0 (sk && ov.isNone) (i + 1)) (sk && ov.isNone) a' ∧ a = pk_or a' (pk_fin i ov)
end PKR
section PKB
variable {G : gr_T} {e0 : Nat} {tx : Nat → Nat} {wh : Bool} {n : Nat}
theorem pk_det : ∀ r i L sk a b, pk_R G e0 tx wh n r i L sk a → pk_R G e0 tx wh n r i L sk b → a = b := by
  intro r
  induction r with
  | zero =>
    intro i L sk a b h1 h2
    obtain ⟨S, T, ov, h1, rfl⟩ := h1
    obtain ⟨S2, T2, ov2, h2, rfl⟩ := h2
    cases ly_det h1 _ h2; rfl
  | succ r ih =>
    intro i L sk a b h1 h2
    obtain ⟨S, T, ov, h1, a', k1, rfl⟩ := h1
    obtain ⟨S2, T2, ov2, h2, b', k2, rfl⟩ := h2
    cases ly_det h1 _ h2
    rw [ih _ _ _ _ _ k1 k2]
theorem ly_T0 {α : Type} {e : gr_E} {nt : Nat → α → α} {S : Nat → Bool} {A : List (Nat × α)} {S1 : Nat → Bool} {T1 : List (Nat × α)} {ov1 : Option α} (h : ly_R G e nt S A (S1, T1, ov1)) : ∀ t, t ∈ T1 → G.1 t.1 = 0 := by
  refine ly_ind (P := fun S A S1 T1 ov1 => ∀ t, t ∈ T1 → G.1 t.1 = 0) ?_ ?_ ?_ ?_ ?_ ?_ S A S1 T1 ov1 h
  · intro S t ht; cases ht
  · intro S l a st k c t ht; cases ht
  · intro S l a st S' T ov k c ih; exact ih
  · intro S l a st S' T ov k c ih; exact ih
  · intro S l a st S' T ov k c ih t ht
    rcases List.mem_cons.mp ht with rfl | ht
    · exact k
    · exact ih t ht
  · intro S l a st S' T ov k k0 c ih; exact ih
theorem ly_TM {α : Type} {e : gr_E} {nt : Nat → α → α} {M : Nat} (hG : gr_ok G M) {S : Nat → Bool} {A : List (Nat × α)} {S1 : Nat → Bool} {T1 : List (Nat × α)} {ov1 : Option α} (h : ly_R G e nt S A (S1, T1, ov1)) : (∀ t, t ∈ A → t.1 < M) → ∀ t, t ∈ T1 → t.1 < M := by
  refine ly_ind (P := fun S A S1 T1 ov1 => (∀ t, t ∈ A → t.1 < M) → ∀ t, t ∈ T1 → t.1 < M) ?_ ?_ ?_ ?_ ?_ ?_ S A S1 T1 ov1 h
  · intro S _ t ht; cases ht
  · intro S l a st k c _ t ht; cases ht
  · intro S l a st S' T ov k c ih hA; exact ih (fun t ht => hA t (List.mem_cons_of_mem _ ht))
  · intro S l a st S' T ov k c ih hA; exact ih (fun t ht => hA t (List.mem_cons_of_mem _ ht))
  · intro S l a st S' T ov k c ih hA t ht
    rcases List.mem_cons.mp ht with rfl | ht
    · exact hA _ List.mem_cons_self
    · exact ih (fun t ht => hA t (List.mem_cons_of_mem _ ht)) t ht
  · intro S l a st S' T ov k k0 c ih hA
    refine ih (fun t ht => ?_)
    rcases List.mem_append.mp ht with h1 | h1
    · exact hG l (hA (l, a) List.mem_cons_self) _ (gr_sx_in h1)
    · exact hA t (List.mem_cons_of_mem _ h1)
theorem pk_nxM {α : Type} {M c : Nat} (hG : gr_ok G M) {T : List (Nat × α)} (h : ∀ t, t ∈ T → t.1 < M) : ∀ t, t ∈ pk_nx G c T → t.1 < M := by
  intro t ht
  obtain ⟨l, hl, _, hq⟩ := pk_nx_mem ht
  exact hG l (h _ hl) _ hq
theorem pk_ssM {M i : Nat} {sk : Bool} (h0 : e0 < M) : ∀ t, t ∈ pk_ss e0 sk i → t.1 < M := by
  intro t ht
  unfold pk_ss at ht
  split at ht
  · rcases List.mem_cons.mp ht with rfl | ht
    · exact h0
    · cases ht
  · cases ht
theorem pk_apM {α : Type} {M : Nat} {A B : List (Nat × α)} (hA : ∀ t, t ∈ A → t.1 < M) (hB : ∀ t, t ∈ B → t.1 < M) : ∀ t, t ∈ A ++ B → t.1 < M := by
  intro t ht
  rcases List.mem_append.mp ht with h | h
  · exact hA t h
  · exact hB t h
theorem pk_tot {M : Nat} (hG : gr_ok G M) (h0 : e0 < M) : ∀ r i L sk, (∀ t, t ∈ L → t.1 < M) → ∃ a, pk_R G e0 tx wh n r i L sk a := by
  intro r
  induction r with
  | zero =>
    intro i L sk hL
    obtain ⟨S, T, ov, h⟩ := ly_tot (e := pk_e wh n i) (nt := nt_a i) hG _ (fun _ => false) L (Nat.le_refl _) hL
    exact ⟨_, S, T, ov, h, rfl⟩
  | succ r ih =>
    intro i L sk hL
    obtain ⟨S, T, ov, h⟩ := ly_tot (e := pk_e wh n i) (nt := nt_a i) hG _ (fun _ => false) L (Nat.le_refl _) hL
    obtain ⟨a', h'⟩ := ih (i + 1) (pk_nx G (tx i) T ++ pk_ss e0 (sk && ov.isNone) (i + 1)) (sk && ov.isNone) (pk_apM (pk_nxM hG (ly_TM hG h hL)) (pk_ssM h0))
    exact ⟨_, S, T, ov, h, a', h', rfl⟩
/-- entries that succeed shut out what stands behind them -/
theorem pk_pre {M : Nat} (hG : gr_ok G M) (h0 : e0 < M) : ∀ r i C C2 sk x a, (∀ t, t ∈ C → t.1 < M) → (∀ t, t ∈ C2 → t.1 < M) → pk_R G e0 tx wh n r i C false (some x) → pk_R G e0 tx wh n r i (C ++ C2) sk a → a = some x := by
  intro r
  induction r with
  | zero =>
    intro i C C2 sk x a hC hC2 h1 h2
    obtain ⟨S, T, ov, h1, e1⟩ := h1
    obtain ⟨S2, T2, ov2, h2, rfl⟩ := h2
    cases ov with
    | none => cases e1
    | some y =>
      have := (ly_app (B := C2) h1).1 y rfl
      cases ly_det this _ h2
      exact e1.symm
  | succ r ih =>
    intro i C C2 sk x a hC hC2 h1 h2
    obtain ⟨S, T, ov, h1, a1, k1, e1⟩ := h1
    obtain ⟨S2, T2, ov2, h2, a2, k2, rfl⟩ := h2
    cases ov with
    | some y =>
      have := (ly_app (B := C2) h1).1 y rfl
      cases ly_det this _ h2
      have e3 : (sk && (some y).isNone) = (false && (some y).isNone) := by cases sk <;> rfl
      rw [e3] at k2
      rw [pk_det _ _ _ _ _ _ k2 k1]
      exact e1.symm
    | none =>
      obtain ⟨S3, T3, ov3, h3⟩ := ly_tot (e := pk_e wh n i) (nt := nt_a i) hG _ S C2 (Nat.le_refl _) hC2
      have := (ly_app (B := C2) h1).2 rfl S3 T3 ov3 h3
      cases ly_det this _ h2
      have e4 : a1 = some x := by
        cases a1 with
        | none => cases e1
        | some z => exact e1.symm
      rw [e4] at k1
      have e5 : pk_nx G (tx i) T ++ pk_ss e0 (false && (none : Option gr_N).isNone) (i + 1) = pk_nx G (tx i) T := by
        show pk_nx G (tx i) T ++ [] = _
        rw [List.append_nil]
      rw [e5] at k1
      rw [pk_nx_app, List.append_assoc] at k2
      have hT : ∀ t, t ∈ pk_nx G (tx i) T → t.1 < M := pk_nxM hG (ly_TM hG h1 hC)
      have hT3 : ∀ t, t ∈ pk_nx G (tx i) T3 → t.1 < M := pk_nxM hG (ly_TM hG h3 hC2)
      rw [ih _ _ _ _ x _ hT (pk_apM hT3 (pk_ssM h0)) k1 k2]
      rfl
end PKB
/-! dead entries -/
def dd_b (G : gr_T) (e : gr_E) (D : Nat → Bool) (l : Nat) : Bool := if G.1 l = 6 then !e.2.2 else D l
def dd_f {α : Type} (G : gr_T) (e : gr_E) (D : Nat → Bool) (A : List (Nat × α)) : List (Nat × α) := A.filter (fun t => !dd_b G e D t.1)
def dd_u (S D : Nat → Bool) : Nat → Bool := fun j => S j || D j
section DDB
variable {α : Type} {G : gr_T} {e : gr_E} {nt : Nat → α → α} {D : Nat → Bool}
theorem dd_f_app {A B : List (Nat × α)} : dd_f G e D (A ++ B) = dd_f G e D A ++ dd_f G e D B := List.filter_append ..
theorem dd_f_d {t : Nat × α} {A : List (Nat × α)} (h : dd_b G e D t.1 = true) : dd_f G e D (t :: A) = dd_f G e D A := by
  unfold dd_f
  rw [List.filter_cons, if_neg (by rw [h]; decide)]
theorem dd_f_k {t : Nat × α} {A : List (Nat × α)} (h : ¬ dd_b G e D t.1 = true) : dd_f G e D (t :: A) = t :: dd_f G e D A := by
  unfold dd_f
  rw [List.filter_cons, if_pos (by
    cases h2 : dd_b G e D t.1 with
    | true => exact absurd h2 h
    | false => rfl)]
theorem dd_f_all {A : List (Nat × α)} (h : ∀ t, t ∈ A → dd_b G e D t.1 = true) : dd_f G e D A = [] := by
  induction A with
  | nil => rfl
  | cons t A ih => rw [dd_f_d (h t List.mem_cons_self)]; exact ih (fun s hs => h s (List.mem_cons_of_mem _ hs))
theorem dd_f_nil {A : List (Nat × α)} (h : dd_f G e D A = []) : ∀ t, t ∈ A → dd_b G e D t.1 = true := by
  induction A with
  | nil => intro t ht; cases ht
  | cons s A ih =>
    by_cases c : dd_b G e D s.1 = true
    · rw [dd_f_d c] at h
      intro t ht
      rcases List.mem_cons.mp ht with rfl | ht
      · exact c
      · exact ih h t ht
    · rw [dd_f_k c] at h; cases h
theorem dd_f_cons {s : Nat × α} {B A : List (Nat × α)} (h : dd_f G e D A = s :: B) : ∃ X Y, A = X ++ s :: Y ∧ (∀ t, t ∈ X → dd_b G e D t.1 = true) ∧ dd_f G e D Y = B := by
  induction A with
  | nil => cases h
  | cons t A ih =>
    by_cases c : dd_b G e D t.1 = true
    · rw [dd_f_d c] at h
      obtain ⟨X, Y, rfl, hX, hY⟩ := ih h
      refine ⟨t :: X, Y, rfl, ?_, hY⟩
      intro u hu
      rcases List.mem_cons.mp hu with rfl | hu
      · exact c
      · exact hX u hu
    · rw [dd_f_k c] at h
      cases h
      exact ⟨[], A, rfl, (fun u hu => nomatch hu), rfl⟩
theorem ly_pre {S : Nat → Bool} {X B : List (Nat × α)} {r : (Nat → Bool) × List (Nat × α) × Option α} (hD : ∀ j, D j = true → S j = true) (hX : ∀ t, t ∈ X → dd_b G e D t.1 = true) (h : ly_R G e nt S B r) : ly_R G e nt S (X ++ B) r := by
  induction X with
  | nil => exact h
  | cons t X ih =>
    obtain ⟨l, a⟩ := t
    have h1 := ih (fun t ht => hX t (List.mem_cons_of_mem _ ht))
    have h2 := hX (l, a) List.mem_cons_self
    unfold dd_b at h2
    dsimp only at h2
    by_cases k : G.1 l = 6
    · rw [if_pos k] at h2
      refine ly_m0 k ?_ h1
      intro z
      rw [z] at h2
      cases h2
    · rw [if_neg k] at h2
      exact ly_s k (hD l h2) h1
theorem ly_skip {S : Nat → Bool} {A : List (Nat × α)} {S1 : Nat → Bool} {T1 : List (Nat × α)} {ov1 : Option α} (h : ly_R G e nt S A (S1, T1, ov1)) : (∀ j, D j = true → S j = true) → ∀ A2, dd_f G e D A2 = dd_f G e D A → ly_R G e nt S A2 (S1, T1, ov1) := by
  refine ly_ind (P := fun S A S1 T1 ov1 => (∀ j, D j = true → S j = true) → ∀ A2, dd_f G e D A2 = dd_f G e D A → ly_R G e nt S A2 (S1, T1, ov1)) ?_ ?_ ?_ ?_ ?_ ?_ S A S1 T1 ov1 h
  · intro S hD A2 h2
    have h3 := dd_f_nil (h2.trans rfl)
    have := ly_pre (G := G) (e := e) (nt := nt) (B := []) hD h3 ly_nil
    rw [List.append_nil] at this
    exact this
  · intro S l a st k c hD A2 h2
    have hk : ¬ dd_b G e D l = true := by unfold dd_b; rw [if_pos k, c]; decide
    rw [dd_f_k hk] at h2
    obtain ⟨X, Y, rfl, hX, hY⟩ := dd_f_cons h2
    exact ly_pre hD hX (ly_m1 k c)
  · intro S l a st S' T ov k c ih hD A2 h2
    have hk : dd_b G e D l = true := by
      unfold dd_b; rw [if_pos k]
      cases h3 : e.2.2 with
      | true => exact absurd h3 c
      | false => rfl
    rw [dd_f_d hk] at h2
    exact ih hD A2 h2
  · intro S l a st S' T ov k c ih hD A2 h2
    by_cases hk : dd_b G e D l = true
    · rw [dd_f_d hk] at h2
      exact ih hD A2 h2
    · rw [dd_f_k hk] at h2
      obtain ⟨X, Y, rfl, hX, hY⟩ := dd_f_cons h2
      exact ly_pre hD hX (ly_s k c (ih hD Y hY))
  · intro S l a st S' T ov k c ih hD A2 h2
    have hk : ¬ dd_b G e D l = true := by
      unfold dd_b; rw [if_neg (by omega)]
      exact fun z => c (hD l z)
    rw [dd_f_k hk] at h2
    obtain ⟨X, Y, rfl, hX, hY⟩ := dd_f_cons h2
    exact ly_pre hD hX (ly_t k c (ih (fun j hj => gr_mk_le (hD j hj)) Y hY))
  · intro S l a st S' T ov k k0 c ih hD A2 h2
    have hk : ¬ dd_b G e D l = true := by
      unfold dd_b; rw [if_neg k]
      exact fun z => c (hD l z)
    rw [dd_f_k hk] at h2
    obtain ⟨X, Y, rfl, hX, hY⟩ := dd_f_cons h2
    exact ly_pre hD hX (ly_e k k0 c (ih (fun j hj => gr_mk_le (hD j hj)) _ (by rw [dd_f_app, dd_f_app, hY])))
/-- closed without reading -/
def dd_c (G : gr_T) (e : gr_E) (D : Nat → Bool) : Prop := ∀ l, D l = true → ¬ G.1 l = 6 → ¬ G.1 l = 0 → ∀ q, q ∈ gr_q G e l → dd_b G e D q = true
theorem dd_mk {S : Nat → Bool} {l : Nat} (h : D l = true) : dd_u (gr_mk S l) D = dd_u S D := by
  funext j
  unfold dd_u gr_mk
  split
  · subst_vars; rw [h]; simp
  · rfl
theorem dd_mk' {S : Nat → Bool} {l : Nat} : dd_u (gr_mk S l) D = gr_mk (dd_u S D) l := by
  funext j
  unfold dd_u gr_mk
  split
  · rfl
  · rfl
theorem ly_dead (hc : dd_c G e D) {S : Nat → Bool} {A : List (Nat × α)} {S1 : Nat → Bool} {T1 : List (Nat × α)} {ov1 : Option α} (h : ly_R G e nt S A (S1, T1, ov1)) : ly_R G e nt (dd_u S D) A (dd_u S1 D, dd_f G e D T1, ov1) := by
  have hu : ∀ S j, D j = true → dd_u S D j = true := by
    intro S j h; unfold dd_u; rw [h]; simp
  refine ly_ind (P := fun S A S1 T1 ov1 => ly_R G e nt (dd_u S D) A (dd_u S1 D, dd_f G e D T1, ov1)) ?_ ?_ ?_ ?_ ?_ ?_ S A S1 T1 ov1 h
  · intro S; exact ly_nil
  · intro S l a st k c; exact ly_m1 k c
  · intro S l a st S' T ov k c ih; exact ly_m0 k c ih
  · intro S l a st S' T ov k c ih; exact ly_s k (by unfold dd_u; rw [c]; rfl) ih
  · intro S l a st S' T ov k c ih
    by_cases d : D l = true
    · rw [dd_mk d] at ih
      rw [dd_f_d (by unfold dd_b; rw [if_neg (by dsimp only; omega)]; exact d)]
      exact ly_s (by omega) (hu S l d) ih
    · rw [dd_mk'] at ih
      rw [dd_f_k (by unfold dd_b; rw [if_neg (by dsimp only; omega)]; exact d)]
      refine ly_t k ?_ ih
      unfold dd_u
      intro z
      cases h1 : S l with
      | true => exact c h1
      | false => rw [h1] at z; exact d z
  · intro S l a st S' T ov k k0 c ih
    by_cases d : D l = true
    · rw [dd_mk d] at ih
      refine ly_s k (hu S l d) (ly_skip ih (hu S) st ?_)
      rw [dd_f_app, dd_f_all (A := gr_sx G e nt l a), List.nil_append]
      intro t ht
      unfold gr_sx at ht
      obtain ⟨q, hq, rfl⟩ := List.mem_map.mp ht
      exact hc l d k k0 q hq
    · rw [dd_mk'] at ih
      refine ly_e k k0 ?_ ih
      unfold dd_u
      intro z
      cases h1 : S l with
      | true => exact c h1
      | false => rw [h1] at z; exact d z
end DDB
end PIK
end
section
section ANS
/-! a start that fails is dead for the next start; configurations of a depth-first search -/
section DDC
variable (G : gr_T) (tx : Nat → Nat) (wh : Bool) (n : Nat)
def dd_C : Nat → Nat → (Nat → Nat → Bool) → Prop
  | 0, i, D => dd_c G (pk_e wh n i) (D i)
  | r + 1, i, D => dd_c G (pk_e wh n i) (D i) ∧ (∀ l, G.1 l = 0 → D i l = true → (G.2.1 l).testBit (tx i) = true → ∀ q, q ∈ G.2.2 l → dd_b G (pk_e wh n (i + 1)) (D (i + 1)) q = true) ∧ dd_C r (i + 1) D
end DDC
section DDX
variable {G : gr_T} {e0 : Nat} {tx : Nat → Nat} {wh : Bool} {n : Nat}
theorem dd_C1 {r i : Nat} {D : Nat → Nat → Bool} (h : dd_C G tx wh n r i D) : dd_c G (pk_e wh n i) (D i) := by
  cases r with
  | zero => exact h
  | succ r => exact h.1
theorem dd_C_cong {D D' : Nat → Nat → Bool} : ∀ r i, (∀ j, i ≤ j → D' j = D j) → dd_C G tx wh n r i D → dd_C G tx wh n r i D' := by
  intro r
  induction r with
  | zero => intro i hD h; show dd_c G (pk_e wh n i) (D' i); rw [hD i (Nat.le_refl i)]; exact h
  | succ r ih =>
    intro i hD h
    refine ⟨?_, ?_, ih (i + 1) (fun j hj => hD j (by omega)) h.2.2⟩
    · rw [hD i (Nat.le_refl i)]; exact h.1
    · rw [hD i (Nat.le_refl i), hD (i + 1) (by omega)]; exact h.2.1
/-- a run without a match: all that it comes to is marked, and closed -/
theorem ly_cl {α : Type} {e : gr_E} {nt : Nat → α → α} {S : Nat → Bool} {A : List (Nat × α)} {S1 : Nat → Bool} {T1 : List (Nat × α)} {ov1 : Option α} (h : ly_R G e nt S A (S1, T1, ov1)) : ov1 = none →
    (∀ t, t ∈ A → dd_b G e S1 t.1 = true) ∧ (∀ l, S1 l = true → S l = true ∨ (¬ G.1 l = 6 ∧ (¬ G.1 l = 0 → ∀ q, q ∈ gr_q G e l → dd_b G e S1 q = true) ∧ (G.1 l = 0 → ∃ a, (l, a) ∈ T1))) := by
  have hb : ∀ (S1 : Nat → Bool) l, ¬ G.1 l = 6 → S1 l = true → dd_b G e S1 l = true := by
    intro S1 l k h; unfold dd_b; rw [if_neg k]; exact h
  refine ly_ind (P := fun S A S1 T1 ov1 => ly_R G e nt S A (S1, T1, ov1) → ov1 = none →
    (∀ t, t ∈ A → dd_b G e S1 t.1 = true) ∧ (∀ l, S1 l = true → S l = true ∨ (¬ G.1 l = 6 ∧ (¬ G.1 l = 0 → ∀ q, q ∈ gr_q G e l → dd_b G e S1 q = true) ∧ (G.1 l = 0 → ∃ a, (l, a) ∈ T1)))) ?_ ?_ ?_ ?_ ?_ ?_ S A S1 T1 ov1 h h
  · intro S _ _; exact ⟨(fun t ht => nomatch ht), fun l hl => Or.inl hl⟩
  · intro S l a st k c _ h; cases h
  · intro S l a st S' T ov k c ih h hn
    obtain ⟨i1, i2⟩ := ih (ly_m0' k c h) hn
    refine ⟨fun t ht => ?_, i2⟩
    rcases List.mem_cons.mp ht with rfl | ht
    · unfold dd_b; rw [if_pos k]
      cases h3 : e.2.2 with
      | true => exact absurd h3 c
      | false => rfl
    · exact i1 t ht
  · intro S l a st S' T ov k c ih h hn
    have h' := ly_s' k c h
    obtain ⟨i1, i2⟩ := ih h' hn
    refine ⟨fun t ht => ?_, i2⟩
    rcases List.mem_cons.mp ht with rfl | ht
    · exact hb _ _ k (ly_mono h' l c)
    · exact i1 t ht
  · intro S l a st S' T ov k c ih h hn
    obtain ⟨S2, T2, ov2, h', e'⟩ := ly_t' k c h
    cases e'
    obtain ⟨i1, i2⟩ := ih h' hn
    have hl : S' l = true := ly_mono h' l gr_mk_s
    refine ⟨fun t ht => ?_, fun j hj => ?_⟩
    · rcases List.mem_cons.mp ht with rfl | ht
      · exact hb _ _ (by dsimp only; omega) hl
      · exact i1 t ht
    · rcases i2 j hj with h1 | ⟨h1, h2, h3⟩
      · rcases gr_mk_inv h1 with rfl | h1
        · exact Or.inr ⟨by omega, fun z => absurd k z, fun _ => ⟨a, List.mem_cons_self⟩⟩
        · exact Or.inl h1
      · exact Or.inr ⟨h1, h2, fun z => (h3 z).elim (fun a ha => ⟨a, List.mem_cons_of_mem _ ha⟩)⟩
  · intro S l a st S' T ov k k0 c ih h hn
    have h' := ly_e' k k0 c h
    obtain ⟨i1, i2⟩ := ih h' hn
    have hl : S' l = true := ly_mono h' l gr_mk_s
    refine ⟨fun t ht => ?_, fun j hj => ?_⟩
    · rcases List.mem_cons.mp ht with rfl | ht
      · exact hb _ _ k hl
      · exact i1 t (List.mem_append.mpr (Or.inr ht))
    · rcases i2 j hj with h1 | h1
      · rcases gr_mk_inv h1 with rfl | h1
        · refine Or.inr ⟨k, fun _ q hq => ?_, fun z => absurd z k0⟩
          have : (q, gr_pl G nt j a) ∈ gr_sx G e nt j a := List.mem_map.mpr ⟨q, hq, rfl⟩
          exact i1 _ (List.mem_append.mpr (Or.inl this))
        · exact Or.inl h1
      · exact Or.inr h1
theorem dd_ex : ∀ r i C, pk_R G e0 tx wh n r i C false none → ∃ D, dd_C G tx wh n r i D ∧ ∀ t, t ∈ C → dd_b G (pk_e wh n i) (D i) t.1 = true := by
  intro r
  induction r with
  | zero =>
    intro i C h
    obtain ⟨S, T, ov, h, e⟩ := h
    obtain ⟨i1, i2⟩ := ly_cl h (pk_fin_n e.symm)
    refine ⟨fun _ => S, ?_, i1⟩
    intro l hl k k0 q hq
    rcases i2 l hl with h1 | h1
    · cases h1
    · exact h1.2.1 k0 q hq
  | succ r ih =>
    intro i C h
    obtain ⟨S, T, ov, h, a', h', e⟩ := h
    obtain ⟨rfl, e2⟩ := pk_or_n e.symm
    have e2 := pk_fin_n e2
    obtain ⟨i1, i2⟩ := ly_cl h e2
    rw [show (false && ov.isNone) = false from rfl] at h'
    obtain ⟨D, hD, hT⟩ := ih _ _ h'
    refine ⟨fun j => if j = i then S else D j, ⟨?_, ?_, ?_⟩, ?_⟩
    · dsimp only
      rw [if_pos rfl]
      intro l hl k k0 q hq
      rcases i2 l hl with h1 | h1
      · cases h1
      · exact h1.2.1 k0 q hq
    · dsimp only
      rw [if_pos rfl, if_neg (by omega)]
      intro l k hl hb q hq
      rcases i2 l hl with h1 | h1
      · cases h1
      · obtain ⟨a, ha⟩ := h1.2.2 k
        exact hT _ (List.mem_append.mpr (Or.inl (pk_nx_in ha hb hq)))
    · exact dd_C_cong r (i + 1) (fun j hj => if_neg (by omega)) hD
    · dsimp only
      rw [if_pos rfl]; exact i1
theorem dd_nx {i : Nat} {D : Nat → Nat → Bool} (h : ∀ l, G.1 l = 0 → D i l = true → (G.2.1 l).testBit (tx i) = true → ∀ q, q ∈ G.2.2 l → dd_b G (pk_e wh n (i + 1)) (D (i + 1)) q = true) {T : List (Nat × gr_N)} (hT : ∀ t, t ∈ T → G.1 t.1 = 0) :
    dd_f G (pk_e wh n (i + 1)) (D (i + 1)) (pk_nx G (tx i) T) = dd_f G (pk_e wh n (i + 1)) (D (i + 1)) (pk_nx G (tx i) (dd_f G (pk_e wh n i) (D i) T)) := by
  induction T with
  | nil => rfl
  | cons t T ih =>
    have ih := ih (fun s hs => hT s (List.mem_cons_of_mem _ hs))
    have k := hT t List.mem_cons_self
    rw [pk_nx_c, dd_f_app, ih]
    by_cases c : dd_b G (pk_e wh n i) (D i) t.1 = true
    · rw [dd_f_d c]
      have c' : D i t.1 = true := by
        unfold dd_b at c; rw [if_neg (by omega)] at c; exact c
      rw [dd_f_all (A := if (G.2.1 t.1).testBit (tx i) = true then (G.2.2 t.1).map (fun q => (q, t.2)) else []), List.nil_append]
      intro s hs
      split at hs
      · obtain ⟨q, hq, rfl⟩ := List.mem_map.mp hs
        exact h t.1 k c' ‹_› q hq
      · cases hs
    · rw [dd_f_k c, pk_nx_c, dd_f_app]
theorem pk_dead {M : Nat} (hG : gr_ok G M) (h0 : e0 < M) : ∀ r i D U V sk a, dd_C G tx wh n r i D → (∀ t, t ∈ V → t.1 < M) → dd_f G (pk_e wh n i) (D i) U = dd_f G (pk_e wh n i) (D i) V → pk_R G e0 tx wh n r i U sk a → pk_R G e0 tx wh n r i V sk a := by
  intro r
  induction r with
  | zero =>
    intro i D U V sk a hC hV hU h
    obtain ⟨S, T, ov, h, rfl⟩ := h
    obtain ⟨S2, T2, ov2, h2⟩ := ly_tot (e := pk_e wh n i) (nt := nt_a i) hG _ (fun _ => false) V (Nat.le_refl _) hV
    have k1 := ly_dead (dd_C1 hC) h
    have k2 := ly_dead (dd_C1 hC) h2
    have k3 := ly_skip (D := D i) k1 (fun j hj => by unfold dd_u; rw [hj]; rfl) V hU.symm
    have k6 : ov = ov2 := congrArg (fun z => z.2.2) (ly_det k2 _ k3)
    subst k6
    exact ⟨S2, T2, ov, h2, rfl⟩
  | succ r ih =>
    intro i D U V sk a hC hV hU h
    obtain ⟨S, T, ov, h, a', h', rfl⟩ := h
    obtain ⟨S2, T2, ov2, h2⟩ := ly_tot (e := pk_e wh n i) (nt := nt_a i) hG _ (fun _ => false) V (Nat.le_refl _) hV
    have k1 := ly_dead (dd_C1 hC) h
    have k2 := ly_dead (dd_C1 hC) h2
    have k3 := ly_skip (D := D i) k1 (fun j hj => by unfold dd_u; rw [hj]; rfl) V hU.symm
    have k4 := ly_det k2 _ k3
    have k5 : dd_f G (pk_e wh n i) (D i) T = dd_f G (pk_e wh n i) (D i) T2 := congrArg (fun z => z.2.1) k4
    have k6 : ov = ov2 := congrArg (fun z => z.2.2) k4
    subst k6
    refine ⟨S2, T2, ov, h2, a', ih (i + 1) D _ _ _ _ hC.2.2 (pk_apM (pk_nxM hG (ly_TM hG h2 hV)) (pk_ssM h0)) ?_ h', rfl⟩
    rw [dd_f_app, dd_f_app, dd_nx hC.2.1 (ly_T0 h), dd_nx hC.2.1 (ly_T0 h2), k5]
/-- a start that fails: the search goes on at the next place as if nothing had been -/
theorem pk_seek {M : Nat} (hG : gr_ok G M) (h0 : e0 < M) {r i : Nat} {a : Option gr_N} (h : pk_R G e0 tx wh n (r + 1) i [pk_sd e0 i] true a) (hn : pk_R G e0 tx wh n (r + 1) i [pk_sd e0 i] false none) : pk_R G e0 tx wh n r (i + 1) [pk_sd e0 (i + 1)] true a := by
  obtain ⟨S2, T2, ov2, h2, a2, k2, e2⟩ := hn
  obtain ⟨rfl, e3⟩ := pk_or_n e2.symm
  have e3 := pk_fin_n e3
  subst e3
  obtain ⟨S, T, ov, h1, a1, k1, rfl⟩ := h
  cases ly_det h2 _ h1
  rw [show (false && (none : Option gr_N).isNone) = false from rfl] at k2
  rw [show (true && (none : Option gr_N).isNone) = true from rfl] at k1
  obtain ⟨D, hD, hT⟩ := dd_ex _ _ _ k2
  have e4 : pk_or a1 (pk_fin i none) = a1 := by cases a1 <;> rfl
  rw [e4]
  refine pk_dead hG h0 r (i + 1) D _ _ true a1 hD ?_ ?_ k1
  · intro t ht
    rcases List.mem_cons.mp ht with rfl | ht
    · exact h0
    · cases ht
  · rw [dd_f_app, dd_f_all (A := pk_nx G (tx i) T2), List.nil_append]
    · rfl
    · intro t ht
      exact hT t (List.mem_append.mpr (Or.inl ht))
theorem pk_seek0 {i : Nat} {a : Option gr_N} (h : pk_R G e0 tx wh n 0 i [pk_sd e0 i] true a) (hn : pk_R G e0 tx wh n 0 i [pk_sd e0 i] false none) : a = none :=
  pk_det 0 i _ false _ _ h hn
theorem pk_seek1 {M : Nat} (hG : gr_ok G M) (h0 : e0 < M) {r i : Nat} {x : gr_N} {a : Option gr_N} (h : pk_R G e0 tx wh n r i [pk_sd e0 i] true a) (hn : pk_R G e0 tx wh n r i [pk_sd e0 i] false (some x)) : a = some x := by
  have h2 : pk_R G e0 tx wh n r i ([pk_sd e0 i] ++ []) true a := h
  refine pk_pre hG h0 r i _ _ _ x a ?_ (by intro t ht; cases ht) hn h2
  intro t ht
  rcases List.mem_cons.mp ht with rfl | ht
  · exact h0
  · cases ht
end DDX
/-! configurations: marks Z and entries E at every place -/
def an_ad (E : Nat → List (Nat × gr_N)) (j : Nat) (L : List (Nat × gr_N)) : Nat → List (Nat × gr_N) := fun k => if k = j then E k ++ L else E k
section ANR
variable (G : gr_T) (tx : Nat → Nat) (wh : Bool) (n : Nat)
def an_R : Nat → Nat → (Nat → Nat → Bool) → (Nat → List (Nat × gr_N)) → Option gr_N → Prop
  | 0, i, Z, E, a => ∃ S T ov, ly_R G (pk_e wh n i) (nt_a i) (Z i) (E i) (S, T, ov) ∧ a = pk_fin i ov
  | r + 1, i, Z, E, a => ∃ S T ov, ly_R G (pk_e wh n i) (nt_a i) (Z i) (E i) (S, T, ov) ∧ ∃ a', an_R r (i + 1) Z (an_ad E (i + 1) (pk_nx G (tx i) T)) a' ∧ a = pk_or a' (pk_fin i ov)
end ANR
section ANX
variable {G : gr_T} {tx : Nat → Nat} {wh : Bool} {n : Nat}
theorem an_cong : ∀ r i {Z Z' : Nat → Nat → Bool} {E E' : Nat → List (Nat × gr_N)} {a : Option gr_N}, (∀ j, i ≤ j → Z' j = Z j ∧ E' j = E j) → an_R G tx wh n r i Z E a → an_R G tx wh n r i Z' E' a := by
  intro r
  induction r with
  | zero =>
    intro i Z Z' E E' a hj h
    obtain ⟨S, T, ov, h, e⟩ := h
    refine ⟨S, T, ov, ?_, e⟩
    rw [(hj i (Nat.le_refl i)).1, (hj i (Nat.le_refl i)).2]; exact h
  | succ r ih =>
    intro i Z Z' E E' a hj h
    obtain ⟨S, T, ov, h, a', h', e⟩ := h
    refine ⟨S, T, ov, ?_, a', ih (i + 1) ?_ h', e⟩
    · rw [(hj i (Nat.le_refl i)).1, (hj i (Nat.le_refl i)).2]; exact h
    · intro j hj2
      refine ⟨(hj j (by omega)).1, ?_⟩
      unfold an_ad
      rw [(hj j (by omega)).2]
theorem an_nil : ∀ r i {Z : Nat → Nat → Bool} {E : Nat → List (Nat × gr_N)} {a : Option gr_N}, (∀ j, i ≤ j → E j = []) → an_R G tx wh n r i Z E a → a = none := by
  intro r
  induction r with
  | zero =>
    intro i Z E a hj h
    obtain ⟨S, T, ov, h, e⟩ := h
    rw [hj i (Nat.le_refl i)] at h
    cases ly_nil' h
    exact e
  | succ r ih =>
    intro i Z E a hj h
    obtain ⟨S, T, ov, h, a', h', e⟩ := h
    rw [hj i (Nat.le_refl i)] at h
    cases ly_nil' h
    have := ih (i + 1) (a := a') (by
      intro j hj2
      show (if j = i + 1 then E j ++ [] else E j) = []
      rw [hj j (by omega)]; split <;> rfl) h'
    rw [e, this]; rfl
/-- from one configuration to another that differs from place A on -/
theorem an_low {A r0 : Nat} {Z Z' : Nat → Nat → Bool} {E E' : Nat → List (Nat × gr_N)} (hl : ∀ j, j < A → Z' j = Z j ∧ E' j = E j)
    (hA : ∀ c a, an_R G tx wh n r0 A Z (an_ad E A c) a → an_R G tx wh n r0 A Z' (an_ad E' A c) a) :
    ∀ d c a, d ≤ A → an_R G tx wh n (r0 + d) (A - d) Z (an_ad E (A - d) c) a → an_R G tx wh n (r0 + d) (A - d) Z' (an_ad E' (A - d) c) a := by
  intro d
  induction d with
  | zero => intro c a _ h; exact hA c a h
  | succ d ih =>
    intro c a hd h
    obtain ⟨S, T, ov, h, a', h', e⟩ := h
    have e1 : A - (d + 1) + 1 = A - d := by omega
    rw [e1] at h'
    refine ⟨S, T, ov, ?_, a', ?_, e⟩
    · rw [(hl _ (by omega)).1]
      unfold an_ad at h ⊢
      rw [if_pos rfl] at h ⊢
      rw [(hl _ (by omega)).2]; exact h
    · rw [e1]
      have h2 : an_R G tx wh n (r0 + d) (A - d) Z (an_ad E (A - d) (pk_nx G (tx (A - (d + 1))) T)) a' := by
        refine an_cong _ _ ?_ h'
        intro j hj
        refine ⟨rfl, ?_⟩
        unfold an_ad
        rw [if_neg (show ¬ j = A - (d + 1) by omega)]
      have h3 := ih _ a' (by omega) h2
      refine an_cong _ _ ?_ h3
      intro j hj
      refine ⟨rfl, ?_⟩
      unfold an_ad
      rw [if_neg (show ¬ j = A - (d + 1) by omega)]
theorem an_ad0 {E : Nat → List (Nat × gr_N)} {j : Nat} : an_ad E j [] = E := by
  funext k
  unfold an_ad
  split
  · exact List.append_nil _
  · rfl
theorem an_step {A r i : Nat} {Z Z' : Nat → Nat → Bool} {E E' : Nat → List (Nat × gr_N)} {a : Option gr_N} (hi : i ≤ A) (hr : A ≤ i + r) (hl : ∀ j, j < A → Z' j = Z j ∧ E' j = E j)
    (hA : ∀ c a, an_R G tx wh n (r - (A - i)) A Z (an_ad E A c) a → an_R G tx wh n (r - (A - i)) A Z' (an_ad E' A c) a)
    (h : an_R G tx wh n r i Z E a) : an_R G tx wh n r i Z' E' a := by
  have := an_low hl hA (A - i) [] a (by omega)
  rw [an_ad0, an_ad0, show r - (A - i) + (A - i) = r by omega, show A - (A - i) = i by omega] at this
  exact this h
/-- the first layer's stack and marks may be exchanged if its run is the same -/
theorem an_lay {r A : Nat} {Z Z' : Nat → Nat → Bool} {E E' : Nat → List (Nat × gr_N)} (hj : ∀ j, A < j → Z' j = Z j ∧ E' j = E j)
    (hR : ∀ c S T ov, ly_R G (pk_e wh n A) (nt_a A) (Z A) (E A ++ c) (S, T, ov) → ly_R G (pk_e wh n A) (nt_a A) (Z' A) (E' A ++ c) (S, T, ov)) :
    ∀ c a, an_R G tx wh n r A Z (an_ad E A c) a → an_R G tx wh n r A Z' (an_ad E' A c) a := by
  intro c a h
  have e1 : ∀ (E : Nat → List (Nat × gr_N)), an_ad E A c A = E A ++ c := fun E => if_pos rfl
  cases r with
  | zero =>
    obtain ⟨S, T, ov, h, e⟩ := h
    rw [e1] at h
    exact ⟨S, T, ov, by rw [e1]; exact hR _ _ _ _ h, e⟩
  | succ r =>
    obtain ⟨S, T, ov, h, a', h', e⟩ := h
    rw [e1] at h
    refine ⟨S, T, ov, by rw [e1]; exact hR _ _ _ _ h, a', an_cong _ _ ?_ h', e⟩
    intro j hj2
    refine ⟨(hj j (by omega)).1, ?_⟩
    unfold an_ad
    rw [if_neg (show ¬ j = A by omega), if_neg (show ¬ j = A by omega), (hj j (by omega)).2]
/-- a test that is passed: its entry goes to the next place -/
theorem an_tst {r A l : Nat} {N : gr_N} {R : List (Nat × gr_N)} {Z Z' : Nat → Nat → Bool} {E E' : Nat → List (Nat × gr_N)} (hZ : ∀ j, A < j → Z' j = Z j) (hZA : Z' A = gr_mk (Z A) l) (hE : ∀ j, A + 1 < j → E' j = E j)
    (k : G.1 l = 0) (hs : ¬ Z A l = true) (hb : (G.2.1 l).testBit (tx A) = true) (h1 : E A = (l, N) :: R) (h2 : E' A = R) (h3 : E (A + 1) = []) (h4 : E' (A + 1) = (G.2.2 l).map (fun q => (q, N))) :
    ∀ c a, an_R G tx wh n (r + 1) A Z (an_ad E A c) a → an_R G tx wh n (r + 1) A Z' (an_ad E' A c) a := by
  intro c a h
  have e1 : ∀ (E : Nat → List (Nat × gr_N)), an_ad E A c A = E A ++ c := fun E => if_pos rfl
  obtain ⟨S, T, ov, h, a', h', e⟩ := h
  rw [e1, h1, List.cons_append] at h
  obtain ⟨S2, T2, ov2, h5, e5⟩ := ly_t' k hs h
  cases e5
  refine ⟨S, T2, ov, by rw [e1, h2, hZA]; exact h5, a', an_cong _ _ ?_ h', e⟩
  intro j hj2
  refine ⟨hZ j (by omega), ?_⟩
  unfold an_ad
  rw [if_neg (show ¬ j = A by omega), if_neg (show ¬ j = A by omega)]
  by_cases ej : j = A + 1
  · subst ej
    rw [if_pos rfl, if_pos rfl, h3, h4, pk_nx_c, if_pos hb]
    rfl
  · rw [if_neg ej, if_neg ej, hE j (by omega)]
/-- a test that is not passed (or the text is at its end) -/
theorem an_tsf {r A l : Nat} {N : gr_N} {R : List (Nat × gr_N)} {Z Z' : Nat → Nat → Bool} {E E' : Nat → List (Nat × gr_N)} (hZ : ∀ j, A < j → Z' j = Z j) (hZA : Z' A = gr_mk (Z A) l) (hE : ∀ j, A < j → E' j = E j)
    (k : G.1 l = 0) (hs : ¬ Z A l = true) (hb : r = 0 ∨ ¬ (G.2.1 l).testBit (tx A) = true) (h1 : E A = (l, N) :: R) (h2 : E' A = R) :
    ∀ c a, an_R G tx wh n r A Z (an_ad E A c) a → an_R G tx wh n r A Z' (an_ad E' A c) a := by
  intro c a h
  have e1 : ∀ (E : Nat → List (Nat × gr_N)), an_ad E A c A = E A ++ c := fun E => if_pos rfl
  cases r with
  | zero =>
    obtain ⟨S, T, ov, h, e⟩ := h
    rw [e1, h1, List.cons_append] at h
    obtain ⟨S2, T2, ov2, h5, e5⟩ := ly_t' k hs h
    cases e5
    exact ⟨S, T2, ov, by rw [e1, h2, hZA]; exact h5, e⟩
  | succ r =>
    obtain ⟨S, T, ov, h, a', h', e⟩ := h
    rw [e1, h1, List.cons_append] at h
    obtain ⟨S2, T2, ov2, h5, e5⟩ := ly_t' k hs h
    cases e5
    refine ⟨S, T2, ov, by rw [e1, h2, hZA]; exact h5, a', an_cong _ _ ?_ h', e⟩
    intro j hj2
    refine ⟨hZ j (by omega), ?_⟩
    unfold an_ad
    rw [if_neg (show ¬ j = A by omega), if_neg (show ¬ j = A by omega), hE j (by omega)]
    have hb : ¬ (G.2.1 l).testBit (tx A) = true := hb.resolve_left (by omega)
    rw [pk_nx_c, if_neg hb]
    rfl
/-- a match on top -/
theorem an_top {A l : Nat} {N : gr_N} {R : List (Nat × gr_N)} : ∀ d r i {Z : Nat → Nat → Bool} {E : Nat → List (Nat × gr_N)} {a : Option gr_N}, A = i + d → d ≤ r → G.1 l = 6 → (pk_e wh n A).2.2 = true → E A = (l, N) :: R → (∀ j, A < j → E j = []) → an_R G tx wh n r i Z E a → a = some (upd N 7 (nI A)) := by
  intro d
  induction d generalizing R with
  | zero =>
    intro r i Z E a hA hr k hc h1 h2 h
    have hA : A = i := by omega
    subst hA
    cases r with
    | zero =>
      obtain ⟨S, T, ov, h, e⟩ := h
      rw [h1] at h
      cases ly_m1' k hc h
      exact e
    | succ r =>
      obtain ⟨S, T, ov, h, a', h', e⟩ := h
      rw [h1] at h
      cases ly_m1' k hc h
      have := an_nil r (A + 1) (a := a') (by
        intro j hj
        show (if j = A + 1 then E j ++ [] else E j) = []
        rw [h2 j (by omega)]; split <;> rfl) h'
      rw [e, this]; rfl
  | succ d ih =>
    intro r i Z E a hA hr k hc h1 h2 h
    cases r with
    | zero => omega
    | succ r =>
      obtain ⟨S, T, ov, h, a', h', e⟩ := h
      by_cases hd : d = 0
      · subst hd
        have hA : i + 1 = A := by omega
        have := ih (R := R ++ pk_nx G (tx i) T) r (i + 1) (by omega) (by omega) k hc (by
          unfold an_ad; rw [if_pos hA.symm, h1]; rfl) (by
          intro j hj; unfold an_ad; rw [if_neg (by omega)]; exact h2 j hj) h'
        rw [e, this]; rfl
      · have := ih (R := R) r (i + 1) (by omega) (by omega) k hc (by
          unfold an_ad; rw [if_neg (by omega)]; exact h1) (by
          intro j hj; unfold an_ad; rw [if_neg (by omega)]; exact h2 j hj) h'
        rw [e, this]; rfl
theorem an_pk {e0 : Nat} : ∀ r i L a, pk_R G e0 tx wh n r i L false a → an_R G tx wh n r i (fun _ _ => false) (fun k => if k = i then L else []) a := by
  intro r
  induction r with
  | zero =>
    intro i L a h
    obtain ⟨S, T, ov, h, e⟩ := h
    exact ⟨S, T, ov, by dsimp only; rw [if_pos rfl]; exact h, e⟩
  | succ r ih =>
    intro i L a h
    obtain ⟨S, T, ov, h, a', h', e⟩ := h
    rw [show (false && ov.isNone) = false from rfl, show pk_ss e0 false (i + 1) = [] from rfl, List.append_nil] at h'
    refine ⟨S, T, ov, by dsimp only; rw [if_pos rfl]; exact h, a', an_cong _ _ ?_ (ih _ _ _ h'), e⟩
    intro j hj
    refine ⟨rfl, ?_⟩
    unfold an_ad
    dsimp only
    rw [if_neg (show ¬ j = i by omega)]
    by_cases ej : j = i + 1
    · rw [if_pos ej, if_pos ej]; rfl
    · rw [if_neg ej, if_neg ej]
end ANX
end ANS
end
section
section TRE
/-! Trees: core Lean's Std.Format serves as the tree. nil, text: empty; line: begin; align: end; nest i: a test with mask i;
 append: one behind the other; group (append a b): alternatives; tag 0, 1: star, lazy star; tag 2, 3: option, lazy option; tag (3 + g): group g. -/
def tr_len : Std.Format → Nat
  | .nil => 0
  | .line => 1
  | .align _ => 1
  | .text _ => 0
  | .nest _ _ => 1
  | .append a b => tr_len a + tr_len b
  | .group (.append a b) _ => tr_len a + tr_len b + 2
  | .group _ _ => 0
  | .tag k a => if k ≤ 1 then tr_len a + 2 else if k ≤ 3 then tr_len a + 1 else tr_len a + 2
/-- a tree that is no 'group' of another form -/
theorem tr_ind {P : Std.Format → Prop} (h0 : P .nil) (h1 : P .line) (h2 : ∀ b, P (.align b)) (h3 : ∀ s, P (.text s)) (h4 : ∀ i f, P (.nest i f))
    (h5 : ∀ a b, P a → P b → P (.append a b)) (h6 : ∀ a b c, P a → P b → P (.group (.append a b) c)) (h7 : ∀ f c, (∀ a b, f ≠ .append a b) → P (.group f c)) (h8 : ∀ k a, P a → P (.tag k a)) : ∀ t, P t := by
  have main : ∀ t : Std.Format, P t ∧ ∀ a b, t = .append a b → P a ∧ P b := by
    intro t
    induction t with
    | nil => exact ⟨h0, fun a b e => nomatch e⟩
    | line => exact ⟨h1, fun a b e => nomatch e⟩
    | align b => exact ⟨h2 b, fun a b e => nomatch e⟩
    | text s => exact ⟨h3 s, fun a b e => nomatch e⟩
    | nest i f _ => exact ⟨h4 i f, fun a b e => nomatch e⟩
    | append a b ha hb => exact ⟨h5 a b ha.1 hb.1, fun a' b' e => by cases e; exact ⟨ha.1, hb.1⟩⟩
    | group f c hf =>
      refine ⟨?_, fun a b e => nomatch e⟩
      cases f with
      | append a b => exact h6 a b c (hf.2 a b rfl).1 (hf.2 a b rfl).2
      | nil => exact h7 _ c (fun a b e => nomatch e)
      | line => exact h7 _ c (fun a b e => nomatch e)
      | align _ => exact h7 _ c (fun a b e => nomatch e)
      | text _ => exact h7 _ c (fun a b e => nomatch e)
      | nest _ _ => exact h7 _ c (fun a b e => nomatch e)
      | group _ _ => exact h7 _ c (fun a b e => nomatch e)
      | tag _ _ => exact h7 _ c (fun a b e => nomatch e)
    | tag k a ha => exact ⟨h8 k a ha.1, fun a b e => nomatch e⟩
  exact fun t => (main t).1
/-- where a tree laid at p begins to act, if k is what follows -/
def tr_ent : Std.Format → Nat → Nat → Nat
  | .nil, _, k => k
  | .line, p, _ => p
  | .align _, p, _ => p
  | .text _, _, k => k
  | .nest _ _, p, _ => p
  | .append a b, p, k => tr_ent a p (tr_ent b (p + tr_len a) k)
  | .group (.append _ _) _, p, _ => p
  | .group _ _, _, k => k
  | .tag _ _, p, _ => p
/-- the beginnings of a chain of alternatives -/
def tr_alt : Std.Format → Nat → Nat → List Nat
  | .group (.append a b) _, p, k => tr_alt a (p + 1) k ++ [tr_ent b (p + tr_len a + 2) k]
  | t, p, k => [tr_ent t p k]
/-- kind, operand and successors of label j -/
def tr_g : Std.Format → Nat → Nat → Nat → Nat × Nat × List Nat
  | .nil, _, _, _ => (4, 0, [])
  | .line, _, k, _ => (1, 0, [k])
  | .align _, _, k, _ => (2, 0, [k])
  | .text _, _, _, _ => (4, 0, [])
  | .nest i _, _, k, _ => (0, i.toNat, [k])
  | .append a b, p, k, j => if j < p + tr_len a then tr_g a p (tr_ent b (p + tr_len a) k) j else tr_g b (p + tr_len a) k j
  | .group (.append a b) _, p, k, j => if j = p then (3, 0, tr_alt a (p + 1) k ++ [tr_ent b (p + tr_len a + 2) k]) else if j < p + 1 + tr_len a then tr_g a (p + 1) k j else if j = p + 1 + tr_len a then (4, 0, []) else tr_g b (p + tr_len a + 2) k j
  | .group _ _, _, _, _ => (4, 0, [])
  | .tag t a, p, k, j =>
    if t ≤ 1 then (if j = p then (3, 0, if t = 0 then [tr_ent a (p + 1) p, k] else [k, tr_ent a (p + 1) p]) else if j < p + 1 + tr_len a then tr_g a (p + 1) p j else (4, 0, []))
    else if t ≤ 3 then (if j = p then (3, 0, if t = 2 then [tr_ent a (p + 1) k, k] else [k, tr_ent a (p + 1) k]) else tr_g a (p + 1) k j)
    else (if j = p then (5, 2 * (t - 3) - 1, [tr_ent a (p + 1) (p + 1 + tr_len a)]) else if j < p + 1 + tr_len a then tr_g a (p + 1) (p + 1 + tr_len a) j else (5, 2 * (t - 3), [k]))
/-- the whole program's graph: the tree at 0, then the match -/
def tr_G (t : Std.Format) : gr_T :=
  (fun j => if j < tr_len t then (tr_g t 0 (tr_len t) j).1 else 6,
   fun j => if j < tr_len t then (tr_g t 0 (tr_len t) j).2.1 else 0,
   fun j => if j < tr_len t then (tr_g t 0 (tr_len t) j).2.2 else [])
def tr_e0 (t : Std.Format) : Nat := tr_ent t 0 (tr_len t)
/-! A concrete program: operation o, operand w, first and second way s1, s2; labels and inner splits -/
section RPD
variable (o w s1 s2 : Nat → Nat) (LAB INN : Nat → Nat → Prop) (m : Nat) (G : gr_T)
def re_f : Nat → Nat → Nat → Prop
  | 0, q, l => LAB q l ∨ (o q = 6 ∧ l = m)
  | j + 1, q, l => re_f j q l ∨ (o q = 4 ∧ re_f j (s1 q) l)
def re_R (q l : Nat) : Prop := ∃ j, re_f o s1 LAB m j q l
def ch_f (fl : Bool) : Nat → Nat → Nat → List Nat → Prop
  | 0, _, z, L => ∃ l, re_R o s1 LAB m z l ∧ L = [l]
  | c + 1, pr, z, L => ch_f fl c pr z L ∨ (INN pr z ∧ o z = 3 ∧ ((fl = true ∧ ∃ L1 l2, ch_f fl c z (s1 z) L1 ∧ re_R o s1 LAB m (s2 z) l2 ∧ L = L1 ++ [l2]) ∨ (fl = false ∧ ∃ l1 L2, re_R o s1 LAB m (s1 z) l1 ∧ ch_f fl c z (s2 z) L2 ∧ L = [l1] ++ L2)))
def ch_R (fl : Bool) (pr z : Nat) (L : List Nat) : Prop := ∃ c, ch_f o s1 s2 LAB INN m fl c pr z L
/-- fl: X's chains go on at the first way, Y's at the second -/
def lc_R (fl : Bool) (q l : Nat) : Prop := o q = G.1 l ∧ ((o q = 3 ∧ ((fl = true ∧ ∃ L1 l2, ch_R o s1 s2 LAB INN m fl q (s1 q) L1 ∧ re_R o s1 LAB m (s2 q) l2 ∧ G.2.2 l = L1 ++ [l2]) ∨ (fl = false ∧ ∃ l1 L2, re_R o s1 LAB m (s1 q) l1 ∧ ch_R o s1 s2 LAB INN m fl q (s2 q) L2 ∧ G.2.2 l = [l1] ++ L2))) ∨
  ((o q = 0 ∨ o q = 1 ∨ o q = 2 ∨ o q = 5) ∧ ((o q = 0 ∨ o q = 5) → w q = G.2.1 l) ∧ s1 q = q + 1 ∧ ∃ l', re_R o s1 LAB m (q + 1) l' ∧ G.2.2 l = [l']))
end RPD
section RPX
variable {o w s1 s2 : Nat → Nat} {LAB INN : Nat → Nat → Prop} {m : Nat} {G : gr_T}
theorem re_lab {q l : Nat} (h : LAB q l) : re_R o s1 LAB m q l := ⟨0, Or.inl h⟩
theorem re_m {q : Nat} (h : o q = 6) : re_R o s1 LAB m q m := ⟨0, Or.inr ⟨h, rfl⟩⟩
theorem re_j {q l q' : Nat} (h : o q = 4) (e : s1 q = q') (k : re_R o s1 LAB m q' l) : re_R o s1 LAB m q l := by
  obtain ⟨j, k⟩ := k
  exact ⟨j + 1, Or.inr ⟨h, by rw [e]; exact k⟩⟩
theorem ch_re {fl : Bool} {pr z l : Nat} (h : re_R o s1 LAB m z l) : ch_R o s1 s2 LAB INN m fl pr z [l] := ⟨0, l, h, rfl⟩
theorem ch_inX {pr z : Nat} {L1 : List Nat} {l2 : Nat} (h : INN pr z) (ho : o z = 3) (h1 : ch_R o s1 s2 LAB INN m true z (s1 z) L1) (h2 : re_R o s1 LAB m (s2 z) l2) : ch_R o s1 s2 LAB INN m true pr z (L1 ++ [l2]) := by
  obtain ⟨c1, h1⟩ := h1
  exact ⟨c1 + 1, Or.inr ⟨h, ho, Or.inl ⟨rfl, L1, l2, h1, h2, rfl⟩⟩⟩
theorem ch_inY {pr z : Nat} {l1 : Nat} {L2 : List Nat} (h : INN pr z) (ho : o z = 3) (h1 : re_R o s1 LAB m (s1 z) l1) (h2 : ch_R o s1 s2 LAB INN m false z (s2 z) L2) : ch_R o s1 s2 LAB INN m false pr z ([l1] ++ L2) := by
  obtain ⟨c2, h2⟩ := h2
  exact ⟨c2 + 1, Or.inr ⟨h, ho, Or.inr ⟨rfl, l1, L2, h1, h2, rfl⟩⟩⟩
theorem ch_invX {pr z : Nat} {L : List Nat} (h : ch_R o s1 s2 LAB INN m true pr z L) : (∃ l, re_R o s1 LAB m z l ∧ L = [l]) ∨ (INN pr z ∧ o z = 3 ∧ ∃ L1 l2, ch_R o s1 s2 LAB INN m true z (s1 z) L1 ∧ re_R o s1 LAB m (s2 z) l2 ∧ L = L1 ++ [l2]) := by
  obtain ⟨c, h⟩ := h
  induction c with
  | zero => exact Or.inl h
  | succ c ih =>
    rcases h with h | ⟨h1, h2, ⟨_, L1, l2, h3, h4, e⟩ | ⟨h5, _⟩⟩
    · exact ih h
    · exact Or.inr ⟨h1, h2, L1, l2, ⟨c, h3⟩, h4, e⟩
    · cases h5
theorem ch_invY {pr z : Nat} {L : List Nat} (h : ch_R o s1 s2 LAB INN m false pr z L) : (∃ l, re_R o s1 LAB m z l ∧ L = [l]) ∨ (INN pr z ∧ o z = 3 ∧ ∃ l1 L2, re_R o s1 LAB m (s1 z) l1 ∧ ch_R o s1 s2 LAB INN m false z (s2 z) L2 ∧ L = [l1] ++ L2) := by
  obtain ⟨c, h⟩ := h
  induction c with
  | zero => exact Or.inl h
  | succ c ih =>
    rcases h with h | ⟨h1, h2, ⟨h5, _⟩ | ⟨_, l1, L2, h3, h4, e⟩⟩
    · exact ih h
    · cases h5
    · exact Or.inr ⟨h1, h2, l1, L2, h3, ⟨c, h4⟩, e⟩
theorem re_inv {q l : Nat} (h : re_R o s1 LAB m q l) : LAB q l ∨ (o q = 6 ∧ l = m) ∨ (o q = 4 ∧ re_R o s1 LAB m (s1 q) l) := by
  obtain ⟨j, h⟩ := h
  induction j with
  | zero => exact h.elim Or.inl (fun h => Or.inr (Or.inl h))
  | succ j ih =>
    rcases h with h | ⟨h1, h2⟩
    · exact ih h
    · exact Or.inr (Or.inr ⟨h1, j, h2⟩)
end RPX
/-! X's layout -/
section CX
variable (o w s1 s2 : Nat → Nat)
def cx_L : Std.Format → Nat → Prop
  | .nil, _ => True
  | .line, p => o p = 1 ∧ s1 p = p + 1
  | .align _, p => o p = 2 ∧ s1 p = p + 1
  | .text _, _ => True
  | .nest i _, p => o p = 0 ∧ w p = i.toNat ∧ s1 p = p + 1
  | .append a b, p => cx_L a p ∧ cx_L b (p + tr_len a)
  | .group (.append a b) _, p => o p = 3 ∧ s1 p = p + 1 ∧ s2 p = p + tr_len a + 2 ∧ cx_L a (p + 1) ∧ o (p + 1 + tr_len a) = 4 ∧ s1 (p + 1 + tr_len a) = p + tr_len a + 2 + tr_len b ∧ cx_L b (p + tr_len a + 2)
  | .group _ _, _ => True
  | .tag t a, p =>
    if t ≤ 1 then o p = 3 ∧ s1 p = (if t = 0 then p + 1 else p + tr_len a + 2) ∧ s2 p = (if t = 0 then p + tr_len a + 2 else p + 1) ∧ cx_L a (p + 1) ∧ o (p + 1 + tr_len a) = 4 ∧ s1 (p + 1 + tr_len a) = p
    else if t ≤ 3 then o p = 3 ∧ s1 p = (if t = 2 then p + 1 else p + tr_len a + 1) ∧ s2 p = (if t = 2 then p + tr_len a + 1 else p + 1) ∧ cx_L a (p + 1)
    else o p = 5 ∧ w p = 2 * (t - 3) - 1 ∧ s1 p = p + 1 ∧ cx_L a (p + 1) ∧ o (p + 1 + tr_len a) = 5 ∧ w (p + 1 + tr_len a) = 2 * (t - 3) ∧ s1 (p + 1 + tr_len a) = p + tr_len a + 2
end CX
/-- X's labelled places (inn: the tree is the first part of alternatives, its own head is no label) -/
def tr_lab : Std.Format → Bool → Nat → Nat → Prop
  | .nil, _, _, _ => False
  | .line, _, p, j => j = p
  | .align _, _, p, j => j = p
  | .text _, _, _, _ => False
  | .nest _ _, _, p, j => j = p
  | .append a b, _, p, j => tr_lab a false p j ∨ tr_lab b false (p + tr_len a) j
  | .group (.append a b) _, inn, p, j => (inn = false ∧ j = p) ∨ tr_lab a true (p + 1) j ∨ tr_lab b false (p + tr_len a + 2) j
  | .group _ _, _, _, _ => False
  | .tag t a, _, p, j => j = p ∨ tr_lab a false (p + 1) j ∨ (4 ≤ t ∧ j = p + 1 + tr_len a)
def tr_inn : Std.Format → Bool → Nat → Nat → Prop
  | .append a b, _, p, j => tr_inn a false p j ∨ tr_inn b false (p + tr_len a) j
  | .group (.append a b) _, inn, p, j => (inn = true ∧ j = p) ∨ tr_inn a true (p + 1) j ∨ tr_inn b false (p + tr_len a + 2) j
  | .tag _ a, _, p, j => tr_inn a false (p + 1) j
  | _, _, _, _ => False
theorem tr_lab_r : ∀ t inn p j, tr_lab t inn p j → p ≤ j ∧ j < p + tr_len t := by
  intro t
  induction t using tr_ind with
  | h0 => intro inn p j h; exact h.elim
  | h1 => intro inn p j h; have h : j = p := h; show p ≤ j ∧ j < p + 1; omega
  | h2 b => intro inn p j h; have h : j = p := h; show p ≤ j ∧ j < p + 1; omega
  | h3 s => intro inn p j h; exact h.elim
  | h4 i f => intro inn p j h; have h : j = p := h; show p ≤ j ∧ j < p + 1; omega
  | h5 a b ha hb =>
    intro inn p j h
    show p ≤ j ∧ j < p + (tr_len a + tr_len b)
    rcases h with h | h
    · have := ha _ _ _ h; omega
    · have := hb _ _ _ h; omega
  | h6 a b c ha hb =>
    intro inn p j h
    show p ≤ j ∧ j < p + (tr_len a + tr_len b + 2)
    rcases h with h | h | h
    · omega
    · have := ha _ _ _ h; omega
    · have := hb _ _ _ h; omega
  | h7 f c hf => intro inn p j h; cases f <;> first | exact h.elim | exact absurd rfl (hf _ _)
  | h8 k a ha =>
    intro inn p j h
    unfold tr_len
    rcases h with h | h | h
    · split
      · omega
      · split <;> omega
    · have := ha _ _ _ h
      split
      · omega
      · split <;> omega
    · rw [if_neg (by omega), if_neg (by omega)]; omega
theorem tr_inn_r : ∀ t inn p j, tr_inn t inn p j → p ≤ j ∧ j < p + tr_len t ∧ (inn = false → p < j) ∧ ¬ tr_lab t inn p j := by
  intro t
  induction t using tr_ind with
  | h0 => intro inn p j h; exact h.elim
  | h1 => intro inn p j h; exact h.elim
  | h2 b => intro inn p j h; exact h.elim
  | h3 s => intro inn p j h; exact h.elim
  | h4 i f => intro inn p j h; exact h.elim
  | h5 a b ha hb =>
    intro inn p j h
    show p ≤ j ∧ j < p + (tr_len a + tr_len b) ∧ (inn = false → p < j) ∧ ¬ (tr_lab a false p j ∨ tr_lab b false (p + tr_len a) j)
    rcases h with h | h
    · obtain ⟨h1, h2, h3, h4⟩ := ha _ _ _ h
      refine ⟨h1, by omega, fun _ => h3 rfl, fun h5 => h5.elim h4 (fun h6 => ?_)⟩
      have := tr_lab_r _ _ _ _ h6; omega
    · obtain ⟨h1, h2, h3, h4⟩ := hb _ _ _ h
      refine ⟨by omega, by omega, fun _ => by have := h3 rfl; omega, fun h5 => h5.elim (fun h6 => ?_) h4⟩
      have := tr_lab_r _ _ _ _ h6; omega
  | h6 a b c ha hb =>
    intro inn p j h
    show p ≤ j ∧ j < p + (tr_len a + tr_len b + 2) ∧ (inn = false → p < j) ∧ ¬ ((inn = false ∧ j = p) ∨ tr_lab a true (p + 1) j ∨ tr_lab b false (p + tr_len a + 2) j)
    rcases h with ⟨h, rfl⟩ | h | h
    · refine ⟨by omega, by omega, (fun z => by rw [h] at z; cases z), ?_⟩
      rintro (⟨h6, _⟩ | h6 | h6)
      · rw [h] at h6; cases h6
      · have := tr_lab_r _ _ _ _ h6; omega
      · have := tr_lab_r _ _ _ _ h6; omega
    · obtain ⟨h1, h2, h3, h4⟩ := ha _ _ _ h
      refine ⟨by omega, by omega, fun _ => by omega, ?_⟩
      rintro (⟨h6, h7⟩ | h6 | h6)
      · omega
      · exact h4 h6
      · have := tr_lab_r _ _ _ _ h6; omega
    · obtain ⟨h1, h2, h3, h4⟩ := hb _ _ _ h
      refine ⟨by omega, by omega, fun _ => by omega, ?_⟩
      rintro (⟨h6, h7⟩ | h6 | h6)
      · omega
      · have := tr_lab_r _ _ _ _ h6; omega
      · exact h4 h6
  | h7 f c hf => intro inn p j h; cases f <;> first | exact h.elim | exact absurd rfl (hf _ _)
  | h8 k a ha =>
    intro inn p j h
    obtain ⟨h1, h2, h3, h4⟩ := ha _ _ _ h
    refine ⟨by omega, ?_, fun _ => by omega, ?_⟩
    · unfold tr_len
      split
      · omega
      · split <;> omega
    · rintro (h5 | h5 | ⟨h5, h6⟩)
      · omega
      · exact h4 h5
      · omega
end TRE
end
section
section XRP
variable {o w s1 s2 : Nat → Nat} {LAB INN : Nat → Nat → Prop} {m : Nat} {G : gr_T}
/-- the graph says of the labels from p on what the tree says -/
def hg_R (G : gr_T) (t : Std.Format) (p k : Nat) : Prop := ∀ j, p ≤ j → j < p + tr_len t → (G.1 j, G.2.1 j, G.2.2 j) = tr_g t p k j
theorem hg_k {t : Std.Format} {p k j : Nat} {c u : Nat} {L : List Nat} (h : hg_R G t p k) (h1 : p ≤ j) (h2 : j < p + tr_len t) (e : tr_g t p k j = (c, u, L)) : G.1 j = c ∧ G.2.1 j = u ∧ G.2.2 j = L := by
  have := (h j h1 h2).trans e
  cases this
  exact ⟨rfl, rfl, rfl⟩
theorem lc_one {fl : Bool} {q l k : Nat} (ho : o q = G.1 l) (h : o q = 0 ∨ o q = 1 ∨ o q = 2 ∨ o q = 5) (hw : (o q = 0 ∨ o q = 5) → w q = G.2.1 l) (hs : s1 q = q + 1) (hr : re_R o s1 LAB m (q + 1) k) (hn : G.2.2 l = [k]) : lc_R o w s1 s2 LAB INN m G fl q l :=
  ⟨ho, Or.inr ⟨h, hw, hs, k, hr, hn⟩⟩
theorem lc_two {q l a b : Nat} {L1 : List Nat} {l2 : Nat} (ho : o q = 3) (hk : G.1 l = 3) (e1 : s1 q = a) (e2 : s2 q = b) (h1 : ch_R o s1 s2 LAB INN m true q a L1) (h2 : re_R o s1 LAB m b l2) (hn : G.2.2 l = L1 ++ [l2]) : lc_R o w s1 s2 LAB INN m G true q l :=
  ⟨ho.trans hk.symm, Or.inl ⟨ho, Or.inl ⟨rfl, L1, l2, by rw [e1]; exact h1, by rw [e2]; exact h2, hn⟩⟩⟩
theorem lc_twY {q l a b : Nat} {l1 : Nat} {L2 : List Nat} (ho : o q = 3) (hk : G.1 l = 3) (e1 : s1 q = a) (e2 : s2 q = b) (h1 : re_R o s1 LAB m a l1) (h2 : ch_R o s1 s2 LAB INN m false q b L2) (hn : G.2.2 l = [l1] ++ L2) : lc_R o w s1 s2 LAB INN m G false q l :=
  ⟨ho.trans hk.symm, Or.inl ⟨ho, Or.inr ⟨rfl, l1, L2, by rw [e1]; exact h1, by rw [e2]; exact h2, hn⟩⟩⟩
theorem tr_len_app {a b : Std.Format} : tr_len (.append a b) = tr_len a + tr_len b := rfl
theorem tr_len_alt {a b : Std.Format} {c : Std.Format.FlattenBehavior} : tr_len (.group (.append a b) c) = tr_len a + tr_len b + 2 := rfl
theorem tr_len_st {t : Nat} {a : Std.Format} (h : t ≤ 1) : tr_len (.tag t a) = tr_len a + 2 := if_pos h
theorem tr_len_op {t : Nat} {a : Std.Format} (h1 : ¬ t ≤ 1) (h : t ≤ 3) : tr_len (.tag t a) = tr_len a + 1 := by
  show (if t ≤ 1 then _ else if t ≤ 3 then _ else _) = _
  rw [if_neg h1, if_pos h]
theorem tr_len_gr {t : Nat} {a : Std.Format} (h1 : ¬ t ≤ 1) (h : ¬ t ≤ 3) : tr_len (.tag t a) = tr_len a + 2 := by
  show (if t ≤ 1 then _ else if t ≤ 3 then _ else _) = _
  rw [if_neg h1, if_neg h]
section HG
variable {a b : Std.Format} {c : Std.Format.FlattenBehavior} {t p k : Nat}
theorem hg_app1 (h : hg_R G (.append a b) p k) : hg_R G a p (tr_ent b (p + tr_len a) k) := by
  intro j h1 h2
  rw [h j h1 (by rw [tr_len_app]; omega)]
  exact if_pos h2
theorem hg_app2 (h : hg_R G (.append a b) p k) : hg_R G b (p + tr_len a) k := by
  intro j h1 h2
  rw [h j (by omega) (by rw [tr_len_app]; omega)]
  exact if_neg (by omega)
theorem hg_alt0 (h : hg_R G (.group (.append a b) c) p k) : G.1 p = 3 ∧ G.2.1 p = 0 ∧ G.2.2 p = tr_alt a (p + 1) k ++ [tr_ent b (p + tr_len a + 2) k] :=
  hg_k h (Nat.le_refl p) (by rw [tr_len_alt]; omega) (if_pos rfl)
theorem hg_alt1 (h : hg_R G (.group (.append a b) c) p k) : hg_R G a (p + 1) k := by
  intro j h1 h2
  rw [h j (by omega) (by rw [tr_len_alt]; omega)]
  show (if j = p then _ else if j < p + 1 + tr_len a then _ else _) = _
  rw [if_neg (by omega), if_pos h2]
theorem hg_alt2 (h : hg_R G (.group (.append a b) c) p k) : hg_R G b (p + tr_len a + 2) k := by
  intro j h1 h2
  rw [h j (by omega) (by rw [tr_len_alt]; omega)]
  show (if j = p then _ else if j < p + 1 + tr_len a then _ else if j = p + 1 + tr_len a then _ else _) = _
  rw [if_neg (by omega), if_neg (by omega), if_neg (by omega)]
theorem hg_st0 (ht : t ≤ 1) (h : hg_R G (.tag t a) p k) : G.1 p = 3 ∧ G.2.1 p = 0 ∧ G.2.2 p = (if t = 0 then [tr_ent a (p + 1) p, k] else [k, tr_ent a (p + 1) p]) :=
  hg_k h (Nat.le_refl p) (by rw [tr_len_st ht]; omega) (by unfold tr_g; rw [if_pos ht, if_pos rfl])
theorem hg_st1 (ht : t ≤ 1) (h : hg_R G (.tag t a) p k) : hg_R G a (p + 1) p := by
  intro j h1 h2
  rw [h j (by omega) (by rw [tr_len_st ht]; omega)]
  conv => lhs; unfold tr_g
  rw [if_pos ht, if_neg (by omega), if_pos h2]
theorem hg_op0 (h1 : ¬ t ≤ 1) (ht : t ≤ 3) (h : hg_R G (.tag t a) p k) : G.1 p = 3 ∧ G.2.1 p = 0 ∧ G.2.2 p = (if t = 2 then [tr_ent a (p + 1) k, k] else [k, tr_ent a (p + 1) k]) :=
  hg_k h (Nat.le_refl p) (by rw [tr_len_op h1 ht]; omega) (by unfold tr_g; rw [if_neg h1, if_pos ht, if_pos rfl])
theorem hg_op1 (h1 : ¬ t ≤ 1) (ht : t ≤ 3) (h : hg_R G (.tag t a) p k) : hg_R G a (p + 1) k := by
  intro j j1 j2
  rw [h j (by omega) (by rw [tr_len_op h1 ht]; omega)]
  conv => lhs; unfold tr_g
  rw [if_neg h1, if_pos ht, if_neg (by omega)]
theorem hg_gr0 (h1 : ¬ t ≤ 1) (ht : ¬ t ≤ 3) (h : hg_R G (.tag t a) p k) : G.1 p = 5 ∧ G.2.1 p = 2 * (t - 3) - 1 ∧ G.2.2 p = [tr_ent a (p + 1) (p + 1 + tr_len a)] :=
  hg_k h (Nat.le_refl p) (by rw [tr_len_gr h1 ht]; omega) (by unfold tr_g; rw [if_neg h1, if_neg ht, if_pos rfl])
theorem hg_gr1 (h1 : ¬ t ≤ 1) (ht : ¬ t ≤ 3) (h : hg_R G (.tag t a) p k) : hg_R G a (p + 1) (p + 1 + tr_len a) := by
  intro j j1 j2
  rw [h j (by omega) (by rw [tr_len_gr h1 ht]; omega)]
  conv => lhs; unfold tr_g
  rw [if_neg h1, if_neg ht, if_neg (by omega), if_pos j2]
theorem hg_gr2 (h1 : ¬ t ≤ 1) (ht : ¬ t ≤ 3) (h : hg_R G (.tag t a) p k) : G.1 (p + 1 + tr_len a) = 5 ∧ G.2.1 (p + 1 + tr_len a) = 2 * (t - 3) ∧ G.2.2 (p + 1 + tr_len a) = [k] :=
  hg_k h (by omega) (by rw [tr_len_gr h1 ht]; omega) (by unfold tr_g; rw [if_neg h1, if_neg ht, if_neg (by omega), if_neg (by omega)])
end HG
theorem xr_main : ∀ t, ∀ inn p k, cx_L o w s1 s2 t p → (∀ j, tr_lab t inn p j → LAB j j) → (∀ pr j, tr_inn t inn p j → j = pr + 1 → INN pr j) → hg_R G t p k → re_R o s1 LAB m (p + tr_len t) k →
    (inn = false → re_R o s1 LAB m p (tr_ent t p k)) ∧ (inn = true → ∀ pr, p = pr + 1 → ch_R o s1 s2 LAB INN m true pr p (tr_alt t p k)) ∧ (∀ j, tr_lab t inn p j → lc_R o w s1 s2 LAB INN m G true j j) := by
  intro t
  induction t using tr_ind with
  | h0 => intro inn p k hc hL hI hg hr; exact ⟨fun _ => hr, fun _ pr _ => ch_re hr, fun j h => h.elim⟩
  | h1 =>
    intro inn p k hc hL hI hg hr
    have R : re_R o s1 LAB m p p := re_lab (hL p rfl)
    refine ⟨fun _ => R, fun _ pr _ => ch_re R, fun j h => ?_⟩
    have h : j = p := h
    subst h
    obtain ⟨g1, g2, g3⟩ := hg_k hg (Nat.le_refl j) (Nat.lt_succ_self j) rfl
    obtain ⟨c1, c2⟩ := hc
    exact lc_one (c1.trans g1.symm) (Or.inr (Or.inl c1)) (fun z => by omega) c2 hr g3
  | h2 b =>
    intro inn p k hc hL hI hg hr
    have R : re_R o s1 LAB m p p := re_lab (hL p rfl)
    refine ⟨fun _ => R, fun _ pr _ => ch_re R, fun j h => ?_⟩
    have h : j = p := h
    subst h
    obtain ⟨g1, g2, g3⟩ := hg_k hg (Nat.le_refl j) (Nat.lt_succ_self j) rfl
    obtain ⟨c1, c2⟩ := hc
    exact lc_one (c1.trans g1.symm) (Or.inr (Or.inr (Or.inl c1))) (fun z => by omega) c2 hr g3
  | h3 s => intro inn p k hc hL hI hg hr; exact ⟨fun _ => hr, fun _ pr _ => ch_re hr, fun j h => h.elim⟩
  | h4 i f =>
    intro inn p k hc hL hI hg hr
    have R : re_R o s1 LAB m p p := re_lab (hL p rfl)
    refine ⟨fun _ => R, fun _ pr _ => ch_re R, fun j h => ?_⟩
    have h : j = p := h
    subst h
    obtain ⟨g1, g2, g3⟩ := hg_k hg (Nat.le_refl j) (Nat.lt_succ_self j) rfl
    obtain ⟨c1, c2, c3⟩ := hc
    exact lc_one (c1.trans g1.symm) (Or.inl c1) (fun z => c2.trans g2.symm) c3 hr g3
  | h5 a b ha hb =>
    intro inn p k hc hL hI hg hr
    obtain ⟨c1, c2⟩ := hc
    rw [tr_len_app, ← Nat.add_assoc] at hr
    obtain ⟨b1, _, b3⟩ := hb false _ k c2 (fun j h => hL j (Or.inr h)) (fun pr j h => hI pr j (Or.inr h)) (hg_app2 hg) hr
    obtain ⟨a1, _, a3⟩ := ha false _ _ c1 (fun j h => hL j (Or.inl h)) (fun pr j h => hI pr j (Or.inl h)) (hg_app1 hg) (b1 rfl)
    exact ⟨fun _ => a1 rfl, fun _ pr _ => ch_re (a1 rfl), fun j h => h.elim (a3 j) (b3 j)⟩
  | h6 a b c ha hb =>
    intro inn p k hc hL hI hg hr
    obtain ⟨c1, c2, c3, c4, c5, c6, c7⟩ := hc
    have hr : re_R o s1 LAB m (p + tr_len a + 2 + tr_len b) k := by
      rw [tr_len_alt, show p + (tr_len a + tr_len b + 2) = p + tr_len a + 2 + tr_len b by omega] at hr
      exact hr
    obtain ⟨b1, _, b3⟩ := hb false _ k c7 (fun j h => hL j (Or.inr (Or.inr h))) (fun pr j h => hI pr j (Or.inr (Or.inr h))) (hg_alt2 hg) hr
    obtain ⟨_, a2, a3⟩ := ha true _ k c4 (fun j h => hL j (Or.inr (Or.inl h))) (fun pr j h => hI pr j (Or.inr (Or.inl h))) (hg_alt1 hg) (re_j c5 c6 hr)
    obtain ⟨g1, g2, g3⟩ := hg_alt0 hg
    have b1 := b1 rfl
    have a2 := a2 rfl p rfl
    refine ⟨fun e => re_lab (hL p (Or.inl ⟨e, rfl⟩)), fun e pr ep => ?_, fun j h => ?_⟩
    · refine ch_inX (hI pr p (Or.inl ⟨e, rfl⟩) ep) c1 ?_ ?_
      · rw [c2]; exact a2
      · rw [c3]; exact b1
    · rcases h with ⟨h, rfl⟩ | h | h
      · exact lc_two c1 g1 c2 c3 a2 b1 g3
      · exact a3 j h
      · exact b3 j h
  | h7 f c hf =>
    intro inn p k hc hL hI hg hr
    cases f <;> first | exact ⟨fun _ => hr, fun _ pr _ => ch_re hr, fun j h => h.elim⟩ | exact absurd rfl (hf _ _)
  | h8 t a ha =>
    intro inn p k hc hL hI hg hr
    have R : re_R o s1 LAB m p p := re_lab (hL p (Or.inl rfl))
    refine ⟨fun _ => R, fun _ pr _ => ch_re R, fun j h => ?_⟩
    unfold cx_L at hc
    have hLa : ∀ j, tr_lab a false (p + 1) j → LAB j j := fun j h => hL j (Or.inr (Or.inl h))
    have hIa : ∀ pr j, tr_inn a false (p + 1) j → j = pr + 1 → INN pr j := fun pr j h => hI pr j h
    by_cases t1 : t ≤ 1
    · rw [if_pos t1] at hc
      obtain ⟨c1, c2, c3, c4, c5, c6⟩ := hc
      obtain ⟨a1, _, a3⟩ := ha false (p + 1) p c4 hLa hIa (hg_st1 t1 hg) (re_j c5 c6 R)
      have a1 := a1 rfl
      rcases h with rfl | h | ⟨h, _⟩
      · obtain ⟨g1, g2, g3⟩ := hg_st0 t1 hg
        rw [tr_len_st t1] at hr
        by_cases t0 : t = 0
        · rw [if_pos t0] at c2 c3 g3
          exact lc_two c1 g1 c2 c3 (ch_re a1) hr g3
        · rw [if_neg t0] at c2 c3 g3
          exact lc_two c1 g1 c2 c3 (ch_re hr) a1 g3
      · exact a3 j h
      · omega
    · rw [if_neg t1] at hc
      by_cases t3 : t ≤ 3
      · rw [if_pos t3] at hc
        obtain ⟨c1, c2, c3, c4⟩ := hc
        rw [tr_len_op t1 t3] at hr
        have hr : re_R o s1 LAB m (p + tr_len a + 1) k := hr
        obtain ⟨a1, _, a3⟩ := ha false (p + 1) k c4 hLa hIa (hg_op1 t1 t3 hg) (by rw [show p + 1 + tr_len a = p + tr_len a + 1 by omega]; exact hr)
        have a1 := a1 rfl
        rcases h with rfl | h | ⟨h, _⟩
        · obtain ⟨g1, g2, g3⟩ := hg_op0 t1 t3 hg
          by_cases t0 : t = 2
          · rw [if_pos t0] at c2 c3 g3
            exact lc_two c1 g1 c2 c3 (ch_re a1) hr g3
          · rw [if_neg t0] at c2 c3 g3
            exact lc_two c1 g1 c2 c3 (ch_re hr) a1 g3
        · exact a3 j h
        · omega
      · rw [if_neg t3] at hc
        obtain ⟨c1, c2, c3, c4, c5, c6, c7⟩ := hc
        rw [tr_len_gr t1 t3] at hr
        have hr : re_R o s1 LAB m (p + tr_len a + 2) k := hr
        obtain ⟨a1, _, a3⟩ := ha false (p + 1) (p + 1 + tr_len a) c4 hLa hIa (hg_gr1 t1 t3 hg) (re_lab (hL _ (Or.inr (Or.inr ⟨by omega, rfl⟩))))
        have a1 := a1 rfl
        rcases h with rfl | h | ⟨_, rfl⟩
        · obtain ⟨g1, g2, g3⟩ := hg_gr0 t1 t3 hg
          exact lc_one (c1.trans g1.symm) (Or.inr (Or.inr (Or.inr c1))) (fun z => c2.trans g2.symm) c3 a1 g3
        · exact a3 j h
        · obtain ⟨g1, g2, g3⟩ := hg_gr2 t1 t3 hg
          exact lc_one (c5.trans g1.symm) (Or.inr (Or.inr (Or.inr c5))) (fun z => c6.trans g2.symm) (by rw [c7]; omega) (by rw [show p + 1 + tr_len a + 1 = p + tr_len a + 2 by omega]; exact hr) g3
end XRP
end
section
section YRP
/-! Y's layout: alternatives one behind the other, each but the last with its own split and its own jump to the end -/
section CY
variable (o w s1 s2 : Nat → Nat)
def cy_w (md : Option Nat) (n q : Nat) (C : Nat → Prop) : Prop := match md with
  | none => C q
  | some e => o q = 3 ∧ s1 q = q + 1 ∧ s2 q = q + n + 2 ∧ C (q + 1) ∧ o (q + 1 + n) = 4 ∧ s1 (q + 1 + n) = e
def cy_L : Std.Format → Option Nat → Nat → Prop
  | .nil, md, q => cy_w o s1 s2 md 0 q (fun _ => True)
  | .line, md, q => cy_w o s1 s2 md 1 q (fun q => o q = 1 ∧ s1 q = q + 1)
  | .align _, md, q => cy_w o s1 s2 md 1 q (fun q => o q = 2 ∧ s1 q = q + 1)
  | .text _, md, q => cy_w o s1 s2 md 0 q (fun _ => True)
  | .nest i _, md, q => cy_w o s1 s2 md 1 q (fun q => o q = 0 ∧ w q = i.toNat ∧ s1 q = q + 1)
  | .append a b, md, q => cy_w o s1 s2 md (tr_len a + tr_len b) q (fun q => cy_L a none q ∧ cy_L b none (q + tr_len a))
  | .group (.append a b) _, md, q => match md with
    | none => cy_L a (some (q + tr_len a + 2 + tr_len b)) q ∧ cy_L b none (q + tr_len a + 2)
    | some e => cy_L a (some e) q ∧ o (q + tr_len a + 2) = 3 ∧ s1 (q + tr_len a + 2) = q + tr_len a + 3 ∧ s2 (q + tr_len a + 2) = q + tr_len a + 4 + tr_len b ∧ cy_L b none (q + tr_len a + 3) ∧ o (q + tr_len a + 3 + tr_len b) = 4 ∧ s1 (q + tr_len a + 3 + tr_len b) = e
  | .group _ _, md, q => cy_w o s1 s2 md 0 q (fun _ => True)
  | .tag t a, md, q => cy_w o s1 s2 md (tr_len (.tag t a)) q (fun p =>
    if t ≤ 1 then o p = 3 ∧ s1 p = (if t = 0 then p + 1 else p + tr_len a + 2) ∧ s2 p = (if t = 0 then p + tr_len a + 2 else p + 1) ∧ cy_L a none (p + 1) ∧ o (p + 1 + tr_len a) = 4 ∧ s1 (p + 1 + tr_len a) = p
    else if t ≤ 3 then o p = 3 ∧ s1 p = (if t = 2 then p + 1 else p + tr_len a + 1) ∧ s2 p = (if t = 2 then p + tr_len a + 1 else p + 1) ∧ cy_L a none (p + 1)
    else o p = 5 ∧ w p = 2 * (t - 3) - 1 ∧ s1 p = p + 1 ∧ cy_L a none (p + 1) ∧ o (p + 1 + tr_len a) = 5 ∧ w (p + 1 + tr_len a) = 2 * (t - 3) ∧ s1 (p + 1 + tr_len a) = p + tr_len a + 2)
end CY
def yl_w (md : Option Nat) (q q' l : Nat) (C : Nat → Prop) : Prop := match md with
  | none => C q
  | some h => (q' = q ∧ l = h) ∨ C (q + 1)
/-- place q' of Y's code has label l -/
def yl_lab : Std.Format → Option Nat → Nat → Nat → Nat → Nat → Prop
  | .nil, md, q, _, q', l => yl_w md q q' l (fun _ => False)
  | .line, md, q, b, q', l => yl_w md q q' l (fun q => q' = q ∧ l = b)
  | .align _, md, q, b, q', l => yl_w md q q' l (fun q => q' = q ∧ l = b)
  | .text _, md, q, _, q', l => yl_w md q q' l (fun _ => False)
  | .nest _ _, md, q, b, q', l => yl_w md q q' l (fun q => q' = q ∧ l = b)
  | .append a c, md, q, b, q', l => yl_w md q q' l (fun q => yl_lab a none q b q' l ∨ yl_lab c none (q + tr_len a) (b + tr_len a) q' l)
  | .group (.append a c) _, md, q, b, q', l => match md with
    | none => yl_lab a (some b) q (b + 1) q' l ∨ yl_lab c none (q + tr_len a + 2) (b + tr_len a + 2) q' l
    | some h => yl_lab a (some h) q (b + 1) q' l ∨ yl_lab c none (q + tr_len a + 3) (b + tr_len a + 2) q' l
  | .group _ _, md, q, _, q', l => yl_w md q q' l (fun _ => False)
  | .tag t a, md, q, b, q', l => yl_w md q q' l (fun q => (q' = q ∧ l = b) ∨ yl_lab a none (q + 1) (b + 1) q' l ∨ (4 ≤ t ∧ q' = q + 1 + tr_len a ∧ l = b + 1 + tr_len a))
/-- the last split of a chain -/
def yl_ls : Std.Format → Nat → Nat
  | .group (.append a _) _, q => q + tr_len a + 2
  | _, q => q
def yl_v (md : Bool) (q : Nat) (C : Nat → Prop) : Prop := match md with
  | false => C q
  | true => C (q + 1)
def yl_inn : Std.Format → Bool → Nat → Nat → Nat → Prop
  | .append a c, md, q, pr, z => yl_v md q (fun q => yl_inn a false q pr z ∨ yl_inn c false (q + tr_len a) pr z)
  | .group (.append a c) _, md, q, pr, z => match md with
    | false => yl_inn a true q pr z ∨ yl_inn c false (q + tr_len a + 2) pr z
    | true => yl_inn a true q pr z ∨ (pr = yl_ls a q ∧ z = q + tr_len a + 2) ∨ yl_inn c false (q + tr_len a + 3) pr z
  | .tag _ a, md, q, pr, z => yl_v md q (fun q => yl_inn a false (q + 1) pr z)
  | _, _, _, _, _ => False
/-- trees that are no alternatives: the chain mode is the plain one behind a split -/
def yl_N (t : Std.Format) : Prop := (∀ h q b q' l, yl_lab t (some h) q b q' l ↔ ((q' = q ∧ l = h) ∨ yl_lab t none (q + 1) b q' l)) ∧ (∀ q pr z, yl_inn t true q pr z ↔ yl_inn t false (q + 1) pr z) ∧ (∀ p k, tr_alt t p k = [tr_ent t p k]) ∧ (∀ q, yl_ls t q = q) ∧
  (∀ (o w s1 s2 : Nat → Nat) e q, cy_L o w s1 s2 t (some e) q ↔ (o q = 3 ∧ s1 q = q + 1 ∧ s2 q = q + tr_len t + 2 ∧ cy_L o w s1 s2 t none (q + 1) ∧ o (q + 1 + tr_len t) = 4 ∧ s1 (q + 1 + tr_len t) = e))
theorem yl_N0 : yl_N .nil := ⟨fun _ _ _ _ _ => Iff.rfl, fun _ _ _ => Iff.rfl, fun _ _ => rfl, fun _ => rfl, fun _ _ _ _ _ _ => Iff.rfl⟩
theorem yl_N1 : yl_N .line := ⟨fun _ _ _ _ _ => Iff.rfl, fun _ _ _ => Iff.rfl, fun _ _ => rfl, fun _ => rfl, fun _ _ _ _ _ _ => Iff.rfl⟩
theorem yl_N2 {b : Bool} : yl_N (.align b) := ⟨fun _ _ _ _ _ => Iff.rfl, fun _ _ _ => Iff.rfl, fun _ _ => rfl, fun _ => rfl, fun _ _ _ _ _ _ => Iff.rfl⟩
theorem yl_N3 {s : String} : yl_N (.text s) := ⟨fun _ _ _ _ _ => Iff.rfl, fun _ _ _ => Iff.rfl, fun _ _ => rfl, fun _ => rfl, fun _ _ _ _ _ _ => Iff.rfl⟩
theorem yl_N4 {i : Int} {f : Std.Format} : yl_N (.nest i f) := ⟨fun _ _ _ _ _ => Iff.rfl, fun _ _ _ => Iff.rfl, fun _ _ => rfl, fun _ => rfl, fun _ _ _ _ _ _ => Iff.rfl⟩
theorem yl_N5 {a b : Std.Format} : yl_N (.append a b) := ⟨fun _ _ _ _ _ => Iff.rfl, fun _ _ _ => Iff.rfl, fun _ _ => rfl, fun _ => rfl, fun _ _ _ _ _ _ => Iff.rfl⟩
theorem yl_N8 {t : Nat} {a : Std.Format} : yl_N (.tag t a) := ⟨fun _ _ _ _ _ => Iff.rfl, fun _ _ _ => Iff.rfl, fun _ _ => rfl, fun _ => rfl, fun _ _ _ _ _ _ => Iff.rfl⟩
theorem yl_N7 {f : Std.Format} {c : Std.Format.FlattenBehavior} (hf : ∀ a b, f ≠ .append a b) : yl_N (.group f c) := by
  cases f <;> first | exact ⟨fun _ _ _ _ _ => Iff.rfl, fun _ _ _ => Iff.rfl, fun _ _ => rfl, fun _ => rfl, fun _ _ _ _ _ _ => Iff.rfl⟩ | exact absurd rfl (hf _ _)
theorem tr_len_tg {t : Nat} {a : Std.Format} : tr_len a + 1 ≤ tr_len (.tag t a) := by
  by_cases t1 : t ≤ 1
  · rw [tr_len_st t1]; omega
  · by_cases t3 : t ≤ 3
    · rw [tr_len_op t1 t3]; omega
    · rw [tr_len_gr t1 t3]; omega
/-- where labels lie -/
theorem yl_r : ∀ t, (∀ q b q' l, yl_lab t none q b q' l → q ≤ q' ∧ q' < q + tr_len t ∧ b ≤ l ∧ l < b + tr_len t) ∧ (∀ h q b q' l, yl_lab t (some h) q b q' l → (q' = q ∧ l = h) ∨ (q < q' ∧ q' < q + tr_len t + 1 ∧ b ≤ l ∧ l < b + tr_len t)) := by
  have key : ∀ t, yl_N t → (∀ q b q' l, yl_lab t none q b q' l → q ≤ q' ∧ q' < q + tr_len t ∧ b ≤ l ∧ l < b + tr_len t) → (∀ h q b q' l, yl_lab t (some h) q b q' l → (q' = q ∧ l = h) ∨ (q < q' ∧ q' < q + tr_len t + 1 ∧ b ≤ l ∧ l < b + tr_len t)) := by
    intro t hN h1 h q b q' l h2
    rcases (hN.1 h q b q' l).mp h2 with h2 | h2
    · exact Or.inl h2
    · have := h1 _ _ _ _ h2; exact Or.inr (by omega)
  have leaf : ∀ q b q' l : Nat, (q' = q ∧ l = b) → q ≤ q' ∧ q' < q + 1 ∧ b ≤ l ∧ l < b + 1 := by intro q b q' l h; omega
  intro t
  induction t using tr_ind with
  | h0 => exact ⟨fun q b q' l h => h.elim, key _ yl_N0 (fun q b q' l h => h.elim)⟩
  | h1 => exact ⟨leaf, key _ yl_N1 leaf⟩
  | h2 b => exact ⟨leaf, key _ yl_N2 leaf⟩
  | h3 s => exact ⟨fun q b q' l h => h.elim, key _ yl_N3 (fun q b q' l h => h.elim)⟩
  | h4 i f => exact ⟨leaf, key _ yl_N4 leaf⟩
  | h5 a c ha hc =>
    have h1 : ∀ q b q' l, yl_lab (.append a c) none q b q' l → q ≤ q' ∧ q' < q + tr_len (.append a c) ∧ b ≤ l ∧ l < b + tr_len (.append a c) := by
      intro q b q' l h
      rw [tr_len_app]
      rcases h with h | h
      · have := ha.1 _ _ _ _ h; omega
      · have := hc.1 _ _ _ _ h; omega
    exact ⟨h1, key _ yl_N5 h1⟩
  | h6 a c f ha hc =>
    refine ⟨fun q b q' l h => ?_, fun h q b q' l h2 => ?_⟩
    · rw [tr_len_alt]
      rcases h with h | h
      · have := ha.2 _ _ _ _ _ h; omega
      · have := hc.1 _ _ _ _ h; omega
    · rw [tr_len_alt]
      rcases h2 with h2 | h2
      · rcases ha.2 _ _ _ _ _ h2 with h3 | h3
        · exact Or.inl h3
        · exact Or.inr (by omega)
      · have := hc.1 _ _ _ _ h2; exact Or.inr (by omega)
  | h7 f c hf =>
    have h1 : ∀ q b q' l, ¬ yl_lab (.group f c) none q b q' l := by
      intro q b q' l
      cases f <;> first | exact fun h => h.elim | exact absurd rfl (hf _ _)
    exact ⟨fun q b q' l h => (h1 _ _ _ _ h).elim, key _ (yl_N7 hf) (fun q b q' l h => (h1 _ _ _ _ h).elim)⟩
  | h8 t a ha =>
    have h1 : ∀ q b q' l, yl_lab (.tag t a) none q b q' l → q ≤ q' ∧ q' < q + tr_len (.tag t a) ∧ b ≤ l ∧ l < b + tr_len (.tag t a) := by
      intro q b q' l h
      have hx : 4 ≤ t → tr_len (.tag t a) = tr_len a + 2 := fun h => tr_len_gr (by omega) (by omega)
      have hy : tr_len a + 1 ≤ tr_len (.tag t a) := tr_len_tg
      rcases h with h | h | ⟨h0, h⟩
      · omega
      · have := ha.1 _ _ _ _ h; omega
      · have := hx h0; omega
    exact ⟨h1, key _ yl_N8 h1⟩
/-- the head of a chain -/
theorem yl_hd : ∀ t h q b, yl_lab t (some h) q b q h := by
  intro t
  induction t using tr_ind with
  | h0 => intro h q b; exact (yl_N0.1 _ _ _ _ _).mpr (Or.inl ⟨rfl, rfl⟩)
  | h1 => intro h q b; exact (yl_N1.1 _ _ _ _ _).mpr (Or.inl ⟨rfl, rfl⟩)
  | h2 _ => intro h q b; exact (yl_N2.1 _ _ _ _ _).mpr (Or.inl ⟨rfl, rfl⟩)
  | h3 _ => intro h q b; exact (yl_N3.1 _ _ _ _ _).mpr (Or.inl ⟨rfl, rfl⟩)
  | h4 _ _ => intro h q b; exact (yl_N4.1 _ _ _ _ _).mpr (Or.inl ⟨rfl, rfl⟩)
  | h5 _ _ _ _ => intro h q b; exact (yl_N5.1 _ _ _ _ _).mpr (Or.inl ⟨rfl, rfl⟩)
  | h6 a c f ha hc => intro h q b; exact Or.inl (ha h q (b + 1))
  | h7 f c hf => intro h q b; exact ((yl_N7 hf).1 _ _ _ _ _).mpr (Or.inl ⟨rfl, rfl⟩)
  | h8 _ _ _ => intro h q b; exact (yl_N8.1 _ _ _ _ _).mpr (Or.inl ⟨rfl, rfl⟩)
/-- labels are one to one -/
theorem yl_1 : ∀ t, (∀ q b q1 l1 q2 l2, yl_lab t none q b q1 l1 → yl_lab t none q b q2 l2 → (q1 = q2 ↔ l1 = l2)) ∧ (∀ h q b q1 l1 q2 l2, h < b → yl_lab t (some h) q b q1 l1 → yl_lab t (some h) q b q2 l2 → (q1 = q2 ↔ l1 = l2)) := by
  have key : ∀ t, yl_N t → (∀ q b q1 l1 q2 l2, yl_lab t none q b q1 l1 → yl_lab t none q b q2 l2 → (q1 = q2 ↔ l1 = l2)) → (∀ h q b q1 l1 q2 l2, h < b → yl_lab t (some h) q b q1 l1 → yl_lab t (some h) q b q2 l2 → (q1 = q2 ↔ l1 = l2)) := by
    intro t hN h1 h q b q1 l1 q2 l2 hb k1 k2
    rcases (hN.1 h q b q1 l1).mp k1 with k1 | k1 <;> rcases (hN.1 h q b q2 l2).mp k2 with k2 | k2
    · omega
    · have := (yl_r t).1 _ _ _ _ k2; omega
    · have := (yl_r t).1 _ _ _ _ k1; omega
    · exact h1 _ _ _ _ _ _ k1 k2
  have leaf : ∀ q b q1 l1 q2 l2 : Nat, (q1 = q ∧ l1 = b) → (q2 = q ∧ l2 = b) → (q1 = q2 ↔ l1 = l2) := by intro q b q1 l1 q2 l2 h1 h2; omega
  intro t
  induction t using tr_ind with
  | h0 => exact ⟨fun q b q1 l1 q2 l2 h => h.elim, key _ yl_N0 (fun q b q1 l1 q2 l2 h => h.elim)⟩
  | h1 => exact ⟨leaf, key _ yl_N1 leaf⟩
  | h2 b => exact ⟨leaf, key _ yl_N2 leaf⟩
  | h3 s => exact ⟨fun q b q1 l1 q2 l2 h => h.elim, key _ yl_N3 (fun q b q1 l1 q2 l2 h => h.elim)⟩
  | h4 i f => exact ⟨leaf, key _ yl_N4 leaf⟩
  | h5 a c ha hc =>
    have h1 : ∀ q b q1 l1 q2 l2, yl_lab (.append a c) none q b q1 l1 → yl_lab (.append a c) none q b q2 l2 → (q1 = q2 ↔ l1 = l2) := by
      intro q b q1 l1 q2 l2 k1 k2
      rcases k1 with k1 | k1 <;> rcases k2 with k2 | k2
      · exact ha.1 _ _ _ _ _ _ k1 k2
      · have := (yl_r a).1 _ _ _ _ k1; have := (yl_r c).1 _ _ _ _ k2; omega
      · have := (yl_r c).1 _ _ _ _ k1; have := (yl_r a).1 _ _ _ _ k2; omega
      · exact hc.1 _ _ _ _ _ _ k1 k2
    exact ⟨h1, key _ yl_N5 h1⟩
  | h6 a c f ha hc =>
    refine ⟨fun q b q1 l1 q2 l2 k1 k2 => ?_, fun h q b q1 l1 q2 l2 hb k1 k2 => ?_⟩
    · rcases k1 with k1 | k1 <;> rcases k2 with k2 | k2
      · exact ha.2 _ _ _ _ _ _ _ (Nat.lt_succ_self b) k1 k2
      · have := (yl_r a).2 _ _ _ _ _ k1; have := (yl_r c).1 _ _ _ _ k2; omega
      · have := (yl_r c).1 _ _ _ _ k1; have := (yl_r a).2 _ _ _ _ _ k2; omega
      · exact hc.1 _ _ _ _ _ _ k1 k2
    · rcases k1 with k1 | k1 <;> rcases k2 with k2 | k2
      · exact ha.2 _ _ _ _ _ _ _ (by omega) k1 k2
      · have := (yl_r a).2 _ _ _ _ _ k1; have := (yl_r c).1 _ _ _ _ k2; omega
      · have := (yl_r c).1 _ _ _ _ k1; have := (yl_r a).2 _ _ _ _ _ k2; omega
      · exact hc.1 _ _ _ _ _ _ k1 k2
  | h7 f c hf =>
    have h1 : ∀ q b q' l, ¬ yl_lab (.group f c) none q b q' l := by
      intro q b q' l
      cases f <;> first | exact fun h => h.elim | exact absurd rfl (hf _ _)
    exact ⟨fun q b q1 l1 q2 l2 h => (h1 _ _ _ _ h).elim, key _ (yl_N7 hf) (fun q b q1 l1 q2 l2 h => (h1 _ _ _ _ h).elim)⟩
  | h8 t a ha =>
    have h1 : ∀ q b q1 l1 q2 l2, yl_lab (.tag t a) none q b q1 l1 → yl_lab (.tag t a) none q b q2 l2 → (q1 = q2 ↔ l1 = l2) := by
      intro q b q1 l1 q2 l2 k1 k2
      rcases k1 with k1 | k1 | ⟨_, k1⟩ <;> rcases k2 with k2 | k2 | ⟨_, k2⟩
      · omega
      · have := (yl_r a).1 _ _ _ _ k2; omega
      · omega
      · have := (yl_r a).1 _ _ _ _ k1; omega
      · exact ha.1 _ _ _ _ _ _ k1 k2
      · have := (yl_r a).1 _ _ _ _ k1; omega
      · omega
      · have := (yl_r a).1 _ _ _ _ k2; omega
      · omega
    exact ⟨h1, key _ yl_N8 h1⟩
/-- inner splits: where they lie, one predecessor, no label -/
def yl_I (t : Std.Format) (md : Bool) (hd : Option Nat) (w : Nat) : Prop := ∀ q pr z, yl_inn t md q pr z → q < z ∧ z < q + tr_len t + w ∧ (∀ pr', yl_inn t md q pr' z → pr' = pr) ∧ (∀ b l, ¬ yl_lab t hd q b z l)
theorem yl_i : ∀ t, yl_I t false none 0 ∧ ∀ h, yl_I t true (some h) 1 := by
  have key : ∀ t, yl_N t → yl_I t false none 0 → ∀ h, yl_I t true (some h) 1 := by
    intro t hN h1 h q pr z k
    obtain ⟨a1, a2, a3, a4⟩ := h1 _ _ _ ((hN.2.1 q pr z).mp k)
    refine ⟨by omega, by omega, fun pr' k' => a3 pr' ((hN.2.1 q pr' z).mp k'), fun b l hl => ?_⟩
    rcases (hN.1 h q b z l).mp hl with hl | hl
    · omega
    · exact a4 b l hl
  have leaf : ∀ t, (∀ q pr z, ¬ yl_inn t false q pr z) → yl_I t false none 0 := fun t h q pr z k => (h q pr z k).elim
  intro t
  induction t using tr_ind with
  | h0 => exact ⟨leaf _ (fun q pr z h => h.elim), key _ yl_N0 (leaf _ (fun q pr z h => h.elim))⟩
  | h1 => exact ⟨leaf _ (fun q pr z h => h.elim), key _ yl_N1 (leaf _ (fun q pr z h => h.elim))⟩
  | h2 b => exact ⟨leaf _ (fun q pr z h => h.elim), key _ yl_N2 (leaf _ (fun q pr z h => h.elim))⟩
  | h3 s => exact ⟨leaf _ (fun q pr z h => h.elim), key _ yl_N3 (leaf _ (fun q pr z h => h.elim))⟩
  | h4 i f => exact ⟨leaf _ (fun q pr z h => h.elim), key _ yl_N4 (leaf _ (fun q pr z h => h.elim))⟩
  | h5 a c ha hc =>
    have h1 : yl_I (.append a c) false none 0 := by
      intro q pr z k
      rw [tr_len_app]
      rcases k with k | k
      · obtain ⟨a1, a2, a3, a4⟩ := ha.1 _ _ _ k
        refine ⟨by omega, by omega, fun pr' k' => ?_, fun b l hl => ?_⟩
        · rcases k' with k' | k'
          · exact a3 _ k'
          · have := hc.1 _ _ _ k'; omega
        · rcases hl with hl | hl
          · exact a4 _ _ hl
          · have := (yl_r c).1 _ _ _ _ hl; omega
      · obtain ⟨a1, a2, a3, a4⟩ := hc.1 _ _ _ k
        refine ⟨by omega, by omega, fun pr' k' => ?_, fun b l hl => ?_⟩
        · rcases k' with k' | k'
          · have := ha.1 _ _ _ k'; omega
          · exact a3 _ k'
        · rcases hl with hl | hl
          · have := (yl_r a).1 _ _ _ _ hl; omega
          · exact a4 _ _ hl
    exact ⟨h1, key _ yl_N5 h1⟩
  | h6 a c f ha hc =>
    refine ⟨fun q pr z k => ?_, fun h q pr z k => ?_⟩
    · rw [tr_len_alt]
      rcases k with k | k
      · refine ⟨?_, ?_, fun pr' k' => ?_, fun b l hl => ?_⟩
        · exact (ha.2 0 _ _ _ k).1
        · have := (ha.2 0 _ _ _ k).2.1; omega
        · rcases k' with k' | k'
          · exact (ha.2 0 _ _ _ k).2.2.1 _ k'
          · have := hc.1 _ _ _ k'; have := (ha.2 0 _ _ _ k).2.1; omega
        · rcases hl with hl | hl
          · exact (ha.2 b _ _ _ k).2.2.2 _ _ hl
          · have := (yl_r c).1 _ _ _ _ hl; have := (ha.2 0 _ _ _ k).2.1; omega
      · obtain ⟨a1, a2, a3, a4⟩ := hc.1 _ _ _ k
        refine ⟨by omega, by omega, fun pr' k' => ?_, fun b l hl => ?_⟩
        · rcases k' with k' | k'
          · have := (ha.2 0 _ _ _ k').2.1; omega
          · exact a3 _ k'
        · rcases hl with hl | hl
          · have := (yl_r a).2 _ _ _ _ _ hl; omega
          · exact a4 _ _ hl
    · rw [tr_len_alt]
      rcases k with k | ⟨k1, k2⟩ | k
      · have hz := ha.2 h _ _ _ k
        refine ⟨hz.1, by omega, fun pr' k' => ?_, fun b l hl => ?_⟩
        · rcases k' with k' | ⟨k1', k2'⟩ | k'
          · exact hz.2.2.1 _ k'
          · omega
          · have := hc.1 _ _ _ k'; omega
        · rcases hl with hl | hl
          · exact hz.2.2.2 _ _ hl
          · have := (yl_r c).1 _ _ _ _ hl; omega
      · refine ⟨by omega, by omega, fun pr' k' => ?_, fun b l hl => ?_⟩
        · rcases k' with k' | ⟨k1', k2'⟩ | k'
          · have := (ha.2 h _ _ _ k').2.1; omega
          · rw [k1, k1']
          · have := hc.1 _ _ _ k'; omega
        · rcases hl with hl | hl
          · have := (yl_r a).2 _ _ _ _ _ hl; omega
          · have := (yl_r c).1 _ _ _ _ hl; omega
      · obtain ⟨a1, a2, a3, a4⟩ := hc.1 _ _ _ k
        refine ⟨by omega, by omega, fun pr' k' => ?_, fun b l hl => ?_⟩
        · rcases k' with k' | ⟨k1', k2'⟩ | k'
          · have := (ha.2 h _ _ _ k').2.1; omega
          · omega
          · exact a3 _ k'
        · rcases hl with hl | hl
          · have := (yl_r a).2 _ _ _ _ _ hl; omega
          · exact a4 _ _ hl
  | h7 f c hf =>
    have h1 : ∀ q pr z, ¬ yl_inn (.group f c) false q pr z := by
      intro q pr z
      cases f <;> first | exact fun h => h.elim | exact absurd rfl (hf _ _)
    exact ⟨leaf _ h1, key _ (yl_N7 hf) (leaf _ h1)⟩
  | h8 t a ha =>
    have h1 : yl_I (.tag t a) false none 0 := by
      intro q pr z k
      have hy : tr_len a + 1 ≤ tr_len (.tag t a) := tr_len_tg
      obtain ⟨a1, a2, a3, a4⟩ := ha.1 _ _ _ k
      refine ⟨by omega, by omega, fun pr' k' => a3 _ k', fun b l hl => ?_⟩
      rcases hl with hl | hl | ⟨_, hl⟩
      · omega
      · exact a4 _ _ hl
      · omega
    exact ⟨h1, key _ yl_N8 h1⟩
end YRP
end
section
section YRQ
variable {o w s1 s2 : Nat → Nat} {LAB INN : Nat → Nat → Prop} {m : Nat} {G : gr_T}
def yr_A (o w s1 s2 : Nat → Nat) (LAB INN : Nat → Nat → Prop) (m : Nat) (G : gr_T) (t : Std.Format) : Prop := ∀ q b k, cy_L o w s1 s2 t none q → (∀ q' l, yl_lab t none q b q' l → LAB q' l) → (∀ pr z, yl_inn t false q pr z → INN pr z) → hg_R G t b k → re_R o s1 LAB m (q + tr_len t) k →
    re_R o s1 LAB m q (tr_ent t b k) ∧ ∀ q' l, yl_lab t none q b q' l → lc_R o w s1 s2 LAB INN m G false q' l
def yr_B (o w s1 s2 : Nat → Nat) (LAB INN : Nat → Nat → Prop) (m : Nat) (G : gr_T) (t : Std.Format) : Prop := ∀ q b k h e Lz, cy_L o w s1 s2 t (some e) q → (∀ q' l, yl_lab t (some h) q b q' l → LAB q' l) → (∀ pr z, yl_inn t true q pr z → INN pr z) → hg_R G t b k → re_R o s1 LAB m e k →
    ch_R o s1 s2 LAB INN m false (yl_ls t q) (q + tr_len t + 2) Lz → G.1 h = 3 → G.2.2 h = tr_alt t b k ++ Lz → ∀ q' l, yl_lab t (some h) q b q' l → lc_R o w s1 s2 LAB INN m G false q' l
theorem yr_N {t : Std.Format} (hN : yl_N t) (hA : yr_A o w s1 s2 LAB INN m G t) : yr_A o w s1 s2 LAB INN m G t ∧ yr_B o w s1 s2 LAB INN m G t := by
  refine ⟨hA, ?_⟩
  intro q b k h e Lz hc hL hI hg hr hz hk hn q' l hl
  obtain ⟨n1, n2, n3, n4, n5⟩ := hN
  obtain ⟨c1, c2, c3, c4, c5, c6⟩ := (n5 o w s1 s2 e q).mp hc
  obtain ⟨a1, a2⟩ := hA (q + 1) b k c4 (fun q' l h' => hL q' l ((n1 h q b q' l).mpr (Or.inr h'))) (fun pr z h' => hI pr z ((n2 q pr z).mpr h')) hg (re_j c5 c6 hr)
  rw [n4] at hz
  rw [n3] at hn
  rcases (n1 h q b q' l).mp hl with ⟨rfl, rfl⟩ | hl
  · exact lc_twY c1 hk c2 c3 a1 hz hn
  · exact a2 q' l hl
theorem yr_main : ∀ t, yr_A o w s1 s2 LAB INN m G t ∧ yr_B o w s1 s2 LAB INN m G t := by
  intro t
  induction t using tr_ind with
  | h0 => exact yr_N yl_N0 (fun q b k hc hL hI hg hr => ⟨hr, fun q' l h => h.elim⟩)
  | h1 =>
    refine yr_N yl_N1 (fun q b k hc hL hI hg hr => ?_)
    refine ⟨re_lab (hL q b ⟨rfl, rfl⟩), fun q' l h => ?_⟩
    obtain ⟨rfl, rfl⟩ := h
    obtain ⟨g1, g2, g3⟩ := hg_k hg (Nat.le_refl l) (Nat.lt_succ_self l) rfl
    obtain ⟨c1, c2⟩ := hc
    exact lc_one (c1.trans g1.symm) (Or.inr (Or.inl c1)) (fun z => by omega) c2 hr g3
  | h2 _ =>
    refine yr_N yl_N2 (fun q b k hc hL hI hg hr => ?_)
    refine ⟨re_lab (hL q b ⟨rfl, rfl⟩), fun q' l h => ?_⟩
    obtain ⟨rfl, rfl⟩ := h
    obtain ⟨g1, g2, g3⟩ := hg_k hg (Nat.le_refl l) (Nat.lt_succ_self l) rfl
    obtain ⟨c1, c2⟩ := hc
    exact lc_one (c1.trans g1.symm) (Or.inr (Or.inr (Or.inl c1))) (fun z => by omega) c2 hr g3
  | h3 s => exact yr_N yl_N3 (fun q b k hc hL hI hg hr => ⟨hr, fun q' l h => h.elim⟩)
  | h4 i f =>
    refine yr_N yl_N4 (fun q b k hc hL hI hg hr => ?_)
    refine ⟨re_lab (hL q b ⟨rfl, rfl⟩), fun q' l h => ?_⟩
    obtain ⟨rfl, rfl⟩ := h
    obtain ⟨g1, g2, g3⟩ := hg_k hg (Nat.le_refl l) (Nat.lt_succ_self l) rfl
    obtain ⟨c1, c2, c3⟩ := hc
    exact lc_one (c1.trans g1.symm) (Or.inl c1) (fun z => c2.trans g2.symm) c3 hr g3
  | h5 a c ha hc' =>
    refine yr_N yl_N5 (fun q b k hc hL hI hg hr => ?_)
    obtain ⟨c1, c2⟩ := hc
    rw [tr_len_app, ← Nat.add_assoc] at hr
    obtain ⟨b1, b3⟩ := hc'.1 _ _ k c2 (fun q' l h => hL q' l (Or.inr h)) (fun pr z h => hI pr z (Or.inr h)) (hg_app2 hg) hr
    obtain ⟨a1, a3⟩ := ha.1 _ _ _ c1 (fun q' l h => hL q' l (Or.inl h)) (fun pr z h => hI pr z (Or.inl h)) (hg_app1 hg) b1
    exact ⟨a1, fun q' l h => h.elim (a3 q' l) (b3 q' l)⟩
  | h6 a c f ha hc' =>
    refine ⟨fun q b k hc hL hI hg hr => ?_, fun q b k h e Lz hc hL hI hg hr hz hk hn => ?_⟩
    · obtain ⟨c1, c2⟩ := hc
      have hr : re_R o s1 LAB m (q + tr_len a + 2 + tr_len c) k := by
        rw [tr_len_alt, show q + (tr_len a + tr_len c + 2) = q + tr_len a + 2 + tr_len c by omega] at hr
        exact hr
      obtain ⟨b1, b3⟩ := hc'.1 _ _ k c2 (fun q' l h => hL q' l (Or.inr h)) (fun pr z h => hI pr z (Or.inr h)) (hg_alt2 hg) hr
      obtain ⟨g1, g2, g3⟩ := hg_alt0 hg
      have a3 := ha.2 q (b + 1) k b (q + tr_len a + 2 + tr_len c) [tr_ent c (b + tr_len a + 2) k] c1 (fun q' l h => hL q' l (Or.inl h)) (fun pr z h => hI pr z (Or.inl h)) (hg_alt1 hg) hr (ch_re b1) g1 g3
      refine ⟨?_, fun q' l h => h.elim (a3 q' l) (b3 q' l)⟩
      refine re_lab (hL q b (Or.inl ?_))
      exact yl_hd a b q (b + 1)
    · obtain ⟨c1, c2, c3, c4, c5, c6, c7⟩ := hc
      obtain ⟨b1, b3⟩ := hc'.1 _ _ k c5 (fun q' l h => hL q' l (Or.inr h)) (fun pr z h => hI pr z (Or.inr (Or.inr h))) (hg_alt2 hg) (re_j c6 c7 hr)
      have hz : ch_R o s1 s2 LAB INN m false (q + tr_len a + 2) (q + tr_len a + 4 + tr_len c) Lz := by
        rw [tr_len_alt, show q + (tr_len a + tr_len c + 2) + 2 = q + tr_len a + 4 + tr_len c by omega] at hz
        exact hz
      have hz2 : ch_R o s1 s2 LAB INN m false (yl_ls a q) (q + tr_len a + 2) ([tr_ent c (b + tr_len a + 2) k] ++ Lz) := by
        refine ch_inY (hI _ _ (Or.inr (Or.inl ⟨rfl, rfl⟩))) c2 ?_ ?_
        · rw [c3]; exact b1
        · rw [c4]; exact hz
      have hn : G.2.2 h = tr_alt a (b + 1) k ++ ([tr_ent c (b + tr_len a + 2) k] ++ Lz) := by
        rw [hn, ← List.append_assoc]; rfl
      have a3 := ha.2 q (b + 1) k h e _ c1 (fun q' l h => hL q' l (Or.inl h)) (fun pr z h => hI pr z (Or.inl h)) (hg_alt1 hg) hr hz2 hk hn
      exact fun q' l h => h.elim (a3 q' l) (b3 q' l)
  | h7 f c hf =>
    refine yr_N (yl_N7 hf) (fun q b k hc hL hI hg hr => ?_)
    cases f <;> first | exact ⟨hr, fun q' l h => h.elim⟩ | exact absurd rfl (hf _ _)
  | h8 t a ha =>
    refine yr_N yl_N8 (fun q b k hc hL hI hg hr => ?_)
    have R : re_R o s1 LAB m q b := re_lab (hL q b (Or.inl ⟨rfl, rfl⟩))
    refine ⟨R, fun q' l h => ?_⟩
    have hLa : ∀ q' l, yl_lab a none (q + 1) (b + 1) q' l → LAB q' l := fun q' l h => hL q' l (Or.inr (Or.inl h))
    have hIa : ∀ pr z, yl_inn a false (q + 1) pr z → INN pr z := fun pr z h => hI pr z h
    unfold cy_L cy_w at hc
    dsimp only at hc
    by_cases t1 : t ≤ 1
    · rw [if_pos t1] at hc
      obtain ⟨c1, c2, c3, c4, c5, c6⟩ := hc
      obtain ⟨a1, a3⟩ := ha.1 (q + 1) (b + 1) b c4 hLa hIa (hg_st1 t1 hg) (re_j c5 c6 R)
      rcases h with ⟨rfl, rfl⟩ | h | ⟨h, _⟩
      · obtain ⟨g1, g2, g3⟩ := hg_st0 t1 hg
        rw [tr_len_st t1] at hr
        by_cases t0 : t = 0
        · rw [if_pos t0] at c2 c3 g3
          exact lc_twY c1 g1 c2 c3 a1 (ch_re hr) g3
        · rw [if_neg t0] at c2 c3 g3
          exact lc_twY c1 g1 c2 c3 hr (ch_re a1) g3
      · exact a3 q' l h
      · omega
    · rw [if_neg t1] at hc
      by_cases t3 : t ≤ 3
      · rw [if_pos t3] at hc
        obtain ⟨c1, c2, c3, c4⟩ := hc
        rw [tr_len_op t1 t3] at hr
        have hr : re_R o s1 LAB m (q + tr_len a + 1) k := hr
        obtain ⟨a1, a3⟩ := ha.1 (q + 1) (b + 1) k c4 hLa hIa (hg_op1 t1 t3 hg) (by rw [show q + 1 + tr_len a = q + tr_len a + 1 by omega]; exact hr)
        rcases h with ⟨rfl, rfl⟩ | h | ⟨h, _⟩
        · obtain ⟨g1, g2, g3⟩ := hg_op0 t1 t3 hg
          by_cases t0 : t = 2
          · rw [if_pos t0] at c2 c3 g3
            exact lc_twY c1 g1 c2 c3 a1 (ch_re hr) g3
          · rw [if_neg t0] at c2 c3 g3
            exact lc_twY c1 g1 c2 c3 hr (ch_re a1) g3
        · exact a3 q' l h
        · omega
      · rw [if_neg t3] at hc
        obtain ⟨c1, c2, c3, c4, c5, c6, c7⟩ := hc
        rw [tr_len_gr t1 t3] at hr
        have hr : re_R o s1 LAB m (q + tr_len a + 2) k := hr
        obtain ⟨a1, a3⟩ := ha.1 (q + 1) (b + 1) (b + 1 + tr_len a) c4 hLa hIa (hg_gr1 t1 t3 hg) (re_lab (hL _ _ (Or.inr (Or.inr ⟨by omega, rfl, rfl⟩))))
        rcases h with ⟨rfl, rfl⟩ | h | ⟨_, rfl, rfl⟩
        · obtain ⟨g1, g2, g3⟩ := hg_gr0 t1 t3 hg
          exact lc_one (c1.trans g1.symm) (Or.inr (Or.inr (Or.inr c1))) (fun z => c2.trans g2.symm) c3 a1 g3
        · exact a3 q' l h
        · obtain ⟨g1, g2, g3⟩ := hg_gr2 t1 t3 hg
          exact lc_one (c5.trans g1.symm) (Or.inr (Or.inr (Or.inr c5))) (fun z => c6.trans g2.symm) (by rw [c7]; omega) (by rw [show q + 1 + tr_len a + 1 = q + tr_len a + 2 by omega]; exact hr) g3
end YRQ
end
section
section NUM
/-! numbers: bytes, shorts, bits -/
theorem mn_b : ∀ p : Fin 128, vp_nar .byte (nI p.val).toInt8.toInt32 = nI p.val ∧ vp_nar .byte (nI p.val) = nI p.val := by decide +kernel
theorem mn_b1 {p : Nat} (h : p < 128) : vp_nar .byte (nI p).toInt8.toInt32 = nI p := (mn_b ⟨p, h⟩).1
theorem mn_b0 {p : Nat} (h : p < 128) : vp_nar .byte (nI p) = nI p := (mn_b ⟨p, h⟩).2
theorem mn_s : ∀ p : Fin 1000, vp_nar .short (nI p.val).toInt16.toInt32 = nI p.val := by decide +kernel
theorem mn_s1 {p : Nat} (h : p < 1000) : vp_nar .short (nI p).toInt16.toInt32 = nI p := mn_s ⟨p, h⟩
theorem mn_sm : ∀ p : Fin 8, vp_nar .short (-(nI p.val)).toInt16.toInt32 = -(nI p.val) := by decide +kernel
theorem mn_bm : vp_nar .byte (-1 : Int32).toInt8.toInt32 = -1 ∧ vp_nar .byte (-1) = -1 ∧ vp_nar .short (-1) = -1 ∧ vp_nar .short (-1 : Int32).toInt16.toInt32 = -1 := by decide +kernel
theorem mn_t : vp_nar .boolean 0 = 0 ∧ vp_nar .boolean 1 = 1 := by decide +kernel
theorem mn_or (a b : Nat) : nI a ||| nI b = nI (a ||| b) := by
  apply Int32.toBitVec_inj.mp
  rw [Int32.toBitVec_or]
  show BitVec.ofNat 32 a ||| BitVec.ofNat 32 b = BitVec.ofNat 32 (a ||| b)
  exact BitVec.ofNat_or.symm
theorem mn_1s : ∀ k : Fin 31, (1 : Int32) <<< (nI k.val &&& 31) = nI (2 ^ k.val) := by decide +kernel
theorem mn_sh1 {k : Nat} (h : k < 31) : (1 : Int32) <<< (nI k &&& 31) = nI (2 ^ k) := mn_1s ⟨k, h⟩
theorem mn_tb : ∀ w : Fin 128, ∀ c : Fin 8, (((nI w.val) >>> (nI c.val &&& 31)) &&& 1 = 1 ↔ w.val.testBit c.val = true) ∧ (((nI w.val) >>> (nI c.val &&& 31)) &&& 1 = 0 ↔ ¬ w.val.testBit c.val = true) := by decide +kernel
theorem mn_tb1 {w c : Nat} (hw : w < 128) (hc : c < 8) : ((nI w) >>> (nI c &&& 31)) &&& 1 = 1 ↔ w.testBit c = true := (mn_tb ⟨w, hw⟩ ⟨c, hc⟩).1
theorem mn_tb0 {w c : Nat} (hw : w < 128) (hc : c < 8) : ((nI w) >>> (nI c &&& 31)) &&& 1 = 0 ↔ ¬ w.testBit c = true := (mn_tb ⟨w, hw⟩ ⟨c, hc⟩).2
theorem mn_ne {x : Int32} {a b : Nat} (hx : x = nI a) (h : a ≠ b) (ha : a < 2 ^ 31) (hb : b < 2 ^ 31) : ¬ x = nI b := by
  rw [hx]; exact fun z => h ((nI_eq ha hb).mp z)
theorem mn_or128 {a b : Nat} (ha : a < 128) (hb : b < 128) : a ||| b < 128 := Nat.or_lt_two_pow (n := 7) ha hb
theorem mn_neg1 : (-1 : Int32) < 0 := by decide
end NUM
end
section
section XRE
variable {f_count f_place f_there f_length f_nodes f_level f_groups f_size f_tasks f_threads f_added f_bank f_matchFrom f_matchNotes f_found f_states f_flushed : Int32} {a_tok a_val a_text a_nKind a_nC a_nA a_nB a_nSize a_lAlt a_lSeq a_lAtom a_lGroup a_op a_x a_y a_prefersPast a_tNode a_tArg a_pc a_newPc a_from a_noted a_notes a_seen a_stack a_stackNotes a_best a_kPc a_kCount a_kFlags a_next a_kMatch a_kMatchNotes a_kFrom a_kNotes : Nat → Int32}
variable {post : Int32 → SX → Prop} {x2 x4 x5 : Int32} {f n p mk k : Nat}
/-! one turn of reach's loop, case by case -/
theorem xe_0 (h : post 0 (f_count, f_place, f_there, f_length, f_nodes, f_level, f_groups, f_size, f_tasks, f_threads, nI k, f_bank, f_matchFrom, f_matchNotes, f_found, f_states, f_flushed, a_tok, a_val, a_text, a_nKind, a_nC, a_nA, a_nB, a_nSize, a_lAlt, a_lSeq, a_lAtom, a_lGroup, a_op, a_x, a_y, a_prefersPast, a_tNode, a_tArg, a_pc, a_newPc, a_from, a_noted, a_notes, a_seen, a_stack, a_stackNotes, a_best, a_kPc, a_kCount, a_kFlags, a_next, a_kMatch, a_kMatchNotes, a_kFrom, a_kNotes)) : wX_reach_24 post x2 x4 x5 f_count f_place f_there f_length f_nodes f_level f_groups f_size f_tasks f_threads f_bank f_matchFrom f_matchNotes f_found f_states f_flushed (f + 1) (nI 0) (nI k) a_tok a_val a_text a_nKind a_nC a_nA a_nB a_nSize a_lAlt a_lSeq a_lAtom a_lGroup a_op a_x a_y a_prefersPast a_tNode a_tArg a_pc a_newPc a_from a_noted a_notes a_seen a_stack a_stackNotes a_best a_kPc a_kCount a_kFlags a_next a_kMatch a_kMatchNotes a_kFrom a_kNotes :=
  br_t (by decide) h
theorem xe_s (hn : n < 120) (hp : p < 110) (e1 : a_stack n = nI p) (hs : ¬ a_seen p = 0)
    (h : wX_reach_24 post x2 x4 x5 f_count f_place f_there f_length f_nodes f_level f_groups f_size f_tasks f_threads f_bank f_matchFrom f_matchNotes f_found f_states f_flushed f (nI n) (nI k) a_tok a_val a_text a_nKind a_nC a_nA a_nB a_nSize a_lAlt a_lSeq a_lAtom a_lGroup a_op a_x a_y a_prefersPast a_tNode a_tArg a_pc a_newPc a_from a_noted a_notes a_seen a_stack a_stackNotes a_best a_kPc a_kCount a_kFlags a_next a_kMatch a_kMatchNotes a_kFrom a_kNotes) :
    wX_reach_24 post x2 x4 x5 f_count f_place f_there f_length f_nodes f_level f_groups f_size f_tasks f_threads f_bank f_matchFrom f_matchNotes f_found f_states f_flushed (f + 1) (nI (n + 1)) (nI k) a_tok a_val a_text a_nKind a_nC a_nA a_nB a_nSize a_lAlt a_lSeq a_lAtom a_lGroup a_op a_x a_y a_prefersPast a_tNode a_tArg a_pc a_newPc a_from a_noted a_notes a_seen a_stack a_stackNotes a_best a_kPc a_kCount a_kFlags a_next a_kMatch a_kMatchNotes a_kFrom a_kNotes := by
  have c1 : (nI n).toNatClampNeg = n := nI_clamp (by omega)
  have c2 : (nI p).toNatClampNeg = p := nI_clamp (by omega)
  refine br_f (nI_nle (by omega) (by omega)) (nm_r (pk_m1 n) ⟨vp_in_nI hn (by omega), nm_r (e' := nI p) (by rw [c1]; exact e1) ⟨vp_in_nI hn (by omega), nm_e ⟨vp_in_nI hp (by omega), ?_⟩⟩⟩)
  rw [c2]
  exact br_f hs h
section XRF
theorem xe_t (hn : n < 120) (hp : p < 110) (hm : mk < 128) (e1 : a_stack n = nI p) (e2 : a_stackNotes n = nI mk) (hs : a_seen p = 0) (hk : k < 36) (ho : a_op p = 0) {s : Nat} (h2 : x2 = nI s) (hs2 : s < 128)
    (h : wX_reach_24 post x2 x4 x5 f_count f_place f_there f_length f_nodes f_level f_groups f_size f_tasks f_threads f_bank f_matchFrom f_matchNotes f_found f_states f_flushed f (nI n) (nI (k + 1)) a_tok a_val a_text a_nKind a_nC a_nA a_nB a_nSize a_lAlt a_lSeq a_lAtom a_lGroup a_op a_x a_y a_prefersPast a_tNode a_tArg a_pc (upd a_newPc k (nI p)) (upd a_from k (nI s)) (upd a_noted k (nI mk)) a_notes (upd a_seen p 1) a_stack a_stackNotes a_best a_kPc a_kCount a_kFlags a_next a_kMatch a_kMatchNotes a_kFrom a_kNotes) :
    wX_reach_24 post x2 x4 x5 f_count f_place f_there f_length f_nodes f_level f_groups f_size f_tasks f_threads f_bank f_matchFrom f_matchNotes f_found f_states f_flushed (f + 1) (nI (n + 1)) (nI k) a_tok a_val a_text a_nKind a_nC a_nA a_nB a_nSize a_lAlt a_lSeq a_lAtom a_lGroup a_op a_x a_y a_prefersPast a_tNode a_tArg a_pc a_newPc a_from a_noted a_notes a_seen a_stack a_stackNotes a_best a_kPc a_kCount a_kFlags a_next a_kMatch a_kMatchNotes a_kFrom a_kNotes := by
  have c1 : (nI n).toNatClampNeg = n := nI_clamp (by omega)
  have c2 : (nI p).toNatClampNeg = p := nI_clamp (by omega)
  have c3 : (nI k).toNatClampNeg = k := nI_clamp (by omega)
  refine br_f (nI_nle (by omega) (by omega)) (nm_r (pk_m1 n) ⟨vp_in_nI hn (by omega), nm_r (e' := nI p) (by rw [c1]; exact e1) ⟨vp_in_nI hn (by omega), nm_r (e' := nI mk) (by rw [c1]; exact e2) ⟨vp_in_nI hp (by omega), ?_⟩⟩⟩)
  subst h2
  rw [c2, c3, mn_b1 (by omega), mn_b1 hm, mn_b1 hs2, mn_t.2]
  exact br_t hs ⟨vp_in_nI hp (by omega), nm_e ⟨vp_in_nI hp (by omega), nm_r ho (br_f (by decide) (br_f (by decide) (br_t rfl ⟨vp_in_nI hk (by omega), nm_e ⟨vp_in_nI hk (by omega), nm_e (nm_r (nI_1 k) ⟨vp_in_nI hk (by omega), nm_e (br_t mn_neg1 (br_t mn_neg1 h))⟩)⟩⟩)))⟩⟩
/-- the match, taken -/
theorem xe_m1 (hn : n < 120) (hp : p < 110) (hm : mk < 128) (e1 : a_stack n = nI p) (e2 : a_stackNotes n = nI mk) (hs : a_seen p = 0) (ho : a_op p = 6) (ha : (x4 &&& 2) = 0 ∨ f_length ≤ x5)
    (h : post 1 (f_count, f_place, f_there, f_length, f_nodes, f_level, f_groups, f_size, f_tasks, f_threads, nI k, f_bank, x2, nI mk, f_found, f_states, f_flushed, a_tok, a_val, a_text, a_nKind, a_nC, a_nA, a_nB, a_nSize, a_lAlt, a_lSeq, a_lAtom, a_lGroup, a_op, a_x, a_y, a_prefersPast, a_tNode, a_tArg, a_pc, a_newPc, a_from, a_noted, a_notes, upd a_seen p 1, a_stack, a_stackNotes, a_best, a_kPc, a_kCount, a_kFlags, a_next, a_kMatch, a_kMatchNotes, a_kFrom, a_kNotes)) :
    wX_reach_24 post x2 x4 x5 f_count f_place f_there f_length f_nodes f_level f_groups f_size f_tasks f_threads f_bank f_matchFrom f_matchNotes f_found f_states f_flushed (f + 1) (nI (n + 1)) (nI k) a_tok a_val a_text a_nKind a_nC a_nA a_nB a_nSize a_lAlt a_lSeq a_lAtom a_lGroup a_op a_x a_y a_prefersPast a_tNode a_tArg a_pc a_newPc a_from a_noted a_notes a_seen a_stack a_stackNotes a_best a_kPc a_kCount a_kFlags a_next a_kMatch a_kMatchNotes a_kFrom a_kNotes := by
  have c1 : (nI n).toNatClampNeg = n := nI_clamp (by omega)
  have c2 : (nI p).toNatClampNeg = p := nI_clamp (by omega)
  refine br_f (nI_nle (by omega) (by omega)) (nm_r (pk_m1 n) ⟨vp_in_nI hn (by omega), nm_r (e' := nI p) (by rw [c1]; exact e1) ⟨vp_in_nI hn (by omega), nm_r (e' := nI mk) (by rw [c1]; exact e2) ⟨vp_in_nI hp (by omega), ?_⟩⟩⟩)
  rw [c2, mn_t.2]
  refine br_t hs ⟨vp_in_nI hp (by omega), nm_e ⟨vp_in_nI hp (by omega), nm_r ho (br_f (by decide) (br_t (by decide) ?_))⟩⟩
  by_cases z : (x4 &&& 2) = 0
  · exact br_t z h
  · exact br_f z (br_t (ha.resolve_left z) h)
theorem xe_m0 (hn : n < 120) (hp : p < 110) (hm : mk < 128) (e1 : a_stack n = nI p) (e2 : a_stackNotes n = nI mk) (hs : a_seen p = 0) (ho : a_op p = 6) (ha : ¬ (x4 &&& 2) = 0) (ha2 : ¬ f_length ≤ x5)
    (h : wX_reach_24 post x2 x4 x5 f_count f_place f_there f_length f_nodes f_level f_groups f_size f_tasks f_threads f_bank f_matchFrom f_matchNotes f_found f_states f_flushed f (nI n) (nI k) a_tok a_val a_text a_nKind a_nC a_nA a_nB a_nSize a_lAlt a_lSeq a_lAtom a_lGroup a_op a_x a_y a_prefersPast a_tNode a_tArg a_pc a_newPc a_from a_noted a_notes (upd a_seen p 1) a_stack a_stackNotes a_best a_kPc a_kCount a_kFlags a_next a_kMatch a_kMatchNotes a_kFrom a_kNotes) :
    wX_reach_24 post x2 x4 x5 f_count f_place f_there f_length f_nodes f_level f_groups f_size f_tasks f_threads f_bank f_matchFrom f_matchNotes f_found f_states f_flushed (f + 1) (nI (n + 1)) (nI k) a_tok a_val a_text a_nKind a_nC a_nA a_nB a_nSize a_lAlt a_lSeq a_lAtom a_lGroup a_op a_x a_y a_prefersPast a_tNode a_tArg a_pc a_newPc a_from a_noted a_notes a_seen a_stack a_stackNotes a_best a_kPc a_kCount a_kFlags a_next a_kMatch a_kMatchNotes a_kFrom a_kNotes := by
  have c1 : (nI n).toNatClampNeg = n := nI_clamp (by omega)
  have c2 : (nI p).toNatClampNeg = p := nI_clamp (by omega)
  refine br_f (nI_nle (by omega) (by omega)) (nm_r (pk_m1 n) ⟨vp_in_nI hn (by omega), nm_r (e' := nI p) (by rw [c1]; exact e1) ⟨vp_in_nI hn (by omega), nm_r (e' := nI mk) (by rw [c1]; exact e2) ⟨vp_in_nI hp (by omega), ?_⟩⟩⟩)
  rw [c2, mn_t.2]
  exact br_t hs ⟨vp_in_nI hp (by omega), nm_e ⟨vp_in_nI hp (by omega), nm_r ho (br_f (by decide) (br_t (by decide) (br_f ha (br_f ha2 (br_t mn_neg1 (br_t mn_neg1 h))))))⟩⟩
/-- one way onward: v -/
theorem xe_go (hn : n < 120) {v : Nat} (hv : v < 128) (hm : mk < 128)
    (h : wX_reach_24 post x2 x4 x5 f_count f_place f_there f_length f_nodes f_level f_groups f_size f_tasks f_threads f_bank f_matchFrom f_matchNotes f_found f_states f_flushed f (nI (n + 1)) (nI k) a_tok a_val a_text a_nKind a_nC a_nA a_nB a_nSize a_lAlt a_lSeq a_lAtom a_lGroup a_op a_x a_y a_prefersPast a_tNode a_tArg a_pc a_newPc a_from a_noted a_notes a_seen (upd a_stack n (nI v)) (upd a_stackNotes n (nI mk)) a_best a_kPc a_kCount a_kFlags a_next a_kMatch a_kMatchNotes a_kFrom a_kNotes) :
    wX_reach_323 post (wX_reach_24 post x2 x4 x5 f_count f_place f_there f_length f_nodes f_level f_groups f_size f_tasks f_threads f_bank f_matchFrom f_matchNotes f_found f_states f_flushed f) x2 x4 x5 (nI n) (nI mk) (nI v) (-1) f_count f_place f_there f_length f_nodes f_level f_groups f_size f_tasks f_threads (nI k) f_bank f_matchFrom f_matchNotes f_found f_states f_flushed a_tok a_val a_text a_nKind a_nC a_nA a_nB a_nSize a_lAlt a_lSeq a_lAtom a_lGroup a_op a_x a_y a_prefersPast a_tNode a_tArg a_pc a_newPc a_from a_noted a_notes a_seen a_stack a_stackNotes a_best a_kPc a_kCount a_kFlags a_next a_kMatch a_kMatchNotes a_kFrom a_kNotes := by
  have c1 : (nI n).toNatClampNeg = n := nI_clamp (by omega)
  refine br_t mn_neg1 (br_f (nI_pos (by omega)) ⟨vp_in_nI hn (by omega), ?_⟩)
  rw [c1, mn_b1 hv, mn_b1 hm]
  exact nm_e (nm_r (nI_1 n) ⟨vp_in_nI hn (by omega), nm_e h⟩)
theorem xe_no (h : wX_reach_24 post x2 x4 x5 f_count f_place f_there f_length f_nodes f_level f_groups f_size f_tasks f_threads f_bank f_matchFrom f_matchNotes f_found f_states f_flushed f (nI n) (nI k) a_tok a_val a_text a_nKind a_nC a_nA a_nB a_nSize a_lAlt a_lSeq a_lAtom a_lGroup a_op a_x a_y a_prefersPast a_tNode a_tArg a_pc a_newPc a_from a_noted a_notes a_seen a_stack a_stackNotes a_best a_kPc a_kCount a_kFlags a_next a_kMatch a_kMatchNotes a_kFrom a_kNotes) :
    wX_reach_323 post (wX_reach_24 post x2 x4 x5 f_count f_place f_there f_length f_nodes f_level f_groups f_size f_tasks f_threads f_bank f_matchFrom f_matchNotes f_found f_states f_flushed f) x2 x4 x5 (nI n) (nI mk) (-1) (-1) f_count f_place f_there f_length f_nodes f_level f_groups f_size f_tasks f_threads (nI k) f_bank f_matchFrom f_matchNotes f_found f_states f_flushed a_tok a_val a_text a_nKind a_nC a_nA a_nB a_nSize a_lAlt a_lSeq a_lAtom a_lGroup a_op a_x a_y a_prefersPast a_tNode a_tArg a_pc a_newPc a_from a_noted a_notes a_seen a_stack a_stackNotes a_best a_kPc a_kCount a_kFlags a_next a_kMatch a_kMatchNotes a_kFrom a_kNotes :=
  br_t mn_neg1 (br_t mn_neg1 h)
theorem xe_go2 {v u : Nat} (hn1 : n + 1 < 120) (hv : v < 128) (hu : u < 128) (hm : mk < 128)
    (h : wX_reach_24 post x2 x4 x5 f_count f_place f_there f_length f_nodes f_level f_groups f_size f_tasks f_threads f_bank f_matchFrom f_matchNotes f_found f_states f_flushed f (nI (n + 2)) (nI k) a_tok a_val a_text a_nKind a_nC a_nA a_nB a_nSize a_lAlt a_lSeq a_lAtom a_lGroup a_op a_x a_y a_prefersPast a_tNode a_tArg a_pc a_newPc a_from a_noted a_notes a_seen (upd (upd a_stack n (nI u)) (n + 1) (nI v)) (upd (upd a_stackNotes n (nI mk)) (n + 1) (nI mk)) a_best a_kPc a_kCount a_kFlags a_next a_kMatch a_kMatchNotes a_kFrom a_kNotes) :
    wX_reach_323 post (wX_reach_24 post x2 x4 x5 f_count f_place f_there f_length f_nodes f_level f_groups f_size f_tasks f_threads f_bank f_matchFrom f_matchNotes f_found f_states f_flushed f) x2 x4 x5 (nI n) (nI mk) (nI v) (nI u) f_count f_place f_there f_length f_nodes f_level f_groups f_size f_tasks f_threads (nI k) f_bank f_matchFrom f_matchNotes f_found f_states f_flushed a_tok a_val a_text a_nKind a_nC a_nA a_nB a_nSize a_lAlt a_lSeq a_lAtom a_lGroup a_op a_x a_y a_prefersPast a_tNode a_tArg a_pc a_newPc a_from a_noted a_notes a_seen a_stack a_stackNotes a_best a_kPc a_kCount a_kFlags a_next a_kMatch a_kMatchNotes a_kFrom a_kNotes := by
  have c1 : (nI n).toNatClampNeg = n := nI_clamp (by omega)
  have c2 : (nI (n + 1)).toNatClampNeg = n + 1 := nI_clamp (by omega)
  refine br_f (nI_pos (by omega)) ⟨vp_in_nI (by omega) (by omega), ?_⟩
  rw [c1, mn_b1 hu, mn_b1 hm]
  refine nm_e (nm_r (nI_1 n) ⟨vp_in_nI (by omega) (by omega), nm_e (br_f (nI_pos (by omega)) ⟨vp_in_nI hn1 (by omega), ?_⟩)⟩)
  rw [c2, mn_b1 hv, mn_b1 hm]
  exact nm_e (nm_r (nI_1 (n + 1)) ⟨vp_in_nI hn1 (by omega), nm_e h⟩)
theorem xe_b1 (hn : n < 120) (hp : p < 110) (hm : mk < 128) (e1 : a_stack n = nI p) (e2 : a_stackNotes n = nI mk) (hs : a_seen p = 0) (ho : a_op p = 1) (h5 : x5 = 0)
    (h : wX_reach_24 post x2 x4 x5 f_count f_place f_there f_length f_nodes f_level f_groups f_size f_tasks f_threads f_bank f_matchFrom f_matchNotes f_found f_states f_flushed f (nI (n + 1)) (nI k) a_tok a_val a_text a_nKind a_nC a_nA a_nB a_nSize a_lAlt a_lSeq a_lAtom a_lGroup a_op a_x a_y a_prefersPast a_tNode a_tArg a_pc a_newPc a_from a_noted a_notes (upd a_seen p 1) (upd a_stack n (nI (p + 1))) (upd a_stackNotes n (nI mk)) a_best a_kPc a_kCount a_kFlags a_next a_kMatch a_kMatchNotes a_kFrom a_kNotes) :
    wX_reach_24 post x2 x4 x5 f_count f_place f_there f_length f_nodes f_level f_groups f_size f_tasks f_threads f_bank f_matchFrom f_matchNotes f_found f_states f_flushed (f + 1) (nI (n + 1)) (nI k) a_tok a_val a_text a_nKind a_nC a_nA a_nB a_nSize a_lAlt a_lSeq a_lAtom a_lGroup a_op a_x a_y a_prefersPast a_tNode a_tArg a_pc a_newPc a_from a_noted a_notes a_seen a_stack a_stackNotes a_best a_kPc a_kCount a_kFlags a_next a_kMatch a_kMatchNotes a_kFrom a_kNotes := by
  have c1 : (nI n).toNatClampNeg = n := nI_clamp (by omega)
  have c2 : (nI p).toNatClampNeg = p := nI_clamp (by omega)
  refine br_f (nI_nle (by omega) (by omega)) (nm_r (pk_m1 n) ⟨vp_in_nI hn (by omega), nm_r (e' := nI p) (by rw [c1]; exact e1) ⟨vp_in_nI hn (by omega), nm_r (e' := nI mk) (by rw [c1]; exact e2) ⟨vp_in_nI hp (by omega), ?_⟩⟩⟩)
  rw [c2, mn_t.2]
  exact br_t hs ⟨vp_in_nI hp (by omega), nm_e ⟨vp_in_nI hp (by omega), nm_r ho (br_f (by decide) (br_f (by decide) (br_f (by decide) (br_t rfl (br_t h5 (nm_r (nI_1 p) (xe_go hn (by omega) hm h)))))))⟩⟩
theorem xe_b0 (hn : n < 120) (hp : p < 110) (hm : mk < 128) (e1 : a_stack n = nI p) (e2 : a_stackNotes n = nI mk) (hs : a_seen p = 0) (ho : a_op p = 1) (h5 : ¬ x5 = 0)
    (h : wX_reach_24 post x2 x4 x5 f_count f_place f_there f_length f_nodes f_level f_groups f_size f_tasks f_threads f_bank f_matchFrom f_matchNotes f_found f_states f_flushed f (nI n) (nI k) a_tok a_val a_text a_nKind a_nC a_nA a_nB a_nSize a_lAlt a_lSeq a_lAtom a_lGroup a_op a_x a_y a_prefersPast a_tNode a_tArg a_pc a_newPc a_from a_noted a_notes (upd a_seen p 1) a_stack a_stackNotes a_best a_kPc a_kCount a_kFlags a_next a_kMatch a_kMatchNotes a_kFrom a_kNotes) :
    wX_reach_24 post x2 x4 x5 f_count f_place f_there f_length f_nodes f_level f_groups f_size f_tasks f_threads f_bank f_matchFrom f_matchNotes f_found f_states f_flushed (f + 1) (nI (n + 1)) (nI k) a_tok a_val a_text a_nKind a_nC a_nA a_nB a_nSize a_lAlt a_lSeq a_lAtom a_lGroup a_op a_x a_y a_prefersPast a_tNode a_tArg a_pc a_newPc a_from a_noted a_notes a_seen a_stack a_stackNotes a_best a_kPc a_kCount a_kFlags a_next a_kMatch a_kMatchNotes a_kFrom a_kNotes := by
  have c1 : (nI n).toNatClampNeg = n := nI_clamp (by omega)
  have c2 : (nI p).toNatClampNeg = p := nI_clamp (by omega)
  refine br_f (nI_nle (by omega) (by omega)) (nm_r (pk_m1 n) ⟨vp_in_nI hn (by omega), nm_r (e' := nI p) (by rw [c1]; exact e1) ⟨vp_in_nI hn (by omega), nm_r (e' := nI mk) (by rw [c1]; exact e2) ⟨vp_in_nI hp (by omega), ?_⟩⟩⟩)
  rw [c2, mn_t.2]
  exact br_t hs ⟨vp_in_nI hp (by omega), nm_e ⟨vp_in_nI hp (by omega), nm_r ho (br_f (by decide) (br_f (by decide) (br_f (by decide) (br_t rfl (br_f h5 (xe_no h))))))⟩⟩
theorem xe_e1 (hn : n < 120) (hp : p < 110) (hm : mk < 128) (e1 : a_stack n = nI p) (e2 : a_stackNotes n = nI mk) (hs : a_seen p = 0) (ho : a_op p = 2) (h5 : x5 = f_length)
    (h : wX_reach_24 post x2 x4 x5 f_count f_place f_there f_length f_nodes f_level f_groups f_size f_tasks f_threads f_bank f_matchFrom f_matchNotes f_found f_states f_flushed f (nI (n + 1)) (nI k) a_tok a_val a_text a_nKind a_nC a_nA a_nB a_nSize a_lAlt a_lSeq a_lAtom a_lGroup a_op a_x a_y a_prefersPast a_tNode a_tArg a_pc a_newPc a_from a_noted a_notes (upd a_seen p 1) (upd a_stack n (nI (p + 1))) (upd a_stackNotes n (nI mk)) a_best a_kPc a_kCount a_kFlags a_next a_kMatch a_kMatchNotes a_kFrom a_kNotes) :
    wX_reach_24 post x2 x4 x5 f_count f_place f_there f_length f_nodes f_level f_groups f_size f_tasks f_threads f_bank f_matchFrom f_matchNotes f_found f_states f_flushed (f + 1) (nI (n + 1)) (nI k) a_tok a_val a_text a_nKind a_nC a_nA a_nB a_nSize a_lAlt a_lSeq a_lAtom a_lGroup a_op a_x a_y a_prefersPast a_tNode a_tArg a_pc a_newPc a_from a_noted a_notes a_seen a_stack a_stackNotes a_best a_kPc a_kCount a_kFlags a_next a_kMatch a_kMatchNotes a_kFrom a_kNotes := by
  have c1 : (nI n).toNatClampNeg = n := nI_clamp (by omega)
  have c2 : (nI p).toNatClampNeg = p := nI_clamp (by omega)
  refine br_f (nI_nle (by omega) (by omega)) (nm_r (pk_m1 n) ⟨vp_in_nI hn (by omega), nm_r (e' := nI p) (by rw [c1]; exact e1) ⟨vp_in_nI hn (by omega), nm_r (e' := nI mk) (by rw [c1]; exact e2) ⟨vp_in_nI hp (by omega), ?_⟩⟩⟩)
  rw [c2, mn_t.2]
  exact br_t hs ⟨vp_in_nI hp (by omega), nm_e ⟨vp_in_nI hp (by omega), nm_r ho (br_f (by decide) (br_f (by decide) (br_f (by decide) (br_f (by decide) (br_t rfl (br_t h5 (nm_r (nI_1 p) (xe_go hn (by omega) hm h))))))))⟩⟩
theorem xe_e0 (hn : n < 120) (hp : p < 110) (hm : mk < 128) (e1 : a_stack n = nI p) (e2 : a_stackNotes n = nI mk) (hs : a_seen p = 0) (ho : a_op p = 2) (h5 : ¬ x5 = f_length)
    (h : wX_reach_24 post x2 x4 x5 f_count f_place f_there f_length f_nodes f_level f_groups f_size f_tasks f_threads f_bank f_matchFrom f_matchNotes f_found f_states f_flushed f (nI n) (nI k) a_tok a_val a_text a_nKind a_nC a_nA a_nB a_nSize a_lAlt a_lSeq a_lAtom a_lGroup a_op a_x a_y a_prefersPast a_tNode a_tArg a_pc a_newPc a_from a_noted a_notes (upd a_seen p 1) a_stack a_stackNotes a_best a_kPc a_kCount a_kFlags a_next a_kMatch a_kMatchNotes a_kFrom a_kNotes) :
    wX_reach_24 post x2 x4 x5 f_count f_place f_there f_length f_nodes f_level f_groups f_size f_tasks f_threads f_bank f_matchFrom f_matchNotes f_found f_states f_flushed (f + 1) (nI (n + 1)) (nI k) a_tok a_val a_text a_nKind a_nC a_nA a_nB a_nSize a_lAlt a_lSeq a_lAtom a_lGroup a_op a_x a_y a_prefersPast a_tNode a_tArg a_pc a_newPc a_from a_noted a_notes a_seen a_stack a_stackNotes a_best a_kPc a_kCount a_kFlags a_next a_kMatch a_kMatchNotes a_kFrom a_kNotes := by
  have c1 : (nI n).toNatClampNeg = n := nI_clamp (by omega)
  have c2 : (nI p).toNatClampNeg = p := nI_clamp (by omega)
  refine br_f (nI_nle (by omega) (by omega)) (nm_r (pk_m1 n) ⟨vp_in_nI hn (by omega), nm_r (e' := nI p) (by rw [c1]; exact e1) ⟨vp_in_nI hn (by omega), nm_r (e' := nI mk) (by rw [c1]; exact e2) ⟨vp_in_nI hp (by omega), ?_⟩⟩⟩)
  rw [c2, mn_t.2]
  exact br_t hs ⟨vp_in_nI hp (by omega), nm_e ⟨vp_in_nI hp (by omega), nm_r ho (br_f (by decide) (br_f (by decide) (br_f (by decide) (br_f (by decide) (br_t rfl (br_f h5 (xe_no h)))))))⟩⟩
theorem xe_p0 (hn : n < 120) (hp : p < 110) (hm : mk < 128) (e1 : a_stack n = nI p) (e2 : a_stackNotes n = nI mk) (hs : a_seen p = 0) {v : Nat} (hn1 : n + 1 < 120) (hv : v < 128) (ho : a_op p = 3) (hy : a_y p = nI v) (hpp : a_prefersPast p = 0)
    (h : wX_reach_24 post x2 x4 x5 f_count f_place f_there f_length f_nodes f_level f_groups f_size f_tasks f_threads f_bank f_matchFrom f_matchNotes f_found f_states f_flushed f (nI (n + 2)) (nI k) a_tok a_val a_text a_nKind a_nC a_nA a_nB a_nSize a_lAlt a_lSeq a_lAtom a_lGroup a_op a_x a_y a_prefersPast a_tNode a_tArg a_pc a_newPc a_from a_noted a_notes (upd a_seen p 1) (upd (upd a_stack n (nI v)) (n + 1) (nI (p + 1))) (upd (upd a_stackNotes n (nI mk)) (n + 1) (nI mk)) a_best a_kPc a_kCount a_kFlags a_next a_kMatch a_kMatchNotes a_kFrom a_kNotes) :
    wX_reach_24 post x2 x4 x5 f_count f_place f_there f_length f_nodes f_level f_groups f_size f_tasks f_threads f_bank f_matchFrom f_matchNotes f_found f_states f_flushed (f + 1) (nI (n + 1)) (nI k) a_tok a_val a_text a_nKind a_nC a_nA a_nB a_nSize a_lAlt a_lSeq a_lAtom a_lGroup a_op a_x a_y a_prefersPast a_tNode a_tArg a_pc a_newPc a_from a_noted a_notes a_seen a_stack a_stackNotes a_best a_kPc a_kCount a_kFlags a_next a_kMatch a_kMatchNotes a_kFrom a_kNotes := by
  have c1 : (nI n).toNatClampNeg = n := nI_clamp (by omega)
  have c2 : (nI p).toNatClampNeg = p := nI_clamp (by omega)
  refine br_f (nI_nle (by omega) (by omega)) (nm_r (pk_m1 n) ⟨vp_in_nI hn (by omega), nm_r (e' := nI p) (by rw [c1]; exact e1) ⟨vp_in_nI hn (by omega), nm_r (e' := nI mk) (by rw [c1]; exact e2) ⟨vp_in_nI hp (by omega), ?_⟩⟩⟩)
  rw [c2, mn_t.2]
  refine br_t hs ⟨vp_in_nI hp (by omega), nm_e ⟨vp_in_nI hp (by omega), nm_r ho (br_f (by decide) (br_f (by decide) (br_f (by decide) (br_f (by decide) (br_f (by decide) (br_t rfl ⟨vp_in_nI hp (by omega), br_t hpp ⟨vp_in_nI hp (by omega), ?_⟩⟩))))))⟩⟩
  rw [c2, nI_1 p, hy]
  exact br_t hpp ⟨vp_in_nI hp (by omega), xe_go2 hn1 (by omega) hv hm h⟩
theorem xe_p1 (hn : n < 120) (hp : p < 110) (hm : mk < 128) (e1 : a_stack n = nI p) (e2 : a_stackNotes n = nI mk) (hs : a_seen p = 0) {v : Nat} (hn1 : n + 1 < 120) (hv : v < 128) (ho : a_op p = 3) (hy : a_y p = nI v) (hpp : ¬ a_prefersPast p = 0)
    (h : wX_reach_24 post x2 x4 x5 f_count f_place f_there f_length f_nodes f_level f_groups f_size f_tasks f_threads f_bank f_matchFrom f_matchNotes f_found f_states f_flushed f (nI (n + 2)) (nI k) a_tok a_val a_text a_nKind a_nC a_nA a_nB a_nSize a_lAlt a_lSeq a_lAtom a_lGroup a_op a_x a_y a_prefersPast a_tNode a_tArg a_pc a_newPc a_from a_noted a_notes (upd a_seen p 1) (upd (upd a_stack n (nI (p + 1))) (n + 1) (nI v)) (upd (upd a_stackNotes n (nI mk)) (n + 1) (nI mk)) a_best a_kPc a_kCount a_kFlags a_next a_kMatch a_kMatchNotes a_kFrom a_kNotes) :
    wX_reach_24 post x2 x4 x5 f_count f_place f_there f_length f_nodes f_level f_groups f_size f_tasks f_threads f_bank f_matchFrom f_matchNotes f_found f_states f_flushed (f + 1) (nI (n + 1)) (nI k) a_tok a_val a_text a_nKind a_nC a_nA a_nB a_nSize a_lAlt a_lSeq a_lAtom a_lGroup a_op a_x a_y a_prefersPast a_tNode a_tArg a_pc a_newPc a_from a_noted a_notes a_seen a_stack a_stackNotes a_best a_kPc a_kCount a_kFlags a_next a_kMatch a_kMatchNotes a_kFrom a_kNotes := by
  have c1 : (nI n).toNatClampNeg = n := nI_clamp (by omega)
  have c2 : (nI p).toNatClampNeg = p := nI_clamp (by omega)
  refine br_f (nI_nle (by omega) (by omega)) (nm_r (pk_m1 n) ⟨vp_in_nI hn (by omega), nm_r (e' := nI p) (by rw [c1]; exact e1) ⟨vp_in_nI hn (by omega), nm_r (e' := nI mk) (by rw [c1]; exact e2) ⟨vp_in_nI hp (by omega), ?_⟩⟩⟩)
  rw [c2, mn_t.2]
  refine br_t hs ⟨vp_in_nI hp (by omega), nm_e ⟨vp_in_nI hp (by omega), nm_r ho (br_f (by decide) (br_f (by decide) (br_f (by decide) (br_f (by decide) (br_f (by decide) (br_t rfl ⟨vp_in_nI hp (by omega), br_f hpp ⟨vp_in_nI hp (by omega), vp_in_nI hp (by omega), ?_⟩⟩))))))⟩⟩
  rw [c2, nI_1 p, hy]
  exact br_f hpp (xe_go2 hn1 hv (by omega) hm h)
theorem xe_j (hn : n < 120) (hp : p < 110) (hm : mk < 128) (e1 : a_stack n = nI p) (e2 : a_stackNotes n = nI mk) (hs : a_seen p = 0) {v : Nat} (hv : v < 128) (ho : a_op p = 4) (hx : a_x p = nI v)
    (h : wX_reach_24 post x2 x4 x5 f_count f_place f_there f_length f_nodes f_level f_groups f_size f_tasks f_threads f_bank f_matchFrom f_matchNotes f_found f_states f_flushed f (nI (n + 1)) (nI k) a_tok a_val a_text a_nKind a_nC a_nA a_nB a_nSize a_lAlt a_lSeq a_lAtom a_lGroup a_op a_x a_y a_prefersPast a_tNode a_tArg a_pc a_newPc a_from a_noted a_notes (upd a_seen p 1) (upd a_stack n (nI v)) (upd a_stackNotes n (nI mk)) a_best a_kPc a_kCount a_kFlags a_next a_kMatch a_kMatchNotes a_kFrom a_kNotes) :
    wX_reach_24 post x2 x4 x5 f_count f_place f_there f_length f_nodes f_level f_groups f_size f_tasks f_threads f_bank f_matchFrom f_matchNotes f_found f_states f_flushed (f + 1) (nI (n + 1)) (nI k) a_tok a_val a_text a_nKind a_nC a_nA a_nB a_nSize a_lAlt a_lSeq a_lAtom a_lGroup a_op a_x a_y a_prefersPast a_tNode a_tArg a_pc a_newPc a_from a_noted a_notes a_seen a_stack a_stackNotes a_best a_kPc a_kCount a_kFlags a_next a_kMatch a_kMatchNotes a_kFrom a_kNotes := by
  have c1 : (nI n).toNatClampNeg = n := nI_clamp (by omega)
  have c2 : (nI p).toNatClampNeg = p := nI_clamp (by omega)
  refine br_f (nI_nle (by omega) (by omega)) (nm_r (pk_m1 n) ⟨vp_in_nI hn (by omega), nm_r (e' := nI p) (by rw [c1]; exact e1) ⟨vp_in_nI hn (by omega), nm_r (e' := nI mk) (by rw [c1]; exact e2) ⟨vp_in_nI hp (by omega), ?_⟩⟩⟩)
  rw [c2, mn_t.2]
  exact br_t hs ⟨vp_in_nI hp (by omega), nm_e ⟨vp_in_nI hp (by omega), nm_r ho (br_f (by decide) (br_f (by decide) (br_f (by decide) (br_f (by decide) (br_f (by decide) (br_f (by decide) (br_t rfl ⟨vp_in_nI hp (by omega), nm_r hx (xe_go hn hv hm h)⟩)))))))⟩⟩
theorem xe_n (hn : n < 120) (hp : p < 110) (hm : mk < 128) (e1 : a_stack n = nI p) (e2 : a_stackNotes n = nI mk) (hs : a_seen p = 0) {v : Nat} (hv : v < 7) (ho : a_op p = 5) (hx : a_x p = nI v)
    (h : wX_reach_24 post x2 x4 x5 f_count f_place f_there f_length f_nodes f_level f_groups f_size f_tasks f_threads f_bank f_matchFrom f_matchNotes f_found f_states f_flushed f (nI (n + 1)) (nI k) a_tok a_val a_text a_nKind a_nC a_nA a_nB a_nSize a_lAlt a_lSeq a_lAtom a_lGroup a_op a_x a_y a_prefersPast a_tNode a_tArg a_pc a_newPc a_from a_noted a_notes (upd a_seen p 1) (upd a_stack n (nI (p + 1))) (upd a_stackNotes n (nI (mk ||| 2 ^ v))) a_best a_kPc a_kCount a_kFlags a_next a_kMatch a_kMatchNotes a_kFrom a_kNotes) :
    wX_reach_24 post x2 x4 x5 f_count f_place f_there f_length f_nodes f_level f_groups f_size f_tasks f_threads f_bank f_matchFrom f_matchNotes f_found f_states f_flushed (f + 1) (nI (n + 1)) (nI k) a_tok a_val a_text a_nKind a_nC a_nA a_nB a_nSize a_lAlt a_lSeq a_lAtom a_lGroup a_op a_x a_y a_prefersPast a_tNode a_tArg a_pc a_newPc a_from a_noted a_notes a_seen a_stack a_stackNotes a_best a_kPc a_kCount a_kFlags a_next a_kMatch a_kMatchNotes a_kFrom a_kNotes := by
  have c1 : (nI n).toNatClampNeg = n := nI_clamp (by omega)
  have c2 : (nI p).toNatClampNeg = p := nI_clamp (by omega)
  have hv2 : 2 ^ v < 128 := Nat.pow_lt_pow_right (n := 7) (by decide) hv
  refine br_f (nI_nle (by omega) (by omega)) (nm_r (pk_m1 n) ⟨vp_in_nI hn (by omega), nm_r (e' := nI p) (by rw [c1]; exact e1) ⟨vp_in_nI hn (by omega), nm_r (e' := nI mk) (by rw [c1]; exact e2) ⟨vp_in_nI hp (by omega), ?_⟩⟩⟩)
  rw [c2, mn_t.2]
  exact br_t hs ⟨vp_in_nI hp (by omega), nm_e ⟨vp_in_nI hp (by omega), nm_r ho (br_f (by decide) (br_f (by decide) (br_f (by decide) (br_f (by decide) (br_f (by decide) (br_f (by decide) (br_f (by decide) (br_t rfl (nm_r (nI_1 p) ⟨vp_in_nI hp (by omega), nm_r (e' := nI (mk ||| 2 ^ v)) (by rw [hx, mn_sh1 (by omega), mn_or]) (xe_go hn (by omega) (mn_or128 hm hv2) h)⟩)))))))))⟩⟩
end XRF
end XRE
end
section
section XPG
/-! X's program as a tree's layout; what reach keeps -/
def xv_o (m : Nat) (ao : Nat → Int32) : Nat → Nat := fun p => if p ≤ m then (ao p).toNatClampNeg else 0
def xv_w (ax : Nat → Int32) : Nat → Nat := fun p => (ax p).toNatClampNeg
def xv_1 (m : Nat) (ao ax ay app : Nat → Int32) : Nat → Nat := fun p => if xv_o m ao p = 4 then (ax p).toNatClampNeg else if xv_o m ao p = 3 ∧ ¬ app p = 0 then (ay p).toNatClampNeg else p + 1
def xv_2 (ay app : Nat → Int32) : Nat → Nat := fun p => if app p = 0 then (ay p).toNatClampNeg else p + 1
def xp_R (t : Std.Format) (ao ax ay app : Nat → Int32) : Prop := tr_len t ≤ 72 ∧ cx_L (xv_o (tr_len t) ao) (xv_w ax) (xv_1 (tr_len t) ao ax ay app) (xv_2 ay app) t 0 ∧ ao (tr_len t) = 6 ∧
  ∀ p, p < tr_len t → ∃ c u v : Nat, c ≤ 5 ∧ ao p = nI c ∧ u < 100 ∧ ax p = nI u ∧ v < 100 ∧ (c = 3 → ay p = nI v) ∧ (c = 5 → u < 7)
def xp_L (t : Std.Format) : Nat → Nat → Prop := fun j l => tr_lab t false 0 j ∧ l = j
def xp_I (t : Std.Format) : Nat → Nat → Prop := fun pr j => tr_inn t false 0 j ∧ j = pr + 1
/-- exact number of jumps -/
def rk_f (o s1 : Nat → Nat) (LAB : Nat → Nat → Prop) (m : Nat) : Nat → Nat → Nat → Prop
  | 0, q, l => LAB q l ∨ (o q = 6 ∧ l = m)
  | j + 1, q, l => o q = 4 ∧ rk_f o s1 LAB m j (s1 q) l
section RK
variable {o s1 : Nat → Nat} {LAB : Nat → Nat → Prop} {m : Nat}
theorem re_rk {q l : Nat} (h : re_R o s1 LAB m q l) : ∃ j, rk_f o s1 LAB m j q l := by
  obtain ⟨j, h⟩ := h
  induction j generalizing q with
  | zero => exact ⟨0, h⟩
  | succ j ih =>
    rcases h with h | ⟨h1, h2⟩
    · exact ih h
    · obtain ⟨k, hk⟩ := ih h2
      exact ⟨k + 1, h1, hk⟩
theorem rk_re : ∀ j {q l : Nat}, rk_f o s1 LAB m j q l → re_R o s1 LAB m q l := by
  intro j
  induction j with
  | zero => intro q l h; exact ⟨0, h⟩
  | succ j ih => intro q l h; exact re_j h.1 rfl (ih h.2)
theorem rk_uni (hL : ∀ q l, LAB q l → ¬ o q = 4 ∧ ¬ o q = 6) (hF : ∀ q l l', LAB q l → LAB q l' → l = l') : ∀ j j' {q l l' : Nat}, rk_f o s1 LAB m j q l → rk_f o s1 LAB m j' q l' → j = j' ∧ l = l' := by
  intro j
  induction j with
  | zero =>
    intro j' q l l' h h'
    cases j' with
    | zero =>
      rcases h with h | h <;> rcases h' with h' | h'
      · exact ⟨rfl, hF _ _ _ h h'⟩
      · exact absurd h'.1 (hL _ _ h).2
      · exact absurd h.1 (hL _ _ h').2
      · exact ⟨rfl, h.2.trans h'.2.symm⟩
    | succ j' =>
      have h4 := h'.1
      rcases h with h | h
      · exact absurd h4 (hL _ _ h).1
      · rw [h.1] at h4; cases h4
  | succ j ih =>
    intro j' q l l' h h'
    cases j' with
    | zero =>
      have h4 := h.1
      rcases h' with h' | h'
      · exact absurd h4 (hL _ _ h').1
      · rw [h'.1] at h4; cases h4
    | succ j' =>
      obtain ⟨e1, e2⟩ := ih j' h.2 h'.2
      exact ⟨by omega, e2⟩
end RK
section XPF
variable {t : Std.Format} {ao ax ay app : Nat → Int32}
def xp_E (t : Std.Format) (ao ax ay app : Nat → Int32) (q l : Nat) : Prop := re_R (xv_o (tr_len t) ao) (xv_1 (tr_len t) ao ax ay app) (xp_L t) (tr_len t) q l
def xp_K (t : Std.Format) (ao ax ay app : Nat → Int32) (j q l : Nat) : Prop := rk_f (xv_o (tr_len t) ao) (xv_1 (tr_len t) ao ax ay app) (xp_L t) (tr_len t) j q l
def xp_C (t : Std.Format) (ao ax ay app : Nat → Int32) (pr z : Nat) (L : List Nat) : Prop := ch_R (xv_o (tr_len t) ao) (xv_1 (tr_len t) ao ax ay app) (xv_2 ay app) (xp_L t) (xp_I t) (tr_len t) true pr z L
theorem tr_G1 {j : Nat} (h : j < tr_len t) : (tr_G t).1 j = (tr_g t 0 (tr_len t) j).1 := if_pos h
theorem tr_Gm : (tr_G t).1 (tr_len t) = 6 := if_neg (Nat.lt_irrefl _)
theorem tr_Ghg : hg_R (tr_G t) t 0 (tr_len t) := by
  intro j _ h
  rw [Nat.zero_add] at h
  show (if j < tr_len t then _ else _, if j < tr_len t then _ else _, if j < tr_len t then _ else _) = _
  rw [if_pos h, if_pos h, if_pos h]
theorem xp_om (h : xp_R t ao ax ay app) : xv_o (tr_len t) ao (tr_len t) = 6 := by
  unfold xv_o
  rw [if_pos (Nat.le_refl _), h.2.2.1]; rfl
theorem xp_main (h : xp_R t ao ax ay app) : xp_E t ao ax ay app 0 (tr_e0 t) ∧ ∀ j, tr_lab t false 0 j → lc_R (xv_o (tr_len t) ao) (xv_w ax) (xv_1 (tr_len t) ao ax ay app) (xv_2 ay app) (xp_L t) (xp_I t) (tr_len t) (tr_G t) true j j := by
  obtain ⟨h1, _, h3⟩ := xr_main (LAB := xp_L t) (INN := xp_I t) (m := tr_len t) (G := tr_G t) t false 0 (tr_len t) h.2.1 (fun j hj => ⟨hj, rfl⟩) (fun pr j hj e => ⟨hj, e⟩) tr_Ghg (by rw [Nat.zero_add]; exact re_m (xp_om h))
  exact ⟨h1 rfl, h3⟩
theorem xp_o (h : xp_R t ao ax ay app) {p : Nat} (hp : p ≤ tr_len t) : ∃ c, c ≤ 6 ∧ ao p = nI c ∧ xv_o (tr_len t) ao p = c := by
  unfold xv_o
  rw [if_pos hp]
  by_cases e : p = tr_len t
  · rw [e, h.2.2.1]; exact ⟨6, by omega, rfl, rfl⟩
  · obtain ⟨c, u, v, hc, e1, _⟩ := h.2.2.2 p (by omega)
    rw [e1]
    exact ⟨c, by omega, rfl, nI_clamp (by omega)⟩
theorem xp_oc (h : xp_R t ao ax ay app) {p c : Nat} (hp : p ≤ tr_len t) (hc : c < 7) : xv_o (tr_len t) ao p = c ↔ ao p = nI c := by
  obtain ⟨d, hd, e1, e2⟩ := xp_o h hp
  rw [e2, e1, nI_eq (by omega) (by omega)]
theorem xp_lm {j : Nat} (h : tr_lab t false 0 j) : j < tr_len t := by
  have := tr_lab_r _ _ _ _ h; omega
theorem xp_lo (h : xp_R t ao ax ay app) : ∀ q l, xp_L t q l → ¬ xv_o (tr_len t) ao q = 4 ∧ ¬ xv_o (tr_len t) ao q = 6 := by
  intro q l hl
  obtain ⟨_, h2⟩ := xp_main h
  rcases (h2 q hl.1).2 with h3 | h3
  · omega
  · omega
theorem xp_lf : ∀ q l l', xp_L t q l → xp_L t q l' → l = l' := fun q l l' h h' => h.2.trans h'.2.symm
theorem xp_inv (h : xp_R t ao ax ay app) {q l : Nat} (hE : xp_E t ao ax ay app q l) : q ≤ tr_len t ∧ ((q = tr_len t ∧ ao q = 6 ∧ l = tr_len t) ∨ (ao q = 4 ∧ ∃ v, v < 100 ∧ ax q = nI v ∧ xv_1 (tr_len t) ao ax ay app q = v ∧ xp_E t ao ax ay app v l) ∨ (tr_lab t false 0 q ∧ l = q)) := by
  have hb : ∀ c, 0 < c → xv_o (tr_len t) ao q = c → q ≤ tr_len t := by
    intro c hc e
    unfold xv_o at e
    split at e
    · assumption
    · omega
  rcases re_inv hE with h1 | ⟨h1, h2⟩ | ⟨h1, h2⟩
  · have := xp_lm h1.1
    exact ⟨by omega, Or.inr (Or.inr h1)⟩
  · have hq := hb 6 (by omega) h1
    refine ⟨hq, Or.inl ?_⟩
    have e6 := (xp_oc h hq (by omega)).mp h1
    refine ⟨?_, e6, h2⟩
    by_cases e : q = tr_len t
    · exact e
    · obtain ⟨c, u, v, hc, e1, _⟩ := h.2.2.2 q (by omega)
      rw [e1, nI_eq (by omega) (by omega)] at e6
      omega
  · have hq := hb 4 (by omega) h1
    have e4 := (xp_oc h hq (by omega)).mp h1
    refine ⟨hq, Or.inr (Or.inl ⟨e4, ?_⟩)⟩
    have hq2 : q ≠ tr_len t := by
      intro e
      rw [e, xp_om h] at h1; cases h1
    obtain ⟨c, u, v, hc, e1, hu, e2, _⟩ := h.2.2.2 q (by omega)
    have e5 : xv_1 (tr_len t) ao ax ay app q = u := by
      unfold xv_1
      rw [if_pos h1, e2]; exact nI_clamp (by omega)
    rw [e5] at h2
    exact ⟨u, hu, e2, e5, h2⟩
theorem xp_fun (h : xp_R t ao ax ay app) {q l l' : Nat} (h1 : xp_E t ao ax ay app q l) (h2 : xp_E t ao ax ay app q l') : l = l' := by
  obtain ⟨j, k1⟩ := re_rk h1
  obtain ⟨j', k2⟩ := re_rk h2
  exact (rk_uni (xp_lo h) xp_lf j j' k1 k2).2
/-- a split's two ways -/
theorem xp_s (h : xp_R t ao ax ay app) {q : Nat} (hq : q ≤ tr_len t) (ho : ao q = 3) : ∃ v, v < 100 ∧ ay q = nI v ∧ ((app q = 0 ∧ xv_1 (tr_len t) ao ax ay app q = q + 1 ∧ xv_2 ay app q = v) ∨ (¬ app q = 0 ∧ xv_1 (tr_len t) ao ax ay app q = v ∧ xv_2 ay app q = q + 1)) := by
  have ho' := (xp_oc h hq (c := 3) (by omega)).mpr ho
  have hq2 : q ≠ tr_len t := by
    intro e
    rw [e, xp_om h] at ho'; cases ho'
  obtain ⟨c, u, v, hc, e1, hu, e2, hv, e3, _⟩ := h.2.2.2 q (by omega)
  have e4 : c = 3 := by
    rw [e1] at ho
    exact (nI_eq (by omega) (by omega)).mp ho
  have e3 := e3 e4
  refine ⟨v, hv, e3, ?_⟩
  unfold xv_1 xv_2
  rw [ho']
  by_cases z : app q = 0
  · left
    exact ⟨z, by rw [if_neg (by omega), if_neg (fun y => y.2 z)], by rw [if_pos z, e3]; exact nI_clamp (by omega)⟩
  · right
    exact ⟨z, by rw [if_neg (by omega), if_pos ⟨rfl, z⟩, e3]; exact nI_clamp (by omega), if_neg z⟩
theorem xp_lab (h : xp_R t ao ax ay app) {q : Nat} (hL : tr_lab t false 0 q) : q < tr_len t ∧ ((ao q = 0 ∧ (tr_G t).1 q = 0) ∨ (ao q = 1 ∧ (tr_G t).1 q = 1 ∧ ∃ l', xp_E t ao ax ay app (q + 1) l' ∧ (tr_G t).2.2 q = [l']) ∨ (ao q = 2 ∧ (tr_G t).1 q = 2 ∧ ∃ l', xp_E t ao ax ay app (q + 1) l' ∧ (tr_G t).2.2 q = [l']) ∨
    (ao q = 5 ∧ (tr_G t).1 q = 5 ∧ ∃ v l', v < 7 ∧ ax q = nI v ∧ (tr_G t).2.1 q = v ∧ xp_E t ao ax ay app (q + 1) l' ∧ (tr_G t).2.2 q = [l']) ∨ (ao q = 3 ∧ (tr_G t).1 q = 3 ∧ ∃ L1 l2, xp_C t ao ax ay app q (xv_1 (tr_len t) ao ax ay app q) L1 ∧ xp_E t ao ax ay app (xv_2 ay app q) l2 ∧ (tr_G t).2.2 q = L1 ++ [l2])) := by
  have hq := xp_lm hL
  refine ⟨hq, ?_⟩
  obtain ⟨h1, h2⟩ := (xp_main h).2 q hL
  have hc : ∀ c, c < 7 → xv_o (tr_len t) ao q = c → ao q = nI c := fun c hc e => (xp_oc h (by omega) hc).mp e
  rcases h2 with ⟨h3, ⟨_, L1, l2, h4, h5, h6⟩ | ⟨z, _⟩⟩ | ⟨h3, h4, h5, l', h6, h7⟩
  · exact Or.inr (Or.inr (Or.inr (Or.inr ⟨hc 3 (by omega) h3, h1.symm.trans h3, L1, l2, h4, h5, h6⟩)))
  · cases z
  · rcases h3 with h3 | h3 | h3 | h3
    · exact Or.inl ⟨hc 0 (by omega) h3, h1.symm.trans h3⟩
    · exact Or.inr (Or.inl ⟨hc 1 (by omega) h3, h1.symm.trans h3, l', h6, h7⟩)
    · exact Or.inr (Or.inr (Or.inl ⟨hc 2 (by omega) h3, h1.symm.trans h3, l', h6, h7⟩))
    · refine Or.inr (Or.inr (Or.inr (Or.inl ⟨hc 5 (by omega) h3, h1.symm.trans h3, ?_⟩)))
      obtain ⟨c, u, v, hcc, e1, hu, e2, hv, e3, e5⟩ := h.2.2.2 q hq
      have ec : c = 5 := by
        have := hc 5 (by omega) h3
        rw [e1] at this
        exact (nI_eq (by omega) (by omega)).mp this
      have ew : xv_w ax q = u := by unfold xv_w; rw [e2]; exact nI_clamp (by omega)
      exact ⟨u, l', e5 ec, e2, (h4 (Or.inr h3)).symm.trans ew, h6, h7⟩
end XPF
end XPG
end
section
section XRG
/-! reach runs a layer -/
def xi_nt : Nat → Nat × Nat → Nat × Nat := fun k a => (a.1, a.2 ||| 2 ^ k)
def xi_ab (s : Nat) (st : List (Nat × Nat × Nat)) : List (Nat × Nat × Nat) := st.map (fun x => (x.2.1, s, x.2.2))
def xi_al (t : Std.Format) (ao : Nat → Int32) (T : List (Nat × Nat × Nat)) (np fr no : Nat → Int32) : Prop := ∀ i x, T[i]? = some x → np i = nI x.1 ∧ fr i = nI x.2.1 ∧ no i = nI x.2.2 ∧ tr_lab t false 0 x.1 ∧ ao x.1 = 0 ∧ x.2.1 ≤ 36 ∧ x.2.2 < 128
def xi_S (t : Std.Format) (sn : Nat → Int32) (S : Nat → Bool) : Prop := ∀ j, tr_lab t false 0 j → (S j = true ↔ ¬ sn j = 0)
def xi_I (t : Std.Format) (sn : Nat → Int32) : Prop := ∀ j, tr_inn t false 0 (j + 1) → ¬ sn (j + 1) = 0 → ¬ sn j = 0
def xi_M (t : Std.Format) (ac : Bool) (sn : Nat → Int32) : Prop := ¬ sn (tr_len t) = 0 → ¬ ac = true
def xi_dd (G : gr_T) (ac : Bool) (S : Nat → Bool) (l : Nat) : Prop := (G.1 l = 6 ∧ ¬ ac = true) ∨ (¬ G.1 l = 6 ∧ S l = true)
def xi_u (m : Nat) (sn : Nat → Int32) : Nat := gr_u (fun j => decide (¬ sn j = 0)) (m + 1)
def xi_t (m : Nat) (ao sn : Nat → Int32) : Nat := gr_u (fun j => decide (¬ ao j = 0 ∨ ¬ sn j = 0)) (m + 1)
section GSX
variable {α : Type} {G : gr_T} {e : gr_E} {nt : Nat → α → α} {l : Nat} {a : α}
theorem gr_sx1 (g : G.1 l = 1) (c : e.1 = true) : gr_sx G e nt l a = (G.2.2 l).map (fun q => (q, a)) := by
  unfold gr_sx gr_q gr_pl; simp [g, c]
theorem gr_sx1n (g : G.1 l = 1) (c : ¬ e.1 = true) : gr_sx G e nt l a = [] := by
  unfold gr_sx gr_q gr_pl; simp [g, c]
theorem gr_sx2 (g : G.1 l = 2) (c : e.2.1 = true) : gr_sx G e nt l a = (G.2.2 l).map (fun q => (q, a)) := by
  unfold gr_sx gr_q gr_pl; simp [g, c]
theorem gr_sx2n (g : G.1 l = 2) (c : ¬ e.2.1 = true) : gr_sx G e nt l a = [] := by
  unfold gr_sx gr_q gr_pl; simp [g, c]
theorem gr_sx3 (g : G.1 l = 3) : gr_sx G e nt l a = (G.2.2 l).map (fun q => (q, a)) := by
  unfold gr_sx gr_q gr_pl; simp [g]
theorem gr_sx5 (g : G.1 l = 5) : gr_sx G e nt l a = (G.2.2 l).map (fun q => (q, nt (G.2.1 l) a)) := by
  unfold gr_sx gr_q gr_pl; simp [g]
end GSX
section XIA
variable {t : Std.Format} {ao ax ay app : Nat → Int32}
def xi_J (t : Std.Format) (ao ax ay app : Nat → Int32) (ac : Bool) (S : Nat → Bool) (sn : Nat → Int32) (st : List (Nat × Nat × Nat)) : Prop :=
  ∀ q j l, q ≤ tr_len t → ao q = 4 → ¬ sn q = 0 → xp_K t ao ax ay app j q l → xi_dd (tr_G t) ac S l ∨ ∃ z mk st', st = (z, l, mk) :: st' ∧ ∃ j', xp_K t ao ax ay app j' z l ∧ j' < j
def xi_K (t : Std.Format) (ao ax ay app : Nat → Int32) : List (Nat × Nat × Nat) → (Nat → Int32) → (Nat → Int32) → Prop
  | [], _, _ => True
  | x :: st, sk, so => sk st.length = nI x.1 ∧ so st.length = nI x.2.2 ∧ x.2.2 < 128 ∧ xp_E t ao ax ay app x.1 x.2.1 ∧ xi_K t ao ax ay app st sk so
theorem xi_Kc : ∀ st {sk so sk' so' : Nat → Int32}, (∀ i, i < st.length → sk' i = sk i ∧ so' i = so i) → xi_K t ao ax ay app st sk so → xi_K t ao ax ay app st sk' so' := by
  intro st
  induction st with
  | nil => intro _ _ _ _ _ _; trivial
  | cons x st ih =>
    intro sk so sk' so' h hK
    obtain ⟨h1, h2, h3, h4, h5⟩ := hK
    have hx := h st.length (Nat.lt_succ_self _)
    exact ⟨hx.1.trans h1, hx.2.trans h2, h3, h4, ih (fun i hi => h i (Nat.lt_succ_of_lt hi)) h5⟩
theorem xi_Ku {st : List (Nat × Nat × Nat)} {sk so : Nat → Int32} {n : Nat} {a b : Int32} (hn : st.length ≤ n) (h : xi_K t ao ax ay app st sk so) : xi_K t ao ax ay app st (upd sk n a) (upd so n b) :=
  xi_Kc st (fun i hi => ⟨pk_un (by omega), pk_un (by omega)⟩) h
theorem xi_Kp {st : List (Nat × Nat × Nat)} {sk so : Nat → Int32} {p l mk : Nat} (h : xi_K t ao ax ay app st sk so) (hm : mk < 128) (hE : xp_E t ao ax ay app p l) : xi_K t ao ax ay app ((p, l, mk) :: st) (upd sk st.length (nI p)) (upd so st.length (nI mk)) :=
  ⟨pk_us, pk_us, hm, hE, xi_Ku (Nat.le_refl _) h⟩
theorem xi_al_add {T : List (Nat × Nat × Nat)} {np fr no : Nat → Int32} {p s mk : Nat} (h1 : tr_lab t false 0 p) (h2 : ao p = 0) (h3 : s ≤ 36) (h4 : mk < 128) (h : xi_al t ao T np fr no) : xi_al t ao (T ++ [(p, s, mk)]) (upd np T.length (nI p)) (upd fr T.length (nI s)) (upd no T.length (nI mk)) := by
  intro i x hx
  by_cases e : i < T.length
  · rw [List.getElem?_append_left e] at hx
    rw [pk_un (by omega), pk_un (by omega), pk_un (by omega)]
    exact h i x hx
  · rw [List.getElem?_append_right (by omega)] at hx
    have e2 : i = T.length := by
      by_cases e3 : i - T.length = 0
      · omega
      · rw [List.getElem?_eq_none (by simp; omega)] at hx; cases hx
    subst e2
    rw [Nat.sub_self] at hx
    cases hx
    exact ⟨pk_us, pk_us, pk_us, h1, h2, h3, h4⟩
theorem xi_um {sn : Nat → Int32} {p : Nat} (hp : p ≤ tr_len t) (h : sn p = 0) : xi_u (tr_len t) (upd sn p 1) + 1 = xi_u (tr_len t) sn := by
  unfold xi_u
  have e : (fun j => decide (¬ upd sn p 1 j = 0)) = gr_mk (fun j => decide (¬ sn j = 0)) p := by
    funext j
    unfold gr_mk upd
    split
    · rfl
    · rfl
  rw [e]
  exact gr_u_mk (by rw [h]; decide) _ (by omega)
theorem xi_tm {sn : Nat → Int32} {p : Nat} (hp : p ≤ tr_len t) (h : sn p = 0) (ho : ao p = 0) : xi_t (tr_len t) ao (upd sn p 1) + 1 = xi_t (tr_len t) ao sn := by
  unfold xi_t
  have e : (fun j => decide (¬ ao j = 0 ∨ ¬ upd sn p 1 j = 0)) = gr_mk (fun j => decide (¬ ao j = 0 ∨ ¬ sn j = 0)) p := by
    funext j
    unfold gr_mk upd
    split
    · simp
    · rfl
  rw [e]
  exact gr_u_mk (by rw [h, ho]; decide) _ (by omega)
theorem xi_tn {sn : Nat → Int32} {p : Nat} (ho : ¬ ao p = 0) : xi_t (tr_len t) ao (upd sn p 1) = xi_t (tr_len t) ao sn := by
  unfold xi_t
  have e : (fun j => decide (¬ ao j = 0 ∨ ¬ upd sn p 1 j = 0)) = (fun j => decide (¬ ao j = 0 ∨ ¬ sn j = 0)) := by
    funext j
    unfold upd
    split
    · subst_vars; simp [ho]
    · rfl
  rw [e]
theorem xi_dm {G : gr_T} {ac : Bool} {S : Nat → Bool} {l p : Nat} (h : xi_dd G ac S l) : xi_dd G ac (gr_mk S p) l := h.elim Or.inl (fun h => Or.inr ⟨h.1, gr_mk_le h.2⟩)
theorem xi_ly {e : gr_E} {S : Nat → Bool} {l : Nat} {a : Nat × Nat} {st : List (Nat × Nat × Nat)} {r : (Nat → Bool) × List (Nat × Nat × Nat) × Option (Nat × Nat)} (hd : xi_dd (tr_G t) e.2.2 S l) (h : ly_R (tr_G t) e xi_nt S ((l, a) :: st) r) : ly_R (tr_G t) e xi_nt S st r := by
  rcases hd with ⟨h1, h2⟩ | ⟨h1, h2⟩
  · exact ly_m0' h1 h2 h
  · exact ly_s' h1 h2 h
/-- all jumps that were seen lead to what is dead -/
theorem xi_Jd {ac : Bool} {S : Nat → Bool} {sn : Nat → Int32} {p l mk : Nat} {st : List (Nat × Nat × Nat)} (h : xi_J t ao ax ay app ac S sn ((p, l, mk) :: st)) (hd : xi_dd (tr_G t) ac S l) : xi_J t ao ax ay app ac S sn [] := by
  intro q j l' hq ho hs hk
  rcases h q j l' hq ho hs hk with h1 | ⟨z, mk', st', e, _⟩
  · exact Or.inl h1
  · cases e; exact Or.inl hd
theorem xi_Jw {ac : Bool} {S : Nat → Bool} {sn : Nat → Int32} {st : List (Nat × Nat × Nat)} (h : xi_J t ao ax ay app ac S sn []) : xi_J t ao ax ay app ac S sn st := by
  intro q j l' hq ho hs hk
  rcases h q j l' hq ho hs hk with h1 | ⟨z, mk', st', e, _⟩
  · exact Or.inl h1
  · cases e
/-- marking what is no jump -/
theorem xi_Jn {ac : Bool} {S : Nat → Bool} {sn : Nat → Int32} {p : Nat} {st : List (Nat × Nat × Nat)} (ho : ¬ ao p = 4) (h : xi_J t ao ax ay app ac S sn st) : xi_J t ao ax ay app ac S (upd sn p 1) st := by
  intro q j l' hq h4 hs hk
  have e : q ≠ p := fun e => ho (by rw [← e]; exact h4)
  rw [pk_un e] at hs
  exact h q j l' hq h4 hs hk
theorem xi_Jl {ac : Bool} {S : Nat → Bool} {sn : Nat → Int32} {p mk : Nat} {st : List (Nat × Nat × Nat)} (ho : ¬ ao p = 4) (hG : ¬ (tr_G t).1 p = 6) (h : xi_J t ao ax ay app ac S sn ((p, p, mk) :: st)) : xi_J t ao ax ay app ac (gr_mk S p) (upd sn p 1) [] := by
  have h1 : xi_J t ao ax ay app ac (gr_mk S p) sn ((p, p, mk) :: st) := by
    intro q j l' hq h4 hs hk
    rcases h q j l' hq h4 hs hk with h1 | h1
    · exact Or.inl (xi_dm h1)
    · exact Or.inr h1
  exact xi_Jn ho (xi_Jd h1 (Or.inr ⟨hG, gr_mk_s⟩))
theorem xi_Sl {S : Nat → Bool} {sn : Nat → Int32} {p : Nat} (h : xi_S t sn S) : xi_S t (upd sn p 1) (gr_mk S p) := by
  intro j hj
  by_cases e : j = p
  · subst e
    rw [gr_mk_s, pk_us]
    exact ⟨fun _ => by decide, fun _ => rfl⟩
  · rw [gr_mk_n e, pk_un e]; exact h j hj
theorem xi_Sn {S : Nat → Bool} {sn : Nat → Int32} {p : Nat} (hp : ¬ tr_lab t false 0 p) (h : xi_S t sn S) : xi_S t (upd sn p 1) S := by
  intro j hj
  have e : j ≠ p := fun e => hp (by rw [← e]; exact hj)
  rw [pk_un e]; exact h j hj
theorem xi_Il {sn : Nat → Int32} {p : Nat} (hp : tr_inn t false 0 p → ∀ j, p = j + 1 → ¬ sn j = 0) (h : xi_I t sn) : xi_I t (upd sn p 1) := by
  intro j hj hs
  by_cases e : j = p
  · subst e; rw [pk_us]; decide
  · rw [pk_un e]
    by_cases e2 : j + 1 = p
    · exact hp (by rw [← e2]; exact hj) j e2.symm
    · rw [pk_un e2] at hs; exact h j hj hs
theorem xi_Mn {ac : Bool} {sn : Nat → Int32} {p : Nat} (hp : p ≠ tr_len t) (h : xi_M t ac sn) : xi_M t ac (upd sn p 1) := by
  unfold xi_M
  rw [pk_un (fun e => hp e.symm)]; exact h
theorem xi_nl {p : Nat} (h : tr_inn t false 0 p) : ¬ tr_lab t false 0 p := (tr_inn_r _ _ _ _ h).2.2.2
theorem xi_nm {p : Nat} (h : tr_inn t false 0 p) : p < tr_len t := by
  have := (tr_inn_r _ _ _ _ h).2.1; omega
theorem xi_n3 {o w s1 s2 : Nat → Nat} : ∀ t inn p j, cx_L o w s1 s2 t p → tr_inn t inn p j → o j = 3 := by
  intro t
  induction t using tr_ind with
  | h0 => intro inn p j _ h; exact h.elim
  | h1 => intro inn p j _ h; exact h.elim
  | h2 b => intro inn p j _ h; exact h.elim
  | h3 s => intro inn p j _ h; exact h.elim
  | h4 i f => intro inn p j _ h; exact h.elim
  | h5 a b ha hb =>
    intro inn p j hc h
    rcases h with h | h
    · exact ha _ _ _ hc.1 h
    · exact hb _ _ _ hc.2 h
  | h6 a b c ha hb =>
    intro inn p j hc h
    obtain ⟨c1, c2, c3, c4, c5, c6, c7⟩ := hc
    rcases h with ⟨_, rfl⟩ | h | h
    · exact c1
    · exact ha _ _ _ c4 h
    · exact hb _ _ _ c7 h
  | h7 f c hf => intro inn p j _ h; cases f <;> first | exact h.elim | exact absurd rfl (hf _ _)
  | h8 k a ha =>
    intro inn p j hc h
    unfold cx_L at hc
    split at hc
    · exact ha _ _ _ hc.2.2.2.1 h
    · split at hc
      · exact ha _ _ _ hc.2.2.2 h
      · exact ha _ _ _ hc.2.2.2.1 h
theorem xi_nj (hP : xp_R t ao ax ay app) {p : Nat} (h : tr_inn t false 0 p) : ¬ ao p = 4 := by
  intro z
  have h3 := xi_n3 t false 0 p hP.2.1 h
  have := (xp_oc hP (Nat.le_of_lt (xi_nm h)) (c := 3) (by omega)).mp h3
  rw [z] at this; revert this; decide
end XIA
variable {f_count f_place f_there f_length f_nodes f_level f_groups f_size f_tasks f_threads f_added f_bank f_matchFrom f_matchNotes f_found f_states f_flushed : Int32} {a_tok a_val a_text a_nKind a_nC a_nA a_nB a_nSize a_lAlt a_lSeq a_lAtom a_lGroup a_op a_x a_y a_prefersPast a_tNode a_tArg a_pc a_newPc a_from a_noted a_notes a_seen a_stack a_stackNotes a_best a_kPc a_kCount a_kFlags a_next a_kMatch a_kMatchNotes a_kFrom a_kNotes : Nat → Int32}
variable {post : Int32 → SX → Prop} {x4 x5 : Int32} {t : Std.Format}
theorem xe_p {x2 : Int32} {f n p mk k : Nat} (hP : xp_R t a_op a_x a_y a_prefersPast) (hn : n < 120) (hp : p < 110) (hm : mk < 128) (e1 : a_stack n = nI p) (e2 : a_stackNotes n = nI mk) (hs : a_seen p = 0) (hn1 : n + 1 < 120) (hpt : p ≤ tr_len t) (ho : a_op p = 3)
    (h : wX_reach_24 post x2 x4 x5 f_count f_place f_there f_length f_nodes f_level f_groups f_size f_tasks f_threads f_bank f_matchFrom f_matchNotes f_found f_states f_flushed f (nI (n + 2)) (nI k) a_tok a_val a_text a_nKind a_nC a_nA a_nB a_nSize a_lAlt a_lSeq a_lAtom a_lGroup a_op a_x a_y a_prefersPast a_tNode a_tArg a_pc a_newPc a_from a_noted a_notes (upd a_seen p 1) (upd (upd a_stack n (nI (xv_2 a_y a_prefersPast p))) (n + 1) (nI (xv_1 (tr_len t) a_op a_x a_y a_prefersPast p))) (upd (upd a_stackNotes n (nI mk)) (n + 1) (nI mk)) a_best a_kPc a_kCount a_kFlags a_next a_kMatch a_kMatchNotes a_kFrom a_kNotes) :
    wX_reach_24 post x2 x4 x5 f_count f_place f_there f_length f_nodes f_level f_groups f_size f_tasks f_threads f_bank f_matchFrom f_matchNotes f_found f_states f_flushed (f + 1) (nI (n + 1)) (nI k) a_tok a_val a_text a_nKind a_nC a_nA a_nB a_nSize a_lAlt a_lSeq a_lAtom a_lGroup a_op a_x a_y a_prefersPast a_tNode a_tArg a_pc a_newPc a_from a_noted a_notes a_seen a_stack a_stackNotes a_best a_kPc a_kCount a_kFlags a_next a_kMatch a_kMatchNotes a_kFrom a_kNotes := by
  obtain ⟨v, hv, ey, ⟨h0, h1, h2⟩ | ⟨h0, h1, h2⟩⟩ := xp_s hP hpt ho
  · rw [h1, h2] at h
    exact xe_p0 hn hp hm e1 e2 hs hn1 (by omega) ho ey h0 h
  · rw [h1, h2] at h
    exact xe_p1 hn hp hm e1 e2 hs hn1 (by omega) ho ey h0 h
theorem xe_AB {s : Nat} {e : gr_E} (hs : s ≤ 36) (hP : xp_R t a_op a_x a_y a_prefersPast) (he1 : e.1 = true ↔ x5 = 0) (he2 : e.2.1 = true ↔ x5 = f_length) (he3 : e.2.2 = true ↔ ((x4 &&& 2) = 0 ∨ f_length ≤ x5)) {S' : Nat → Bool} {Tf : List (Nat × Nat × Nat)} {ov : Option (Nat × Nat)}
    (H0 : ov = none → ∀ (sn np fr no sk so : Nat → Int32), xi_S t sn S' → xi_I t sn → xi_M t e.2.2 sn → xi_J t a_op a_x a_y a_prefersPast e.2.2 S' sn [] → Tf.length + xi_t (tr_len t) a_op sn ≤ 36 → xi_al t a_op Tf np fr no → post 0 (f_count, f_place, f_there, f_length, f_nodes, f_level, f_groups, f_size, f_tasks, f_threads, nI Tf.length, f_bank, f_matchFrom, f_matchNotes, f_found, f_states, f_flushed, a_tok, a_val, a_text, a_nKind, a_nC, a_nA, a_nB, a_nSize, a_lAlt, a_lSeq, a_lAtom, a_lGroup, a_op, a_x, a_y, a_prefersPast, a_tNode, a_tArg, a_pc, np, fr, no, a_notes, sn, sk, so, a_best, a_kPc, a_kCount, a_kFlags, a_next, a_kMatch, a_kMatchNotes, a_kFrom, a_kNotes))
    (H1 : ∀ s' mk', ov = some (s', mk') → ∀ (sn np fr no sk so : Nat → Int32), mk' < 128 → s' = s → Tf.length ≤ 36 → xi_al t a_op Tf np fr no → post 1 (f_count, f_place, f_there, f_length, f_nodes, f_level, f_groups, f_size, f_tasks, f_threads, nI Tf.length, f_bank, nI s', nI mk', f_found, f_states, f_flushed, a_tok, a_val, a_text, a_nKind, a_nC, a_nA, a_nB, a_nSize, a_lAlt, a_lSeq, a_lAtom, a_lGroup, a_op, a_x, a_y, a_prefersPast, a_tNode, a_tArg, a_pc, np, fr, no, a_notes, sn, sk, so, a_best, a_kPc, a_kCount, a_kFlags, a_next, a_kMatch, a_kMatchNotes, a_kFrom, a_kNotes)) :
    ∀ f, (∀ st S (sn np fr no sk so : Nat → Int32) T0 T, T0 ++ T = Tf → xi_S t sn S → xi_I t sn → xi_M t e.2.2 sn → xi_J t a_op a_x a_y a_prefersPast e.2.2 S sn st → xi_K t a_op a_x a_y a_prefersPast st sk so → st.length + xi_u (tr_len t) sn ≤ tr_len t + 2 → T0.length + xi_t (tr_len t) a_op sn ≤ 36 → xi_al t a_op T0 np fr no →
        2 * xi_u (tr_len t) sn + st.length < f → ly_R (tr_G t) e xi_nt S (xi_ab s st) (S', T, ov) → wX_reach_24 post (nI s) x4 x5 f_count f_place f_there f_length f_nodes f_level f_groups f_size f_tasks f_threads f_bank f_matchFrom f_matchNotes f_found f_states f_flushed f (nI st.length) (nI T0.length) a_tok a_val a_text a_nKind a_nC a_nA a_nB a_nSize a_lAlt a_lSeq a_lAtom a_lGroup a_op a_x a_y a_prefersPast a_tNode a_tArg a_pc np fr no a_notes sn sk so a_best a_kPc a_kCount a_kFlags a_next a_kMatch a_kMatchNotes a_kFrom a_kNotes) ∧
      (∀ pr z mk L st S (sn np fr no sk so : Nat → Int32) T0 T, T0 ++ T = Tf → xi_S t sn S → xi_I t sn → xi_M t e.2.2 sn → xi_J t a_op a_x a_y a_prefersPast e.2.2 S sn [] → xi_K t a_op a_x a_y a_prefersPast st sk so → sk st.length = nI z → so st.length = nI mk → mk < 128 → xp_C t a_op a_x a_y a_prefersPast pr z L → (xp_I t pr z → sn z = 0 ∧ ¬ sn pr = 0) →
        st.length + 1 + xi_u (tr_len t) sn ≤ tr_len t + 2 → T0.length + xi_t (tr_len t) a_op sn ≤ 36 → xi_al t a_op T0 np fr no →
        2 * xi_u (tr_len t) sn + st.length + 1 < f → ly_R (tr_G t) e xi_nt S (L.map (fun l => (l, s, mk)) ++ xi_ab s st) (S', T, ov) → wX_reach_24 post (nI s) x4 x5 f_count f_place f_there f_length f_nodes f_level f_groups f_size f_tasks f_threads f_bank f_matchFrom f_matchNotes f_found f_states f_flushed f (nI (st.length + 1)) (nI T0.length) a_tok a_val a_text a_nKind a_nC a_nA a_nB a_nSize a_lAlt a_lSeq a_lAtom a_lGroup a_op a_x a_y a_prefersPast a_tNode a_tArg a_pc np fr no a_notes sn sk so a_best a_kPc a_kCount a_kFlags a_next a_kMatch a_kMatchNotes a_kFrom a_kNotes) := by
  have hm72 : tr_len t ≤ 72 := hP.1
  intro f
  induction f with
  | zero => exact ⟨fun st S sn np fr no sk so T0 T _ _ _ _ _ _ _ _ _ h => by omega, fun pr z mk L st S sn np fr no sk so T0 T _ _ _ _ _ _ _ _ _ _ _ _ _ _ h => by omega⟩
  | succ f ih =>
    obtain ⟨ihA, ihB⟩ := ih
    have hA : ∀ st S (sn np fr no sk so : Nat → Int32) T0 T, T0 ++ T = Tf → xi_S t sn S → xi_I t sn → xi_M t e.2.2 sn → xi_J t a_op a_x a_y a_prefersPast e.2.2 S sn st → xi_K t a_op a_x a_y a_prefersPast st sk so → st.length + xi_u (tr_len t) sn ≤ tr_len t + 2 → T0.length + xi_t (tr_len t) a_op sn ≤ 36 → xi_al t a_op T0 np fr no →
        2 * xi_u (tr_len t) sn + st.length < f + 1 → ly_R (tr_G t) e xi_nt S (xi_ab s st) (S', T, ov) → wX_reach_24 post (nI s) x4 x5 f_count f_place f_there f_length f_nodes f_level f_groups f_size f_tasks f_threads f_bank f_matchFrom f_matchNotes f_found f_states f_flushed (f + 1) (nI st.length) (nI T0.length) a_tok a_val a_text a_nKind a_nC a_nA a_nB a_nSize a_lAlt a_lSeq a_lAtom a_lGroup a_op a_x a_y a_prefersPast a_tNode a_tArg a_pc np fr no a_notes sn sk so a_best a_kPc a_kCount a_kFlags a_next a_kMatch a_kMatchNotes a_kFrom a_kNotes := by
      intro st S sn np fr no sk so T0 T hT hS hI hM hJ hK hlen hcnt hal hf hly
      match st, hJ, hK, hlen, hf, hly with
      | [], hJ, hK, hlen, hf, hly =>
        cases ly_nil' hly
        rw [List.append_nil] at hT
        subst hT
        exact xe_0 (H0 rfl sn np fr no sk so hS hI hM hJ hcnt hal)
      | x :: st, hJ, hK, hlen, hf, hly =>
        obtain ⟨p, l, mk⟩ := x
        obtain ⟨k1, k2, k3, k4, k5⟩ := hK
        dsimp only at k1 k2 k3 k4
        have hln : ((p, l, mk) :: st).length = st.length + 1 := rfl
        rw [hln] at hlen hf ⊢
        have hly : ly_R (tr_G t) e xi_nt S ((l, s, mk) :: xi_ab s st) (S', T, ov) := hly
        obtain ⟨hp, hcase⟩ := xp_inv hP k4
        -- what is seen, or dead
        have skip : xi_dd (tr_G t) e.2.2 S l → ¬ sn p = 0 → wX_reach_24 post (nI s) x4 x5 f_count f_place f_there f_length f_nodes f_level f_groups f_size f_tasks f_threads f_bank f_matchFrom f_matchNotes f_found f_states f_flushed (f + 1) (nI (st.length + 1)) (nI T0.length) a_tok a_val a_text a_nKind a_nC a_nA a_nB a_nSize a_lAlt a_lSeq a_lAtom a_lGroup a_op a_x a_y a_prefersPast a_tNode a_tArg a_pc np fr no a_notes sn sk so a_best a_kPc a_kCount a_kFlags a_next a_kMatch a_kMatchNotes a_kFrom a_kNotes := by
          intro hd hsp
          refine xe_s (by omega) (by omega) k1 hsp ?_
          exact ihA st S sn np fr no sk so T0 T hT hS hI hM (xi_Jw (xi_Jd hJ hd)) k5 (by omega) hcnt hal (by omega) (xi_ly hd hly)
        rcases hcase with ⟨rfl, ho, rfl⟩ | ⟨ho, v, hv, ex, e1, hE⟩ | ⟨hL, el⟩
        · -- the match
          by_cases hsp : sn (tr_len t) = 0
          · by_cases ac : e.2.2 = true
            · have hr := ly_m1' tr_Gm ac hly
              cases hr
              refine xe_m1 (by omega) (by omega) k3 k1 k2 hsp ho (he3.mp ac) ?_
              rw [List.append_nil] at hT
              subst hT
              exact H1 s mk rfl _ np fr no sk so k3 rfl (by omega) hal
            · have n1 : ¬ (x4 &&& 2) = 0 := fun z => ac (he3.mpr (Or.inl z))
              have n2 : ¬ f_length ≤ x5 := fun z => ac (he3.mpr (Or.inr z))
              have hd : xi_dd (tr_G t) e.2.2 S (tr_len t) := Or.inl ⟨tr_Gm, ac⟩
              refine xe_m0 (by omega) (by omega) k3 k1 k2 hsp ho n1 n2 ?_
              have hu := xi_um (t := t) (Nat.le_refl _) hsp
              have hu2 := xi_tn (t := t) (ao := a_op) (sn := sn) (p := tr_len t) (by rw [ho]; decide)
              refine ihA st S (upd sn (tr_len t) 1) np fr no sk so T0 T hT (xi_Sn (fun z => Nat.lt_irrefl _ (xp_lm z)) hS) (xi_Il (fun z => absurd (xi_nm z) (Nat.lt_irrefl _)) hI) (fun _ => ac) (xi_Jw (xi_Jn (by rw [ho]; decide) (xi_Jd hJ hd))) k5 (by omega) (by omega) hal (by omega) (xi_ly hd hly)
          · exact skip (Or.inl ⟨tr_Gm, hM hsp⟩) hsp
        · -- a jump
          obtain ⟨j, hj⟩ := re_rk k4
          by_cases hsp : sn p = 0
          · refine xe_j (by omega) (by omega) k3 k1 k2 hsp (by omega) ho ex ?_
            have hpm : p ≠ tr_len t := by
              intro z
              rw [z, hP.2.2.1] at ho; revert ho; decide
            have hu := xi_um (t := t) hp hsp
            have hu2 := xi_tn (t := t) (ao := a_op) (sn := sn) (p := p) (by rw [ho]; decide)
            have nl : ¬ tr_lab t false 0 p := by
              intro z
              have := (xp_lo hP p p ⟨z, rfl⟩).1
              exact this ((xp_oc hP hp (by omega)).mpr ho)
            have ni : ¬ tr_inn t false 0 p := by
              intro z
              exact xi_nj hP z ho
            obtain ⟨j0, rfl⟩ : ∃ j0, j = j0 + 1 := by
              cases j with
              | zero =>
                rcases hj with hj | hj
                · exact absurd hj.1 nl
                · have := (xp_oc hP hp (c := 4) (by omega)).mpr ho
                  rw [hj.1] at this; cases this
              | succ j => exact ⟨j, rfl⟩
            have hj2 : xp_K t a_op a_x a_y a_prefersPast j0 v l := by
              have := hj.2
              rw [e1] at this; exact this
            have hJ2 : xi_J t a_op a_x a_y a_prefersPast e.2.2 S (upd sn p 1) ((v, l, mk) :: st) := by
              intro q j' l' hq h4 hsq hk
              by_cases eq : q = p
              · subst eq
                obtain ⟨rfl, rfl⟩ := rk_uni (xp_lo hP) xp_lf _ _ hk hj
                exact Or.inr ⟨v, mk, st, rfl, j0, hj2, by omega⟩
              · rw [pk_un eq] at hsq
                rcases hJ q j' l' hq h4 hsq hk with h1 | ⟨z, mk', st', ez, j'', hz, hlt⟩
                · exact Or.inl h1
                · cases ez
                  obtain ⟨rfl, _⟩ := rk_uni (xp_lo hP) xp_lf _ _ hz hj
                  exact Or.inr ⟨v, mk, st, rfl, j0, hj2, by omega⟩
            exact ihA ((v, l, mk) :: st) S (upd sn p 1) np fr no _ _ T0 T hT (xi_Sn nl hS) (xi_Il (fun z => absurd z ni) hI) (xi_Mn hpm hM) hJ2 (xi_Kp k5 k3 hE) (by rw [List.length_cons]; omega) (by omega) hal (by rw [List.length_cons]; omega) hly
          · have hd : xi_dd (tr_G t) e.2.2 S l := by
              rcases hJ p j l hp ho hsp hj with h1 | ⟨z, mk', st', ez, j'', hz, hlt⟩
              · exact h1
              · cases ez
                obtain ⟨rfl, _⟩ := rk_uni (xp_lo hP) xp_lf _ _ hz hj
                exact absurd hlt (Nat.lt_irrefl _)
            exact skip hd hsp
        · -- a label
          have el : p = l := el.symm
          subst el
          obtain ⟨hlt, hkind⟩ := xp_lab hP hL
          by_cases hsp : sn p = 0
          · have nS : ¬ S p = true := fun z => (hS p hL).mp z hsp
            have hu := xi_um (t := t) hp hsp
            have hpm : p ≠ tr_len t := by omega
            have hI2 : xi_I t (upd sn p 1) := xi_Il (fun z => absurd hL (xi_nl z)) hI
            have hS2 := xi_Sl (p := p) hS
            have hM2 := xi_Mn (sn := sn) hpm hM
            rcases hkind with ⟨ho, g1⟩ | ⟨ho, g1, l', hE, g2⟩ | ⟨ho, g1, l', hE, g2⟩ | ⟨ho, g1, v, l', hv, ex, g3, hE, g2⟩ | ⟨ho, g1, L1, l2, hC, hE, g2⟩
            · -- test
              obtain ⟨S2, T2, ov2, h5, e5⟩ := ly_t' g1 nS hly
              cases e5
              have hu2 := xi_tm (t := t) (ao := a_op) hp hsp ho
              refine xe_t (by omega) (by omega) k3 k1 k2 hsp (by omega) ho rfl (by omega) ?_
              have := ihA st (gr_mk S p) (upd sn p 1) _ _ _ sk so (T0 ++ [(p, s, mk)]) T2 (by rw [List.append_assoc]; exact hT) hS2 hI2 hM2 (xi_Jw (xi_Jl (by rw [ho]; decide) (by rw [g1]; decide) hJ)) k5 (by omega) (by rw [List.length_append]; show T0.length + 1 + _ ≤ 36; omega) (xi_al_add hL ho hs k3 hal) (by omega) h5
              rw [List.length_append] at this
              exact this
            · -- begin
              have hJ2 := xi_Jl (by rw [ho]; decide) (by rw [g1]; decide) hJ
              have hu2 := xi_tn (t := t) (ao := a_op) (sn := sn) (p := p) (by rw [ho]; decide)
              have h5 := ly_e' (by rw [g1]; decide) (by rw [g1]; decide) nS hly
              by_cases c : x5 = 0
              · have hq : gr_sx (tr_G t) e xi_nt p (s, mk) = [(l', s, mk)] := by
                  rw [gr_sx1 g1 (he1.mpr c), g2]; rfl
                rw [hq] at h5
                refine xe_b1 (by omega) (by omega) k3 k1 k2 hsp ho c ?_
                exact ihA ((p + 1, l', mk) :: st) (gr_mk S p) (upd sn p 1) np fr no _ _ T0 T hT hS2 hI2 hM2 (xi_Jw hJ2) (xi_Kp k5 k3 hE) (by rw [List.length_cons]; omega) (by omega) hal (by rw [List.length_cons]; omega) h5
              · have hq : gr_sx (tr_G t) e xi_nt p (s, mk) = [] := by
                  exact gr_sx1n g1 (fun z => c (he1.mp z))
                rw [hq] at h5
                refine xe_b0 (by omega) (by omega) k3 k1 k2 hsp ho c ?_
                exact ihA st (gr_mk S p) (upd sn p 1) np fr no sk so T0 T hT hS2 hI2 hM2 (xi_Jw hJ2) k5 (by omega) (by omega) hal (by omega) h5
            · -- end
              have hJ2 := xi_Jl (by rw [ho]; decide) (by rw [g1]; decide) hJ
              have hu2 := xi_tn (t := t) (ao := a_op) (sn := sn) (p := p) (by rw [ho]; decide)
              have h5 := ly_e' (by rw [g1]; decide) (by rw [g1]; decide) nS hly
              by_cases c : x5 = f_length
              · have hq : gr_sx (tr_G t) e xi_nt p (s, mk) = [(l', s, mk)] := by
                  rw [gr_sx2 g1 (he2.mpr c), g2]; rfl
                rw [hq] at h5
                refine xe_e1 (by omega) (by omega) k3 k1 k2 hsp ho c ?_
                exact ihA ((p + 1, l', mk) :: st) (gr_mk S p) (upd sn p 1) np fr no _ _ T0 T hT hS2 hI2 hM2 (xi_Jw hJ2) (xi_Kp k5 k3 hE) (by rw [List.length_cons]; omega) (by omega) hal (by rw [List.length_cons]; omega) h5
              · have hq : gr_sx (tr_G t) e xi_nt p (s, mk) = [] := by
                  exact gr_sx2n g1 (fun z => c (he2.mp z))
                rw [hq] at h5
                refine xe_e0 (by omega) (by omega) k3 k1 k2 hsp ho c ?_
                exact ihA st (gr_mk S p) (upd sn p 1) np fr no sk so T0 T hT hS2 hI2 hM2 (xi_Jw hJ2) k5 (by omega) (by omega) hal (by omega) h5
            · -- note
              have hJ2 := xi_Jl (by rw [ho]; decide) (by rw [g1]; decide) hJ
              have hu2 := xi_tn (t := t) (ao := a_op) (sn := sn) (p := p) (by rw [ho]; decide)
              have h5 := ly_e' (by rw [g1]; decide) (by rw [g1]; decide) nS hly
              have hq : gr_sx (tr_G t) e xi_nt p (s, mk) = [(l', s, mk ||| 2 ^ v)] := by
                rw [gr_sx5 g1, g2, g3]; rfl
              rw [hq] at h5
              have hv2 : 2 ^ v < 128 := Nat.pow_lt_pow_right (n := 7) (by decide) hv
              refine xe_n (by omega) (by omega) k3 k1 k2 hsp hv ho ex ?_
              exact ihA ((p + 1, l', mk ||| 2 ^ v) :: st) (gr_mk S p) (upd sn p 1) np fr no _ _ T0 T hT hS2 hI2 hM2 (xi_Jw hJ2) (xi_Kp k5 (mn_or128 k3 hv2) hE) (by rw [List.length_cons]; omega) (by omega) hal (by rw [List.length_cons]; omega) h5
            · -- split
              have hJ2 := xi_Jl (by rw [ho]; decide) (by rw [g1]; decide) hJ
              have hu2 := xi_tn (t := t) (ao := a_op) (sn := sn) (p := p) (by rw [ho]; decide)
              have h5 := ly_e' (by rw [g1]; decide) (by rw [g1]; decide) nS hly
              have hq : gr_sx (tr_G t) e xi_nt p (s, mk) = L1.map (fun l => (l, s, mk)) ++ [(l2, s, mk)] := by
                rw [gr_sx3 g1, g2, List.map_append]; rfl
              rw [hq, List.append_assoc] at h5
              refine xe_p hP (by omega) (by omega) k3 k1 k2 hsp (by omega) hp ho ?_
              refine ihB p (xv_1 (tr_len t) a_op a_x a_y a_prefersPast p) mk L1 ((xv_2 a_y a_prefersPast p, l2, mk) :: st) (gr_mk S p) (upd sn p 1) np fr no _ _ T0 T hT hS2 hI2 hM2 hJ2 (xi_Ku (by rw [List.length_cons]; omega) (xi_Kp k5 k3 hE)) pk_us pk_us k3 hC ?_ (by rw [List.length_cons]; omega) (by omega) hal (by rw [List.length_cons]; omega) h5
              intro hi
              have ez := hi.2
              rw [ez, pk_un (by omega), pk_us]
              refine ⟨?_, by decide⟩
              by_cases z0 : sn (p + 1) = 0
              · exact z0
              · exact absurd hsp (hI p (by have := hi.1; rw [ez] at this; exact this) z0)
          · have nS : S p = true := (hS p hL).mpr hsp
            have g6 : ¬ (tr_G t).1 p = 6 := by
              rcases hkind with ⟨ho, g1⟩ | ⟨ho, g1, _⟩ | ⟨ho, g1, _⟩ | ⟨ho, g1, _⟩ | ⟨ho, g1, _⟩ <;> rw [g1] <;> decide
            exact skip (Or.inr ⟨g6, nS⟩) hsp
    refine ⟨hA, ?_⟩
    intro pr z mk L st S sn np fr no sk so T0 T hT hS hI hM hJ hK hz hzn hmk hC hin hlen hcnt hal hf hly
    rcases ch_invX hC with ⟨l, hE, rfl⟩ | ⟨hi, ho, L1, l2, hC1, hE2, rfl⟩
    · exact hA ((z, l, mk) :: st) S sn np fr no sk so T0 T hT hS hI hM (xi_Jw hJ) ⟨hz, hzn, hmk, hE, hK⟩ (by rw [List.length_cons]; omega) hcnt hal (by rw [List.length_cons]; omega) hly
    · obtain ⟨hz0, hpr⟩ := hin hi
      have hzm : z < tr_len t := xi_nm hi.1
      have ho : a_op z = 3 := (xp_oc hP (by omega) (c := 3) (by omega)).mp ho
      have hu := xi_um (t := t) (Nat.le_of_lt hzm) hz0
      have hu2 := xi_tn (t := t) (ao := a_op) (sn := sn) (p := z) (by rw [ho]; decide)
      refine xe_p hP (by omega) (by omega) hmk hz hzn hz0 (by omega) (Nat.le_of_lt hzm) ho ?_
      refine ihB z (xv_1 (tr_len t) a_op a_x a_y a_prefersPast z) mk L1 ((xv_2 a_y a_prefersPast z, l2, mk) :: st) S (upd sn z 1) np fr no _ _ T0 T hT (xi_Sn (xi_nl hi.1) hS) (xi_Il ?_ hI) (xi_Mn (by omega) hM) (xi_Jn (by rw [ho]; decide) hJ) (xi_Ku (by rw [List.length_cons]; omega) (xi_Kp hK hmk hE2)) pk_us pk_us hmk hC1 ?_ (by rw [List.length_cons]; omega) (by omega) hal (by rw [List.length_cons]; omega) ?_
      · intro _ j ej
        have := hi.2
        have : j = pr := by omega
        rw [this]; exact hpr
      · intro hi2
        have ez := hi2.2
        rw [ez, pk_un (by omega), pk_us]
        refine ⟨?_, by decide⟩
        by_cases z0 : sn (z + 1) = 0
        · exact z0
        · exact absurd hz0 (hI z (by have := hi2.1; rw [ez] at this; exact this) z0)
      · rw [List.map_append, List.append_assoc] at hly
        exact hly
end XRG
end
section
section XAD
/-! advance: all threads one behind the other -/
theorem ly_split {α : Type} {G : gr_T} {e : gr_E} {nt : Nat → α → α} {S : Nat → Bool} {st : List (Nat × α)} {S' : Nat → Bool} {T : List (Nat × α)} {ov : Option α} (h : ly_R G e nt S st (S', T, ov)) : ∀ A B, st = A ++ B →
    ∃ S1 T1 ov1, ly_R G e nt S A (S1, T1, ov1) ∧ ((∃ x, ov1 = some x ∧ S' = S1 ∧ T = T1 ∧ ov = ov1) ∨ (ov1 = none ∧ ∃ T2, T = T1 ++ T2 ∧ ly_R G e nt S1 B (S', T2, ov))) := by
  refine ly_ind (P := fun S st S' T ov => ly_R G e nt S st (S', T, ov) → ∀ A B, st = A ++ B →
    ∃ S1 T1 ov1, ly_R G e nt S A (S1, T1, ov1) ∧ ((∃ x, ov1 = some x ∧ S' = S1 ∧ T = T1 ∧ ov = ov1) ∨ (ov1 = none ∧ ∃ T2, T = T1 ++ T2 ∧ ly_R G e nt S1 B (S', T2, ov)))) ?_ ?_ ?_ ?_ ?_ ?_ S st S' T ov h h
  · intro S h A B e'
    have e1 := List.append_eq_nil_iff.mp e'.symm
    rw [e1.1, e1.2]
    exact ⟨S, [], none, ly_nil, Or.inr ⟨rfl, [], rfl, ly_nil⟩⟩
  · intro S l a st k c h A B e'
    cases A with
    | nil => exact ⟨S, [], none, ly_nil, Or.inr ⟨rfl, [], rfl, by rw [← (show (l, a) :: st = B from e')]; exact h⟩⟩
    | cons x A => cases e'; exact ⟨S, [], some a, ly_m1 k c, Or.inl ⟨a, rfl, rfl, rfl, rfl⟩⟩
  · intro S l a st S' T ov k c ih h A B e'
    cases A with
    | nil => exact ⟨S, [], none, ly_nil, Or.inr ⟨rfl, T, rfl, by rw [← (show (l, a) :: st = B from e')]; exact h⟩⟩
    | cons x A =>
      cases e'
      obtain ⟨S1, T1, ov1, h1, h2⟩ := ih (ly_m0' k c h) A B rfl
      exact ⟨S1, T1, ov1, ly_m0 k c h1, h2⟩
  · intro S l a st S' T ov k c ih h A B e'
    cases A with
    | nil => exact ⟨S, [], none, ly_nil, Or.inr ⟨rfl, T, rfl, by rw [← (show (l, a) :: st = B from e')]; exact h⟩⟩
    | cons x A =>
      cases e'
      obtain ⟨S1, T1, ov1, h1, h2⟩ := ih (ly_s' k c h) A B rfl
      exact ⟨S1, T1, ov1, ly_s k c h1, h2⟩
  · intro S l a st S' T ov k c ih h A B e'
    cases A with
    | nil => exact ⟨S, [], none, ly_nil, Or.inr ⟨rfl, (l, a) :: T, rfl, by rw [← (show (l, a) :: st = B from e')]; exact h⟩⟩
    | cons x A =>
      cases e'
      obtain ⟨S2, T2, ov2, h5, e5⟩ := ly_t' k c h
      cases e5
      obtain ⟨S1, T1, ov1, h1, h2⟩ := ih h5 A B rfl
      refine ⟨S1, (l, a) :: T1, ov1, ly_t k c h1, ?_⟩
      rcases h2 with ⟨x, e1, e2, e3, e4⟩ | ⟨e1, T3, e2, e3⟩
      · exact Or.inl ⟨x, e1, e2, by rw [e3], e4⟩
      · exact Or.inr ⟨e1, T3, by rw [e2]; rfl, e3⟩
  · intro S l a st S' T ov k k0 c ih h A B e'
    cases A with
    | nil => exact ⟨S, [], none, ly_nil, Or.inr ⟨rfl, T, rfl, by rw [← (show (l, a) :: st = B from e')]; exact h⟩⟩
    | cons x A =>
      cases e'
      obtain ⟨S1, T1, ov1, h1, h2⟩ := ih (ly_e' k k0 c h) (gr_sx G e nt l a ++ A) B (List.append_assoc _ _ _).symm
      exact ⟨S1, T1, ov1, ly_e k k0 c h1, h2⟩
/-- the entries of the threads' list P from number i on, under character c -/
def ad_en (G : gr_T) (c : Nat) : Nat → List Nat → List (Nat × Nat × Nat)
  | _, [] => []
  | i, q :: P => (if (G.2.1 q).testBit c = true then (G.2.2 q).map (fun l => (l, i, 0)) else []) ++ ad_en G c (i + 1) P
def ad_sd (e0 : Nat) (sk : Bool) : List (Nat × Nat × Nat) := if sk = true then [(e0, 36, 1)] else []
theorem xp_tst {t : Std.Format} {ao ax ay app : Nat → Int32} (h : xp_R t ao ax ay app) {q : Nat} (hL : tr_lab t false 0 q) (ho : ao q = 0) : q < tr_len t ∧ (tr_G t).1 q = 0 ∧ ∃ w l', w < 100 ∧ ax q = nI w ∧ (tr_G t).2.1 q = w ∧ xp_E t ao ax ay app (q + 1) l' ∧ (tr_G t).2.2 q = [l'] := by
  have hq := xp_lm hL
  obtain ⟨h1, h2⟩ := (xp_main h).2 q hL
  have h0 : xv_o (tr_len t) ao q = 0 := (xp_oc h (by omega) (c := 0) (by omega)).mpr ho
  refine ⟨hq, h1.symm.trans h0, ?_⟩
  rcases h2 with ⟨h3, _⟩ | ⟨h3, h4, h5, l', h6, h7⟩
  · omega
  · obtain ⟨c, u, v, hcc, e1, hu, e2, _⟩ := h.2.2.2 q hq
    have ew : xv_w ax q = u := by unfold xv_w; rw [e2]; exact nI_clamp (by omega)
    exact ⟨u, l', hu, e2, (h4 (Or.inl h0)).symm.trans ew, h6, h7⟩
theorem gr_u_cong {S S' : Nat → Bool} : ∀ n, (∀ j, j < n → S j = S' j) → gr_u S n = gr_u S' n := by
  intro n
  induction n with
  | zero => intro _; rfl
  | succ n ih => intro h; rw [gr_u_s, gr_u_s, ih (fun j hj => h j (by omega)), h n (by omega)]
variable {f_count f_place f_there f_length f_nodes f_level f_groups f_size f_tasks f_threads f_added f_bank f_matchFrom f_matchNotes f_found f_states f_flushed : Int32} {a_tok a_val a_text a_nKind a_nC a_nA a_nB a_nSize a_lAlt a_lSeq a_lAtom a_lGroup a_op a_x a_y a_prefersPast a_tNode a_tArg a_pc a_newPc a_from a_noted a_notes a_seen a_stack a_stackNotes a_best a_kPc a_kCount a_kFlags a_next a_kMatch a_kMatchNotes a_kFrom a_kNotes : Nat → Int32}
variable {post : Int32 → SX → Prop} {x4 x5 : Int32} {t : Std.Format}
theorem xe_reach {s p l mk : Nat} {e : gr_E} (hs : s ≤ 36) (hmk : mk < 128) (hP : xp_R t a_op a_x a_y a_prefersPast) (he1 : e.1 = true ↔ x5 = 0) (he2 : e.2.1 = true ↔ x5 = f_length) (he3 : e.2.2 = true ↔ ((x4 &&& 2) = 0 ∨ f_length ≤ x5)) {S S' : Nat → Bool} {T0 T : List (Nat × Nat × Nat)} {ov : Option (Nat × Nat)}
    (H0 : ov = none → ∀ (sn np fr no sk so : Nat → Int32), xi_S t sn S' → xi_I t sn → xi_M t e.2.2 sn → xi_J t a_op a_x a_y a_prefersPast e.2.2 S' sn [] → (T0 ++ T).length + xi_t (tr_len t) a_op sn ≤ 36 → xi_al t a_op (T0 ++ T) np fr no → post 0 (f_count, f_place, f_there, f_length, f_nodes, f_level, f_groups, f_size, f_tasks, f_threads, nI (T0 ++ T).length, f_bank, f_matchFrom, f_matchNotes, f_found, f_states, f_flushed, a_tok, a_val, a_text, a_nKind, a_nC, a_nA, a_nB, a_nSize, a_lAlt, a_lSeq, a_lAtom, a_lGroup, a_op, a_x, a_y, a_prefersPast, a_tNode, a_tArg, a_pc, np, fr, no, a_notes, sn, sk, so, a_best, a_kPc, a_kCount, a_kFlags, a_next, a_kMatch, a_kMatchNotes, a_kFrom, a_kNotes))
    (H1 : ∀ s' mk', ov = some (s', mk') → ∀ (sn np fr no sk so : Nat → Int32), mk' < 128 → s' = s → (T0 ++ T).length ≤ 36 → xi_al t a_op (T0 ++ T) np fr no → post 1 (f_count, f_place, f_there, f_length, f_nodes, f_level, f_groups, f_size, f_tasks, f_threads, nI (T0 ++ T).length, f_bank, nI s', nI mk', f_found, f_states, f_flushed, a_tok, a_val, a_text, a_nKind, a_nC, a_nA, a_nB, a_nSize, a_lAlt, a_lSeq, a_lAtom, a_lGroup, a_op, a_x, a_y, a_prefersPast, a_tNode, a_tArg, a_pc, np, fr, no, a_notes, sn, sk, so, a_best, a_kPc, a_kCount, a_kFlags, a_next, a_kMatch, a_kMatchNotes, a_kFrom, a_kNotes))
    (hS : xi_S t a_seen S) (hI : xi_I t a_seen) (hM : xi_M t e.2.2 a_seen) (hJ : xi_J t a_op a_x a_y a_prefersPast e.2.2 S a_seen []) (hcnt : T0.length + xi_t (tr_len t) a_op a_seen ≤ 36) (hal : xi_al t a_op T0 a_newPc a_from a_noted) (hE : xp_E t a_op a_x a_y a_prefersPast p l)
    (hly : ly_R (tr_G t) e xi_nt S [(l, s, mk)] (S', T, ov)) : wpX_reach post (f_count, f_place, f_there, f_length, f_nodes, f_level, f_groups, f_size, f_tasks, f_threads, nI T0.length, f_bank, f_matchFrom, f_matchNotes, f_found, f_states, f_flushed, a_tok, a_val, a_text, a_nKind, a_nC, a_nA, a_nB, a_nSize, a_lAlt, a_lSeq, a_lAtom, a_lGroup, a_op, a_x, a_y, a_prefersPast, a_tNode, a_tArg, a_pc, a_newPc, a_from, a_noted, a_notes, a_seen, a_stack, a_stackNotes, a_best, a_kPc, a_kCount, a_kFlags, a_next, a_kMatch, a_kMatchNotes, a_kFrom, a_kNotes) (nI p) (nI s) (nI mk) x4 x5 := by
  have hp := (xp_inv hP hE).1
  have hm := hP.1
  have hK : xi_K t a_op a_x a_y a_prefersPast [(p, l, mk)] (upd a_stack 0 (nI p)) (upd a_stackNotes 0 (nI mk)) := ⟨pk_us, pk_us, hmk, hE, trivial⟩
  have hu := gr_u_le (fun j => decide (¬ a_seen j = 0)) (tr_len t + 1)
  have := (xe_AB (post := post) (S' := S') (Tf := T0 ++ T) (ov := ov) hs hP he1 he2 he3 H0 H1 (2 * (tr_len t + 1) + 2)).1 [(p, l, mk)] S a_seen a_newPc a_from a_noted _ _ T0 T rfl hS hI hM (xi_Jw hJ) hK (by show 1 + gr_u _ _ ≤ _; omega) hcnt hal (by show 2 * gr_u _ _ + 1 < _; omega) hly
  show ∀ st, st = _ → ∀ x, x = _ → ∀ sN, sN = _ → _
  rw [mn_b1 (by omega), mn_b1 hmk]
  exact nm_e (nm_e (nm_e ⟨_, this⟩))
end XAD
end
section
section XAE
theorem na_b0 : narrow .boolean (.int 0) = .int 0 := by decide
theorem na_b1 : narrow .boolean (.int 1) = .int 1 := by decide
variable {f_count f_place f_there f_length f_nodes f_level f_groups f_size f_tasks f_threads f_added f_bank f_matchFrom f_matchNotes f_found f_states f_flushed : Int32} {a_tok a_val a_text a_nKind a_nC a_nA a_nB a_nSize a_lAlt a_lSeq a_lAtom a_lGroup a_op a_x a_y a_prefersPast a_tNode a_tArg a_pc a_newPc a_from a_noted a_notes a_seen a_stack a_stackNotes a_best a_kPc a_kCount a_kFlags a_next a_kMatch a_kMatchNotes a_kFrom a_kNotes : Nat → Int32}
variable {post : Int32 → SX → Prop} {x2 x3 : Int32} {t : Std.Format}
theorem xa_116 {e : gr_E} (hP : xp_R t a_op a_x a_y a_prefersPast) (he1 : e.1 = true ↔ x3 = 0) (he2 : e.2.1 = true ↔ x3 = f_length) (he3 : e.2.2 = true ↔ ((x2 &&& 2) = 0 ∨ f_length ≤ x3)) {S' : Nat → Bool} {Tf : List (Nat × Nat × Nat)} {ov : Option (Nat × Nat)} (H0 : ov = none → ∀ (mf mo : Int32) (sn np fr no sk so : Nat → Int32), Tf.length ≤ 36 → xi_al t a_op Tf np fr no → post 0 (f_count, f_place, f_there, f_length, f_nodes, f_level, f_groups, f_size, f_tasks, f_threads, nI Tf.length, f_bank, mf, mo, f_found, f_states, f_flushed, a_tok, a_val, a_text, a_nKind, a_nC, a_nA, a_nB, a_nSize, a_lAlt, a_lSeq, a_lAtom, a_lGroup, a_op, a_x, a_y, a_prefersPast, a_tNode, a_tArg, a_pc, np, fr, no, a_notes, sn, sk, so, a_best, a_kPc, a_kCount, a_kFlags, a_next, a_kMatch, a_kMatchNotes, a_kFrom, a_kNotes)) (H1 : ∀ s' mk', ov = some (s', mk') → ∀ (sn np fr no sk so : Nat → Int32), mk' < 128 → s' ≤ 36 → Tf.length ≤ 36 → xi_al t a_op Tf np fr no → post 1 (f_count, f_place, f_there, f_length, f_nodes, f_level, f_groups, f_size, f_tasks, f_threads, nI Tf.length, f_bank, nI s', nI mk', f_found, f_states, f_flushed, a_tok, a_val, a_text, a_nKind, a_nC, a_nA, a_nB, a_nSize, a_lAlt, a_lSeq, a_lAtom, a_lGroup, a_op, a_x, a_y, a_prefersPast, a_tNode, a_tArg, a_pc, np, fr, no, a_notes, sn, sk, so, a_best, a_kPc, a_kCount, a_kFlags, a_next, a_kMatch, a_kMatchNotes, a_kFrom, a_kNotes)) :
    ∀ (S : Nat → Bool) (mf mo : Int32) (sn np fr no sk so : Nat → Int32) T0 T, T0 ++ T = Tf → xi_S t sn S → xi_I t sn → xi_M t e.2.2 sn → xi_J t a_op a_x a_y a_prefersPast e.2.2 S sn [] → T0.length + xi_t (tr_len t) a_op sn ≤ 36 → xi_al t a_op T0 np fr no → ly_R (tr_G t) e xi_nt S [(tr_e0 t, 36, 1)] (S', T, ov) → wX_advance_116 post x2 x3 f_count f_place f_there f_length f_nodes f_level f_groups f_size f_tasks f_threads (nI T0.length) f_bank mf mo f_found f_states f_flushed a_tok a_val a_text a_nKind a_nC a_nA a_nB a_nSize a_lAlt a_lSeq a_lAtom a_lGroup a_op a_x a_y a_prefersPast a_tNode a_tArg a_pc np fr no a_notes sn sk so a_best a_kPc a_kCount a_kFlags a_next a_kMatch a_kMatchNotes a_kFrom a_kNotes := by
  intro S mf mo sn np fr no sk so T0 T hT hS hI hM hJ hc hal hly
  subst hT
  unfold wX_advance_116
  refine xe_reach (s := 36) (mk := 1) (p := 0) (by omega) (by omega) hP he1 he2 he3 ?_ ?_ hS hI hM hJ hc hal (xp_main hP).1 hly
  · intro hn sn np fr no sk so h1 h2 h3 h4 h5 h6
    exact ⟨na_b0, H0 hn mf mo sn np fr no sk so (by omega) h6⟩
  · intro s' mk' hn sn np fr no sk so h1 h2 h3 h4
    exact ⟨na_b1, H1 s' mk' hn sn np fr no sk so h1 (by omega) h3 h4⟩
theorem xa_101 {x1 : Int32} {e : gr_E} {sf : Bool} (hP : xp_R t a_op a_x a_y a_prefersPast) (he1 : e.1 = true ↔ x3 = 0) (he2 : e.2.1 = true ↔ x3 = f_length) (he3 : e.2.2 = true ↔ ((x2 &&& 2) = 0 ∨ f_length ≤ x3)) (hsf : sf = true ↔ (x1 < 0 ∨ ¬ (x2 &&& 1) = 0)) {S' : Nat → Bool} {Tf : List (Nat × Nat × Nat)} {ov : Option (Nat × Nat)} (H0 : ov = none → ∀ (mf mo : Int32) (sn np fr no sk so : Nat → Int32), Tf.length ≤ 36 → xi_al t a_op Tf np fr no → post 0 (f_count, f_place, f_there, f_length, f_nodes, f_level, f_groups, f_size, f_tasks, f_threads, nI Tf.length, f_bank, mf, mo, f_found, f_states, f_flushed, a_tok, a_val, a_text, a_nKind, a_nC, a_nA, a_nB, a_nSize, a_lAlt, a_lSeq, a_lAtom, a_lGroup, a_op, a_x, a_y, a_prefersPast, a_tNode, a_tArg, a_pc, np, fr, no, a_notes, sn, sk, so, a_best, a_kPc, a_kCount, a_kFlags, a_next, a_kMatch, a_kMatchNotes, a_kFrom, a_kNotes)) (H1 : ∀ s' mk', ov = some (s', mk') → ∀ (sn np fr no sk so : Nat → Int32), mk' < 128 → s' ≤ 36 → Tf.length ≤ 36 → xi_al t a_op Tf np fr no → post 1 (f_count, f_place, f_there, f_length, f_nodes, f_level, f_groups, f_size, f_tasks, f_threads, nI Tf.length, f_bank, nI s', nI mk', f_found, f_states, f_flushed, a_tok, a_val, a_text, a_nKind, a_nC, a_nA, a_nB, a_nSize, a_lAlt, a_lSeq, a_lAtom, a_lGroup, a_op, a_x, a_y, a_prefersPast, a_tNode, a_tArg, a_pc, np, fr, no, a_notes, sn, sk, so, a_best, a_kPc, a_kCount, a_kFlags, a_next, a_kMatch, a_kMatchNotes, a_kFrom, a_kNotes)) :
    ∀ (S : Nat → Bool) (mf mo : Int32) (sn np fr no sk so : Nat → Int32) T0 T, T0 ++ T = Tf → xi_S t sn S → xi_I t sn → xi_M t e.2.2 sn → xi_J t a_op a_x a_y a_prefersPast e.2.2 S sn [] → T0.length + xi_t (tr_len t) a_op sn ≤ 36 → xi_al t a_op T0 np fr no → ly_R (tr_G t) e xi_nt S (ad_sd (tr_e0 t) sf) (S', T, ov) → wX_advance_101 post x1 x2 x3 0 f_count f_place f_there f_length f_nodes f_level f_groups f_size f_tasks f_threads (nI T0.length) f_bank mf mo f_found f_states f_flushed a_tok a_val a_text a_nKind a_nC a_nA a_nB a_nSize a_lAlt a_lSeq a_lAtom a_lGroup a_op a_x a_y a_prefersPast a_tNode a_tArg a_pc np fr no a_notes sn sk so a_best a_kPc a_kCount a_kFlags a_next a_kMatch a_kMatchNotes a_kFrom a_kNotes := by
  intro S mf mo sn np fr no sk so T0 T hT hS hI hM hJ hc hal hly
  have go : sf = true → wX_advance_116 post x2 x3 f_count f_place f_there f_length f_nodes f_level f_groups f_size f_tasks f_threads (nI T0.length) f_bank mf mo f_found f_states f_flushed a_tok a_val a_text a_nKind a_nC a_nA a_nB a_nSize a_lAlt a_lSeq a_lAtom a_lGroup a_op a_x a_y a_prefersPast a_tNode a_tArg a_pc np fr no a_notes sn sk so a_best a_kPc a_kCount a_kFlags a_next a_kMatch a_kMatchNotes a_kFrom a_kNotes := by
    intro hs
    rw [hs] at hly
    exact xa_116 hP he1 he2 he3 H0 H1 S mf mo sn np fr no sk so T0 T hT hS hI hM hJ hc hal hly
  refine br_t rfl ?_
  by_cases c1 : x1 < 0
  · exact br_t c1 (go (hsf.mpr (Or.inl c1)))
  · refine br_f c1 ?_
    by_cases c2 : (x2 &&& 1) = 0
    · have hs : ¬ sf = true := fun z => (hsf.mp z).elim c1 (fun y => y c2)
      have hly2 : ly_R (tr_G t) e xi_nt S [] (S', T, ov) := by
        unfold ad_sd at hly
        rw [if_neg hs] at hly; exact hly
      cases ly_nil' hly2
      rw [List.append_nil] at hT
      subst hT
      exact br_t c2 ⟨na_b0, H0 rfl mf mo sn np fr no sk so (by omega) hal⟩
    · exact br_f c2 (go (hsf.mpr (Or.inr c2)))
theorem xa_37 {c : Nat} {e : gr_E} {sf : Bool} (hc8 : c < 8) (hP : xp_R t a_op a_x a_y a_prefersPast) (he1 : e.1 = true ↔ x3 = 0) (he2 : e.2.1 = true ↔ x3 = f_length) (he3 : e.2.2 = true ↔ ((x2 &&& 2) = 0 ∨ f_length ≤ x3)) (hsf : sf = true ↔ ¬ (x2 &&& 1) = 0) {P : List Nat} (hPl : P.length ≤ 36) (hpc : ∀ i q, P[i]? = some q → a_pc i = nI q ∧ tr_lab t false 0 q ∧ a_op q = 0) (hth : f_threads = nI P.length)
    {S' : Nat → Bool} {Tf : List (Nat × Nat × Nat)} {ov : Option (Nat × Nat)} (H0 : ov = none → ∀ (mf mo : Int32) (sn np fr no sk so : Nat → Int32), Tf.length ≤ 36 → xi_al t a_op Tf np fr no → post 0 (f_count, f_place, f_there, f_length, f_nodes, f_level, f_groups, f_size, f_tasks, f_threads, nI Tf.length, f_bank, mf, mo, f_found, f_states, f_flushed, a_tok, a_val, a_text, a_nKind, a_nC, a_nA, a_nB, a_nSize, a_lAlt, a_lSeq, a_lAtom, a_lGroup, a_op, a_x, a_y, a_prefersPast, a_tNode, a_tArg, a_pc, np, fr, no, a_notes, sn, sk, so, a_best, a_kPc, a_kCount, a_kFlags, a_next, a_kMatch, a_kMatchNotes, a_kFrom, a_kNotes)) (H1 : ∀ s' mk', ov = some (s', mk') → ∀ (sn np fr no sk so : Nat → Int32), mk' < 128 → s' ≤ 36 → Tf.length ≤ 36 → xi_al t a_op Tf np fr no → post 1 (f_count, f_place, f_there, f_length, f_nodes, f_level, f_groups, f_size, f_tasks, f_threads, nI Tf.length, f_bank, nI s', nI mk', f_found, f_states, f_flushed, a_tok, a_val, a_text, a_nKind, a_nC, a_nA, a_nB, a_nSize, a_lAlt, a_lSeq, a_lAtom, a_lGroup, a_op, a_x, a_y, a_prefersPast, a_tNode, a_tArg, a_pc, np, fr, no, a_notes, sn, sk, so, a_best, a_kPc, a_kCount, a_kFlags, a_next, a_kMatch, a_kMatchNotes, a_kFrom, a_kNotes)) :
    ∀ (Q : List Nat) (i n : Nat) (S : Nat → Bool) (mf mo : Int32) (sn np fr no sk so : Nat → Int32) T0 T, i + Q.length = P.length → P.drop i = Q → Q.length < n → T0 ++ T = Tf → xi_S t sn S → xi_I t sn → xi_M t e.2.2 sn → xi_J t a_op a_x a_y a_prefersPast e.2.2 S sn [] → T0.length + xi_t (tr_len t) a_op sn ≤ 36 → xi_al t a_op T0 np fr no → ly_R (tr_G t) e xi_nt S (ad_en (tr_G t) c i Q ++ ad_sd (tr_e0 t) sf) (S', T, ov) → wX_advance_37 post (nI c) x2 x3 n 0 (nI i) f_count f_place f_there f_length f_nodes f_level f_groups f_size f_tasks f_threads (nI T0.length) f_bank mf mo f_found f_states f_flushed a_tok a_val a_text a_nKind a_nC a_nA a_nB a_nSize a_lAlt a_lSeq a_lAtom a_lGroup a_op a_x a_y a_prefersPast a_tNode a_tArg a_pc np fr no a_notes sn sk so a_best a_kPc a_kCount a_kFlags a_next a_kMatch a_kMatchNotes a_kFrom a_kNotes := by
  have hn0 : ¬ nI c < 0 := nI_pos (by omega)
  have hsf' : sf = true ↔ (nI c < 0 ∨ ¬ (x2 &&& 1) = 0) := hsf.trans ⟨Or.inr, fun h => h.resolve_left hn0⟩
  intro Q
  induction Q with
  | nil =>
    intro i n S mf mo sn np fr no sk so T0 T hi hd hn hT hS hI hM hJ hc hal hly
    obtain ⟨n, rfl⟩ : ∃ k, n = k + 1 := ⟨n - 1, by simp at hn; omega⟩
    have hi : i = P.length := by simpa using hi
    subst hi
    refine br_t (by rw [hth]; exact nI_le (Nat.le_refl _) (by omega)) ?_
    exact xa_101 hP he1 he2 he3 hsf' H0 H1 S mf mo sn np fr no sk so T0 T hT hS hI hM hJ hc hal hly
  | cons q Q ih =>
    intro i n S mf mo sn np fr no sk so T0 T hi hd hn hT hS hI hM hJ hc hal hly
    rw [List.length_cons] at hi hn
    obtain ⟨n, rfl⟩ : ∃ k, n = k + 1 := ⟨n - 1, by omega⟩
    have hq : P[i]? = some q := by
      have := List.getElem?_drop (xs := P) (i := i) (j := 0)
      rw [hd] at this
      rw [Nat.add_zero] at this
      exact this.symm
    have hd' : P.drop (i + 1) = Q := by
      have := List.drop_drop (l := P) (i := 1) (j := i)
      rw [hd] at this
      exact this.symm
    obtain ⟨epc, hL, ho⟩ := hpc i q hq
    obtain ⟨hqm, g1, w, l', hw, ex, g2, hE, g3⟩ := xp_tst hP hL ho
    have hm := hP.1
    have c1 : (nI i).toNatClampNeg = i := nI_clamp (by omega)
    have c2 : (nI q).toNatClampNeg = q := nI_clamp (by omega)
    refine br_f (by rw [hth]; exact nI_ge (by omega) (by omega)) (br_f hn0 (br_t rfl ⟨vp_in_nI (by omega) (by omega), ?_⟩))
    rw [c1, epc, c2, ex]
    refine ⟨vp_in_nI (by omega) (by omega), ?_⟩
    unfold ad_en at hly
    rw [List.append_assoc] at hly
    by_cases hb : w.testBit c = true
    · rw [if_pos (by rw [g2]; exact hb), g3] at hly
      obtain ⟨S1, T1, ov1, h1, h2⟩ := ly_split hly _ _ rfl
      refine br_t ((mn_tb1 (by omega) hc8).mpr hb) ⟨vp_in_nI (by omega) (by omega), ?_⟩
      rw [nI_1 q]
      refine xe_reach (mk := 0) (T := T1) (S' := S1) (ov := ov1) (by omega) (by omega) hP he1 he2 he3 ?_ ?_ hS hI hM hJ hc hal hE h1
      · intro hn1 sn np fr no sk so k1 k2 k3 k4 k5 k6
        subst hn1
        rcases h2 with ⟨x, e1, _⟩ | ⟨_, T2, e1, h3⟩
        · cases e1
        · refine nm_r (nI_1 i) ?_
          exact ih (i + 1) n S1 mf mo sn np fr no sk so (T0 ++ T1) T2 (by omega) hd' (by omega) (by rw [List.append_assoc, ← e1]; exact hT) k1 k2 k3 k4 k5 k6 h3
      · intro s' mk' hn1 sn np fr no sk so k1 k2 k3 k4
        subst hn1
        rcases h2 with ⟨x, e1, e2, e3, e4⟩ | ⟨e1, _⟩
        · subst e3
          subst hT
          have hp := H1 s' mk' e4 sn np fr no sk so k1 (by omega) k3 k4
          refine nm_r (nI_1 i) ?_
          obtain ⟨n, rfl⟩ : ∃ k, n = k + 1 := ⟨n - 1, by omega⟩
          have h101 : wX_advance_101 post (nI c) x2 x3 1 f_count f_place f_there f_length f_nodes f_level f_groups f_size f_tasks f_threads (nI (T0 ++ T).length) f_bank (nI s') (nI mk') f_found f_states f_flushed a_tok a_val a_text a_nKind a_nC a_nA a_nB a_nSize a_lAlt a_lSeq a_lAtom a_lGroup a_op a_x a_y a_prefersPast a_tNode a_tArg a_pc np fr no a_notes sn sk so a_best a_kPc a_kCount a_kFlags a_next a_kMatch a_kMatchNotes a_kFrom a_kNotes := br_f (by decide) ⟨na_b1, hp⟩
          refine br_c (fun _ => h101) (fun _ => br_f hn0 (br_f (by decide) h101))
        · cases e1
    · rw [if_neg (by rw [g2]; exact hb), List.nil_append] at hly
      refine br_f (fun z => hb ((mn_tb1 (by omega) hc8).mp z)) (nm_r (nI_1 i) ?_)
      exact ih (i + 1) n S mf mo sn np fr no sk so T0 T (by omega) hd' (by omega) hT hS hI hM hJ hc hal hly
theorem xa_11 {x1 x4 : Int32} (hm : tr_len t ≤ 72) (hsz : f_size = nI (tr_len t + 1)) : ∀ d i n (sn : Nat → Int32), i + d = tr_len t + 1 → d < n → (∀ j, j < i → sn j = 0) → (∀ sn : Nat → Int32, (∀ j, j ≤ tr_len t → sn j = 0) → ∃ n37, wX_advance_37 post x1 x2 x3 n37 x4 0 f_count f_place f_there f_length f_nodes f_level f_groups f_size f_tasks f_threads f_added f_bank f_matchFrom f_matchNotes f_found f_states f_flushed a_tok a_val a_text a_nKind a_nC a_nA a_nB a_nSize a_lAlt a_lSeq a_lAtom a_lGroup a_op a_x a_y a_prefersPast a_tNode a_tArg a_pc a_newPc a_from a_noted a_notes sn a_stack a_stackNotes a_best a_kPc a_kCount a_kFlags a_next a_kMatch a_kMatchNotes a_kFrom a_kNotes) → wX_advance_11 post x1 x2 x3 x4 f_count f_place f_there f_length f_nodes f_level f_groups f_size f_tasks f_threads f_added f_bank f_matchFrom f_matchNotes f_found f_states f_flushed n (nI i) a_tok a_val a_text a_nKind a_nC a_nA a_nB a_nSize a_lAlt a_lSeq a_lAtom a_lGroup a_op a_x a_y a_prefersPast a_tNode a_tArg a_pc a_newPc a_from a_noted a_notes sn a_stack a_stackNotes a_best a_kPc a_kCount a_kFlags a_next a_kMatch a_kMatchNotes a_kFrom a_kNotes := by
  intro d
  induction d with
  | zero =>
    intro i n sn hi hn hz H
    obtain ⟨n, rfl⟩ : ∃ k, n = k + 1 := ⟨n - 1, by omega⟩
    exact br_t (by rw [hsz]; exact nI_le (by omega) (by omega)) (H sn (fun j hj => hz j (by omega)))
  | succ d ih =>
    intro i n sn hi hn hz H
    obtain ⟨n, rfl⟩ : ∃ k, n = k + 1 := ⟨n - 1, by omega⟩
    have c1 : (nI i).toNatClampNeg = i := nI_clamp (by omega)
    refine br_f (by rw [hsz]; exact nI_ge (by omega) (by omega)) ⟨vp_in_nI (by omega) (by omega), ?_⟩
    rw [c1, mn_t.1]
    refine nm_e (nm_r (nI_1 i) (ih (i + 1) n _ (by omega) (by omega) ?_ H))
    intro j hj
    by_cases ej : j = i
    · rw [ej, pk_us]
    · rw [pk_un ej]; exact hz j (by omega)
theorem xa_z (hP : xp_R t a_op a_x a_y a_prefersPast) {e : gr_E} {sn : Nat → Int32} (hz : ∀ j, j ≤ tr_len t → sn j = 0) (hct : gr_u (fun j => decide (¬ a_op j = 0)) (tr_len t + 1) ≤ 36) :
    xi_S t sn (fun _ => false) ∧ xi_I t sn ∧ xi_M t e.2.2 sn ∧ xi_J t a_op a_x a_y a_prefersPast e.2.2 (fun _ => false) sn [] ∧ xi_t (tr_len t) a_op sn ≤ 36 := by
  refine ⟨?_, ?_, ?_, ?_, ?_⟩
  · intro j hj
    have := xp_lm hj
    rw [hz j (by omega)]
    exact ⟨(fun h => nomatch h), fun h => absurd rfl h⟩
  · intro j hj hs
    have := xi_nm hj
    exact absurd (hz (j + 1) (by omega)) hs
  · intro h; exact absurd (hz _ (Nat.le_refl _)) h
  · intro q j l hq _ hs _; exact absurd (hz q hq) hs
  · unfold xi_t
    rw [gr_u_cong (S' := fun j => decide (¬ a_op j = 0)) _ (fun j hj => by rw [hz j (by omega)]; simp)]
    exact hct
/-- the threads behind character c -/
theorem xa_adv {c : Nat} {e : gr_E} {sf : Bool} (hc8 : c < 8) (hP : xp_R t a_op a_x a_y a_prefersPast) (he1 : e.1 = true ↔ x3 = 0) (he2 : e.2.1 = true ↔ x3 = f_length) (he3 : e.2.2 = true ↔ ((x2 &&& 2) = 0 ∨ f_length ≤ x3)) (hsf : sf = true ↔ ¬ (x2 &&& 1) = 0) {P : List Nat} (hPl : P.length ≤ 36) (hpc : ∀ i q, P[i]? = some q → a_pc i = nI q ∧ tr_lab t false 0 q ∧ a_op q = 0) (hth : f_threads = nI P.length)
    (hsz : f_size = nI (tr_len t + 1)) (hct : gr_u (fun j => decide (¬ a_op j = 0)) (tr_len t + 1) ≤ 36)
    {S' : Nat → Bool} {Tf : List (Nat × Nat × Nat)} {ov : Option (Nat × Nat)} (H0 : ov = none → ∀ (mf mo : Int32) (sn np fr no sk so : Nat → Int32), Tf.length ≤ 36 → xi_al t a_op Tf np fr no → post 0 (f_count, f_place, f_there, f_length, f_nodes, f_level, f_groups, f_size, f_tasks, f_threads, nI Tf.length, f_bank, mf, mo, f_found, f_states, f_flushed, a_tok, a_val, a_text, a_nKind, a_nC, a_nA, a_nB, a_nSize, a_lAlt, a_lSeq, a_lAtom, a_lGroup, a_op, a_x, a_y, a_prefersPast, a_tNode, a_tArg, a_pc, np, fr, no, a_notes, sn, sk, so, a_best, a_kPc, a_kCount, a_kFlags, a_next, a_kMatch, a_kMatchNotes, a_kFrom, a_kNotes)) (H1 : ∀ s' mk', ov = some (s', mk') → ∀ (sn np fr no sk so : Nat → Int32), mk' < 128 → s' ≤ 36 → Tf.length ≤ 36 → xi_al t a_op Tf np fr no → post 1 (f_count, f_place, f_there, f_length, f_nodes, f_level, f_groups, f_size, f_tasks, f_threads, nI Tf.length, f_bank, nI s', nI mk', f_found, f_states, f_flushed, a_tok, a_val, a_text, a_nKind, a_nC, a_nA, a_nB, a_nSize, a_lAlt, a_lSeq, a_lAtom, a_lGroup, a_op, a_x, a_y, a_prefersPast, a_tNode, a_tArg, a_pc, np, fr, no, a_notes, sn, sk, so, a_best, a_kPc, a_kCount, a_kFlags, a_next, a_kMatch, a_kMatchNotes, a_kFrom, a_kNotes)) (hly : ly_R (tr_G t) e xi_nt (fun _ => false) (ad_en (tr_G t) c 0 P ++ ad_sd (tr_e0 t) sf) (S', Tf, ov)) : wpX_advance post (f_count, f_place, f_there, f_length, f_nodes, f_level, f_groups, f_size, f_tasks, f_threads, f_added, f_bank, f_matchFrom, f_matchNotes, f_found, f_states, f_flushed, a_tok, a_val, a_text, a_nKind, a_nC, a_nA, a_nB, a_nSize, a_lAlt, a_lSeq, a_lAtom, a_lGroup, a_op, a_x, a_y, a_prefersPast, a_tNode, a_tArg, a_pc, a_newPc, a_from, a_noted, a_notes, a_seen, a_stack, a_stackNotes, a_best, a_kPc, a_kCount, a_kFlags, a_next, a_kMatch, a_kMatchNotes, a_kFrom, a_kNotes) (nI c) x2 x3 := by
  have hm := hP.1
  refine ⟨tr_len t + 2, ?_⟩
  refine xa_11 (t := t) (f_added := 0) hm hsz (tr_len t + 1) 0 _ a_seen (by omega) (by omega) (fun j hj => by omega) ?_
  intro sn hz
  obtain ⟨z1, z2, z3, z4, z5⟩ := xa_z (e := e) hP hz hct
  refine ⟨P.length + 1, ?_⟩
  exact xa_37 hc8 hP he1 he2 he3 hsf hPl hpc hth H0 H1 P 0 _ (fun _ => false) f_matchFrom f_matchNotes sn a_newPc a_from a_noted a_stack a_stackNotes [] Tf (by omega) rfl (by omega) rfl z1 z2 z3 z4 (by simpa using z5) (fun i x h => nomatch h) hly
theorem xa_adv0 {e : gr_E} (hP : xp_R t a_op a_x a_y a_prefersPast) (he1 : e.1 = true ↔ x3 = 0) (he2 : e.2.1 = true ↔ x3 = f_length) (he3 : e.2.2 = true ↔ ((x2 &&& 2) = 0 ∨ f_length ≤ x3)) (hsz : f_size = nI (tr_len t + 1)) (hct : gr_u (fun j => decide (¬ a_op j = 0)) (tr_len t + 1) ≤ 36)
    {S' : Nat → Bool} {Tf : List (Nat × Nat × Nat)} {ov : Option (Nat × Nat)} (H0 : ov = none → ∀ (mf mo : Int32) (sn np fr no sk so : Nat → Int32), Tf.length ≤ 36 → xi_al t a_op Tf np fr no → post 0 (f_count, f_place, f_there, f_length, f_nodes, f_level, f_groups, f_size, f_tasks, f_threads, nI Tf.length, f_bank, mf, mo, f_found, f_states, f_flushed, a_tok, a_val, a_text, a_nKind, a_nC, a_nA, a_nB, a_nSize, a_lAlt, a_lSeq, a_lAtom, a_lGroup, a_op, a_x, a_y, a_prefersPast, a_tNode, a_tArg, a_pc, np, fr, no, a_notes, sn, sk, so, a_best, a_kPc, a_kCount, a_kFlags, a_next, a_kMatch, a_kMatchNotes, a_kFrom, a_kNotes)) (H1 : ∀ s' mk', ov = some (s', mk') → ∀ (sn np fr no sk so : Nat → Int32), mk' < 128 → s' ≤ 36 → Tf.length ≤ 36 → xi_al t a_op Tf np fr no → post 1 (f_count, f_place, f_there, f_length, f_nodes, f_level, f_groups, f_size, f_tasks, f_threads, nI Tf.length, f_bank, nI s', nI mk', f_found, f_states, f_flushed, a_tok, a_val, a_text, a_nKind, a_nC, a_nA, a_nB, a_nSize, a_lAlt, a_lSeq, a_lAtom, a_lGroup, a_op, a_x, a_y, a_prefersPast, a_tNode, a_tArg, a_pc, np, fr, no, a_notes, sn, sk, so, a_best, a_kPc, a_kCount, a_kFlags, a_next, a_kMatch, a_kMatchNotes, a_kFrom, a_kNotes)) (hly : ly_R (tr_G t) e xi_nt (fun _ => false) [(tr_e0 t, 36, 1)] (S', Tf, ov)) : wpX_advance post (f_count, f_place, f_there, f_length, f_nodes, f_level, f_groups, f_size, f_tasks, f_threads, f_added, f_bank, f_matchFrom, f_matchNotes, f_found, f_states, f_flushed, a_tok, a_val, a_text, a_nKind, a_nC, a_nA, a_nB, a_nSize, a_lAlt, a_lSeq, a_lAtom, a_lGroup, a_op, a_x, a_y, a_prefersPast, a_tNode, a_tArg, a_pc, a_newPc, a_from, a_noted, a_notes, a_seen, a_stack, a_stackNotes, a_best, a_kPc, a_kCount, a_kFlags, a_next, a_kMatch, a_kMatchNotes, a_kFrom, a_kNotes) (-1) x2 x3 := by
  have hm := hP.1
  refine ⟨tr_len t + 2, ?_⟩
  refine xa_11 (t := t) (f_added := 0) hm hsz (tr_len t + 1) 0 _ a_seen (by omega) (by omega) (fun j hj => by omega) ?_
  intro sn hz
  obtain ⟨z1, z2, z3, z4, z5⟩ := xa_z (e := e) hP hz hct
  have h101 : wX_advance_101 post (-1) x2 x3 0 f_count f_place f_there f_length f_nodes f_level f_groups f_size f_tasks f_threads 0 f_bank f_matchFrom f_matchNotes f_found f_states f_flushed a_tok a_val a_text a_nKind a_nC a_nA a_nB a_nSize a_lAlt a_lSeq a_lAtom a_lGroup a_op a_x a_y a_prefersPast a_tNode a_tArg a_pc a_newPc a_from a_noted a_notes sn a_stack a_stackNotes a_best a_kPc a_kCount a_kFlags a_next a_kMatch a_kMatchNotes a_kFrom a_kNotes := by
    exact xa_101 (sf := true) hP he1 he2 he3 ⟨fun _ => Or.inl mn_neg1, fun _ => rfl⟩ H0 H1 (fun _ => false) f_matchFrom f_matchNotes sn a_newPc a_from a_noted a_stack a_stackNotes [] Tf rfl z1 z2 z3 z4 (by simpa using z5) (fun i x h => nomatch h) hly
  exact ⟨1, br_c (fun _ => h101) (fun _ => br_t mn_neg1 h101)⟩
end XAE
end
section
section XMV
/-! the notes move with the threads -/
def nb_k (v : Int32) : Prop := vp_nar .byte v.toInt8.toInt32 = v
theorem nb_n {a : Nat} (h : a < 128) : nb_k (nI a) := mn_b1 h
theorem nb_m : nb_k (-1) := mn_bm.1
def mv_s (TL : List (Nat × gr_N)) (j : Nat) : gr_N := ((TL[j]?).map (fun x => x.2)).getD (fun _ => -1)
def mv_N (TL : List (Nat × gr_N)) (i : Nat) (a : Nat × Nat) : gr_N := fun k => if a.2.testBit k = true then nI i else if a.1 = 36 then -1 else mv_s TL a.1 k
theorem mv_s_e {TL : List (Nat × gr_N)} {j : Nat} {x : Nat × gr_N} (h : TL[j]? = some x) : mv_s TL j = x.2 := by unfold mv_s; rw [h]; rfl
theorem mv_nt {TL : List (Nat × gr_N)} {i : Nat} (k : Nat) (a : Nat × Nat) : mv_N TL i (xi_nt k a) = nt_a i k (mv_N TL i a) := by
  funext j
  unfold mv_N xi_nt nt_a upd
  dsimp only
  rw [Nat.testBit_or]
  by_cases e : j = k
  · rw [if_pos e, if_pos (by rw [e, Nat.testBit_two_pow_self]; simp)]
  · rw [if_neg e, Nat.testBit_two_pow_of_ne (fun z => e z.symm), Bool.or_false]
theorem mv_sd {TL : List (Nat × gr_N)} {i : Nat} : mv_N TL i (36, 1) = (pk_sd 0 i).2 := by
  funext k
  show (if Nat.testBit 1 k = true then nI i else if 36 = 36 then -1 else _) = (if k = 0 then nI i else -1)
  by_cases e : k = 0
  · subst e; rfl
  · rw [if_neg e, if_pos rfl, if_neg]
    rw [Nat.testBit_one_eq_true_iff_self_eq_zero]; exact e
theorem mv_0 {TL : List (Nat × gr_N)} {i j : Nat} (h : j ≠ 36) : mv_N TL i (j, 0) = mv_s TL j := by
  funext k
  unfold mv_N
  rw [if_neg (by rw [Nat.zero_testBit]; decide), if_neg h]
/-- what the threads' list TL says of the arrays -/
def th_R (t : Std.Format) (ao : Nat → Int32) (TL : List (Nat × gr_N)) (b : Nat) (pc ns : Nat → Int32) : Prop :=
  ∀ j x, TL[j]? = some x → pc j = nI x.1 ∧ tr_lab t false 0 x.1 ∧ ao x.1 = 0 ∧ ∀ k, k < 7 → ns ((b * 36 + j) * 7 + k) = x.2 k ∧ nb_k (x.2 k)
theorem th_len {TL : List (Nat × gr_N)} {j : Nat} (h : j < TL.length) : ∃ x, TL[j]? = some x := ⟨TL[j], List.getElem?_eq_getElem h⟩
variable {f_count f_place f_there f_length f_nodes f_level f_groups f_size f_tasks f_threads f_added f_bank f_matchFrom f_matchNotes f_found f_states f_flushed : Int32} {a_tok a_val a_text a_nKind a_nC a_nA a_nB a_nSize a_lAlt a_lSeq a_lAtom a_lGroup a_op a_x a_y a_prefersPast a_tNode a_tArg a_pc a_newPc a_from a_noted a_notes a_seen a_stack a_stackNotes a_best a_kPc a_kCount a_kFlags a_next a_kMatch a_kMatchNotes a_kFrom a_kNotes : Nat → Int32}
variable {t : Std.Format}
section XNO
variable {post : Int32 → Prop} {b i : Nat} {TL : List (Nat × gr_N)}
theorem xm_note {s mk k : Nat} (hb : b < 2) (hi : i ≤ 32) (hk : k < 7) (hmk : mk < 128) (hbk : f_bank = nI b) (hTL : TL.length ≤ 36) (hs : s = 36 ∨ s < TL.length) (hn : ∀ j x, TL[j]? = some x → ∀ k, k < 7 → a_notes ((b * 36 + j) * 7 + k) = x.2 k ∧ nb_k (x.2 k))
    (h : nb_k (mv_N TL i (s, mk) k) → post (mv_N TL i (s, mk) k)) : wpX_noteOf post (f_count, f_place, f_there, f_length, f_nodes, f_level, f_groups, f_size, f_tasks, f_threads, f_added, f_bank, f_matchFrom, f_matchNotes, f_found, f_states, f_flushed, a_tok, a_val, a_text, a_nKind, a_nC, a_nA, a_nB, a_nSize, a_lAlt, a_lSeq, a_lAtom, a_lGroup, a_op, a_x, a_y, a_prefersPast, a_tNode, a_tArg, a_pc, a_newPc, a_from, a_noted, a_notes, a_seen, a_stack, a_stackNotes, a_best, a_kPc, a_kCount, a_kFlags, a_next, a_kMatch, a_kMatchNotes, a_kFrom, a_kNotes) (nI s) (nI k) (nI mk) (nI i) := by
  unfold wpX_noteOf
  dsimp only
  by_cases c : mk.testBit k = true
  · have e : mv_N TL i (s, mk) k = nI i := if_pos c
    rw [e] at h
    exact br_t ((mn_tb1 hmk (by omega)).mpr c) (h (nb_n (by omega)))
  · refine br_f (fun z => c ((mn_tb1 hmk (by omega)).mp z)) ?_
    rcases hs with rfl | hs
    · have e : mv_N TL i (36, mk) k = -1 := by unfold mv_N; rw [if_neg c, if_pos rfl]
      rw [e] at h
      exact br_t rfl (h nb_m)
    · obtain ⟨x, hx⟩ := th_len hs
      have e : mv_N TL i (s, mk) k = x.2 k := by
        unfold mv_N; dsimp only
        rw [if_neg c, if_neg (by omega), mv_s_e hx]
      rw [e] at h
      have e2 : ((nI b * 36 + nI s) * 7) + nI k = nI ((b * 36 + s) * 7 + k) := by
        rw [show (36 : Int32) = nI 36 from rfl, show (7 : Int32) = nI 7 from rfl, pk_mul, nI_add, pk_mul, nI_add]
      rw [hbk, e2, nI_clamp (by omega)]
      obtain ⟨h1, h2⟩ := hn s x hx k hk
      rw [h1]
      exact br_f (mn_ne (b := 36) rfl (by omega) (by omega) (by omega)) ⟨vp_in_nI (by omega) (by omega), h h2⟩
end XNO
variable {post : SX → Prop} {b i : Nat} {TL : List (Nat × gr_N)} {T : List (Nat × Nat × Nat)}
/-- the other bank's part that is written; this bank stays -/
def mv_W (TL : List (Nat × gr_N)) (i b : Nat) (T : List (Nat × Nat × Nat)) (ns0 ns : Nat → Int32) (j k : Nat) : Prop :=
  (∀ q, b * 252 ≤ q → q < b * 252 + 252 → ns q = ns0 q) ∧ (∀ j' x k', T[j']? = some x → k' < 7 → (j' < j ∨ (j' = j ∧ k' < k)) → ns (((1 - b) * 36 + j') * 7 + k') = mv_N TL i x.2 k' ∧ nb_k (mv_N TL i x.2 k'))
theorem xm_83 {J : _} {j s mk p : Nat} (hb : b < 2) (hi : i ≤ 32) (hbk : f_bank = nI b) (hTL : TL.length ≤ 36) (hj : j < 36) (hx : T[j]? = some (p, s, mk)) (hmk : mk < 128) (hs : s = 36 ∨ s < TL.length) (hp : p < 100) {ns0 : Nat → Int32}
    (hn : ∀ j x, TL[j]? = some x → ∀ k, k < 7 → ns0 ((b * 36 + j) * 7 + k) = x.2 k ∧ nb_k (x.2 k)) (e1 : a_from j = nI s) (e2 : a_noted j = nI mk) (e3 : a_newPc j = nI p)
    (H : ∀ ns, mv_W TL i b T ns0 ns (j + 1) 0 → J (nI (j + 1)) a_tok a_val a_text a_nKind a_nC a_nA a_nB a_nSize a_lAlt a_lSeq a_lAtom a_lGroup a_op a_x a_y a_prefersPast a_tNode a_tArg (upd a_pc j (nI p)) a_newPc a_from a_noted ns a_seen a_stack a_stackNotes a_best a_kPc a_kCount a_kFlags a_next a_kMatch a_kMatchNotes a_kFrom a_kNotes) :
    ∀ d k n ns, k + d = 7 → d < n → mv_W TL i b T ns0 ns j k → wX_move_83 post J (nI i) (nI (1 - b)) (nI j) f_count f_place f_there f_length f_nodes f_level f_groups f_size f_tasks f_threads f_added f_bank f_matchFrom f_matchNotes f_found f_states f_flushed n (nI k) a_tok a_val a_text a_nKind a_nC a_nA a_nB a_nSize a_lAlt a_lSeq a_lAtom a_lGroup a_op a_x a_y a_prefersPast a_tNode a_tArg a_pc a_newPc a_from a_noted ns a_seen a_stack a_stackNotes a_best a_kPc a_kCount a_kFlags a_next a_kMatch a_kMatchNotes a_kFrom a_kNotes := by
  have cj : (nI j).toNatClampNeg = j := nI_clamp (by omega)
  intro d
  induction d with
  | zero =>
    intro k n ns hk hn' hw
    obtain ⟨n, rfl⟩ : ∃ m, n = m + 1 := ⟨n - 1, by omega⟩
    have hk7 : k = 7 := by omega
    subst hk7
    refine br_t (by decide) ⟨vp_in_nI hj (by omega), vp_in_nI hj (by omega), ?_⟩
    rw [cj, e3, mn_b0 (by omega)]
    refine nm_e (nm_r (nI_1 j) (H ns ⟨hw.1, fun j' x k' h1 h2 h3 => hw.2 j' x k' h1 h2 ?_⟩))
    omega
  | succ d ih =>
    intro k n ns hk hn' hw
    obtain ⟨n, rfl⟩ : ∃ m, n = m + 1 := ⟨n - 1, by omega⟩
    refine br_f (nI_ge (b := 7) (by omega) (by omega)) ⟨vp_in_nI hj (by omega), vp_in_nI hj (by omega), ?_⟩
    rw [cj, e1, e2]
    refine xm_note (TL := TL) hb hi (by omega) hmk hbk hTL hs ?_ ?_
    · intro j' x h1 k' h2
      have hj' : j' < TL.length := (List.getElem?_eq_some_iff.mp h1).1
      have := hn j' x h1 k' h2
      rw [hw.1 _ (by omega) (by omega)]
      exact this
    · intro hnb
      have e2 : ((nI (1 - b) * 36 + nI j) * 7) + nI k = nI (((1 - b) * 36 + j) * 7 + k) := by
        rw [show (36 : Int32) = nI 36 from rfl, show (7 : Int32) = nI 7 from rfl, pk_mul, nI_add, pk_mul, nI_add]
      rw [e2, nI_clamp (by omega), hnb]
      refine ⟨vp_in_nI (by omega) (by omega), nm_e (nm_r (nI_1 k) (ih (k + 1) n _ (by omega) (by omega) ⟨?_, ?_⟩))⟩
      · intro q h1 h2
        rw [pk_un (by omega)]
        exact hw.1 q h1 h2
      · intro j' x k' h1 h2 h3
        by_cases c : j' = j ∧ k' = k
        · obtain ⟨rfl, rfl⟩ := c
          rw [hx] at h1
          cases h1
          rw [pk_us]
          exact ⟨rfl, hnb⟩
        · rw [pk_un (by omega)]
          exact hw.2 j' x k' h1 h2 (by omega)
theorem xm_71 (hb : b < 2) (hi : i ≤ 32) (hbk : f_bank = nI b) (hTL : TL.length ≤ 36) (hT : T.length ≤ 36) (hm : tr_len t ≤ 72) {ns0 : Nat → Int32}
    (hn : ∀ j x, TL[j]? = some x → ∀ k, k < 7 → ns0 ((b * 36 + j) * 7 + k) = x.2 k ∧ nb_k (x.2 k)) (hal : xi_al t a_op T a_newPc a_from a_noted) (hs : ∀ x, x ∈ T → x.2.1 = 36 ∨ x.2.1 < TL.length) (had : f_added = nI T.length)
    (H : ∀ ns pc, th_R t a_op (T.map (fun x => (x.1, mv_N TL i x.2))) (1 - b) pc ns → post (f_count, f_place, f_there, f_length, f_nodes, f_level, f_groups, f_size, f_tasks, f_added, f_added, nI (1 - b), f_matchFrom, f_matchNotes, f_found, f_states, f_flushed, a_tok, a_val, a_text, a_nKind, a_nC, a_nA, a_nB, a_nSize, a_lAlt, a_lSeq, a_lAtom, a_lGroup, a_op, a_x, a_y, a_prefersPast, a_tNode, a_tArg, pc, a_newPc, a_from, a_noted, ns, a_seen, a_stack, a_stackNotes, a_best, a_kPc, a_kCount, a_kFlags, a_next, a_kMatch, a_kMatchNotes, a_kFrom, a_kNotes)) :
    ∀ d j n ns pc, j + d = T.length → d < n → mv_W TL i b T ns0 ns j 0 → (∀ j' x, T[j']? = some x → j' < j → pc j' = nI x.1) → wX_move_71 post (nI i) (nI (1 - b)) f_count f_place f_there f_length f_nodes f_level f_groups f_size f_tasks f_threads f_added f_bank f_matchFrom f_matchNotes f_found f_states f_flushed n (nI j) a_tok a_val a_text a_nKind a_nC a_nA a_nB a_nSize a_lAlt a_lSeq a_lAtom a_lGroup a_op a_x a_y a_prefersPast a_tNode a_tArg pc a_newPc a_from a_noted ns a_seen a_stack a_stackNotes a_best a_kPc a_kCount a_kFlags a_next a_kMatch a_kMatchNotes a_kFrom a_kNotes := by
  intro d
  induction d with
  | zero =>
    intro j n ns pc hj hn' hw hpc
    obtain ⟨n, rfl⟩ : ∃ m, n = m + 1 := ⟨n - 1, by omega⟩
    refine br_t (by rw [had]; exact nI_le (by omega) (by omega)) ?_
    refine H ns pc ?_
    intro j' x hx
    rw [List.getElem?_map] at hx
    match hT' : T[j']? with
    | none => rw [hT'] at hx; cases hx
    | some y =>
      rw [hT'] at hx
      cases hx
      have hj' : j' < T.length := (List.getElem?_eq_some_iff.mp hT').1
      obtain ⟨_, _, _, a4, a5, _⟩ := hal j' y hT'
      exact ⟨hpc j' y hT' (by omega), a4, a5, fun k hk => hw.2 j' y k hT' hk (by omega)⟩
  | succ d ih =>
    intro j n ns pc hj hn' hw hpc
    obtain ⟨n, rfl⟩ : ∃ m, n = m + 1 := ⟨n - 1, by omega⟩
    have hj' : j < T.length := by omega
    obtain ⟨⟨p, s, mk⟩, hx⟩ : ∃ x, T[j]? = some x := ⟨T[j], List.getElem?_eq_getElem hj'⟩
    obtain ⟨a1, a2, a3, a4, a5, a6, a7⟩ := hal j _ hx
    have hpm := xp_lm a4
    refine br_f (by rw [had]; exact nI_ge (by omega) (by omega)) ⟨8, ?_⟩
    refine xm_83 (T := T) (p := p) (s := s) (mk := mk) (ns0 := ns0) (a_pc := pc) hb hi hbk hTL (by omega) hx a7 (hs _ (List.mem_of_getElem? hx)) (by dsimp only at hpm; omega) hn a2 a3 a1 ?_ 7 0 8 ns (by omega) (by omega) hw
    intro ns' hw'
    refine ih (j + 1) n ns' _ (by omega) (by omega) hw' ?_
    intro j2 x2 h1 h2
    by_cases e : j2 = j
    · subst e
      rw [hx] at h1; cases h1
      exact pk_us
    · rw [pk_un e]; exact hpc j2 x2 h1 (by omega)
theorem xm_1b (hb : b < 2) : 1 - nI b = nI (1 - b) := pk_sub (a := 1) (by omega)
theorem xm_move0 (hb : b < 2) (hi : i ≤ 32) (hbk : f_bank = nI b) (hTL : TL.length ≤ 36) (hT : T.length ≤ 36) (hm : tr_len t ≤ 72) (hth : th_R t a_op TL b a_pc a_notes) (hal : xi_al t a_op T a_newPc a_from a_noted) (hs : ∀ x, x ∈ T → x.2.1 = 36 ∨ x.2.1 < TL.length) (had : f_added = nI T.length)
    (H : ∀ ns pc, th_R t a_op (T.map (fun x => (x.1, mv_N TL i x.2))) (1 - b) pc ns → post (f_count, f_place, f_there, f_length, f_nodes, f_level, f_groups, f_size, f_tasks, f_added, f_added, nI (1 - b), f_matchFrom, f_matchNotes, f_found, f_states, f_flushed, a_tok, a_val, a_text, a_nKind, a_nC, a_nA, a_nB, a_nSize, a_lAlt, a_lSeq, a_lAtom, a_lGroup, a_op, a_x, a_y, a_prefersPast, a_tNode, a_tArg, pc, a_newPc, a_from, a_noted, ns, a_seen, a_stack, a_stackNotes, a_best, a_kPc, a_kCount, a_kFlags, a_next, a_kMatch, a_kMatchNotes, a_kFrom, a_kNotes)) : wpX_move post (f_count, f_place, f_there, f_length, f_nodes, f_level, f_groups, f_size, f_tasks, f_threads, f_added, f_bank, f_matchFrom, f_matchNotes, f_found, f_states, f_flushed, a_tok, a_val, a_text, a_nKind, a_nC, a_nA, a_nB, a_nSize, a_lAlt, a_lSeq, a_lAtom, a_lGroup, a_op, a_x, a_y, a_prefersPast, a_tNode, a_tArg, a_pc, a_newPc, a_from, a_noted, a_notes, a_seen, a_stack, a_stackNotes, a_best, a_kPc, a_kCount, a_kFlags, a_next, a_kMatch, a_kMatchNotes, a_kFrom, a_kNotes) 0 (nI i) := by
  refine ⟨1, br_f (by decide) (br_t rfl (br_t rfl (nm_r (e' := nI (1 - b)) (by rw [hbk]; exact xm_1b hb) ⟨T.length + 1, ?_⟩)))⟩
  exact xm_71 (TL := TL) (T := T) (ns0 := a_notes) hb hi hbk hTL hT hm (fun j x hx => (hth j x hx).2.2.2) hal hs had H T.length 0 _ a_notes a_pc (by omega) (by omega) ⟨fun q _ _ => rfl, fun j' x k' _ _ h => by omega⟩ (fun j' x _ h => by omega)
theorem xm_2 {s mk : Nat} (hb : b < 2) (hi : i ≤ 32) (hbk : f_bank = nI b) (hTL : TL.length ≤ 36) (hT : T.length ≤ 36) (hm : tr_len t ≤ 72) (hth : th_R t a_op TL b a_pc a_notes) (hal : xi_al t a_op T a_newPc a_from a_noted) (hs : ∀ x, x ∈ T → x.2.1 = 36 ∨ x.2.1 < TL.length) (had : f_added = nI T.length) (hmf : f_matchFrom = nI s) (hmo : f_matchNotes = nI mk) (hmk : mk < 128) (hss : s = 36 ∨ s < TL.length)
    (H : ∀ ns pc be, th_R t a_op (T.map (fun x => (x.1, mv_N TL i x.2))) (1 - b) pc ns → (∀ k, k < 7 → be k = mv_N TL i (s, mk) k) → be 7 = nI i → post (f_count, f_place, f_there, f_length, f_nodes, f_level, f_groups, f_size, f_tasks, f_added, f_added, nI (1 - b), f_matchFrom, f_matchNotes, 1, f_states, f_flushed, a_tok, a_val, a_text, a_nKind, a_nC, a_nA, a_nB, a_nSize, a_lAlt, a_lSeq, a_lAtom, a_lGroup, a_op, a_x, a_y, a_prefersPast, a_tNode, a_tArg, pc, a_newPc, a_from, a_noted, ns, a_seen, a_stack, a_stackNotes, be, a_kPc, a_kCount, a_kFlags, a_next, a_kMatch, a_kMatchNotes, a_kFrom, a_kNotes)) :
    ∀ d k n be, k + d = 7 → d < n → (∀ k', k' < k → be k' = mv_N TL i (s, mk) k') → wX_move_2 post 1 (nI i) f_count f_place f_there f_length f_nodes f_level f_groups f_size f_tasks f_threads f_added f_bank f_matchFrom f_matchNotes f_found f_states f_flushed n (nI k) a_tok a_val a_text a_nKind a_nC a_nA a_nB a_nSize a_lAlt a_lSeq a_lAtom a_lGroup a_op a_x a_y a_prefersPast a_tNode a_tArg a_pc a_newPc a_from a_noted a_notes a_seen a_stack a_stackNotes be a_kPc a_kCount a_kFlags a_next a_kMatch a_kMatchNotes a_kFrom a_kNotes := by
  subst hmf
  subst hmo
  intro d
  induction d with
  | zero =>
    intro k n be hk hn hbe
    obtain ⟨n, rfl⟩ : ∃ m, n = m + 1 := ⟨n - 1, by omega⟩
    have hk7 : k = 7 := by omega
    subst hk7
    refine br_t (by decide) (br_f (by decide) ?_)
    rw [mn_b1 (by omega)]
    refine nm_e (nm_r (e' := nI (1 - b)) (by rw [hbk]; exact xm_1b hb) ⟨T.length + 1, ?_⟩)
    refine xm_71 (TL := TL) (T := T) (ns0 := a_notes) hb hi hbk hTL hT hm (fun j x hx => (hth j x hx).2.2.2) hal hs had ?_ T.length 0 _ a_notes a_pc (by omega) (by omega) ⟨fun q _ _ => rfl, fun j' x k' _ _ h => by omega⟩ (fun j' x _ h => by omega)
    intro ns pc h1
    exact H ns pc _ h1 (fun k hk => by rw [pk_un (by omega)]; exact hbe k hk) pk_us
  | succ d ih =>
    intro k n be hk hn hbe
    obtain ⟨n, rfl⟩ : ∃ m, n = m + 1 := ⟨n - 1, by omega⟩
    refine br_f (nI_ge (b := 7) (by omega) (by omega)) (br_f (by decide) ?_)
    refine xm_note (TL := TL) hb hi (by omega) hmk hbk hTL hss (fun j x hx => (hth j x hx).2.2.2) ?_
    intro hnb
    rw [nI_clamp (by omega), hnb]
    refine ⟨vp_in_nI (by omega) (by omega), nm_e (nm_r (nI_1 k) (ih (k + 1) n _ (by omega) (by omega) ?_))⟩
    intro k' hk'
    by_cases e : k' = k
    · rw [e, pk_us]
    · rw [pk_un e]; exact hbe k' (by omega)
theorem xm_move1 {s mk : Nat} (hb : b < 2) (hi : i ≤ 32) (hbk : f_bank = nI b) (hTL : TL.length ≤ 36) (hT : T.length ≤ 36) (hm : tr_len t ≤ 72) (hth : th_R t a_op TL b a_pc a_notes) (hal : xi_al t a_op T a_newPc a_from a_noted) (hs : ∀ x, x ∈ T → x.2.1 = 36 ∨ x.2.1 < TL.length) (had : f_added = nI T.length) (hmf : f_matchFrom = nI s) (hmo : f_matchNotes = nI mk) (hmk : mk < 128) (hss : s = 36 ∨ s < TL.length)
    (H : ∀ ns pc be, th_R t a_op (T.map (fun x => (x.1, mv_N TL i x.2))) (1 - b) pc ns → (∀ k, k < 7 → be k = mv_N TL i (s, mk) k) → be 7 = nI i → post (f_count, f_place, f_there, f_length, f_nodes, f_level, f_groups, f_size, f_tasks, f_added, f_added, nI (1 - b), f_matchFrom, f_matchNotes, 1, f_states, f_flushed, a_tok, a_val, a_text, a_nKind, a_nC, a_nA, a_nB, a_nSize, a_lAlt, a_lSeq, a_lAtom, a_lGroup, a_op, a_x, a_y, a_prefersPast, a_tNode, a_tArg, pc, a_newPc, a_from, a_noted, ns, a_seen, a_stack, a_stackNotes, be, a_kPc, a_kCount, a_kFlags, a_next, a_kMatch, a_kMatchNotes, a_kFrom, a_kNotes)) : wpX_move post (f_count, f_place, f_there, f_length, f_nodes, f_level, f_groups, f_size, f_tasks, f_threads, f_added, f_bank, f_matchFrom, f_matchNotes, f_found, f_states, f_flushed, a_tok, a_val, a_text, a_nKind, a_nC, a_nA, a_nB, a_nSize, a_lAlt, a_lSeq, a_lAtom, a_lGroup, a_op, a_x, a_y, a_prefersPast, a_tNode, a_tArg, a_pc, a_newPc, a_from, a_noted, a_notes, a_seen, a_stack, a_stackNotes, a_best, a_kPc, a_kCount, a_kFlags, a_next, a_kMatch, a_kMatchNotes, a_kFrom, a_kNotes) 1 (nI i) :=
  ⟨8, xm_2 hb hi hbk hTL hT hm hth hal hs had hmf hmo hmk hss H 7 0 8 a_best (by omega) (by omega) (fun k' h => by omega)⟩
end XMV
end
section
section XIN
/-! kept lists -/
def ck_S (t : Std.Format) (ao : Nat → Int32) (ns : Nat) (kp kc kf : Nat → Int32) (Q : Nat → List Nat) (F : Nat → Nat) : Prop :=
  ∀ s, s < ns → kc s = nI (Q s).length ∧ (Q s).length ≤ 36 ∧ kf s = nI (F s) ∧ F s < 3 ∧ ∀ i q, (Q s)[i]? = some q → kp (s * 36 + i) = nI q ∧ tr_lab t false 0 q ∧ ao q = 0
def ck_f (f : Nat) (ov : Option (Nat × Nat)) : Nat := if ov.isSome = true ∧ f = 1 then 0 else f
/-- the step from list Q with flags f under c, not to the text's end -/
def ck_st (t : Std.Format) (Q : List Nat) (f c : Nat) (T : List (Nat × Nat × Nat)) (ov : Option (Nat × Nat)) : Prop :=
  ∃ S', ly_R (tr_G t) (false, false, decide (f ≠ 2)) xi_nt (fun _ => false) (ad_en (tr_G t) c 0 Q ++ ad_sd (tr_e0 t) (decide (f = 1))) (S', T, ov)
def ck_ok (t : Std.Format) (ao : Nat → Int32) (n : Nat) (T : List (Nat × Nat × Nat)) (ov : Option (Nat × Nat)) : Prop :=
  T.length ≤ 36 ∧ (∀ x, x ∈ T → tr_lab t false 0 x.1 ∧ ao x.1 = 0 ∧ (x.2.1 = 36 ∨ x.2.1 < n) ∧ x.2.1 ≤ 36 ∧ x.2.2 < 128) ∧ ∀ a, ov = some a → (a.1 = 36 ∨ a.1 < n) ∧ a.1 ≤ 36 ∧ a.2 < 128
def ck_V1 (t : Std.Format) (ao : Nat → Int32) (ns : Nat) (nx km ko kfr kno : Nat → Int32) (Q : Nat → List Nat) (F : Nat → Nat) (s c : Nat) : Prop :=
  nx (s * 4 + c) = -1 ∨ ∃ to T ov, to < ns ∧ nx (s * 4 + c) = nI to ∧ ck_st t (Q s) (F s) c T ov ∧ ck_ok t ao (Q s).length T ov ∧ Q to = T.map (fun x => x.1) ∧ F to = ck_f (F s) ov ∧
    (∀ j x, T[j]? = some x → kfr ((s * 4 + c) * 36 + j) = nI x.2.1 ∧ kno ((s * 4 + c) * 36 + j) = nI x.2.2) ∧ (ov = none → km (s * 4 + c) = -1) ∧ ∀ a, ov = some a → km (s * 4 + c) = nI a.1 ∧ ko (s * 4 + c) = nI a.2
def ck_V (t : Std.Format) (ao : Nat → Int32) (ns : Nat) (nx km ko kfr kno : Nat → Int32) (Q : Nat → List Nat) (F : Nat → Nat) : Prop :=
  ∀ s c, s < ns → c < 4 → ck_V1 t ao ns nx km ko kfr kno Q F s c
variable {f_count f_place f_there f_length f_nodes f_level f_groups f_size f_tasks f_threads f_added f_bank f_matchFrom f_matchNotes f_found f_states f_flushed : Int32} {a_tok a_val a_text a_nKind a_nC a_nA a_nB a_nSize a_lAlt a_lSeq a_lAtom a_lGroup a_op a_x a_y a_prefersPast a_tNode a_tArg a_pc a_newPc a_from a_noted a_notes a_seen a_stack a_stackNotes a_best a_kPc a_kCount a_kFlags a_next a_kMatch a_kMatchNotes a_kFrom a_kNotes : Nat → Int32}
variable {post : Int32 → SX → Prop} {t : Std.Format} {ns f : Nat} {R : List Nat} {Q : Nat → List Nat} {F : Nat → Nat}
theorem xk_36 {J : Int32 → Prop} {x2 : Int32} {s : Nat} (hm : tr_len t ≤ 72) (hns : ns ≤ 12) (hK : ck_S t a_op ns a_kPc a_kCount a_kFlags Q F) (hR : R.length ≤ 36) (hnp : ∀ i q, R[i]? = some q → a_newPc i = nI q ∧ q < 100) (hs : s < ns) (hl : (Q s).length = R.length) (Hp : Q s = R → post (nI s) (f_count, f_place, f_there, f_length, f_nodes, f_level, f_groups, f_size, f_tasks, f_threads, f_added, f_bank, f_matchFrom, f_matchNotes, f_found, f_states, f_flushed, a_tok, a_val, a_text, a_nKind, a_nC, a_nA, a_nB, a_nSize, a_lAlt, a_lSeq, a_lAtom, a_lGroup, a_op, a_x, a_y, a_prefersPast, a_tNode, a_tArg, a_pc, a_newPc, a_from, a_noted, a_notes, a_seen, a_stack, a_stackNotes, a_best, a_kPc, a_kCount, a_kFlags, a_next, a_kMatch, a_kMatchNotes, a_kFrom, a_kNotes)) (Hj : J (nI (s + 1))) :
    ∀ d i n, i + d = R.length → d < n → (∀ i', i' < i → (Q s)[i']? = R[i']?) → wX_intern_36 post J (nI R.length) x2 (nI s) f_count f_place f_there f_length f_nodes f_level f_groups f_size f_tasks f_threads f_added f_bank f_matchFrom f_matchNotes f_found f_states f_flushed a_tok a_val a_text a_nKind a_nC a_nA a_nB a_nSize a_lAlt a_lSeq a_lAtom a_lGroup a_op a_x a_y a_prefersPast a_tNode a_tArg a_pc a_newPc a_from a_noted a_notes a_seen a_stack a_stackNotes a_best a_kPc a_kCount a_kFlags a_next a_kMatch a_kMatchNotes a_kFrom a_kNotes n (nI i) := by
  obtain ⟨k1, k2, k3, k4, k5⟩ := hK s hs
  intro d
  induction d with
  | zero =>
    intro i n hi hn hpre
    obtain ⟨n, rfl⟩ : ∃ m, n = m + 1 := ⟨n - 1, by omega⟩
    have hi : i = R.length := by omega
    subst hi
    refine br_t (nI_le (Nat.le_refl _) (by omega)) (br_t rfl (Hp ?_))
    apply List.ext_getElem?
    intro j
    by_cases hj : j < R.length
    · exact hpre j hj
    · rw [List.getElem?_eq_none (by omega), List.getElem?_eq_none (by omega)]
  | succ d ih =>
    intro i n hi hn hpre
    obtain ⟨n, rfl⟩ : ∃ m, n = m + 1 := ⟨n - 1, by omega⟩
    obtain ⟨q, hq⟩ : ∃ q, (Q s)[i]? = some q := ⟨(Q s)[i]'(by omega), List.getElem?_eq_getElem (by omega)⟩
    obtain ⟨r, hr⟩ : ∃ r, R[i]? = some r := ⟨R[i]'(by omega), List.getElem?_eq_getElem (by omega)⟩
    obtain ⟨q1, q2, q3⟩ := k5 i q hq
    obtain ⟨r1, r2⟩ := hnp i r hr
    have hqm := xp_lm q2
    have e1 : nI s * 36 + nI i = nI (s * 36 + i) := by rw [show (36 : Int32) = nI 36 from rfl, pk_mul, nI_add]
    refine br_f (nI_ge (by omega) (by omega)) ?_
    rw [e1, nI_clamp (n := s * 36 + i) (by omega), nI_clamp (n := i) (by omega), q1, r1]
    refine ⟨vp_in_nI (by omega) (by omega), vp_in_nI (by omega) (by omega), ?_⟩
    by_cases e : q = r
    · refine br_t (by rw [e]) (nm_r (nI_1 i) (ih (i + 1) n (by omega) (by omega) ?_))
      intro i' hi'
      by_cases ei : i' = i
      · rw [ei, hq, hr, e]
      · exact hpre i' (by omega)
    · refine br_f (fun z => e ((nI_eq (by omega) (by omega)).mp z)) (br_f (fun z => ?_) (nm_r (nI_1 s) Hj))
      have := (nI_eq (by omega) (by omega)).mp z
      omega
theorem xk_160 {ix : Nat} (hix : ix < 12) (hst : f_states = nI ix) (H : ∀ nx, (∀ c, c < 4 → nx (ix * 4 + c) = -1) → (∀ q, (q < ix * 4 ∨ ix * 4 + 4 ≤ q) → nx q = a_next q) → post (nI ix) (f_count, f_place, f_there, f_length, f_nodes, f_level, f_groups, f_size, f_tasks, f_threads, f_added, f_bank, f_matchFrom, f_matchNotes, f_found, nI (ix + 1), f_flushed, a_tok, a_val, a_text, a_nKind, a_nC, a_nA, a_nB, a_nSize, a_lAlt, a_lSeq, a_lAtom, a_lGroup, a_op, a_x, a_y, a_prefersPast, a_tNode, a_tArg, a_pc, a_newPc, a_from, a_noted, a_notes, a_seen, a_stack, a_stackNotes, a_best, a_kPc, a_kCount, a_kFlags, nx, a_kMatch, a_kMatchNotes, a_kFrom, a_kNotes)) :
    ∀ d c n nx, c + d = 4 → d < n → (∀ c', c' < c → nx (ix * 4 + c') = -1) → (∀ q, (q < ix * 4 ∨ ix * 4 + 4 ≤ q) → nx q = a_next q) → wX_intern_160 post f_count f_place f_there f_length f_nodes f_level f_groups f_size f_tasks f_threads f_added f_bank f_matchFrom f_matchNotes f_found f_states f_flushed n (nI c) a_tok a_val a_text a_nKind a_nC a_nA a_nB a_nSize a_lAlt a_lSeq a_lAtom a_lGroup a_op a_x a_y a_prefersPast a_tNode a_tArg a_pc a_newPc a_from a_noted a_notes a_seen a_stack a_stackNotes a_best a_kPc a_kCount a_kFlags nx a_kMatch a_kMatchNotes a_kFrom a_kNotes := by
  subst hst
  intro d
  induction d with
  | zero =>
    intro c n nx hc hn h1 h2
    obtain ⟨n, rfl⟩ : ∃ m, n = m + 1 := ⟨n - 1, by omega⟩
    have hc : c = 4 := by omega
    subst hc
    exact br_t (by decide) (nm_r (nI_1 ix) (H nx h1 h2))
  | succ d ih =>
    intro c n nx hc hn h1 h2
    obtain ⟨n, rfl⟩ : ∃ m, n = m + 1 := ⟨n - 1, by omega⟩
    have e1 : nI ix * 4 + nI c = nI (ix * 4 + c) := by rw [show (4 : Int32) = nI 4 from rfl, pk_mul, nI_add]
    refine br_f (nI_ge (b := 4) (by omega) (by omega)) ?_
    rw [e1, nI_clamp (by omega), mn_bm.2.1]
    refine ⟨vp_in_nI (by omega) (by omega), nm_e (nm_r (nI_1 c) (ih (c + 1) n _ (by omega) (by omega) ?_ ?_))⟩
    · intro c' hc'
      by_cases ec : c' = c
      · rw [ec, pk_us]
      · rw [pk_un (by omega)]; exact h1 c' (by omega)
    · intro q hq
      rw [pk_un (by omega)]; exact h2 q hq
theorem xk_127 {ix : Nat} (hix : ix < 12) (hst : f_states = nI ix) (hR : R.length ≤ 36) (hnp : ∀ i q, R[i]? = some q → a_newPc i = nI q ∧ q < 100)
    (H : ∀ kp nx, (∀ i q, R[i]? = some q → kp (ix * 36 + i) = nI q) → (∀ q, (q < ix * 36 ∨ ix * 36 + 36 ≤ q) → kp q = a_kPc q) → (∀ c, c < 4 → nx (ix * 4 + c) = -1) → (∀ q, (q < ix * 4 ∨ ix * 4 + 4 ≤ q) → nx q = a_next q) → post (nI ix) (f_count, f_place, f_there, f_length, f_nodes, f_level, f_groups, f_size, f_tasks, f_threads, f_added, f_bank, f_matchFrom, f_matchNotes, f_found, nI (ix + 1), f_flushed, a_tok, a_val, a_text, a_nKind, a_nC, a_nA, a_nB, a_nSize, a_lAlt, a_lSeq, a_lAtom, a_lGroup, a_op, a_x, a_y, a_prefersPast, a_tNode, a_tArg, a_pc, a_newPc, a_from, a_noted, a_notes, a_seen, a_stack, a_stackNotes, a_best, kp, a_kCount, a_kFlags, nx, a_kMatch, a_kMatchNotes, a_kFrom, a_kNotes)) :
    ∀ d i n kp, i + d = R.length → d < n → (∀ i' q, R[i']? = some q → i' < i → kp (ix * 36 + i') = nI q) → (∀ q, (q < ix * 36 ∨ ix * 36 + 36 ≤ q) → kp q = a_kPc q) → wX_intern_127 post (nI R.length) f_count f_place f_there f_length f_nodes f_level f_groups f_size f_tasks f_threads f_added f_bank f_matchFrom f_matchNotes f_found f_states f_flushed n (nI i) a_tok a_val a_text a_nKind a_nC a_nA a_nB a_nSize a_lAlt a_lSeq a_lAtom a_lGroup a_op a_x a_y a_prefersPast a_tNode a_tArg a_pc a_newPc a_from a_noted a_notes a_seen a_stack a_stackNotes a_best kp a_kCount a_kFlags a_next a_kMatch a_kMatchNotes a_kFrom a_kNotes := by
  intro d
  induction d with
  | zero =>
    intro i n kp hi hn h1 h2
    obtain ⟨n, rfl⟩ : ∃ m, n = m + 1 := ⟨n - 1, by omega⟩
    refine br_t (nI_le (by omega) (by omega)) ⟨5, ?_⟩
    refine xk_160 hix hst ?_ 4 0 5 a_next (by omega) (by omega) (fun c h => by omega) (fun q _ => rfl)
    intro nx h3 h4
    refine H kp nx (fun i' q hq => h1 i' q hq ?_) h2 h3 h4
    have := (List.getElem?_eq_some_iff.mp hq).1
    omega
  | succ d ih =>
    intro i n kp hi hn h1 h2
    obtain ⟨n, rfl⟩ : ∃ m, n = m + 1 := ⟨n - 1, by omega⟩
    obtain ⟨r, hr⟩ : ∃ r, R[i]? = some r := ⟨R[i]'(by omega), List.getElem?_eq_getElem (by omega)⟩
    obtain ⟨r1, r2⟩ := hnp i r hr
    have e1 : f_states * 36 + nI i = nI (ix * 36 + i) := by rw [hst, show (36 : Int32) = nI 36 from rfl, pk_mul, nI_add]
    refine br_f (nI_ge (by omega) (by omega)) ?_
    rw [e1, nI_clamp (n := ix * 36 + i) (by omega), nI_clamp (n := i) (by omega), r1, mn_b0 (by omega)]
    refine ⟨vp_in_nI (by omega) (by omega), vp_in_nI (by omega) (by omega), nm_e (nm_r (nI_1 i) (ih (i + 1) n _ (by omega) (by omega) ?_ ?_))⟩
    · intro i' q hq hi'
      by_cases ei : i' = i
      · subst ei
        rw [hr] at hq; cases hq
        exact pk_us
      · rw [pk_un (by omega)]; exact h1 i' q hq (by omega)
    · intro q hq
      rw [pk_un (by omega)]; exact h2 q hq
theorem xk_103 {ix : Nat} (hix : ix < 12) (hst : f_states = nI ix) (hf : f < 3) (hR : R.length ≤ 36) (hnp : ∀ i q, R[i]? = some q → a_newPc i = nI q ∧ q < 100)
    (H : ∀ kp nx, (∀ i q, R[i]? = some q → kp (ix * 36 + i) = nI q) → (∀ q, (q < ix * 36 ∨ ix * 36 + 36 ≤ q) → kp q = a_kPc q) → (∀ c, c < 4 → nx (ix * 4 + c) = -1) → (∀ q, (q < ix * 4 ∨ ix * 4 + 4 ≤ q) → nx q = a_next q) → post (nI ix) (f_count, f_place, f_there, f_length, f_nodes, f_level, f_groups, f_size, f_tasks, f_threads, f_added, f_bank, f_matchFrom, f_matchNotes, f_found, nI (ix + 1), f_flushed, a_tok, a_val, a_text, a_nKind, a_nC, a_nA, a_nB, a_nSize, a_lAlt, a_lSeq, a_lAtom, a_lGroup, a_op, a_x, a_y, a_prefersPast, a_tNode, a_tArg, a_pc, a_newPc, a_from, a_noted, a_notes, a_seen, a_stack, a_stackNotes, a_best, kp, upd a_kCount ix (nI R.length), upd a_kFlags ix (nI f), nx, a_kMatch, a_kMatchNotes, a_kFrom, a_kNotes)) :
    wX_intern_103 post (nI R.length) (nI f) f_count f_place f_there f_length f_nodes f_level f_groups f_size f_tasks f_threads f_added f_bank f_matchFrom f_matchNotes f_found f_states f_flushed a_tok a_val a_text a_nKind a_nC a_nA a_nB a_nSize a_lAlt a_lSeq a_lAtom a_lGroup a_op a_x a_y a_prefersPast a_tNode a_tArg a_pc a_newPc a_from a_noted a_notes a_seen a_stack a_stackNotes a_best a_kPc a_kCount a_kFlags a_next a_kMatch a_kMatchNotes a_kFrom a_kNotes := by
  unfold wX_intern_103
  rw [show vp_in f_states 12 = vp_in (nI ix) 12 by rw [hst], show f_states.toNatClampNeg = ix by rw [hst]; exact nI_clamp (by omega), mn_b1 (by omega), mn_b1 (by omega)]
  refine ⟨vp_in_nI hix (by omega), nm_e ⟨vp_in_nI hix (by omega), nm_e ⟨R.length + 1, ?_⟩⟩⟩
  exact xk_127 (R := R) hix hst hR hnp H R.length 0 _ a_kPc (by omega) (by omega) (fun i' q _ h => by omega) (fun q _ => rfl)
theorem xk_2 (hm : tr_len t ≤ 72) (hns : ns ≤ 12) (hst : f_states = nI ns) (hf : f < 3) (hK : ck_S t a_op ns a_kPc a_kCount a_kFlags Q F) (hR : R.length ≤ 36) (hnp : ∀ i q, R[i]? = some q → a_newPc i = nI q ∧ q < 100) (Hf : ∀ s, s < ns → Q s = R → F s = f → post (nI s) (f_count, f_place, f_there, f_length, f_nodes, f_level, f_groups, f_size, f_tasks, f_threads, f_added, f_bank, f_matchFrom, f_matchNotes, f_found, f_states, f_flushed, a_tok, a_val, a_text, a_nKind, a_nC, a_nA, a_nB, a_nSize, a_lAlt, a_lSeq, a_lAtom, a_lGroup, a_op, a_x, a_y, a_prefersPast, a_tNode, a_tArg, a_pc, a_newPc, a_from, a_noted, a_notes, a_seen, a_stack, a_stackNotes, a_best, a_kPc, a_kCount, a_kFlags, a_next, a_kMatch, a_kMatchNotes, a_kFrom, a_kNotes))
    (Hn : ∀ ix kp nx fl, ((ix = ns ∧ ns < 12 ∧ fl = f_flushed) ∨ (ns = 12 ∧ ix = 0 ∧ fl = 1)) → (∀ i q, R[i]? = some q → kp (ix * 36 + i) = nI q) → (∀ q, (q < ix * 36 ∨ ix * 36 + 36 ≤ q) → kp q = a_kPc q) → (∀ c, c < 4 → nx (ix * 4 + c) = -1) → (∀ q, (q < ix * 4 ∨ ix * 4 + 4 ≤ q) → nx q = a_next q) → post (nI ix) (f_count, f_place, f_there, f_length, f_nodes, f_level, f_groups, f_size, f_tasks, f_threads, f_added, f_bank, f_matchFrom, f_matchNotes, f_found, nI (ix + 1), fl, a_tok, a_val, a_text, a_nKind, a_nC, a_nA, a_nB, a_nSize, a_lAlt, a_lSeq, a_lAtom, a_lGroup, a_op, a_x, a_y, a_prefersPast, a_tNode, a_tArg, a_pc, a_newPc, a_from, a_noted, a_notes, a_seen, a_stack, a_stackNotes, a_best, kp, upd a_kCount ix (nI R.length), upd a_kFlags ix (nI f), nx, a_kMatch, a_kMatchNotes, a_kFrom, a_kNotes)) :
    ∀ d s n, s + d = ns → d < n → wX_intern_2 post (nI R.length) (nI f) f_count f_place f_there f_length f_nodes f_level f_groups f_size f_tasks f_threads f_added f_bank f_matchFrom f_matchNotes f_found f_states f_flushed a_tok a_val a_text a_nKind a_nC a_nA a_nB a_nSize a_lAlt a_lSeq a_lAtom a_lGroup a_op a_x a_y a_prefersPast a_tNode a_tArg a_pc a_newPc a_from a_noted a_notes a_seen a_stack a_stackNotes a_best a_kPc a_kCount a_kFlags a_next a_kMatch a_kMatchNotes a_kFrom a_kNotes n (nI s) := by
  intro d
  induction d with
  | zero =>
    intro s n hs hn
    obtain ⟨n, rfl⟩ : ∃ m, n = m + 1 := ⟨n - 1, by omega⟩
    refine br_t (by rw [hst]; exact nI_le (by omega) (by omega)) ?_
    by_cases c : ns = 12
    · refine br_t (by rw [hst, c]; rfl) ?_
      exact xk_103 (ix := 0) (f_states := 0) (f_flushed := 1) (by omega) rfl hf hR hnp (fun kp nx h1 h2 h3 h4 => Hn 0 kp nx 1 (Or.inr ⟨c, rfl, rfl⟩) h1 h2 h3 h4)
    · refine br_f (by rw [hst]; exact mn_ne (b := 12) rfl c (by omega) (by omega)) ?_
      exact xk_103 (ix := ns) (by omega) hst hf hR hnp (fun kp nx h1 h2 h3 h4 => Hn ns kp nx f_flushed (Or.inl ⟨rfl, by omega, rfl⟩) h1 h2 h3 h4)
  | succ d ih =>
    intro s n hs hn
    obtain ⟨n, rfl⟩ : ∃ m, n = m + 1 := ⟨n - 1, by omega⟩
    obtain ⟨k1, k2, k3, k4, k5⟩ := hK s (by omega)
    have next : wX_intern_2 post (nI R.length) (nI f) f_count f_place f_there f_length f_nodes f_level f_groups f_size f_tasks f_threads f_added f_bank f_matchFrom f_matchNotes f_found f_states f_flushed a_tok a_val a_text a_nKind a_nC a_nA a_nB a_nSize a_lAlt a_lSeq a_lAtom a_lGroup a_op a_x a_y a_prefersPast a_tNode a_tArg a_pc a_newPc a_from a_noted a_notes a_seen a_stack a_stackNotes a_best a_kPc a_kCount a_kFlags a_next a_kMatch a_kMatchNotes a_kFrom a_kNotes n (nI (s + 1)) := ih (s + 1) n (by omega) (by omega)
    refine br_f (by rw [hst]; exact nI_ge (by omega) (by omega)) ⟨vp_in_nI (by omega) (by omega), ?_⟩
    rw [nI_clamp (by omega), k1, k3]
    by_cases c1 : (Q s).length = R.length
    · refine br_t (by rw [c1]) ⟨vp_in_nI (by omega) (by omega), ?_⟩
      by_cases c2 : F s = f
      · refine br_t (by rw [c2]) ⟨R.length + 1, ?_⟩
        exact xk_36 hm hns hK hR hnp (by omega) c1 (fun h => Hf s (by omega) h c2) next R.length 0 _ (by omega) (by omega) (fun i' h => by omega)
      · exact br_f (fun z => c2 ((nI_eq (by omega) (by omega)).mp z)) (nm_r (nI_1 s) next)
    · exact br_f (fun z => c1 ((nI_eq (by omega) (by omega)).mp z)) (nm_r (nI_1 s) next)
/-- intern: list R with flags f gets a number -/
theorem xk_intern (hm : tr_len t ≤ 72) (hns : ns ≤ 12) (hst : f_states = nI ns) (hf : f < 3) (hK : ck_S t a_op ns a_kPc a_kCount a_kFlags Q F) (hV : ck_V t a_op ns a_next a_kMatch a_kMatchNotes a_kFrom a_kNotes Q F) (hR : R.length ≤ 36) (hnp : ∀ i q, R[i]? = some q → a_newPc i = nI q ∧ q < 100) (hRl : ∀ q, q ∈ R → tr_lab t false 0 q ∧ a_op q = 0)
    (H : ∀ to ns' fl kp kc kf nx Q' F', ns' ≤ 12 → to < ns' → Q' to = R → F' to = f → ck_S t a_op ns' kp kc kf Q' F' → ck_V t a_op ns' nx a_kMatch a_kMatchNotes a_kFrom a_kNotes Q' F' → (fl = 1 ∨ (fl = f_flushed ∧ ns ≤ ns' ∧ ∀ s, s < ns → Q' s = Q s ∧ F' s = F s)) → post (nI to) (f_count, f_place, f_there, f_length, f_nodes, f_level, f_groups, f_size, f_tasks, f_threads, f_added, f_bank, f_matchFrom, f_matchNotes, f_found, nI ns', fl, a_tok, a_val, a_text, a_nKind, a_nC, a_nA, a_nB, a_nSize, a_lAlt, a_lSeq, a_lAtom, a_lGroup, a_op, a_x, a_y, a_prefersPast, a_tNode, a_tArg, a_pc, a_newPc, a_from, a_noted, a_notes, a_seen, a_stack, a_stackNotes, a_best, kp, kc, kf, nx, a_kMatch, a_kMatchNotes, a_kFrom, a_kNotes)) :
    wpX_intern post (f_count, f_place, f_there, f_length, f_nodes, f_level, f_groups, f_size, f_tasks, f_threads, f_added, f_bank, f_matchFrom, f_matchNotes, f_found, f_states, f_flushed, a_tok, a_val, a_text, a_nKind, a_nC, a_nA, a_nB, a_nSize, a_lAlt, a_lSeq, a_lAtom, a_lGroup, a_op, a_x, a_y, a_prefersPast, a_tNode, a_tArg, a_pc, a_newPc, a_from, a_noted, a_notes, a_seen, a_stack, a_stackNotes, a_best, a_kPc, a_kCount, a_kFlags, a_next, a_kMatch, a_kMatchNotes, a_kFrom, a_kNotes) (nI R.length) (nI f) := by
  refine ⟨ns + 1, ?_⟩
  refine xk_2 hm hns hst hf hK hR hnp ?_ ?_ ns 0 _ (by omega) (by omega)
  · intro s hs h1 h2
    have := H s ns f_flushed a_kPc a_kCount a_kFlags a_next Q F hns hs h1 h2 hK hV (Or.inr ⟨rfl, Nat.le_refl _, fun s _ => ⟨rfl, rfl⟩⟩)
    rw [← hst] at this
    exact this
  · intro ix kp nx fl hix h1 h2 h3 h4
    have hnew : ∀ (Qo : Nat → List Nat) (Fo : Nat → Nat) (no : Nat), no ≤ ix → (∀ s, s < no → Qo s = Q s ∧ Fo s = F s) → (∀ s, s < no → s < ns) → Qo ix = R → Fo ix = f → (∀ s, s < ix + 1 → s < no ∨ s = ix) → ck_S t a_op (ix + 1) kp (upd a_kCount ix (nI R.length)) (upd a_kFlags ix (nI f)) Qo Fo := by
      intro Qo Fo no hno hQ hlt e1 e2 hcase s hs
      rcases hcase s hs with hs | rfl
      · obtain ⟨k1, k2, k3, k4, k5⟩ := hK s (hlt s hs)
        rw [(hQ s hs).1, (hQ s hs).2, pk_un (by omega), pk_un (by omega)]
        refine ⟨k1, k2, k3, k4, fun i q hq => ?_⟩
        have hi := (List.getElem?_eq_some_iff.mp hq).1
        rw [h2 _ (Or.inl (by omega))]
        exact k5 i q hq
      · rw [e1, e2, pk_us, pk_us]
        exact ⟨rfl, hR, rfl, hf, fun i q hq => ⟨h1 i q hq, hRl q (List.mem_of_getElem? hq)⟩⟩
    rcases hix with ⟨rfl, hlt, rfl⟩ | ⟨h12, rfl, rfl⟩
    · refine H ix (ix + 1) fl kp _ _ nx (fun s => if s = ix then R else Q s) (fun s => if s = ix then f else F s) (by omega) (by omega) (if_pos rfl) (if_pos rfl) ?_ ?_ (Or.inr ⟨rfl, by omega, fun s hs => ⟨if_neg (by omega), if_neg (by omega)⟩⟩)
      · refine hnew _ _ ix (Nat.le_refl _) (fun s hs => ⟨if_neg (by omega), if_neg (by omega)⟩) (fun s h => h) (if_pos rfl) (if_pos rfl) (fun s hs => by omega)
      · intro s c hs hc
        by_cases es : s = ix
        · subst es; exact Or.inl (h3 c hc)
        · rcases hV s c (by omega) hc with h5 | ⟨to, T, ov, v1, v2, v3, v4, v5, v6, v7⟩
          · exact Or.inl (by rw [h4 _ (Or.inl (by omega))]; exact h5)
          · refine Or.inr ⟨to, T, ov, by omega, by rw [h4 _ (Or.inl (by omega))]; exact v2, ?_, ?_, ?_, ?_, v7⟩
            · dsimp only; rw [if_neg es, if_neg es]; exact v3
            · dsimp only; rw [if_neg es]; exact v4
            · dsimp only; rw [if_neg (by omega)]; exact v5
            · dsimp only; rw [if_neg (by omega), if_neg es]; exact v6
    · refine H 0 1 1 kp _ _ nx (fun _ => R) (fun _ => f) (by omega) (by omega) rfl rfl ?_ ?_ (Or.inl rfl)
      · exact hnew _ _ 0 (Nat.le_refl _) (fun s hs => by omega) (fun s hs => by omega) rfl rfl (fun s hs => by omega)
      · intro s c hs hc
        have es : s = 0 := by omega
        subst es
        exact Or.inl (h3 c hc)
end XIN
end
section
section XKS
/-! keptStep -/
theorem ly_src {G : gr_T} {e : gr_E} {P : Nat → Prop} {S : Nat → Bool} {A : List (Nat × Nat × Nat)} {S1 : Nat → Bool} {T1 : List (Nat × Nat × Nat)} {ov1 : Option (Nat × Nat)} (h : ly_R G e xi_nt S A (S1, T1, ov1)) : (∀ x, x ∈ A → P x.2.1) → (∀ x, x ∈ T1 → P x.2.1) ∧ ∀ a, ov1 = some a → P a.1 := by
  refine ly_ind (P := fun S A S1 T1 ov1 => (∀ x, x ∈ A → P x.2.1) → (∀ x, x ∈ T1 → P x.2.1) ∧ ∀ a, ov1 = some a → P a.1) ?_ ?_ ?_ ?_ ?_ ?_ S A S1 T1 ov1 h
  · intro S _; exact ⟨(fun x hx => nomatch hx), fun a ha => nomatch ha⟩
  · intro S l a st k c hA
    refine ⟨(fun x hx => nomatch hx), fun b hb => ?_⟩
    cases hb
    exact hA (l, a) List.mem_cons_self
  · intro S l a st S' T ov k c ih hA; exact ih (fun x hx => hA x (List.mem_cons_of_mem _ hx))
  · intro S l a st S' T ov k c ih hA; exact ih (fun x hx => hA x (List.mem_cons_of_mem _ hx))
  · intro S l a st S' T ov k c ih hA
    obtain ⟨i1, i2⟩ := ih (fun x hx => hA x (List.mem_cons_of_mem _ hx))
    refine ⟨fun x hx => ?_, i2⟩
    rcases List.mem_cons.mp hx with rfl | hx
    · exact hA _ List.mem_cons_self
    · exact i1 x hx
  · intro S l a st S' T ov k k0 c ih hA
    refine ih (fun x hx => ?_)
    rcases List.mem_append.mp hx with hx | hx
    · unfold gr_sx at hx
      obtain ⟨q, _, rfl⟩ := List.mem_map.mp hx
      have := hA (l, a) List.mem_cons_self
      show P (gr_pl G xi_nt l a).1
      unfold gr_pl
      split
      · exact this
      · exact this
    · exact hA x (List.mem_cons_of_mem _ hx)
theorem ad_src {G : gr_T} {c : Nat} : ∀ (P : List Nat) i x, x ∈ ad_en G c i P → i ≤ x.2.1 ∧ x.2.1 < i + P.length := by
  intro P
  induction P with
  | nil => intro i x hx; cases hx
  | cons q P ih =>
    intro i x hx
    rw [List.length_cons]
    rcases List.mem_append.mp hx with hx | hx
    · split at hx
      · obtain ⟨l, _, rfl⟩ := List.mem_map.mp hx
        show i ≤ i ∧ i < _; omega
      · cases hx
    · have := ih (i + 1) x hx; omega
theorem ck_src {t : Std.Format} {c n : Nat} {Q : List Nat} {sf : Bool} {e : gr_E} {S S' : Nat → Bool} {T : List (Nat × Nat × Nat)} {ov : Option (Nat × Nat)} (hn : n = Q.length) (h : ly_R (tr_G t) e xi_nt S (ad_en (tr_G t) c 0 Q ++ ad_sd (tr_e0 t) sf) (S', T, ov)) : (∀ x, x ∈ T → x.2.1 = 36 ∨ x.2.1 < n) ∧ ∀ a, ov = some a → a.1 = 36 ∨ a.1 < n := by
  refine ly_src (P := fun s => s = 36 ∨ s < n) h ?_
  intro x hx
  rcases List.mem_append.mp hx with hx | hx
  · have := ad_src _ _ _ hx; right; omega
  · unfold ad_sd at hx
    split at hx
    · rcases List.mem_cons.mp hx with rfl | hx
      · exact Or.inl rfl
      · cases hx
    · cases hx
def bf_R (TL : List (Nat × gr_N)) (i : Nat) (ov : Option (Nat × Nat)) (fd0 fd : Int32) (be0 be : Nat → Int32) : Prop :=
  (ov = none → fd = fd0 ∧ be = be0) ∧ ∀ a, ov = some a → fd = 1 ∧ (∀ k, k < 7 → be k = mv_N TL i a k) ∧ be 7 = nI i
theorem ck_and : ∀ f : Fin 3, nI f.val &&& (-2) = nI (if f.val = 1 then 0 else f.val) := by decide +kernel
theorem ck_b1 : ∀ f : Fin 3, (¬ (nI f.val &&& 1) = 0) ↔ f.val = 1 := by decide +kernel
theorem ck_b2 : ∀ f : Fin 3, (nI f.val &&& 2) = 0 ↔ f.val ≠ 2 := by decide +kernel
variable {f_count f_place f_there f_length f_nodes f_level f_groups f_size f_tasks f_threads f_added f_bank f_matchFrom f_matchNotes f_found f_states f_flushed : Int32} {a_tok a_val a_text a_nKind a_nC a_nA a_nB a_nSize a_lAlt a_lSeq a_lAtom a_lGroup a_op a_x a_y a_prefersPast a_tNode a_tArg a_pc a_newPc a_from a_noted a_notes a_seen a_stack a_stackNotes a_best a_kPc a_kCount a_kFlags a_next a_kMatch a_kMatchNotes a_kFrom a_kNotes : Nat → Int32}
variable {t : Std.Format} {b i ns fl s c : Nat} {TL : List (Nat × gr_N)} {T : List (Nat × Nat × Nat)} {ov : Option (Nat × Nat)} {Q : Nat → List Nat} {F : Nat → Nat}
section XFN
variable {post : SX → Prop}
theorem xs_fin {r : Int32} (hr : (ov = none ∧ r = 0) ∨ (∃ a, ov = some a ∧ r = 1 ∧ f_matchFrom = nI a.1 ∧ f_matchNotes = nI a.2)) (hb : b < 2) (hi : i ≤ 32) (hbk : f_bank = nI b) (hTL : TL.length ≤ 36) (hm : tr_len t ≤ 72) (hth : th_R t a_op TL b a_pc a_notes) (hal : xi_al t a_op T a_newPc a_from a_noted) (hok : ck_ok t a_op TL.length T ov) (had : f_added = nI T.length)
    (H : ∀ nt pc fd be, th_R t a_op (T.map (fun x => (x.1, mv_N TL i x.2))) (1 - b) pc nt → bf_R TL i ov f_found fd a_best be → post (f_count, f_place, f_there, f_length, f_nodes, f_level, f_groups, f_size, f_tasks, f_added, f_added, nI (1 - b), f_matchFrom, f_matchNotes, fd, f_states, f_flushed, a_tok, a_val, a_text, a_nKind, a_nC, a_nA, a_nB, a_nSize, a_lAlt, a_lSeq, a_lAtom, a_lGroup, a_op, a_x, a_y, a_prefersPast, a_tNode, a_tArg, pc, a_newPc, a_from, a_noted, nt, a_seen, a_stack, a_stackNotes, be, a_kPc, a_kCount, a_kFlags, a_next, a_kMatch, a_kMatchNotes, a_kFrom, a_kNotes)) : wpX_move post (f_count, f_place, f_there, f_length, f_nodes, f_level, f_groups, f_size, f_tasks, f_threads, f_added, f_bank, f_matchFrom, f_matchNotes, f_found, f_states, f_flushed, a_tok, a_val, a_text, a_nKind, a_nC, a_nA, a_nB, a_nSize, a_lAlt, a_lSeq, a_lAtom, a_lGroup, a_op, a_x, a_y, a_prefersPast, a_tNode, a_tArg, a_pc, a_newPc, a_from, a_noted, a_notes, a_seen, a_stack, a_stackNotes, a_best, a_kPc, a_kCount, a_kFlags, a_next, a_kMatch, a_kMatchNotes, a_kFrom, a_kNotes) r (nI i) := by
  have hs : ∀ x, x ∈ T → x.2.1 = 36 ∨ x.2.1 < TL.length := fun x hx => (hok.2.1 x hx).2.2.1
  rcases hr with ⟨rfl, rfl⟩ | ⟨a, rfl, rfl, e1, e2⟩
  · refine xm_move0 hb hi hbk hTL hok.1 hm hth hal hs had ?_
    intro nt pc h1
    exact H nt pc f_found a_best h1 ⟨fun _ => ⟨rfl, rfl⟩, fun a ha => nomatch ha⟩
  · obtain ⟨o1, o2, o3⟩ := hok.2.2 a rfl
    refine xm_move1 (s := a.1) (mk := a.2) hb hi hbk hTL hok.1 hm hth hal hs had e1 e2 o3 o1 ?_
    intro nt pc be h1 h2 h3
    exact H nt pc 1 be h1 ⟨(fun h => nomatch h), fun a' ha => by cases ha; exact ⟨rfl, h2, h3⟩⟩
end XFN
variable {post : Int32 → SX → Prop}
theorem xi_al_R {np fr no : Nat → Int32} (hm : tr_len t ≤ 72) (h : xi_al t a_op T np fr no) : (∀ i q, (T.map (fun x => x.1))[i]? = some q → np i = nI q ∧ q < 100) ∧ ∀ q, q ∈ T.map (fun x => x.1) → tr_lab t false 0 q ∧ a_op q = 0 := by
  refine ⟨fun i q hq => ?_, fun q hq => ?_⟩
  · rw [List.getElem?_map] at hq
    match hT : T[i]? with
    | none => rw [hT] at hq; cases hq
    | some x =>
      rw [hT] at hq; cases hq
      obtain ⟨a1, a2, a3, a4, _⟩ := h i x hT
      have := xp_lm a4
      exact ⟨a1, by show x.1 < 100; omega⟩
  · obtain ⟨x, hx, rfl⟩ := List.mem_map.mp hq
    obtain ⟨i, hi⟩ := List.mem_iff_getElem?.mp hx
    obtain ⟨a1, a2, a3, a4, a5, _⟩ := h i x hi
    exact ⟨a4, a5⟩
theorem xi_al_ok {np fr no : Nat → Int32} {n : Nat} (h : xi_al t a_op T np fr no) (hl : T.length ≤ 36) (h1 : ∀ x, x ∈ T → x.2.1 = 36 ∨ x.2.1 < n) (h2 : ∀ a, ov = some a → (a.1 = 36 ∨ a.1 < n) ∧ a.1 ≤ 36 ∧ a.2 < 128) : ck_ok t a_op n T ov := by
  refine ⟨hl, fun x hx => ?_, h2⟩
  obtain ⟨i, hi⟩ := List.mem_iff_getElem?.mp hx
  obtain ⟨_, _, _, a4, a5, a6, a7⟩ := h i x hi
  exact ⟨a4, a5, h1 x hx, a6, a7⟩
/-- a step that is kept already -/
theorem xs_40 {to : Nat} (hb : b < 2) (hbk : f_bank = nI b) (hTL : TL.length ≤ 36) (hth : th_R t a_op TL b a_pc a_notes) (hm : tr_len t ≤ 72) (hi : i ≤ 32) (H : ∀ to ns' mf mo fd flu pc np fr no nt sn sk so be kp kc kf nx km ko kfr kno Q' F', ns' ≤ 12 → to < ns' → Q' to = T.map (fun x => x.1) → F' to = ck_f fl ov → ck_S t a_op ns' kp kc kf Q' F' → ck_V t a_op ns' nx km ko kfr kno Q' F' → th_R t a_op (T.map (fun x => (x.1, mv_N TL i x.2))) (1 - b) pc nt → bf_R TL i ov f_found fd a_best be → T.length ≤ 36 → post (nI to) (f_count, f_place, f_there, f_length, f_nodes, f_level, f_groups, f_size, f_tasks, nI T.length, nI T.length, nI (1 - b), mf, mo, fd, nI ns', flu, a_tok, a_val, a_text, a_nKind, a_nC, a_nA, a_nB, a_nSize, a_lAlt, a_lSeq, a_lAtom, a_lGroup, a_op, a_x, a_y, a_prefersPast, a_tNode, a_tArg, pc, np, fr, no, nt, sn, sk, so, be, kp, kc, kf, nx, km, ko, kfr, kno)) (hns : ns ≤ 12) (hst : f_states = nI ns) (hK : ck_S t a_op ns a_kPc a_kCount a_kFlags Q F) (hV : ck_V t a_op ns a_next a_kMatch a_kMatchNotes a_kFrom a_kNotes Q F) (hs : s < ns) (hc : c < 4) (hto : to < ns) (hok : ck_ok t a_op TL.length T ov) (eQ : Q to = T.map (fun x => x.1)) (eF : F to = ck_f fl ov)
    (hkf : ∀ j x, T[j]? = some x → a_kFrom ((s * 4 + c) * 36 + j) = nI x.2.1 ∧ a_kNotes ((s * 4 + c) * 36 + j) = nI x.2.2) (hkn : ov = none → a_kMatch (s * 4 + c) = -1) (hks : ∀ a, ov = some a → a_kMatch (s * 4 + c) = nI a.1 ∧ a_kMatchNotes (s * 4 + c) = nI a.2) (had : f_added = nI T.length) :
    ∀ d j n np fr no, j + d = T.length → d < n → (∀ j' x, T[j']? = some x → j' < j → np j' = nI x.1 ∧ fr j' = nI x.2.1 ∧ no j' = nI x.2.2) → wX_keptStep_40 post (nI i) (nI (s * 4 + c)) (nI to) f_count f_place f_there f_length f_nodes f_level f_groups f_size f_tasks f_threads f_added f_bank f_matchFrom f_matchNotes f_found f_states f_flushed n (nI j) a_tok a_val a_text a_nKind a_nC a_nA a_nB a_nSize a_lAlt a_lSeq a_lAtom a_lGroup a_op a_x a_y a_prefersPast a_tNode a_tArg a_pc np fr no a_notes a_seen a_stack a_stackNotes a_best a_kPc a_kCount a_kFlags a_next a_kMatch a_kMatchNotes a_kFrom a_kNotes := by
  subst had hst
  have hl := hok.1
  intro d
  induction d with
  | zero =>
    intro j n np fr no hj hn hpre
    obtain ⟨n, rfl⟩ : ∃ m, n = m + 1 := ⟨n - 1, by omega⟩
    have hal : xi_al t a_op T np fr no := by
      intro j' x hx
      have hj' := (List.getElem?_eq_some_iff.mp hx).1
      obtain ⟨a1, a2, a3⟩ := hpre j' x hx (by omega)
      obtain ⟨o1, o2, o3, o4, o5⟩ := hok.2.1 x (List.mem_of_getElem? hx)
      exact ⟨a1, a2, a3, o1, o2, o4, o5⟩
    refine br_t (nI_le (by omega) (by omega)) ⟨vp_in_nI (by omega) (by omega), ?_⟩
    rw [nI_clamp (by omega)]
    refine nm_e ⟨vp_in_nI (by omega) (by omega), nm_e ?_⟩
    match hov : ov with
    | none =>
      refine br_t (by rw [hkn rfl]; exact mn_neg1) ?_
      refine xs_fin (ov := none) (T := T) (Or.inl ⟨rfl, rfl⟩) hb hi hbk hTL hm hth hal hok rfl ?_
      intro nt pc fd be h1 h2
      exact H to ns _ _ fd _ pc np fr no nt a_seen a_stack a_stackNotes be a_kPc a_kCount a_kFlags a_next a_kMatch a_kMatchNotes a_kFrom a_kNotes Q F hns hto eQ eF hK hV h1 h2 hl
    | some a =>
      obtain ⟨e1, e2⟩ := hks a rfl
      refine br_f (by rw [e1]; exact nI_pos (by have := (hok.2.2 a rfl).2.1; omega)) ?_
      refine xs_fin (ov := some a) (T := T) (Or.inr ⟨a, rfl, rfl, e1, e2⟩) hb hi hbk hTL hm hth hal hok rfl ?_
      intro nt pc fd be h1 h2
      exact H to ns _ _ fd _ pc np fr no nt a_seen a_stack a_stackNotes be a_kPc a_kCount a_kFlags a_next a_kMatch a_kMatchNotes a_kFrom a_kNotes Q F hns hto eQ eF hK hV h1 h2 hl
  | succ d ih =>
    intro j n np fr no hj hn hpre
    obtain ⟨n, rfl⟩ : ∃ m, n = m + 1 := ⟨n - 1, by omega⟩
    obtain ⟨x, hx⟩ : ∃ x, T[j]? = some x := ⟨T[j]'(by omega), List.getElem?_eq_getElem (by omega)⟩
    obtain ⟨k1, k2, k3, k4, k5⟩ := hK to hto
    have q1 := (k5 j x.1 (by rw [eQ, List.getElem?_map, hx]; rfl)).1
    obtain ⟨f1, f2⟩ := hkf j x hx
    obtain ⟨o1, o2, o3, o4, o5⟩ := hok.2.1 x (List.mem_of_getElem? hx)
    have hxm := xp_lm o1
    have e1 : nI to * 36 + nI j = nI (to * 36 + j) := by rw [show (36 : Int32) = nI 36 from rfl, pk_mul, nI_add]
    have e2 : nI (s * 4 + c) * 36 + nI j = nI ((s * 4 + c) * 36 + j) := by rw [show (36 : Int32) = nI 36 from rfl, pk_mul, nI_add]
    refine br_f (nI_ge (by omega) (by omega)) ?_
    rw [e1, e2, nI_clamp (n := to * 36 + j) (by omega), nI_clamp (n := (s * 4 + c) * 36 + j) (by omega), nI_clamp (n := j) (by omega), q1, f1, f2, mn_b0 (by omega), mn_b0 (by omega), mn_b0 o5]
    refine ⟨vp_in_nI (by omega) (by omega), vp_in_nI (by omega) (by omega), nm_e ⟨vp_in_nI (by omega) (by omega), vp_in_nI (by omega) (by omega), nm_e ⟨vp_in_nI (by omega) (by omega), vp_in_nI (by omega) (by omega), nm_e (nm_r (nI_1 j) (ih (j + 1) n _ _ _ (by omega) (by omega) ?_))⟩⟩⟩
    intro j' y hy hj'
    by_cases ej : j' = j
    · subst ej
      rw [hx] at hy; cases hy
      exact ⟨pk_us, pk_us, pk_us⟩
    · rw [pk_un ej, pk_un ej, pk_un ej]
      exact hpre j' y hy (by omega)
/-- a new step is put down -/
theorem xs_249 {r : Int32} {to : Nat} (hb : b < 2) (hbk : f_bank = nI b) (hTL : TL.length ≤ 36) (hth : th_R t a_op TL b a_pc a_notes) (hm : tr_len t ≤ 72) (hi : i ≤ 32) (H : ∀ to ns' mf mo fd flu pc np fr no nt sn sk so be kp kc kf nx km ko kfr kno Q' F', ns' ≤ 12 → to < ns' → Q' to = T.map (fun x => x.1) → F' to = ck_f fl ov → ck_S t a_op ns' kp kc kf Q' F' → ck_V t a_op ns' nx km ko kfr kno Q' F' → th_R t a_op (T.map (fun x => (x.1, mv_N TL i x.2))) (1 - b) pc nt → bf_R TL i ov f_found fd a_best be → T.length ≤ 36 → post (nI to) (f_count, f_place, f_there, f_length, f_nodes, f_level, f_groups, f_size, f_tasks, nI T.length, nI T.length, nI (1 - b), mf, mo, fd, nI ns', flu, a_tok, a_val, a_text, a_nKind, a_nC, a_nA, a_nB, a_nSize, a_lAlt, a_lSeq, a_lAtom, a_lGroup, a_op, a_x, a_y, a_prefersPast, a_tNode, a_tArg, pc, np, fr, no, nt, sn, sk, so, be, kp, kc, kf, nx, km, ko, kfr, kno)) (hr : (ov = none ∧ r = 0) ∨ (∃ a, ov = some a ∧ r = 1 ∧ f_matchFrom = nI a.1 ∧ f_matchNotes = nI a.2)) (hns : ns ≤ 12) (hst : f_states = nI ns) (hs : s < 12) (hc : c < 4) (hto : to < ns) (hal : xi_al t a_op T a_newPc a_from a_noted) (hok : ck_ok t a_op TL.length T ov) (eQ : Q to = T.map (fun x => x.1)) (eF : F to = ck_f fl ov) (hK : ck_S t a_op ns a_kPc a_kCount a_kFlags Q F)
    (hV : ∀ kfr kno, (∀ q, (q < (s * 4 + c) * 36 ∨ (s * 4 + c) * 36 + 36 ≤ q) → kfr q = a_kFrom q ∧ kno q = a_kNotes q) → (∀ j x, T[j]? = some x → kfr ((s * 4 + c) * 36 + j) = nI x.2.1 ∧ kno ((s * 4 + c) * 36 + j) = nI x.2.2) → ck_V t a_op ns a_next a_kMatch a_kMatchNotes kfr kno Q F) (had : f_added = nI T.length) :
    ∀ d j n kfr kno, j + d = T.length → d < n → (∀ q, (q < (s * 4 + c) * 36 ∨ (s * 4 + c) * 36 + 36 ≤ q) → kfr q = a_kFrom q ∧ kno q = a_kNotes q) → (∀ j' x, T[j']? = some x → j' < j → kfr ((s * 4 + c) * 36 + j') = nI x.2.1 ∧ kno ((s * 4 + c) * 36 + j') = nI x.2.2) → wX_keptStep_249 post (nI i) (nI (s * 4 + c)) r (nI to) f_count f_place f_there f_length f_nodes f_level f_groups f_size f_tasks f_threads f_added f_bank f_matchFrom f_matchNotes f_found f_states f_flushed n (nI j) a_tok a_val a_text a_nKind a_nC a_nA a_nB a_nSize a_lAlt a_lSeq a_lAtom a_lGroup a_op a_x a_y a_prefersPast a_tNode a_tArg a_pc a_newPc a_from a_noted a_notes a_seen a_stack a_stackNotes a_best a_kPc a_kCount a_kFlags a_next a_kMatch a_kMatchNotes kfr kno := by
  subst had hst
  have hl := hok.1
  intro d
  induction d with
  | zero =>
    intro j n kfr kno hj hn h1 h2
    obtain ⟨n, rfl⟩ : ∃ m, n = m + 1 := ⟨n - 1, by omega⟩
    refine br_t (nI_le (by omega) (by omega)) ?_
    refine xs_fin (ov := ov) (T := T) hr hb hi hbk hTL hm hth hal hok rfl ?_
    intro nt pc fd be h3 h4
    refine H to ns _ _ fd _ pc a_newPc a_from a_noted nt a_seen a_stack a_stackNotes be a_kPc a_kCount a_kFlags a_next a_kMatch a_kMatchNotes kfr kno Q F hns hto eQ eF hK (hV kfr kno h1 (fun j' x hx => h2 j' x hx ?_)) h3 h4 hl
    have := (List.getElem?_eq_some_iff.mp hx).1
    omega
  | succ d ih =>
    intro j n kfr kno hj hn h1 h2
    obtain ⟨n, rfl⟩ : ∃ m, n = m + 1 := ⟨n - 1, by omega⟩
    obtain ⟨x, hx⟩ : ∃ x, T[j]? = some x := ⟨T[j]'(by omega), List.getElem?_eq_getElem (by omega)⟩
    obtain ⟨a1, a2, a3, a4, a5, a6, a7⟩ := hal j x hx
    have e2 : nI (s * 4 + c) * 36 + nI j = nI ((s * 4 + c) * 36 + j) := by rw [show (36 : Int32) = nI 36 from rfl, pk_mul, nI_add]
    refine br_f (nI_ge (by omega) (by omega)) ?_
    rw [e2, nI_clamp (n := (s * 4 + c) * 36 + j) (by omega), nI_clamp (n := j) (by omega), a2, a3, mn_b0 (by omega), mn_b0 a7]
    refine ⟨vp_in_nI (by omega) (by omega), vp_in_nI (by omega) (by omega), nm_e ⟨vp_in_nI (by omega) (by omega), vp_in_nI (by omega) (by omega), nm_e (nm_r (nI_1 j) (ih (j + 1) n _ _ (by omega) (by omega) ?_ ?_))⟩⟩
    · intro q hq
      rw [pk_un (by omega), pk_un (by omega)]; exact h1 q hq
    · intro j' y hy hj'
      by_cases ej : j' = j
      · subst ej
        rw [hx] at hy; cases hy
        exact ⟨pk_us, pk_us⟩
      · rw [pk_un (by omega), pk_un (by omega)]
        exact h2 j' y hy (by omega)
/-- what is put down keeps the other steps -/
theorem ck_put {nx km ko kfr0 kno0 kfr kno : Nat → Int32} {to : Nat} {v w : Int32} {fls : Nat} (hV : ck_V t a_op ns nx km ko kfr0 kno0 Q F) (hs : s < ns) (hc : c < 4) (hto : to < ns) (hst : ck_st t (Q s) (F s) c T ov) (hok : ck_ok t a_op (Q s).length T ov) (eQ : Q to = T.map (fun x => x.1)) (eF : F to = ck_f (F s) ov) (hf : fls = F s)
    (h1 : ∀ q, (q < (s * 4 + c) * 36 ∨ (s * 4 + c) * 36 + 36 ≤ q) → kfr q = kfr0 q ∧ kno q = kno0 q) (h2 : ∀ j x, T[j]? = some x → kfr ((s * 4 + c) * 36 + j) = nI x.2.1 ∧ kno ((s * 4 + c) * 36 + j) = nI x.2.2) (hv : ov = none → v = -1) (hv2 : ∀ a, ov = some a → v = nI a.1 ∧ w = nI a.2) :
    ck_V t a_op ns (upd nx (s * 4 + c) (nI to)) (upd km (s * 4 + c) v) (upd ko (s * 4 + c) w) kfr kno Q F := by
  intro s' c' hs' hc'
  by_cases e : s' = s ∧ c' = c
  · obtain ⟨rfl, rfl⟩ := e
    refine Or.inr ⟨to, T, ov, hto, pk_us, hst, hok, eQ, eF, h2, ?_, ?_⟩
    · intro h; rw [pk_us]; exact hv h
    · intro a ha; rw [pk_us, pk_us]; exact hv2 a ha
  · have hne : s' * 4 + c' ≠ s * 4 + c := by omega
    rcases hV s' c' hs' hc' with h | ⟨to', T', ov', v1, v2, v3, v4, v5, v6, v7, v8, v9⟩
    · left; rw [pk_un hne]; exact h
    · refine Or.inr ⟨to', T', ov', v1, by rw [pk_un hne]; exact v2, v3, v4, v5, v6, ?_, ?_, ?_⟩
      · intro j x hx
        have hj := (List.getElem?_eq_some_iff.mp hx).1
        have hl := v4.1
        have := h1 ((s' * 4 + c') * 36 + j) (by omega)
        rw [this.1, this.2]
        exact v7 j x hx
      · intro h; rw [pk_un hne]; exact v8 h
      · intro a ha; rw [pk_un hne, pk_un hne]; exact v9 a ha
/-- a step that is new -/
theorem xs_191 {r : Int32} (hb : b < 2) (hbk : f_bank = nI b) (hTL : TL.length ≤ 36) (hth : th_R t a_op TL b a_pc a_notes) (hm : tr_len t ≤ 72) (hi : i ≤ 32) (H : ∀ to ns' mf mo fd flu pc np fr no nt sn sk so be kp kc kf nx km ko kfr kno Q' F', ns' ≤ 12 → to < ns' → Q' to = T.map (fun x => x.1) → F' to = ck_f fl ov → ck_S t a_op ns' kp kc kf Q' F' → ck_V t a_op ns' nx km ko kfr kno Q' F' → th_R t a_op (T.map (fun x => (x.1, mv_N TL i x.2))) (1 - b) pc nt → bf_R TL i ov f_found fd a_best be → T.length ≤ 36 → post (nI to) (f_count, f_place, f_there, f_length, f_nodes, f_level, f_groups, f_size, f_tasks, nI T.length, nI T.length, nI (1 - b), mf, mo, fd, nI ns', flu, a_tok, a_val, a_text, a_nKind, a_nC, a_nA, a_nB, a_nSize, a_lAlt, a_lSeq, a_lAtom, a_lGroup, a_op, a_x, a_y, a_prefersPast, a_tNode, a_tArg, pc, np, fr, no, nt, sn, sk, so, be, kp, kc, kf, nx, km, ko, kfr, kno)) (hr : (ov = none ∧ r = 0) ∨ (∃ a, ov = some a ∧ r = 1 ∧ f_matchFrom = nI a.1 ∧ f_matchNotes = nI a.2)) (hns : ns ≤ 12) (hsts : f_states = nI ns) (hK : ck_S t a_op ns a_kPc a_kCount a_kFlags Q F) (hV : ck_V t a_op ns a_next a_kMatch a_kMatchNotes a_kFrom a_kNotes Q F) (hs : s < ns) (hc : c < 4) (hQs : (Q s).length = TL.length) (hFs : F s = fl) (hst : ck_st t (Q s) fl c T ov) (hok : ck_ok t a_op TL.length T ov) (hal : xi_al t a_op T a_newPc a_from a_noted) (had : f_added = nI T.length) (hfl : f_flushed = 0) (hf3 : ck_f fl ov < 3) :
    wX_keptStep_191 post (nI i) (nI (s * 4 + c)) r (nI (ck_f fl ov)) (nI T.length) f_count f_place f_there f_length f_nodes f_level f_groups f_size f_tasks f_threads f_added f_bank f_matchFrom f_matchNotes f_found f_states f_flushed a_tok a_val a_text a_nKind a_nC a_nA a_nB a_nSize a_lAlt a_lSeq a_lAtom a_lGroup a_op a_x a_y a_prefersPast a_tNode a_tArg a_pc a_newPc a_from a_noted a_notes a_seen a_stack a_stackNotes a_best a_kPc a_kCount a_kFlags a_next a_kMatch a_kMatchNotes a_kFrom a_kNotes := by
  obtain ⟨hR1, hR2⟩ := xi_al_R hm hal
  have hl := hok.1
  unfold wX_keptStep_191
  have e0 : nI T.length = nI (T.map (fun x => x.1)).length := by rw [List.length_map]
  rw [e0]
  refine xk_intern (R := T.map (fun x => x.1)) hm hns hsts hf3 hK hV (by rw [List.length_map]; exact hl) hR1 hR2 ?_
  intro to ns' flu kp kc kf nx Q' F' h1 h2 h3 h4 h5 h6 h7
  dsimp only
  subst had
  by_cases hflu : flu = 0
  · have hold : ns ≤ ns' ∧ ∀ s, s < ns → Q' s = Q s ∧ F' s = F s := by
      rcases h7 with h7 | h7
      · rw [h7] at hflu; exact absurd hflu (by decide)
      · exact h7.2
    obtain ⟨o1, o2⟩ := hold.2 s hs
    refine br_t hflu ⟨vp_in_nI (by omega) (by omega), ?_⟩
    rw [nI_clamp (by omega), mn_b1 (by omega)]
    refine nm_e ?_
    have key : ∀ v w : Int32, (ov = none → v = -1) → (∀ a, ov = some a → v = nI a.1 ∧ w = nI a.2) → ∃ n249, wX_keptStep_249 post (nI i) (nI (s * 4 + c)) r (nI to) f_count f_place f_there f_length f_nodes f_level f_groups f_size f_tasks f_threads (nI T.length) f_bank f_matchFrom f_matchNotes f_found (nI ns') flu n249 0 a_tok a_val a_text a_nKind a_nC a_nA a_nB a_nSize a_lAlt a_lSeq a_lAtom a_lGroup a_op a_x a_y a_prefersPast a_tNode a_tArg a_pc a_newPc a_from a_noted a_notes a_seen a_stack a_stackNotes a_best kp kc kf (upd nx (s * 4 + c) (nI to)) (upd a_kMatch (s * 4 + c) v) (upd a_kMatchNotes (s * 4 + c) w) a_kFrom a_kNotes := by
      intro v w hv hw
      refine ⟨T.length + 1, ?_⟩
      refine xs_249 (Q := Q') (F := F') (ns := ns') hb hbk hTL hth hm hi H hr h1 rfl (by omega) hc h2 hal hok h3 h4 h5 ?_ rfl T.length 0 _ a_kFrom a_kNotes (by omega) (by omega) (fun q _ => ⟨rfl, rfl⟩) (fun j' x _ h => by omega)
      intro kfr kno k1 k2
      exact ck_put (fls := F' s) h6 (by omega) hc h2 (by rw [o1, o2, hFs]; exact hst) (by rw [o1, hQs]; exact hok) h3 (by rw [o2, hFs]; exact h4) rfl k1 k2 hv hw
    rcases hr with ⟨rfl, rfl⟩ | ⟨a, rfl, rfl, e1, e2⟩
    · refine br_t rfl ?_
      unfold wX_keptStep_232
      rw [nI_clamp (by omega), mn_bm.1]
      exact ⟨vp_in_nI (by omega) (by omega), nm_e ⟨vp_in_nI (by omega) (by omega), nm_e (key _ _ (fun _ => rfl) (fun a ha => nomatch ha))⟩⟩
    · refine br_f (by decide) ?_
      unfold wX_keptStep_232
      obtain ⟨p1, p2, p3⟩ := hok.2.2 a rfl
      have e3 : vp_nar .byte f_matchFrom.toInt8.toInt32 = nI a.1 := by rw [e1]; exact mn_b1 (by omega)
      have e4 : vp_nar .byte f_matchNotes.toInt8.toInt32 = nI a.2 := by rw [e2]; exact mn_b1 p3
      rw [nI_clamp (by omega), e3, e4]
      exact ⟨vp_in_nI (by omega) (by omega), nm_e ⟨vp_in_nI (by omega) (by omega), nm_e (key _ _ (fun h => nomatch h) (fun a' ha => by cases ha; exact ⟨rfl, rfl⟩))⟩⟩
  · refine br_f hflu ?_
    refine xs_fin (ov := ov) (T := T) hr hb hi hbk hTL hm hth hal hok rfl ?_
    intro nt pc fd be h8 h9
    exact H to ns' _ _ fd flu pc a_newPc a_from a_noted nt a_seen a_stack a_stackNotes be kp kc kf nx a_kMatch a_kMatchNotes a_kFrom a_kNotes Q' F' h1 h2 h3 h4 h5 h6 h8 h9 hl
theorem ck_f3 (h : fl < 3) : ck_f fl ov < 3 := by
  unfold ck_f; split <;> omega
theorem xs_kept (hb : b < 2) (hbk : f_bank = nI b) (hTL : TL.length ≤ 36) (hth : th_R t a_op TL b a_pc a_notes) (hm : tr_len t ≤ 72) (hi : i ≤ 32) (H : ∀ to ns' mf mo fd flu pc np fr no nt sn sk so be kp kc kf nx km ko kfr kno Q' F', ns' ≤ 12 → to < ns' → Q' to = T.map (fun x => x.1) → F' to = ck_f fl ov → ck_S t a_op ns' kp kc kf Q' F' → ck_V t a_op ns' nx km ko kfr kno Q' F' → th_R t a_op (T.map (fun x => (x.1, mv_N TL i x.2))) (1 - b) pc nt → bf_R TL i ov f_found fd a_best be → T.length ≤ 36 → post (nI to) (f_count, f_place, f_there, f_length, f_nodes, f_level, f_groups, f_size, f_tasks, nI T.length, nI T.length, nI (1 - b), mf, mo, fd, nI ns', flu, a_tok, a_val, a_text, a_nKind, a_nC, a_nA, a_nB, a_nSize, a_lAlt, a_lSeq, a_lAtom, a_lGroup, a_op, a_x, a_y, a_prefersPast, a_tNode, a_tArg, pc, np, fr, no, nt, sn, sk, so, be, kp, kc, kf, nx, km, ko, kfr, kno)) (hP : xp_R t a_op a_x a_y a_prefersPast) (hsz : f_size = nI (tr_len t + 1)) (hct : gr_u (fun j => decide (¬ a_op j = 0)) (tr_len t + 1) ≤ 36) {n : Nat} (hn : n ≤ 32) (hlen : f_length = nI n) (hin : i < n) (hi0 : 0 < i) (hthr : f_threads = nI TL.length)
    (hns : ns ≤ 12) (hsts : f_states = nI ns) (hK : ck_S t a_op ns a_kPc a_kCount a_kFlags Q F) (hV : ck_V t a_op ns a_next a_kMatch a_kMatchNotes a_kFrom a_kNotes Q F) (hs : s < ns) (hc : c < 4) (hQs : Q s = TL.map (fun x => x.1)) (hFs : F s = fl) (hst : ck_st t (TL.map (fun x => x.1)) fl c T ov) :
    wpX_keptStep post (f_count, f_place, f_there, f_length, f_nodes, f_level, f_groups, f_size, f_tasks, f_threads, f_added, f_bank, f_matchFrom, f_matchNotes, f_found, f_states, f_flushed, a_tok, a_val, a_text, a_nKind, a_nC, a_nA, a_nB, a_nSize, a_lAlt, a_lSeq, a_lAtom, a_lGroup, a_op, a_x, a_y, a_prefersPast, a_tNode, a_tArg, a_pc, a_newPc, a_from, a_noted, a_notes, a_seen, a_stack, a_stackNotes, a_best, a_kPc, a_kCount, a_kFlags, a_next, a_kMatch, a_kMatchNotes, a_kFrom, a_kNotes) (nI s) (nI c) (nI fl) (nI i) := by
  have hfl : fl < 3 := by rw [← hFs]; exact (hK s hs).2.2.2.1
  have hQl : (Q s).length = TL.length := by rw [hQs, List.length_map]
  have e0 : nI s * 4 + nI c = nI (s * 4 + c) := by rw [show (4 : Int32) = nI 4 from rfl, pk_mul, nI_add]
  refine nm_r e0 ⟨vp_in_nI (by omega) (by omega), ?_⟩
  rw [nI_clamp (by omega)]
  rcases hV s c hs hc with hno | ⟨to, T', ov', v1, v2, v3, v4, v5, v6, v7, v8, v9⟩
  · refine br_t (by rw [hno]; exact mn_neg1) ?_
    obtain ⟨S', hly⟩ := hst
    have hsrc := ck_src (n := TL.length) (by rw [List.length_map]) hly
    have hst2 : ck_st t (Q s) fl c T ov := by rw [hQs]; exact ⟨S', hly⟩
    refine xa_adv (e := (false, false, decide (fl ≠ 2))) (P := TL.map (fun x => x.1)) (by omega) hP ?_ ?_ ?_ (sf := decide (fl = 1)) ?_ (by rw [List.length_map]; exact hTL) ?_ (by rw [List.length_map]; exact hthr) hsz hct ?_ ?_ hly
    · exact ⟨(fun h => nomatch h), fun h => absurd h (nI_ne0 hi0 (by omega))⟩
    · refine ⟨(fun h => nomatch h), fun h => ?_⟩
      rw [hlen] at h
      have := (nI_eq (by omega) (by omega)).mp h
      omega
    · rw [hlen]
      constructor
      · intro h; left; exact (ck_b2 ⟨fl, hfl⟩).mpr (of_decide_eq_true h)
      · rintro (h | h)
        · exact decide_eq_true ((ck_b2 ⟨fl, hfl⟩).mp h)
        · have := (nI_leI (by omega) (by omega)).mp h; omega
    · rw [ck_b1 ⟨fl, hfl⟩]; exact ⟨of_decide_eq_true, decide_eq_true⟩
    · intro j q hq
      rw [List.getElem?_map] at hq
      match hT : TL[j]? with
      | none => rw [hT] at hq; cases hq
      | some x =>
        rw [hT] at hq; cases hq
        obtain ⟨a1, a2, a3, _⟩ := hth j x hT
        exact ⟨a1, a2, a3⟩
    · intro hov mf mo sn np fr no sk so h1 h2
      dsimp only
      refine br_t rfl ?_
      subst hov
      have := ck_f3 (ov := none) hfl
      exact xs_191 (ov := none) (r := 0) (s := s) (c := c) (fl := fl) (T := T) (TL := TL) hb hbk hTL hth hm hi H (Or.inl ⟨rfl, rfl⟩) hns hsts hK hV hs hc hQl hFs hst2 (xi_al_ok h2 h1 hsrc.1 (fun a ha => nomatch ha)) h2 rfl rfl this
    · intro s' mk' hov sn np fr no sk so h1 h2 h3 h4
      dsimp only
      refine br_f (by decide) ?_
      subst hov
      have h5 := ck_f3 (ov := some (s', mk')) hfl
      have e5 : nI fl &&& (-2) = nI (ck_f fl (some (s', mk'))) := by
        rw [ck_and ⟨fl, hfl⟩]
        unfold ck_f
        by_cases z : fl = 1
        · rw [if_pos z, if_pos ⟨rfl, z⟩]
        · rw [if_neg z, if_neg (fun y => z y.2)]
      rw [e5]
      exact xs_191 (ov := some (s', mk')) (r := 1) (s := s) (c := c) (fl := fl) (T := T) (TL := TL) hb hbk hTL hth hm hi H (Or.inr ⟨(s', mk'), rfl, rfl, rfl, rfl⟩) hns hsts hK hV hs hc hQl hFs hst2 (xi_al_ok h4 h3 hsrc.1 (fun a ha => by cases ha; exact ⟨hsrc.2 _ rfl, h2, h1⟩)) h4 rfl rfl h5
  · have hsame : T' = T ∧ ov' = ov := by
      obtain ⟨S1, k1⟩ := v3
      obtain ⟨S2, k2⟩ := hst
      rw [hQs, hFs] at k1
      have := ly_det k2 _ k1
      exact ⟨congrArg (fun z => z.2.1) this, congrArg (fun z => z.2.2) this⟩
    obtain ⟨rfl, rfl⟩ := hsame
    rw [hFs] at v6
    rw [hQl] at v4
    have hkc := (hK to v1).1
    refine br_f (by rw [v2]; exact nI_pos (by omega)) ⟨vp_in_nI (by omega) (by omega), nm_r v2 ⟨vp_in_nI (by omega) (by omega), ?_⟩⟩
    rw [nI_clamp (by omega), hkc, v5, List.length_map]
    refine nm_e ⟨T'.length + 1, ?_⟩
    exact xs_40 (Q := Q) (F := F) (ns := ns) (f_added := nI T'.length) hb hbk hTL hth hm hi H hns hsts hK hV hs hc v1 v4 v5 v6 v7 v8 v9 rfl T'.length 0 _ a_newPc a_from a_noted (by omega) (by omega) (fun j' x _ h => by omega)
end XKS
end
section
section XGO
/-! labels of a tree's graph lie within -/
theorem tr_ent_r : ∀ t p k, tr_ent t p k = k ∨ (p ≤ tr_ent t p k ∧ tr_ent t p k < p + tr_len t) := by
  intro t
  induction t using tr_ind with
  | h0 => intro p k; exact Or.inl rfl
  | h1 => intro p k; right; show p ≤ p ∧ p < p + 1; omega
  | h2 b => intro p k; right; show p ≤ p ∧ p < p + 1; omega
  | h3 s => intro p k; exact Or.inl rfl
  | h4 i f => intro p k; right; show p ≤ p ∧ p < p + 1; omega
  | h5 a b ha hb =>
    intro p k
    show tr_ent a p (tr_ent b (p + tr_len a) k) = k ∨ _
    rw [tr_len_app]
    rcases ha p (tr_ent b (p + tr_len a) k) with h | h
    · rcases hb (p + tr_len a) k with h2 | h2
      · left; rw [h, h2]
      · right
        have e : tr_ent (.append a b) p k = tr_ent b (p + tr_len a) k := h
        rw [e]; omega
    · right
      have e : tr_ent (.append a b) p k = tr_ent a p (tr_ent b (p + tr_len a) k) := rfl
      rw [e]; omega
  | h6 a b c ha hb => intro p k; right; show p ≤ p ∧ p < p + (tr_len a + tr_len b + 2); omega
  | h7 f c hf => intro p k; cases f <;> first | exact Or.inl rfl | exact absurd rfl (hf _ _)
  | h8 t a ha =>
    intro p k; right
    have := tr_len_tg (t := t) (a := a)
    show p ≤ p ∧ p < p + tr_len (.tag t a); omega
theorem tr_alt_r : ∀ t p k q, q ∈ tr_alt t p k → q = k ∨ (p ≤ q ∧ q < p + tr_len t) := by
  have one : ∀ t p k q, (∀ p k, tr_alt t p k = [tr_ent t p k]) → q ∈ tr_alt t p k → q = k ∨ (p ≤ q ∧ q < p + tr_len t) := by
    intro t p k q h hq
    rw [h] at hq
    rcases List.mem_cons.mp hq with rfl | hq
    · exact tr_ent_r t p k
    · cases hq
  intro t
  induction t using tr_ind with
  | h0 => intro p k q; exact one _ p k q yl_N0.2.2.1
  | h1 => intro p k q; exact one _ p k q yl_N1.2.2.1
  | h2 b => intro p k q; exact one _ p k q yl_N2.2.2.1
  | h3 s => intro p k q; exact one _ p k q yl_N3.2.2.1
  | h4 i f => intro p k q; exact one _ p k q yl_N4.2.2.1
  | h5 a b _ _ => intro p k q; exact one _ p k q yl_N5.2.2.1
  | h6 a b c ha hb =>
    intro p k q hq
    rw [tr_len_alt]
    rcases List.mem_append.mp hq with hq | hq
    · rcases ha _ _ _ hq with h | h
      · exact Or.inl h
      · right; omega
    · rcases List.mem_cons.mp hq with rfl | hq
      · rcases tr_ent_r b (p + tr_len a + 2) k with h | h
        · exact Or.inl h
        · right; omega
      · cases hq
  | h7 f c hf => intro p k q; exact one _ p k q (yl_N7 hf).2.2.1
  | h8 t a _ => intro p k q; exact one _ p k q yl_N8.2.2.1
theorem tr_g_r : ∀ t p k j q, p ≤ j → j < p + tr_len t → q ∈ (tr_g t p k j).2.2 → q = k ∨ (p ≤ q ∧ q < p + tr_len t) := by
  have leaf : ∀ k q p n : Nat, q ∈ [k] → q = k ∨ (p ≤ q ∧ q < p + n) := by
    intro k q p n h
    rcases List.mem_cons.mp h with h | h
    · exact Or.inl h
    · cases h
  intro t
  induction t using tr_ind with
  | h0 => intro p k j q _ _ h; cases h
  | h1 => intro p k j q _ _ h; exact leaf _ _ _ _ h
  | h2 b => intro p k j q _ _ h; exact leaf _ _ _ _ h
  | h3 s => intro p k j q _ _ h; cases h
  | h4 i f => intro p k j q _ _ h; exact leaf _ _ _ _ h
  | h5 a b ha hb =>
    intro p k j q h1 h2 h
    rw [tr_len_app] at h2 ⊢
    unfold tr_g at h
    split at h
    · rcases ha _ _ _ _ h1 (by omega) h with h3 | h3
      · rcases tr_ent_r b (p + tr_len a) k with h4 | h4
        · left; rw [h3, h4]
        · right; omega
      · right; omega
    · rcases hb _ _ _ _ (by omega) (by omega) h with h3 | h3
      · exact Or.inl h3
      · right; omega
  | h6 a b c ha hb =>
    intro p k j q h1 h2 h
    have hq : q ∈ (if j = p then ((3 : Nat), (0 : Nat), tr_alt a (p + 1) k ++ [tr_ent b (p + tr_len a + 2) k]) else if j < p + 1 + tr_len a then tr_g a (p + 1) k j else if j = p + 1 + tr_len a then (4, 0, []) else tr_g b (p + tr_len a + 2) k j).2.2 := h
    rw [tr_len_alt] at h2
    by_cases c1 : j = p
    · rw [if_pos c1] at hq
      exact tr_alt_r (.group (.append a b) c) p k q hq
    · rw [if_neg c1] at hq
      rw [tr_len_alt]
      by_cases c2 : j < p + 1 + tr_len a
      · rw [if_pos c2] at hq
        rcases ha _ _ _ _ (by omega) c2 hq with h3 | h3
        · exact Or.inl h3
        · right; omega
      · rw [if_neg c2] at hq
        by_cases c3 : j = p + 1 + tr_len a
        · rw [if_pos c3] at hq; cases hq
        · rw [if_neg c3] at hq
          rcases hb _ _ _ _ (by omega) (by omega) hq with h3 | h3
          · exact Or.inl h3
          · right; omega
  | h7 f c hf => intro p k j q _ _ h; cases f <;> first | cases h | exact absurd rfl (hf _ _)
  | h8 t a ha =>
    intro p k j q h1 h2 h
    have two : ∀ x y : Nat, q ∈ [x, y] → q = x ∨ q = y := by
      intro x y h
      rcases List.mem_cons.mp h with h | h
      · exact Or.inl h
      · rcases List.mem_cons.mp h with h | h
        · exact Or.inr h
        · cases h
    unfold tr_g at h
    by_cases t1 : t ≤ 1
    · rw [if_pos t1] at h
      rw [tr_len_st t1] at h2 ⊢
      split at h
      · have hh : q = tr_ent a (p + 1) p ∨ q = k := by
          dsimp only at h
          split at h
          · exact two _ _ h
          · exact (two _ _ h).symm
        rcases hh with rfl | hh
        · right
          rcases tr_ent_r a (p + 1) p with h4 | h4 <;> omega
        · exact Or.inl hh
      · split at h
        · rcases ha _ _ _ _ (by omega) ‹_› h with h3 | h3
          · right; omega
          · right; omega
        · cases h
    · rw [if_neg t1] at h
      by_cases t3 : t ≤ 3
      · rw [if_pos t3] at h
        rw [tr_len_op t1 t3] at h2 ⊢
        split at h
        · have hh : q = tr_ent a (p + 1) k ∨ q = k := by
            dsimp only at h
            split at h
            · exact two _ _ h
            · exact (two _ _ h).symm
          rcases hh with rfl | hh
          · rcases tr_ent_r a (p + 1) k with h4 | h4
            · exact Or.inl h4
            · right; omega
          · exact Or.inl hh
        · rcases ha _ _ _ _ (by omega) (by omega) h with h3 | h3
          · exact Or.inl h3
          · right; omega
      · rw [if_neg t3] at h
        rw [tr_len_gr t1 t3] at h2 ⊢
        split at h
        · rcases List.mem_cons.mp h with rfl | h
          · right
            rcases tr_ent_r a (p + 1) (p + 1 + tr_len a) with h4 | h4 <;> omega
          · cases h
        · split at h
          · rcases ha _ _ _ _ (by omega) ‹_› h with h3 | h3
            · right; omega
            · right; omega
          · exact leaf _ _ _ _ h
theorem tr_ok (t : Std.Format) : gr_ok (tr_G t) (tr_len t + 1) := by
  intro l hl q hq
  have hq : q ∈ (if l < tr_len t then (tr_g t 0 (tr_len t) l).2.2 else []) := hq
  split at hq
  · rcases tr_g_r t 0 (tr_len t) l q (Nat.zero_le _) (by omega) hq with h | h <;> omega
  · cases hq
theorem tr_e0m (t : Std.Format) : tr_e0 t < tr_len t + 1 := by
  rcases tr_ent_r t 0 (tr_len t) with h | h
  · unfold tr_e0; omega
  · unfold tr_e0; omega
/-! the run over the text -/
theorem ad_map {G : gr_T} {c i : Nat} {TL : List (Nat × gr_N)} (hTL : TL.length ≤ 36) : ∀ (Q : List (Nat × gr_N)) j, j + Q.length = TL.length → TL.drop j = Q → (ad_en G c j (Q.map (fun x => x.1))).map (fun x => (x.1, mv_N TL i x.2)) = pk_nx G c Q := by
  intro Q
  induction Q with
  | nil => intro j _ _; rfl
  | cons q Q ih =>
    intro j hj hd
    rw [List.length_cons] at hj
    have hq : TL[j]? = some q := by
      have := List.getElem?_drop (xs := TL) (i := j) (j := 0)
      rw [hd, Nat.add_zero] at this
      exact this.symm
    have hd' : TL.drop (j + 1) = Q := by
      have := List.drop_drop (l := TL) (i := 1) (j := j)
      rw [hd] at this
      exact this.symm
    rw [pk_nx_c, ← ih (j + 1) (by omega) hd']
    rw [List.map_cons, ad_en, List.map_append]
    congr 1
    split
    · rw [List.map_map]
      apply List.map_congr_left
      intro l _
      show (l, mv_N TL i (j, 0)) = (l, q.2)
      rw [mv_0 (by omega), mv_s_e hq]
    · rfl
theorem sd_map {e0 i : Nat} {TL : List (Nat × gr_N)} {sf : Bool} : (ad_sd e0 sf).map (fun x => (x.1, mv_N TL i x.2)) = pk_ss e0 sf i := by
  unfold ad_sd pk_ss
  split
  · show [(e0, mv_N TL i (36, 1))] = [pk_sd e0 i]
    rw [mv_sd]; rfl
  · rfl
/-- a layer's run with notes, out of the run with sources and marks -/
theorem ly_x {t : Std.Format} {c i : Nat} {TL : List (Nat × gr_N)} {sf : Bool} {e : gr_E} (hTL : TL.length ≤ 36) (hlab : ∀ x, x ∈ TL → x.1 < tr_len t + 1) {S : Nat → Bool} {T1 : List (Nat × gr_N)} {ov1 : Option gr_N} (h : ly_R (tr_G t) e (nt_a i) (fun _ => false) (pk_nx (tr_G t) c TL ++ pk_ss (tr_e0 t) sf i) (S, T1, ov1)) :
    ∃ T ov, ly_R (tr_G t) e xi_nt (fun _ => false) (ad_en (tr_G t) c 0 (TL.map (fun x => x.1)) ++ ad_sd (tr_e0 t) sf) (S, T, ov) ∧ T1 = T.map (fun x => (x.1, mv_N TL i x.2)) ∧ ov1 = ov.map (mv_N TL i) := by
  have e1 : (ad_en (tr_G t) c 0 (TL.map (fun x => x.1)) ++ ad_sd (tr_e0 t) sf).map (fun x => (x.1, mv_N TL i x.2)) = pk_nx (tr_G t) c TL ++ pk_ss (tr_e0 t) sf i := by
    rw [List.map_append, ad_map hTL TL 0 (by omega) rfl, sd_map]
  have hM : ∀ x, x ∈ ad_en (tr_G t) c 0 (TL.map (fun x => x.1)) ++ ad_sd (tr_e0 t) sf → x.1 < tr_len t + 1 := by
    intro x hx
    have : (x.1, mv_N TL i x.2) ∈ pk_nx (tr_G t) c TL ++ pk_ss (tr_e0 t) sf i := by
      rw [← e1]; exact List.mem_map.mpr ⟨x, hx, rfl⟩
    exact pk_apM (pk_nxM (tr_ok t) hlab) (pk_ssM (tr_e0m t)) _ this
  obtain ⟨S', T, ov, h2⟩ := ly_tot (e := e) (nt := xi_nt) (tr_ok t) _ (fun _ => false) _ (Nat.le_refl _) hM
  have h3 := ly_map (nt' := nt_a i) (mv_N TL i) mv_nt h2
  rw [e1] at h3
  have h4 := ly_det h _ h3
  have e2 : S' = S := congrArg (fun z => z.1) h4
  subst e2
  exact ⟨T, ov, h2, (congrArg (fun z => z.2.1) h4).symm, (congrArg (fun z => z.2.2) h4).symm⟩
theorem ly_x0 {t : Std.Format} {i : Nat} {e : gr_E} {S : Nat → Bool} {T1 : List (Nat × gr_N)} {ov1 : Option gr_N} (h : ly_R (tr_G t) e (nt_a i) (fun _ => false) [pk_sd (tr_e0 t) i] (S, T1, ov1)) :
    ∃ T ov, ly_R (tr_G t) e xi_nt (fun _ => false) [(tr_e0 t, 36, 1)] (S, T, ov) ∧ T1 = T.map (fun x => (x.1, mv_N [] i x.2)) ∧ ov1 = ov.map (mv_N [] i) := by
  obtain ⟨T, ov, h1, h2, h3⟩ := ly_x (TL := []) (c := 0) (sf := true) (by decide) (fun x hx => nomatch hx) h
  exact ⟨T, ov, h1, h2, h3⟩
/-- what found and best say -/
def bs_R (cb : Option gr_N) (fd : Int32) (be : Nat → Int32) : Prop := (cb = none → fd = 0) ∧ ∀ N, cb = some N → fd = 1 ∧ ∀ k, k < 8 → be k = N k
theorem bs_bf {TL : List (Nat × gr_N)} {i : Nat} {ov : Option (Nat × Nat)} {fd0 fd : Int32} {be0 be : Nat → Int32} {cb : Option gr_N} (h : bf_R TL i ov fd0 fd be0 be) (h0 : bs_R cb fd0 be0) : bs_R (pk_or (pk_fin i (ov.map (mv_N TL i))) cb) fd be := by
  match hov : ov with
  | none =>
    obtain ⟨rfl, rfl⟩ := h.1 rfl
    exact h0
  | some a =>
    obtain ⟨e1, e2, e3⟩ := h.2 a rfl
    refine ⟨(fun z => nomatch z), ?_⟩
    intro N hN
    cases hN
    refine ⟨e1, fun k hk => ?_⟩
    by_cases e : k = 7
    · subst e; dsimp only; rw [pk_us]; exact e3
    · dsimp only; rw [pk_un e]; exact e2 k (by omega)
theorem pk_or_as {a b c : Option gr_N} : pk_or (pk_or a b) c = pk_or a (pk_or b c) := by
  cases a with
  | none => rfl
  | some x => rfl
end XGO
end
section
section XGP
variable {f_count f_place f_there f_length f_nodes f_level f_groups f_size f_tasks f_threads f_added f_bank f_matchFrom f_matchNotes f_found f_states f_flushed : Int32} {a_tok a_val a_text a_nKind a_nC a_nA a_nB a_nSize a_lAlt a_lSeq a_lAtom a_lGroup a_op a_x a_y a_prefersPast a_tNode a_tArg a_pc a_newPc a_from a_noted a_notes a_seen a_stack a_stackNotes a_best a_kPc a_kCount a_kFlags a_next a_kMatch a_kMatchNotes a_kFrom a_kNotes : Nat → Int32}
variable {t : Std.Format} {n : Nat} {tx : Nat → Nat} {a : Option gr_N} {post : SX → Prop}
theorem th_lab {ao : Nat → Int32} {TL : List (Nat × gr_N)} {b : Nat} {pc nt : Nat → Int32} (h : th_R t ao TL b pc nt) : ∀ x, x ∈ TL → x.1 < tr_len t + 1 := by
  intro x hx
  obtain ⟨j, hj⟩ := List.mem_iff_getElem?.mp hx
  have := xp_lm (h j x hj).2.1
  omega
theorem xg_loop (hP : xp_R t a_op a_x a_y a_prefersPast) (hsz : f_size = nI (tr_len t + 1)) (hct : gr_u (fun j => decide (¬ a_op j = 0)) (tr_len t + 1) ≤ 36) (hn : n ≤ 32) (hlen : f_length = nI n) (htx : ∀ j, j < n → a_text j = nI (tx j) ∧ tx j < 4) (H : ∀ ns Q F (th ad bk mf mo fd flu : Int32) (pc np fr no nt sn sk so be kp kc kf nx km ko kfr kno : Nat → Int32), ns ≤ 12 → ck_S t a_op ns kp kc kf Q F → ck_V t a_op ns nx km ko kfr kno Q F → bs_R a fd be → post (f_count, f_place, f_there, f_length, f_nodes, f_level, f_groups, f_size, f_tasks, th, ad, bk, mf, mo, fd, nI ns, flu, a_tok, a_val, a_text, a_nKind, a_nC, a_nA, a_nB, a_nSize, a_lAlt, a_lSeq, a_lAtom, a_lGroup, a_op, a_x, a_y, a_prefersPast, a_tNode, a_tArg, pc, np, fr, no, nt, sn, sk, so, be, kp, kc, kf, nx, km, ko, kfr, kno)) {wh : Bool} : ∀ r i (TL : List (Nat × gr_N)) (fl b ls : Nat) (cb : Option gr_N) fu ns Q F (th ad bk mf mo fd flu : Int32) (pc np fr no nt sn sk so be kp kc kf nx km ko kfr kno : Nat → Int32),
    i + r = n → r < fu → fl < 3 → (fl = 2 ↔ wh = true) → TL.length ≤ 36 → b < 2 → bk = nI b → th = nI TL.length → th_R t a_op TL b pc nt → ns ≤ 12 → ck_S t a_op ns kp kc kf Q F → ck_V t a_op ns nx km ko kfr kno Q F → bs_R cb fd be → ls < ns → Q ls = TL.map (fun x => x.1) → F ls = fl →
    (r = 0 → a = cb) → (∀ r', r = r' + 1 → ∃ a', pk_R (tr_G t) (tr_e0 t) tx wh n r' (i + 1) (pk_nx (tr_G t) (tx i) TL ++ pk_ss (tr_e0 t) (decide (fl = 1)) (i + 1)) (decide (fl = 1)) a' ∧ a = pk_or a' cb) →
    wX_go_59 post fu (nI fl) (nI i) (nI ls) f_count f_place f_there f_length f_nodes f_level f_groups f_size f_tasks th ad bk mf mo fd (nI ns) flu a_tok a_val a_text a_nKind a_nC a_nA a_nB a_nSize a_lAlt a_lSeq a_lAtom a_lGroup a_op a_x a_y a_prefersPast a_tNode a_tArg pc np fr no nt sn sk so be kp kc kf nx km ko kfr kno := by
  have hm := hP.1
  intro r
  induction r with
  | zero =>
    intro i TL fl b ls cb fu ns Q F th ad bk mf mo fd flu pc np fr no nt sn sk so be kp kc kf nx km ko kfr kno hi hfu hfl hwh hTL hb hbk hth hthR hns hK hV hbs hls hQ hF h0 _
    obtain ⟨fu, rfl⟩ : ∃ m, fu = m + 1 := ⟨fu - 1, by omega⟩
    refine br_t (by rw [hlen]; exact nI_le (by omega) (by omega)) ?_
    rw [h0 rfl] at H
    exact H ns Q F th ad bk mf mo fd flu pc np fr no nt sn sk so be kp kc kf nx km ko kfr kno hns hK hV hbs
  | succ r ih =>
    intro i TL fl b ls cb fu ns Q F th ad bk mf mo fd flu pc np fr no nt sn sk so be kp kc kf nx km ko kfr kno hi hfu hfl hwh hTL hb hbk hth hthR hns hK hV hbs hls hQ hF _ hS
    obtain ⟨fu, rfl⟩ : ∃ m, fu = m + 1 := ⟨fu - 1, by omega⟩
    obtain ⟨a', hpk, ha⟩ := hS r rfl
    refine br_f (by rw [hlen]; exact nI_ge (by omega) (by omega)) ?_
    obtain ⟨tx1, tx2⟩ := htx i (by omega)
    -- the step
    have step : wX_go_81 post (wX_go_59 post fu) (nI fl) (nI i) (nI ls) f_count f_place f_there f_length f_nodes f_level f_groups f_size f_tasks th ad bk mf mo fd (nI ns) flu a_tok a_val a_text a_nKind a_nC a_nA a_nB a_nSize a_lAlt a_lSeq a_lAtom a_lGroup a_op a_x a_y a_prefersPast a_tNode a_tArg pc np fr no nt sn sk so be kp kc kf nx km ko kfr kno := by
      refine nm_r (nI_1 i) ⟨vp_in_nI (by omega) (by omega), ?_⟩
      rw [nI_clamp (by omega), tx1]
      refine nm_e ?_
      have hlab := th_lab hthR
      cases r with
      | zero =>
        -- the text's last character
        obtain ⟨S, T1, ov1, hly, e1⟩ := hpk
        obtain ⟨T, ov, h1, h2, h3⟩ := ly_x hTL hlab hly
        have hsrc := ck_src (n := TL.length) (by rw [List.length_map]) h1
        subst h2 h3
        refine br_t (by rw [hlen]; exact nI_le (by omega) (by omega)) ?_
        refine xa_adv (e := pk_e wh n (i + 1)) (P := TL.map (fun x => x.1)) (sf := decide (fl = 1)) (by omega) hP ?_ ?_ ?_ ?_ (by rw [List.length_map]; exact hTL) ?_ (by rw [List.length_map]; exact hth) hsz hct ?_ ?_ h1
        · refine ⟨fun h => ?_, fun h => absurd h (nI_ne0 (by omega) (by omega))⟩
          have h : decide (i + 1 = 0) = true := h
          have := of_decide_eq_true h
          omega
        · rw [hlen]
          exact ⟨fun _ => by rw [show i + 1 = n by omega], fun _ => decide_eq_true (by omega)⟩
        · rw [hlen]
          refine ⟨fun _ => Or.inr (nI_le (by omega) (by omega)), fun _ => ?_⟩
          show (!wh || decide (i + 1 = n)) = true
          rw [decide_eq_true (show i + 1 = n by omega), Bool.or_true]
        · rw [ck_b1 ⟨fl, hfl⟩]; exact ⟨of_decide_eq_true, decide_eq_true⟩
        · intro j q hq
          rw [List.getElem?_map] at hq
          match hT : TL[j]? with
          | none => rw [hT] at hq; cases hq
          | some x =>
            rw [hT] at hq; cases hq
            obtain ⟨a1, a2, a3, _⟩ := hthR j x hT
            exact ⟨a1, a2, a3⟩
        · intro hov mf mo sn np fr no sk so k1 k2
          dsimp only
          subst hov
          refine xs_fin (b := b) (i := i + 1) (TL := TL) (ov := none) (T := T) (Or.inl ⟨rfl, rfl⟩) hb (by omega) hbk hTL hm hthR k2 (xi_al_ok k2 k1 hsrc.1 (fun a ha => nomatch ha)) rfl ?_
          intro nt' pc' fd' be' h4 h5
          dsimp only
          obtain ⟨fu, rfl⟩ : ∃ m, fu = m + 1 := ⟨fu - 1, by omega⟩
          refine br_t (by rw [hlen]; exact nI_le (by omega) (by omega)) ?_
          have h6 := bs_bf h5 hbs
          refine H ns Q F _ _ _ _ _ fd' flu pc' np fr no nt' sn sk so be' kp kc kf nx km ko kfr kno hns hK hV ?_
          rw [ha, e1]; exact h6
        · intro s' mk' hov sn np fr no sk so k1 k2 k3 k4
          dsimp only
          subst hov
          refine xs_fin (b := b) (i := i + 1) (TL := TL) (ov := some (s', mk')) (T := T) (Or.inr ⟨(s', mk'), rfl, rfl, rfl, rfl⟩) hb (by omega) hbk hTL hm hthR k4 (xi_al_ok k4 k3 hsrc.1 (fun a ha => by cases ha; exact ⟨hsrc.2 _ rfl, k2, k1⟩)) rfl ?_
          intro nt' pc' fd' be' h4 h5
          dsimp only
          obtain ⟨fu, rfl⟩ : ∃ m, fu = m + 1 := ⟨fu - 1, by omega⟩
          refine br_t (by rw [hlen]; exact nI_le (by omega) (by omega)) ?_
          have h6 := bs_bf h5 hbs
          refine H ns Q F _ _ _ _ _ fd' flu pc' np fr no nt' sn sk so be' kp kc kf nx km ko kfr kno hns hK hV ?_
          rw [ha, e1]; exact h6
      | succ r =>
        obtain ⟨S, T1, ov1, hly, a2, hpk2, e1⟩ := hpk
        obtain ⟨T, ov, h1, h2, h3⟩ := ly_x hTL hlab hly
        subst h2 h3
        have ee : pk_e wh n (i + 1) = (false, false, decide (fl ≠ 2)) := by
          unfold pk_e
          rw [decide_eq_false (show ¬ i + 1 = 0 by omega), decide_eq_false (show ¬ i + 1 = n by omega), Bool.or_false]
          congr 2
          cases wh with
          | false =>
            have z : fl ≠ 2 := fun z => nomatch hwh.mp z
            simp [z]
          | true =>
            have z : fl = 2 := hwh.mpr rfl
            simp [z]
        rw [ee] at h1
        have hst : ck_st t (TL.map (fun x => x.1)) fl (tx i) T ov := ⟨S, h1⟩
        refine br_f (by rw [hlen]; exact nI_ge (by omega) (by omega)) ?_
        refine xs_kept (b := b) (i := i + 1) (TL := TL) (T := T) (ov := ov) (Q := Q) (F := F) (ns := ns) (s := ls) (n := n) hb hbk hTL hthR hm (by omega) ?_ hP hsz hct hn hlen (by omega) (by omega) hth hns rfl hK hV hls tx2 hQ hF hst
        intro to ns' mf mo fd' flu pc' np fr no nt' sn sk so be' kp kc kf nx km ko kfr kno Q' F' q1 q2 q3 q4 q5 q6 q7 q8 q9
        dsimp only
        refine ⟨vp_in_nI (by omega) (by omega), ?_⟩
        rw [nI_clamp (by omega), (q5 to q2).2.2.1, q4]
        refine nm_e ?_
        have hfl3 := ck_f3 (ov := ov) hfl
        have hsk : decide (ck_f fl ov = 1) = (decide (fl = 1) && (ov.map (mv_N TL (i + 1))).isNone) := by
          unfold ck_f
          cases ov with
          | none => simp
          | some x => by_cases z : fl = 1 <;> simp [z]
        have hwh2 : ck_f fl ov = 2 ↔ wh = true := by
          rw [← hwh]
          unfold ck_f
          split
          · omega
          · exact Iff.rfl
        refine ih (i + 1) (T.map (fun x => (x.1, mv_N TL (i + 1) x.2))) (ck_f fl ov) (1 - b) to _ fu ns' Q' F' _ _ _ mf mo fd' flu pc' np fr no nt' sn sk so be' kp kc kf nx km ko kfr kno (by omega) (by omega) hfl3 hwh2 (by rw [List.length_map]; exact q9) (by omega) rfl (by rw [List.length_map]) q7 q1 q5 q6 (bs_bf q8 hbs) q2 (by rw [q3, List.map_map]; rfl) q4 (fun h => by omega) ?_
        intro r' hr'
        cases hr'
        refine ⟨a2, ?_, ?_⟩
        · rw [hsk]; exact hpk2
        · rw [ha, e1, pk_or_as]
    by_cases c1 : TL.length = 0
    · refine br_f (by rw [hth, c1]; decide) ?_
      by_cases c2 : fl = 1
      · exact br_f ((ck_b1 ⟨fl, hfl⟩).mpr c2) step
      · refine br_t (by
          by_cases z : (nI fl &&& 1) = 0
          · exact z
          · exact absurd ((ck_b1 ⟨fl, hfl⟩).mp z) c2) ?_
        have hTL0 : TL = [] := List.length_eq_zero_iff.mp c1
        subst hTL0
        have e2 : pk_nx (tr_G t) (tx i) ([] : List (Nat × gr_N)) ++ pk_ss (tr_e0 t) (decide (fl = 1)) (i + 1) = [] := by
          rw [decide_eq_false c2]; rfl
        rw [e2, decide_eq_false c2] at hpk
        have e3 := an_nil (Z := fun _ _ => false) (E := fun k => if k = i + 1 then [] else []) r (i + 1) (fun j _ => by split <;> rfl) (an_pk _ _ _ _ hpk)
        rw [ha, e3] at H
        exact H ns Q F th ad bk mf mo fd flu pc np fr no nt sn sk so be kp kc kf nx km ko kfr kno hns hK hV hbs
    · exact br_t (by rw [hth]; exact nI_lt (a := 0) (by omega) (by omega)) step
theorem xg_go (hP : xp_R t a_op a_x a_y a_prefersPast) (hsz : f_size = nI (tr_len t + 1)) (hct : gr_u (fun j => decide (¬ a_op j = 0)) (tr_len t + 1) ≤ 36) (hn : n ≤ 32) (hlen : f_length = nI n) (htx : ∀ j, j < n → a_text j = nI (tx j) ∧ tx j < 4) (H : ∀ ns Q F (th ad bk mf mo fd flu : Int32) (pc np fr no nt sn sk so be kp kc kf nx km ko kfr kno : Nat → Int32), ns ≤ 12 → ck_S t a_op ns kp kc kf Q F → ck_V t a_op ns nx km ko kfr kno Q F → bs_R a fd be → post (f_count, f_place, f_there, f_length, f_nodes, f_level, f_groups, f_size, f_tasks, th, ad, bk, mf, mo, fd, nI ns, flu, a_tok, a_val, a_text, a_nKind, a_nC, a_nA, a_nB, a_nSize, a_lAlt, a_lSeq, a_lAtom, a_lGroup, a_op, a_x, a_y, a_prefersPast, a_tNode, a_tArg, pc, np, fr, no, nt, sn, sk, so, be, kp, kc, kf, nx, km, ko, kfr, kno)) {i fl ns0 : Nat} {Q0 : Nat → List Nat} {F0 : Nat → Nat} (hi : i ≤ n) (hfl : fl < 3) (hns : ns0 ≤ 12) (hsts : f_states = nI ns0) (hK : ck_S t a_op ns0 a_kPc a_kCount a_kFlags Q0 F0) (hV : ck_V t a_op ns0 a_next a_kMatch a_kMatchNotes a_kFrom a_kNotes Q0 F0)
    (hpk : pk_R (tr_G t) (tr_e0 t) tx (decide (fl = 2)) n (n - i) i [pk_sd (tr_e0 t) i] (decide (fl = 1)) a) : wpX_go post (f_count, f_place, f_there, f_length, f_nodes, f_level, f_groups, f_size, f_tasks, f_threads, f_added, f_bank, f_matchFrom, f_matchNotes, f_found, f_states, f_flushed, a_tok, a_val, a_text, a_nKind, a_nC, a_nA, a_nB, a_nSize, a_lAlt, a_lSeq, a_lAtom, a_lGroup, a_op, a_x, a_y, a_prefersPast, a_tNode, a_tArg, a_pc, a_newPc, a_from, a_noted, a_notes, a_seen, a_stack, a_stackNotes, a_best, a_kPc, a_kCount, a_kFlags, a_next, a_kMatch, a_kMatchNotes, a_kFrom, a_kNotes) (nI i) (nI fl) := by
  have hm := hP.1
  have hwh : fl = 2 ↔ decide (fl = 2) = true := ⟨decide_eq_true, of_decide_eq_true⟩
  have hlay : ∃ S T1 ov1, ly_R (tr_G t) (pk_e (decide (fl = 2)) n i) (nt_a i) (fun _ => false) [pk_sd (tr_e0 t) i] (S, T1, ov1) ∧ (n - i = 0 → a = pk_fin i ov1) ∧ (∀ r', n - i = r' + 1 → ∃ a', pk_R (tr_G t) (tr_e0 t) tx (decide (fl = 2)) n r' (i + 1) (pk_nx (tr_G t) (tx i) T1 ++ pk_ss (tr_e0 t) (decide (fl = 1) && ov1.isNone) (i + 1)) (decide (fl = 1) && ov1.isNone) a' ∧ a = pk_or a' (pk_fin i ov1)) := by
    match hr : n - i with
    | 0 =>
      rw [hr] at hpk
      obtain ⟨S, T1, ov1, h, e⟩ := hpk
      exact ⟨S, T1, ov1, h, fun _ => e, fun r' h => nomatch h⟩
    | r + 1 =>
      rw [hr] at hpk
      obtain ⟨S, T1, ov1, h, h2⟩ := hpk
      exact ⟨S, T1, ov1, h, (fun h => nomatch h), fun r' h => by cases h; exact h2⟩
  obtain ⟨S, T1, ov1, hly, hz, hs⟩ := hlay
  obtain ⟨T, ov, h1, h2, h3⟩ := ly_x0 hly
  subst h2 h3
  have hsrc := ly_src (P := fun s => s = 36 ∨ s < 0) h1 (by
    intro x hx
    rcases List.mem_cons.mp hx with rfl | hx
    · exact Or.inl rfl
    · cases hx)
  have hsk : decide (ck_f fl ov = 1) = (decide (fl = 1) && (ov.map (mv_N [] i)).isNone) := by
    unfold ck_f
    cases ov with
    | none => simp
    | some x => by_cases z : fl = 1 <;> simp [z]
  have hwh2 : ck_f fl ov = 2 ↔ decide (fl = 2) = true := by
    rw [← hwh]
    unfold ck_f
    split
    · omega
    · exact Iff.rfl
  have hfl3 := ck_f3 (ov := ov) hfl
  -- behind the first move
  have rest : ∀ (mf mo fd : Int32) (pc np fr no nt sn sk so be : Nat → Int32), T.length ≤ 36 → xi_al t a_op T np fr no → th_R t a_op (T.map (fun x => (x.1, mv_N [] i x.2))) 1 pc nt → bf_R [] i ov 0 fd a_best be →
      wX_go_48 post (nI (ck_f fl ov)) (nI i) f_count f_place f_there f_length f_nodes f_level f_groups f_size f_tasks (nI T.length) (nI T.length) (nI 1) mf mo fd f_states f_flushed a_tok a_val a_text a_nKind a_nC a_nA a_nB a_nSize a_lAlt a_lSeq a_lAtom a_lGroup a_op a_x a_y a_prefersPast a_tNode a_tArg pc np fr no nt sn sk so be a_kPc a_kCount a_kFlags a_next a_kMatch a_kMatchNotes a_kFrom a_kNotes := by
    intro mf mo fd pc np fr no nt sn sk so be hl hal hth hbf
    obtain ⟨hR1, hR2⟩ := xi_al_R hm hal
    unfold wX_go_48
    have e0 : nI T.length = nI (T.map (fun x => x.1)).length := by rw [List.length_map]
    conv => arg 3; rw [e0]
    refine xk_intern (R := T.map (fun x => x.1)) hm hns hsts hfl3 hK hV (by rw [List.length_map]; exact hl) hR1 hR2 ?_
    intro to ns' flu kp kc kf nx Q' F' q1 q2 q3 q4 q5 q6 q7
    dsimp only
    refine ⟨n - i + 1, ?_⟩
    have hbs0 : bs_R none 0 a_best := ⟨fun _ => rfl, fun N h => nomatch h⟩
    refine xg_loop hP hsz hct hn hlen htx H (wh := decide (fl = 2)) (n - i) i (T.map (fun x => (x.1, mv_N [] i x.2))) (ck_f fl ov) 1 to _ _ ns' Q' F' _ _ _ mf mo fd flu pc np fr no nt sn sk so be kp kc kf nx a_kMatch a_kMatchNotes a_kFrom a_kNotes (by omega) (by omega) hfl3 hwh2 (by rw [List.length_map]; exact hl) (by omega) rfl (by rw [List.length_map]) hth q1 q5 q6 (bs_bf hbf hbs0) q2 (by rw [q3, List.map_map]; rfl) q4 ?_ ?_
    · intro hr
      rw [hz hr]
      cases ov <;> rfl
    · intro r' hr'
      obtain ⟨a', k1, k2⟩ := hs r' hr'
      refine ⟨a', by rw [hsk]; exact k1, ?_⟩
      rw [k2]
      cases ov <;> rfl
  unfold wpX_go
  dsimp only
  refine xa_adv0 (e := pk_e (decide (fl = 2)) n i) (Tf := T) (ov := ov) (f_threads := 0) (f_bank := 0) (f_found := 0) hP ?_ ?_ ?_ hsz hct ?_ ?_ h1
  · constructor
    · intro h
      have : i = 0 := of_decide_eq_true h
      rw [this]; rfl
    · intro h
      refine decide_eq_true ?_
      exact (nI_eq (a := i) (b := 0) (by omega) (by omega)).mp h
  · rw [hlen]
    constructor
    · intro h
      have : i = n := of_decide_eq_true h
      rw [this]
    · intro h
      exact decide_eq_true ((nI_eq (by omega) (by omega)).mp h)
  · rw [hlen]
    constructor
    · intro h
      have h : (!decide (fl = 2) || decide (i = n)) = true := h
      rcases Bool.or_eq_true_iff.mp h with h | h
      · left
        refine (ck_b2 ⟨fl, hfl⟩).mpr ?_
        intro z
        rw [decide_eq_true z] at h; cases h
      · right
        rw [of_decide_eq_true h]; exact nI_le (Nat.le_refl _) (by omega)
    · intro h
      show (!decide (fl = 2) || decide (i = n)) = true
      rcases h with h | h
      · rw [decide_eq_false ((ck_b2 ⟨fl, hfl⟩).mp h)]; rfl
      · have := (nI_leI (by omega) (by omega)).mp h
        rw [decide_eq_true (show i = n by omega), Bool.or_true]
  · intro hov mf mo sn np fr no sk so k1 k2
    dsimp only
    subst hov
    refine xs_fin (b := 0) (i := i) (TL := []) (ov := none) (T := T) (Or.inl ⟨rfl, rfl⟩) (by omega) (by omega) rfl (by decide) hm (fun j x h => nomatch h) k2 (xi_al_ok k2 k1 hsrc.1 (fun a ha => nomatch ha)) rfl ?_
    intro nt pc fd be h4 h5
    dsimp only
    exact br_t rfl (rest mf mo fd pc np fr no nt sn sk so be k1 k2 h4 h5)
  · intro s' mk' hov sn np fr no sk so k1 k2 k3 k4
    dsimp only
    subst hov
    refine xs_fin (b := 0) (i := i) (TL := []) (ov := some (s', mk')) (T := T) (Or.inr ⟨(s', mk'), rfl, rfl, rfl, rfl⟩) (by omega) (by omega) rfl (by decide) hm (fun j x h => nomatch h) k4 (xi_al_ok k4 k3 hsrc.1 (fun a ha => by cases ha; exact ⟨hsrc.2 _ rfl, k2, k1⟩)) rfl ?_
    intro nt pc fd be h4 h5
    dsimp only
    have e5 : nI fl &&& (-2) = nI (ck_f fl (some (s', mk'))) := by
      rw [ck_and ⟨fl, hfl⟩]
      unfold ck_f
      by_cases z : fl = 1
      · rw [if_pos z, if_pos ⟨rfl, z⟩]
      · rw [if_neg z, if_neg (fun y => z y.2)]
    refine br_f (by decide) (nm_r e5 ?_)
    exact rest _ _ fd pc np fr no nt sn sk so be k3 k4 h4 h5
end XGP
end
section
section YPG
/-! Y: numbers of the search -/
theorem yb_c : ∀ k, k < 64 → ((nI k).toInt64 &&& 63) = lN k := by decide +kernel
theorem yb_sm : ∀ k, k < 64 → ((lN k).toBitVec.smod 64).toNat = k := by decide +kernel
theorem yb_1 : ∀ k, k < 64 → ((1 : Int64) <<< lN k).toBitVec = BitVec.twoPow 64 k := by decide +kernel
def mt_b (w : Int64) (k : Nat) : Bool := w.toBitVec.getLsbD k
theorem mt_t {w : Int64} {k : Nat} (hk : k < 64) : ((w >>> ((nI k).toInt64 &&& 63)) &&& 1) = 0 ↔ ¬ mt_b w k = true := by
  rw [yb_c k hk]
  have e : (w >>> lN k).toBitVec = w.toBitVec.sshiftRight k := by
    rw [Int64.toBitVec_shiftRight]
    show w.toBitVec.sshiftRight ((lN k).toBitVec.smod 64).toNat = _
    rw [yb_sm k hk]
  rw [← Int64.toBitVec_inj, Int64.toBitVec_and, e]
  show w.toBitVec.sshiftRight k &&& 1#64 = 0#64 ↔ _
  unfold mt_b
  have key : (w.toBitVec.sshiftRight k).getLsbD 0 = w.toBitVec.getLsbD k := by
    rw [BitVec.getLsbD_sshiftRight, Nat.add_zero, if_pos hk]; rfl
  constructor
  · intro h
    have t : (w.toBitVec.sshiftRight k &&& 1#64).getLsbD 0 = (0#64).getLsbD 0 := by rw [h]
    rw [BitVec.getLsbD_and, key] at t
    have t2 : w.toBitVec.getLsbD k = false := by
      cases hh : w.toBitVec.getLsbD k with
      | true => rw [hh] at t; exact absurd t (by decide)
      | false => rfl
    rw [t2]; decide
  · intro h
    have h : w.toBitVec.getLsbD k = false := by
      cases hh : w.toBitVec.getLsbD k with
      | true => exact absurd hh h
      | false => rfl
    apply BitVec.eq_of_getLsbD_eq
    intro i hi
    by_cases e : i = 0
    · subst e
      rw [BitVec.getLsbD_and, key, h]; rfl
    · rw [BitVec.getLsbD_and]
      have : (1#64).getLsbD i = false := by
        rw [BitVec.getLsbD_one]; simp [e]
      rw [this, Bool.and_false]; simp
theorem mt_or {w : Int64} {k : Nat} (hk : k < 64) (j : Nat) : mt_b (w ||| ((1 : Int64) <<< ((nI k).toInt64 &&& 63))) j = if j = k then true else mt_b w j := by
  rw [yb_c k hk]
  unfold mt_b
  rw [Int64.toBitVec_or, yb_1 k hk, BitVec.getLsbD_or, BitVec.getLsbD_twoPow]
  by_cases e : j = k
  · subst e; simp [hk]
  · rw [if_neg e]
    have : ¬ k = j := fun z => e z.symm
    simp [this]
theorem mt_0 (j : Nat) : mt_b 0 j = false := by
  unfold mt_b
  show (0#64).getLsbD j = false
  simp
theorem yc_t {v k : Nat} (hv : v < 200) (hk : k < 64) : ((nI v <<< ((6 : Int32) &&& 31)) ||| nI k) = nI (v * 64 + k) := by
  rw [pk_shlN _ 6 (by decide) (by omega), mn_or]
  congr 1
  have := Nat.two_pow_add_eq_or_of_lt (i := 6) (b := k) (by omega) v
  rw [Nat.mul_comm v]
  exact this.symm
theorem yc_i {v k : Nat} (hv : v < 200) (hk : k < 64) : nI (v * 64 + k) >>> ((6 : Int32) &&& 31) = nI v := by
  rw [pk_shrN (by omega) _ 6 (by decide)]
  congr 1
  omega
theorem yc_a {v k : Nat} (hv : v < 200) (hk : k < 64) : nI (v * 64 + k) &&& 63 = nI k := by
  rw [pk_andN (by omega) 6 (by decide)]
  congr 1
  omega
/-- a note's value: v - 2 -/
def yn_v (v : Nat) : Int32 := nI v - 2
theorem yn_1 : yn_v 1 = -1 := by decide
theorem yn_n (a : Nat) : yn_v (a + 2) = nI a := by
  unfold yn_v
  rw [show (2 : Int32) = nI 2 from rfl, pk_sub (by omega)]
  congr 1
theorem yn_p : ∀ v : Fin 35, yn_v v.val + 2 = nI v.val ∧ vp_nar .byte ((nI v.val) - 2).toInt8.toInt32 = yn_v v.val := by decide +kernel
theorem yc_n : ∀ v : Fin 35, ∀ w : Fin 8, -(((nI v.val) <<< ((3 : Int32) &&& 31)) ||| nI w.val) = -(nI (v.val * 8 + w.val)) ∧ (-(-(nI (v.val * 8 + w.val)))) &&& 7 = nI w.val ∧ (-(-(nI (v.val * 8 + w.val)))) >>> ((3 : Int32) &&& 31) = nI v.val := by decide +kernel
theorem yc_neg : ∀ v : Fin 35, ∀ w : Fin 8, 0 < v.val → ¬ (0 : Int32) ≤ -(nI (v.val * 8 + w.val)) := by decide +kernel
/-! Y's program as a tree's layout -/
def yv_w (bo bw : Nat → Int32) : Nat → Nat := fun q => if (bo q).toNatClampNeg = 5 then (bw q).toNatClampNeg - 1 else (bw q).toNatClampNeg
def yv_s (b1 : Nat → Int32) : Nat → Nat := fun q => (nI q + b1 q).toNatClampNeg
def yp_R (t : Std.Format) (bo bw b1 b2 : Nat → Int32) : Prop := tr_len t ≤ 72 ∧ cy_L (xv_o (tr_len t) bo) (yv_w bo bw) (yv_s b1) (yv_s b2) t none 0 ∧ bo (tr_len t) = 6 ∧
  ∀ q, q < tr_len t → ∃ c u v z : Nat, c ≤ 5 ∧ bo q = nI c ∧ (c = 0 → bw q = nI u ∧ u < 128) ∧ (c = 5 → bw q = nI (u + 1) ∧ 1 ≤ u ∧ u < 7) ∧ nI q + b1 q = nI v ∧ v < 2 ^ 31 ∧ (c = 3 → nI q + b2 q = nI z ∧ z < 2 ^ 31)
section YPF
variable {t : Std.Format} {bo bw b1 b2 : Nat → Int32}
def yp_L (t : Std.Format) : Nat → Nat → Prop := fun q l => yl_lab t none 0 0 q l
def yp_I (t : Std.Format) : Nat → Nat → Prop := fun pr z => yl_inn t false 0 pr z
def yp_E (t : Std.Format) (bo b1 : Nat → Int32) (q l : Nat) : Prop := re_R (xv_o (tr_len t) bo) (yv_s b1) (yp_L t) (tr_len t) q l
def yp_C (t : Std.Format) (bo b1 b2 : Nat → Int32) (pr z : Nat) (L : List Nat) : Prop := ch_R (xv_o (tr_len t) bo) (yv_s b1) (yv_s b2) (yp_L t) (yp_I t) (tr_len t) false pr z L
theorem yp_om (h : yp_R t bo bw b1 b2) : xv_o (tr_len t) bo (tr_len t) = 6 := by
  unfold xv_o
  rw [if_pos (Nat.le_refl _), h.2.2.1]; rfl
theorem yp_main (h : yp_R t bo bw b1 b2) : yp_E t bo b1 0 (tr_e0 t) ∧ ∀ q l, yp_L t q l → lc_R (xv_o (tr_len t) bo) (yv_w bo bw) (yv_s b1) (yv_s b2) (yp_L t) (yp_I t) (tr_len t) (tr_G t) false q l := by
  exact (yr_main (LAB := yp_L t) (INN := yp_I t) (m := tr_len t) (G := tr_G t) t).1 0 0 (tr_len t) h.2.1 (fun q' l hl => hl) (fun pr z hz => hz) tr_Ghg (by rw [Nat.zero_add]; exact re_m (yp_om h))
theorem yp_o (h : yp_R t bo bw b1 b2) {p : Nat} (hp : p ≤ tr_len t) : ∃ c, c ≤ 6 ∧ bo p = nI c ∧ xv_o (tr_len t) bo p = c := by
  unfold xv_o
  rw [if_pos hp]
  by_cases e : p = tr_len t
  · rw [e, h.2.2.1]; exact ⟨6, by omega, rfl, rfl⟩
  · obtain ⟨c, u, v, z, hc, e1, _⟩ := h.2.2.2 p (by omega)
    rw [e1]
    exact ⟨c, by omega, rfl, nI_clamp (by omega)⟩
theorem yp_oc (h : yp_R t bo bw b1 b2) {p c : Nat} (hp : p ≤ tr_len t) (hc : c < 7) : xv_o (tr_len t) bo p = c ↔ bo p = nI c := by
  obtain ⟨d, hd, e1, e2⟩ := yp_o h hp
  rw [e2, e1, nI_eq (by omega) (by omega)]
theorem yp_lm {q l : Nat} (h : yp_L t q l) : q < tr_len t ∧ l < tr_len t := by
  have := (yl_r t).1 _ _ _ _ h; omega
theorem yp_b {q c : Nat} (hc : 0 < c) (e : xv_o (tr_len t) bo q = c) : q ≤ tr_len t := by
  unfold xv_o at e
  split at e
  · assumption
  · omega
theorem yp_s (h : yp_R t bo bw b1 b2) {q : Nat} (hq : q < tr_len t) : nI q + b1 q = nI (yv_s b1 q) := by
  obtain ⟨c, u, v, z, hc, e1, e2, e3, e4, e5, e6⟩ := h.2.2.2 q hq
  unfold yv_s
  rw [e4, nI_clamp e5]
theorem yp_s2 (h : yp_R t bo bw b1 b2) {q : Nat} (hq : q < tr_len t) (ho : bo q = 3) : nI q + b2 q = nI (yv_s b2 q) := by
  obtain ⟨c, u, v, z, hc, e1, e2, e3, e4, e5, e6⟩ := h.2.2.2 q hq
  rw [e1] at ho
  obtain ⟨e7, e8⟩ := e6 ((nI_eq (a := c) (b := 3) (by omega) (by omega)).mp ho)
  unfold yv_s
  rw [e7, nI_clamp e8]
theorem yp_inv (h : yp_R t bo bw b1 b2) {q l : Nat} (hE : yp_E t bo b1 q l) : q ≤ tr_len t ∧ ((q = tr_len t ∧ bo q = 6 ∧ l = tr_len t) ∨ (q < tr_len t ∧ bo q = 4 ∧ nI q + b1 q = nI (yv_s b1 q) ∧ yp_E t bo b1 (yv_s b1 q) l) ∨ yp_L t q l) := by
  rcases re_inv hE with h1 | ⟨h1, h2⟩ | ⟨h1, h2⟩
  · have := yp_lm h1
    exact ⟨by omega, Or.inr (Or.inr h1)⟩
  · have hq := yp_b (by omega) h1
    refine ⟨hq, Or.inl ?_⟩
    have e6 := (yp_oc h hq (by omega)).mp h1
    refine ⟨?_, e6, h2⟩
    by_cases e : q = tr_len t
    · exact e
    · obtain ⟨c, u, v, z, hc, e1, _⟩ := h.2.2.2 q (by omega)
      rw [e1, nI_eq (by omega) (by omega)] at e6
      omega
  · have hq := yp_b (by omega) h1
    have e4 := (yp_oc h hq (by omega)).mp h1
    have hq2 : q ≠ tr_len t := by
      intro e
      rw [e, yp_om h] at h1; cases h1
    exact ⟨hq, Or.inr (Or.inl ⟨by omega, e4, yp_s h (by omega), h2⟩)⟩
theorem yi_n3 {o w s1 s2 : Nat → Nat} : ∀ t, (∀ q pr z, cy_L o w s1 s2 t none q → yl_inn t false q pr z → o z = 3) ∧ (∀ e q pr z, cy_L o w s1 s2 t (some e) q → yl_inn t true q pr z → o z = 3) := by
  have key : ∀ t, yl_N t → (∀ q pr z, cy_L o w s1 s2 t none q → yl_inn t false q pr z → o z = 3) → (∀ e q pr z, cy_L o w s1 s2 t (some e) q → yl_inn t true q pr z → o z = 3) := by
    intro t hN h e q pr z hc hi
    exact h _ pr z ((hN.2.2.2.2 o w s1 s2 e q).mp hc).2.2.2.1 ((hN.2.1 q pr z).mp hi)
  intro t
  induction t using tr_ind with
  | h0 => exact ⟨fun q pr z _ h => h.elim, key _ yl_N0 (fun q pr z _ h => h.elim)⟩
  | h1 => exact ⟨fun q pr z _ h => h.elim, key _ yl_N1 (fun q pr z _ h => h.elim)⟩
  | h2 b => exact ⟨fun q pr z _ h => h.elim, key _ yl_N2 (fun q pr z _ h => h.elim)⟩
  | h3 s => exact ⟨fun q pr z _ h => h.elim, key _ yl_N3 (fun q pr z _ h => h.elim)⟩
  | h4 i f => exact ⟨fun q pr z _ h => h.elim, key _ yl_N4 (fun q pr z _ h => h.elim)⟩
  | h5 a b ha hb =>
    have h1 : ∀ q pr z, cy_L o w s1 s2 (.append a b) none q → yl_inn (.append a b) false q pr z → o z = 3 := by
      intro q pr z hc h
      rcases h with h | h
      · exact ha.1 _ _ _ hc.1 h
      · exact hb.1 _ _ _ hc.2 h
    exact ⟨h1, key _ yl_N5 h1⟩
  | h6 a b c ha hb =>
    refine ⟨fun q pr z hc h => ?_, fun e q pr z hc h => ?_⟩
    · rcases h with h | h
      · exact ha.2 _ _ _ _ hc.1 h
      · exact hb.1 _ _ _ hc.2 h
    · obtain ⟨c1, c2, c3, c4, c5, c6, c7⟩ := hc
      rcases h with h | ⟨_, rfl⟩ | h
      · exact ha.2 _ _ _ _ c1 h
      · exact c2
      · exact hb.1 _ _ _ c5 h
  | h7 f c hf =>
    have h1 : ∀ q pr z, ¬ yl_inn (.group f c) false q pr z := by
      intro q pr z
      cases f <;> first | exact fun h => h.elim | exact absurd rfl (hf _ _)
    exact ⟨fun q pr z _ h => (h1 _ _ _ h).elim, key _ (yl_N7 hf) (fun q pr z _ h => (h1 _ _ _ h).elim)⟩
  | h8 k a ha =>
    have h1 : ∀ q pr z, cy_L o w s1 s2 (.tag k a) none q → yl_inn (.tag k a) false q pr z → o z = 3 := by
      intro q pr z hc h
      unfold cy_L cy_w at hc
      dsimp only at hc
      split at hc
      · exact ha.1 _ _ _ hc.2.2.2.1 h
      · split at hc
        · exact ha.1 _ _ _ hc.2.2.2 h
        · exact ha.1 _ _ _ hc.2.2.2.1 h
    exact ⟨h1, key _ yl_N8 h1⟩
theorem yp_i3 (h : yp_R t bo bw b1 b2) {pr z : Nat} (hi : yp_I t pr z) : z < tr_len t ∧ bo z = 3 ∧ (∀ l, ¬ yp_L t z l) ∧ ∀ pr', yp_I t pr' z → pr' = pr := by
  obtain ⟨h1, h2, h3, h4⟩ := (yl_i t).1 _ _ _ hi
  have hz : z < tr_len t := by omega
  exact ⟨hz, (yp_oc h (by omega) (c := 3) (by omega)).mp ((yi_n3 t).1 _ _ _ h.2.1 hi), fun l hl => h4 _ _ hl, h3⟩
theorem yp_ni (h : yp_R t bo bw b1 b2) {q l pr : Nat} (hE : yp_E t bo b1 q l) : ¬ yp_I t pr q := by
  intro hi
  obtain ⟨i1, i2, i3, _⟩ := yp_i3 h hi
  rcases (yp_inv h hE).2 with ⟨rfl, _⟩ | ⟨_, h4, _⟩ | h4
  · omega
  · rw [i2] at h4; revert h4; decide
  · exact i3 l h4
theorem yp_lab (h : yp_R t bo bw b1 b2) {q l : Nat} (hL : yp_L t q l) : q < tr_len t ∧ nI q + b1 q = nI (yv_s b1 q) ∧ ((bo q = 0 ∧ (tr_G t).1 l = 0 ∧ ∃ u l', u < 128 ∧ bw q = nI u ∧ (tr_G t).2.1 l = u ∧ yp_E t bo b1 (yv_s b1 q) l' ∧ (tr_G t).2.2 l = [l']) ∨ (bo q = 1 ∧ (tr_G t).1 l = 1 ∧ ∃ l', yp_E t bo b1 (yv_s b1 q) l' ∧ (tr_G t).2.2 l = [l']) ∨ (bo q = 2 ∧ (tr_G t).1 l = 2 ∧ ∃ l', yp_E t bo b1 (yv_s b1 q) l' ∧ (tr_G t).2.2 l = [l']) ∨
    (bo q = 5 ∧ (tr_G t).1 l = 5 ∧ ∃ u l', 1 ≤ u ∧ u < 7 ∧ bw q = nI (u + 1) ∧ (tr_G t).2.1 l = u ∧ yp_E t bo b1 (yv_s b1 q) l' ∧ (tr_G t).2.2 l = [l']) ∨ (bo q = 3 ∧ (tr_G t).1 l = 3 ∧ nI q + b2 q = nI (yv_s b2 q) ∧ ∃ l1 L2, yp_E t bo b1 (yv_s b1 q) l1 ∧ yp_C t bo b1 b2 q (yv_s b2 q) L2 ∧ (tr_G t).2.2 l = [l1] ++ L2)) := by
  have hq := (yp_lm hL).1
  refine ⟨hq, yp_s h hq, ?_⟩
  obtain ⟨h1, h2⟩ := (yp_main h).2 q l hL
  have hc : ∀ c, c < 7 → xv_o (tr_len t) bo q = c → bo q = nI c := fun c hc e => (yp_oc h (by omega) hc).mp e
  obtain ⟨c, u, v, z, hcc, e1, e2, e3, e4, e5, e6⟩ := h.2.2.2 q hq
  have ec : ∀ d, d < 7 → xv_o (tr_len t) bo q = d → c = d := by
    intro d hd e
    have := hc d hd e
    rw [e1] at this
    exact (nI_eq (by omega) (by omega)).mp this
  rcases h2 with ⟨h3, ⟨z, _⟩ | ⟨_, l1, L2, h4, h5, h6⟩⟩ | ⟨h3, h4, h5, l', h6, h7⟩
  · cases z
  · exact Or.inr (Or.inr (Or.inr (Or.inr ⟨hc 3 (by omega) h3, h1.symm.trans h3, yp_s2 h hq (hc 3 (by omega) h3), l1, L2, h4, h5, h6⟩)))
  · rw [← h5] at h6
    rcases h3 with h3 | h3 | h3 | h3
    · obtain ⟨f1, f2⟩ := e2 (ec 0 (by omega) h3)
      have ew : yv_w bo bw q = u := by
        unfold yv_w
        rw [hc 0 (by omega) h3, f1, if_neg (by decide)]; exact nI_clamp (by omega)
      exact Or.inl ⟨hc 0 (by omega) h3, h1.symm.trans h3, u, l', f2, f1, (h4 (Or.inl h3)).symm.trans ew, h6, h7⟩
    · exact Or.inr (Or.inl ⟨hc 1 (by omega) h3, h1.symm.trans h3, l', h6, h7⟩)
    · exact Or.inr (Or.inr (Or.inl ⟨hc 2 (by omega) h3, h1.symm.trans h3, l', h6, h7⟩))
    · obtain ⟨f1, f2, f3⟩ := e3 (ec 5 (by omega) h3)
      have ew : yv_w bo bw q = u := by
        unfold yv_w
        rw [hc 5 (by omega) h3, f1, if_pos (by decide), nI_clamp (by omega)]; omega
      exact Or.inr (Or.inr (Or.inr (Or.inl ⟨hc 5 (by omega) h3, h1.symm.trans h3, u, l', f2, f3, f1, (h4 (Or.inr h3)).symm.trans ew, h6, h7⟩)))
end YPF
end YPG
end
section
section YIV
/-! Y's search: the stack of what is to be tried and to be noted again; items (true, q, k): piece q at place k; (false, w, v): note w was v - 2 -/
def yi_c : Bool × Nat × Nat → Int32
  | (true, q, k) => nI (q * 64 + k)
  | (false, w, v) => -(nI (v * 8 + w))
def yi_K : List (Bool × Nat × Nat) → (Nat → Int32) → Prop
  | [], _ => True
  | x :: st, td => td st.length = yi_c x ∧ yi_K st td
theorem yi_Kc : ∀ st {td td' : Nat → Int32}, (∀ i, i < st.length → td' i = td i) → yi_K st td → yi_K st td' := by
  intro st
  induction st with
  | nil => intro _ _ _ _; trivial
  | cons x st ih =>
    intro td td' h hK
    exact ⟨(h st.length (Nat.lt_succ_self _)).trans hK.1, ih (fun i hi => h i (Nat.lt_succ_of_lt hi)) hK.2⟩
theorem yi_Kp {st : List (Bool × Nat × Nat)} {td : Nat → Int32} {x : Bool × Nat × Nat} {v : Int32} (h : yi_K st td) (e : v = yi_c x) : yi_K (x :: st) (upd td st.length v) :=
  ⟨pk_us.trans e, yi_Kc st (fun i hi => pk_un (by omega)) h⟩
section YIA
variable (t : Std.Format) (bo b1 b2 : Nat → Int32)
def yi_A : List (Bool × Nat × Nat) → gr_N → (Nat → List (Nat × gr_N)) → Prop
  | [], _, E => ∀ j, E j = []
  | (true, q, k) :: st, N, E => ∃ pr L E', yp_C t bo b1 b2 pr q L ∧ yi_A st N E' ∧ ∀ j, E j = if j = k then L.map (fun l => (l, N)) ++ E' j else E' j
  | (false, w, v) :: st, N, E => yi_A st (upd N (w - 1) (yn_v v)) E
def yi_O (s : Nat) : List (Bool × Nat × Nat) → Nat → Prop
  | [], _ => True
  | (true, q, k) :: st, A => q ≤ tr_len t ∧ s ≤ k ∧ k ≤ A ∧ yi_O s st k
  | (false, w, v) :: st, A => 2 ≤ w ∧ w ≤ 7 ∧ 1 ≤ v ∧ v ≤ 34 ∧ yi_O s st A
def yi_P (st : List (Bool × Nat × Nat)) (M : Nat → Nat → Bool) : Prop := ∀ pr z k, yp_I t pr z → (M z k = true ∨ (true, z, k) ∈ st) → M pr k = true
def yi_Q (st : List (Bool × Nat × Nat)) (M : Nat → Nat → Bool) : Prop := ∀ pr z k, yp_I t pr z → (true, z, k) ∈ st → ¬ M z k = true
def yi_D : List (Bool × Nat × Nat) → Prop
  | [] => True
  | x :: st => (x.1 = true → ∀ pr, yp_I t pr x.2.1 → x ∉ st) ∧ yi_D st
def yi_Z (Z : Nat → Nat → Bool) (M : Nat → Nat → Bool) : Prop := ∀ q l k, yp_L t q l → (Z k l = true ↔ M q k = true)
def yi_I (tx : Nat → Nat) (wh : Bool) (n s : Nat) (a : Option gr_N) (M : Nat → Nat → Bool) (st : List (Bool × Nat × Nat)) (N : gr_N) : Prop :=
  ∃ Z E, an_R (tr_G t) tx wh n (n - s) s Z E a ∧ yi_Z t Z M ∧ yi_A t bo b1 b2 st N E ∧ yi_O t s st n ∧ yi_P t st M ∧ yi_Q t st M ∧ yi_D t st
end YIA
def yi_m (M : Nat → Nat → Bool) (q k : Nat) : Nat → Nat → Bool := fun q' k' => if q' = q ∧ k' = k then true else M q' k'
def zz_m (Z : Nat → Nat → Bool) (k l : Nat) : Nat → Nat → Bool := fun j => if j = k then gr_mk (Z j) l else Z j
section YIX
variable {t : Std.Format} {bo bw b1 b2 : Nat → Int32} {tx : Nat → Nat} {wh : Bool} {n s k q l : Nat} {a : Option gr_N} {M : Nat → Nat → Bool} {st : List (Bool × Nat × Nat)} {N : gr_N}
theorem yi_ms {q k : Nat} : yi_m M q k q k = true := if_pos ⟨rfl, rfl⟩
theorem yi_mle {q k q' k' : Nat} (h : M q' k' = true) : yi_m M q k q' k' = true := by
  unfold yi_m; split
  · rfl
  · exact h
theorem yi_mi {q k q' k' : Nat} (h : yi_m M q k q' k' = true) : (q' = q ∧ k' = k) ∨ M q' k' = true := by
  unfold yi_m at h; split at h
  · exact Or.inl ‹_›
  · exact Or.inr h
theorem yi_Zl {Z : Nat → Nat → Bool} (h : yi_Z t Z M) (hL : yp_L t q l) : yi_Z t (zz_m Z k l) (yi_m M q k) := by
  intro q' l' k' hL'
  have h1 := (yl_1 t).1 _ _ _ _ _ _ hL' hL
  unfold zz_m yi_m
  by_cases e : k' = k
  · rw [if_pos e]
    by_cases e2 : q' = q
    · rw [if_pos ⟨e2, e⟩, h1.mp e2, gr_mk_s]
    · rw [if_neg (fun z => e2 z.1), gr_mk_n (fun z => e2 (h1.mpr z))]
      exact h q' l' k' hL'
  · rw [if_neg e, if_neg (fun z => e z.2)]
    exact h q' l' k' hL'
theorem yi_Zi {Z : Nat → Nat → Bool} (h : yi_Z t Z M) (hL : ∀ l, ¬ yp_L t q l) : yi_Z t Z (yi_m M q k) := by
  intro q' l' k' hL'
  unfold yi_m
  rw [if_neg (fun z => hL l' (by rw [← z.1]; exact hL'))]
  exact h q' l' k' hL'
theorem yi_Oz : ∀ st {A : Nat} {N : gr_N} {E : Nat → List (Nat × gr_N)}, yi_A t bo b1 b2 st N E → yi_O t s st A → ∀ j, A < j → E j = [] := by
  intro st
  induction st with
  | nil => intro A N E h _ j _; exact h j
  | cons x st ih =>
    intro A N E h hO j hj
    obtain ⟨x1, x2, x3⟩ := x
    cases x1 with
    | true =>
      obtain ⟨pr, L, E', _, h2, h3⟩ := h
      obtain ⟨_, _, o3, o4⟩ := hO
      rw [h3, if_neg (by omega)]
      exact ih h2 o4 j (by omega)
    | false => exact ih (A := A) (N := upd N (x2 - 1) (yn_v x3)) h hO.2.2.2.2 j hj
theorem yi_Ow : ∀ st {A B : Nat}, A ≤ B → yi_O t s st A → yi_O t s st B := by
  intro st
  induction st with
  | nil => intro A B _ _; trivial
  | cons x st ih =>
    intro A B hAB hO
    obtain ⟨x1, x2, x3⟩ := x
    cases x1 with
    | true => exact ⟨hO.1, hO.2.1, by have := hO.2.2.1; omega, hO.2.2.2⟩
    | false => exact ⟨hO.1, hO.2.1, hO.2.2.1, hO.2.2.2.1, ih hAB hO.2.2.2.2⟩
theorem yp_lo (h : yp_R t bo bw b1 b2) : ∀ q l, yp_L t q l → ¬ xv_o (tr_len t) bo q = 4 ∧ ¬ xv_o (tr_len t) bo q = 6 := by
  intro q l hl
  obtain ⟨_, h2⟩ := yp_main h
  rcases (h2 q l hl).2 with h3 | h3 <;> omega
theorem yp_fun (h : yp_R t bo bw b1 b2) {q l l' : Nat} (h1 : yp_E t bo b1 q l) (h2 : yp_E t bo b1 q l') : l = l' := by
  obtain ⟨j, k1⟩ := re_rk h1
  obtain ⟨j', k2⟩ := re_rk h2
  exact (rk_uni (yp_lo h) (fun q l l' h h' => ((yl_1 t).1 _ _ _ _ _ _ h h').mp rfl) j j' k1 k2).2
/-- the top item, if it has one label -/
theorem yi_At (h : yp_R t bo bw b1 b2) {E : Nat → List (Nat × gr_N)} (hA : yi_A t bo b1 b2 ((true, q, k) :: st) N E) (hE : yp_E t bo b1 q l) : ∃ E', yi_A t bo b1 b2 st N E' ∧ ∀ j, E j = if j = k then (l, N) :: E' j else E' j := by
  obtain ⟨pr, L, E', h1, h2, h3⟩ := hA
  rcases ch_invY h1 with ⟨l', h4, rfl⟩ | ⟨hi, _⟩
  · rw [yp_fun h hE h4]
    exact ⟨E', h2, h3⟩
  · exact absurd hi (yp_ni h hE)
theorem yi_Ap {E E' : Nat → List (Nat × gr_N)} (hA : yi_A t bo b1 b2 st N E') (hE : yp_E t bo b1 q l) (h : ∀ j, E j = if j = k then (l, N) :: E' j else E' j) : yi_A t bo b1 b2 ((true, q, k) :: st) N E :=
  ⟨0, [l], E', ch_re hE, hA, h⟩
theorem yi_Pt {x : Bool × Nat × Nat} (h : yi_P t (x :: st) M) : yi_P t st M := fun pr z k hi hz => h pr z k hi (hz.imp id (List.mem_cons_of_mem _))
theorem yi_Qt {x : Bool × Nat × Nat} (h : yi_Q t (x :: st) M) : yi_Q t st M := fun pr z k hi hz => h pr z k hi (List.mem_cons_of_mem _ hz)
/-- an item without inner split goes on the stack -/
theorem yi_Pc {x : Bool × Nat × Nat} (hx : x.1 = true → ∀ pr, ¬ yp_I t pr x.2.1) (h : yi_P t st M) : yi_P t (x :: st) M := by
  intro pr z k hi hz
  rcases hz with hz | hz
  · exact h pr z k hi (Or.inl hz)
  · rcases List.mem_cons.mp hz with e | hz
    · subst e; exact absurd hi (hx rfl pr)
    · exact h pr z k hi (Or.inr hz)
theorem yi_Qc {x : Bool × Nat × Nat} (hx : x.1 = true → ∀ pr, ¬ yp_I t pr x.2.1) (h : yi_Q t st M) : yi_Q t (x :: st) M := by
  intro pr z k hi hz
  rcases List.mem_cons.mp hz with e | hz
  · subst e; exact absurd hi (hx rfl pr)
  · exact h pr z k hi hz
theorem yi_Dc {x : Bool × Nat × Nat} (hx : x.1 = true → ∀ pr, ¬ yp_I t pr x.2.1) (h : yi_D t st) : yi_D t (x :: st) := ⟨fun e pr hi => absurd hi (hx e pr), h⟩
/-- marking a place: no inner split of the stack is this one -/
theorem yi_Pm (hp : ∀ pr, yp_I t pr q → M pr k = true) (h : yi_P t st M) : yi_P t st (yi_m M q k) := by
  intro pr z k' hi hz
  rcases hz with hz | hz
  · rcases yi_mi hz with ⟨e1, e2⟩ | hz
    · subst e1; subst e2; exact yi_mle (hp pr hi)
    · exact yi_mle (h pr z k' hi (Or.inl hz))
  · exact yi_mle (h pr z k' hi (Or.inr hz))
theorem yi_Qm (hq : ∀ pr, yp_I t pr q → (true, q, k) ∉ st) (h : yi_Q t st M) : yi_Q t st (yi_m M q k) := by
  intro pr z k' hi hz hM
  rcases yi_mi hM with ⟨e1, e2⟩ | hM
  · subst e1; subst e2; exact hq pr hi hz
  · exact h pr z k' hi hz hM
theorem yi_0 (h : yi_I t bo b1 b2 tx wh n s a M [] N) : a = none := by
  obtain ⟨Z, E, h1, _, h3, _⟩ := h
  exact an_nil _ _ (fun j _ => h3 j) h1
theorem yi_re {w v : Nat} (h : yi_I t bo b1 b2 tx wh n s a M ((false, w, v) :: st) N) : yi_I t bo b1 b2 tx wh n s a M st (upd N (w - 1) (yn_v v)) := by
  obtain ⟨Z, E, h1, h2, h3, h4, h5, h6, h7⟩ := h
  exact ⟨Z, E, h1, h2, h3, h4.2.2.2.2, yi_Pt h5, yi_Qt h6, h7.2⟩
theorem yi_ok (h : yp_R t bo bw b1 b2) (hI : yi_I t bo b1 b2 tx wh n s a M ((true, q, k) :: st) N) (hE : yp_E t bo b1 q (tr_len t)) (hac : (pk_e wh n k).2.2 = true) : a = some (upd N 7 (nI k)) := by
  obtain ⟨Z, E, h1, h2, h3, h4, h5, h6, h7⟩ := hI
  obtain ⟨E', a1, a2⟩ := yi_At h h3 hE
  obtain ⟨_, o1, o2, o3⟩ := h4
  refine an_top (A := k) (l := tr_len t) (N := N) (R := E' k) (k - s) (n - s) s (by omega) (by omega) tr_Gm hac ?_ ?_ h1
  · rw [a2, if_pos rfl]
  · intro j hj
    rw [a2, if_neg (by omega)]
    exact yi_Oz st a1 o3 j hj
/-- what the top item's label leads to nowhere -/
theorem yi_pop (h : yp_R t bo bw b1 b2) (hI : yi_I t bo b1 b2 tx wh n s a M ((true, q, k) :: st) N) (hE : yp_E t bo b1 q l) (hd : ((tr_G t).1 l = 6 ∧ ¬ (pk_e wh n k).2.2 = true) ∨ (yp_L t q l ∧ ¬ (tr_G t).1 l = 6 ∧ M q k = true)) : yi_I t bo b1 b2 tx wh n s a M st N := by
  obtain ⟨Z, E, h1, h2, h3, h4, h5, h6, h7⟩ := hI
  obtain ⟨E', a1, a2⟩ := yi_At h h3 hE
  obtain ⟨_, o1, o2, o3⟩ := h4
  refine ⟨Z, E', ?_, h2, a1, yi_Ow st o2 o3, yi_Pt h5, yi_Qt h6, h7.2⟩
  refine an_step (A := k) o1 (by omega) (fun j hj => ⟨rfl, by rw [a2, if_neg (by omega)]⟩) ?_ h1
  refine an_lay (fun j hj => ⟨rfl, by rw [a2, if_neg (by omega)]⟩) ?_
  intro c S T ov hly
  rw [a2, if_pos rfl, List.cons_append] at hly
  rcases hd with ⟨d1, d2⟩ | ⟨d1, d2, d3⟩
  · exact ly_m0' d1 d2 hly
  · exact ly_s' d2 ((h2 q l k d1).mpr d3) hly
/-- another piece with the same label -/
theorem yi_jmp (h : yp_R t bo bw b1 b2) {q' : Nat} (hI : yi_I t bo b1 b2 tx wh n s a M ((true, q, k) :: st) N) (hE : yp_E t bo b1 q l) (hE' : yp_E t bo b1 q' l) : yi_I t bo b1 b2 tx wh n s a M ((true, q', k) :: st) N := by
  obtain ⟨Z, E, h1, h2, h3, h4, h5, h6, h7⟩ := hI
  obtain ⟨E', a1, a2⟩ := yi_At h h3 hE
  obtain ⟨_, o1, o2, o3⟩ := h4
  have hx : (true, q', k).1 = true → ∀ pr, ¬ yp_I t pr (true, q', k).2.1 := fun _ pr => yp_ni h hE'
  exact ⟨Z, E, h1, h2, yi_Ap a1 hE' a2, ⟨(yp_inv h hE').1, o1, o2, o3⟩, yi_Pc hx (yi_Pt h5), yi_Qc hx (yi_Qt h6), yi_Dc hx h7.2⟩
/-- a label that is marked and followed without reading: what comes instead of it on the stack -/
theorem yi_eps (h : yp_R t bo bw b1 b2) (hI : yi_I t bo b1 b2 tx wh n s a M ((true, q, k) :: st) N) (hL : yp_L t q l) (hM : ¬ M q k = true) (k6 : ¬ (tr_G t).1 l = 6) (k0 : ¬ (tr_G t).1 l = 0) :
    ∃ Z E E', an_R (tr_G t) tx wh n (n - s) s Z E a ∧ yi_Z t Z (yi_m M q k) ∧ yi_A t bo b1 b2 st N E' ∧ (∀ j, E j = if j = k then gr_sx (tr_G t) (pk_e wh n k) (nt_a k) l N ++ E' j else E' j) ∧ s ≤ k ∧ k ≤ n ∧ yi_O t s st k ∧ yi_P t st (yi_m M q k) ∧ yi_Q t st (yi_m M q k) ∧ yi_D t st := by
  obtain ⟨Z, E, h1, h2, h3, h4, h5, h6, h7⟩ := hI
  obtain ⟨E', a1, a2⟩ := yi_At h h3 (re_lab hL)
  obtain ⟨_, o1, o2, o3⟩ := h4
  have nz : ¬ Z k l = true := fun z => hM ((h2 q l k hL).mp z)
  have ni : ∀ pr, ¬ yp_I t pr q := fun pr => yp_ni h (re_lab hL)
  refine ⟨zz_m Z k l, fun j => if j = k then gr_sx (tr_G t) (pk_e wh n k) (nt_a k) l N ++ E' j else E' j, E', ?_, yi_Zl h2 hL, a1, fun j => rfl, o1, o2, o3, yi_Pm (fun pr hi => absurd hi (ni pr)) (yi_Pt h5), yi_Qm (fun pr hi => absurd hi (ni pr)) (yi_Qt h6), h7.2⟩
  refine an_step (A := k) o1 (by omega) (fun j hj => ⟨if_neg (by omega), ?_⟩) ?_ h1
  · rw [a2, if_neg (by omega), if_neg (by omega)]
  · refine an_lay (fun j hj => ⟨if_neg (by omega), ?_⟩) ?_
    · rw [a2, if_neg (by omega), if_neg (by omega)]
    · intro c S T ov hly
      rw [a2, if_pos rfl, List.cons_append] at hly
      have := ly_e' k6 k0 nz hly
      show ly_R _ _ _ (if k = k then gr_mk (Z k) l else Z k) ((if k = k then _ else _) ++ c) _
      rw [if_pos rfl, if_pos rfl, List.append_assoc]
      exact this
/-- nothing comes of it -/
theorem yi_ep0 (h : yp_R t bo bw b1 b2) (hI : yi_I t bo b1 b2 tx wh n s a M ((true, q, k) :: st) N) (hL : yp_L t q l) (hM : ¬ M q k = true) (k6 : ¬ (tr_G t).1 l = 6) (k0 : ¬ (tr_G t).1 l = 0) (hs : gr_sx (tr_G t) (pk_e wh n k) (nt_a k) l N = []) : yi_I t bo b1 b2 tx wh n s a (yi_m M q k) st N := by
  obtain ⟨Z, E, E', e1, e2, e3, e4, e5, e6, e7, e8, e9, e10⟩ := yi_eps h hI hL hM k6 k0
  refine ⟨Z, E', an_cong _ _ (fun j _ => ⟨rfl, ?_⟩) e1, e2, e3, yi_Ow st e6 e7, e8, e9, e10⟩
  rw [e4, hs]; split <;> rfl
theorem yi_ep1 (h : yp_R t bo bw b1 b2) {q' l' : Nat} (hI : yi_I t bo b1 b2 tx wh n s a M ((true, q, k) :: st) N) (hL : yp_L t q l) (hM : ¬ M q k = true) (k6 : ¬ (tr_G t).1 l = 6) (k0 : ¬ (tr_G t).1 l = 0) (hE' : yp_E t bo b1 q' l') (hs : gr_sx (tr_G t) (pk_e wh n k) (nt_a k) l N = [(l', N)]) : yi_I t bo b1 b2 tx wh n s a (yi_m M q k) ((true, q', k) :: st) N := by
  obtain ⟨Z, E, E', e1, e2, e3, e4, e5, e6, e7, e8, e9, e10⟩ := yi_eps h hI hL hM k6 k0
  have hx : (true, q', k).1 = true → ∀ pr, ¬ yp_I t pr (true, q', k).2.1 := fun _ pr => yp_ni h hE'
  refine ⟨Z, E, e1, e2, yi_Ap e3 hE' (fun j => ?_), ⟨(yp_inv h hE').1, e5, e6, e7⟩, yi_Pc hx e8, yi_Qc hx e9, yi_Dc hx e10⟩
  rw [e4, hs]; rfl
theorem yi_epn (h : yp_R t bo bw b1 b2) {q' l' u v : Nat} (hI : yi_I t bo b1 b2 tx wh n s a M ((true, q, k) :: st) N) (hL : yp_L t q l) (hM : ¬ M q k = true) (k6 : ¬ (tr_G t).1 l = 6) (k0 : ¬ (tr_G t).1 l = 0) (hE' : yp_E t bo b1 q' l') (hu : 1 ≤ u) (hu7 : u < 7) (hv : N u = yn_v v) (hv1 : 1 ≤ v) (hv2 : v ≤ 34) (hs : gr_sx (tr_G t) (pk_e wh n k) (nt_a k) l N = [(l', upd N u (nI k))]) : yi_I t bo b1 b2 tx wh n s a (yi_m M q k) ((true, q', k) :: (false, u + 1, v) :: st) (upd N u (nI k)) := by
  obtain ⟨Z, E, E', e1, e2, e3, e4, e5, e6, e7, e8, e9, e10⟩ := yi_eps h hI hL hM k6 k0
  have hx : (true, q', k).1 = true → ∀ pr, ¬ yp_I t pr (true, q', k).2.1 := fun _ pr => yp_ni h hE'
  have hy : (false, u + 1, v).1 = true → ∀ pr, ¬ yp_I t pr (false, u + 1, v).2.1 := fun z => nomatch z
  have hN : upd (upd N u (nI k)) (u + 1 - 1) (yn_v v) = N := by
    funext j
    rw [Nat.add_sub_cancel, ← hv]
    unfold upd
    split
    · subst_vars; rfl
    · rfl
  refine ⟨Z, E, e1, e2, yi_Ap (E' := E') ?_ hE' (fun j => ?_), ⟨(yp_inv h hE').1, e5, e6, by omega, by omega, hv1, hv2, e7⟩, yi_Pc hx (yi_Pc hy e8), yi_Qc hx (yi_Qc hy e9), yi_Dc hx (yi_Dc hy e10)⟩
  · show yi_A t bo b1 b2 st (upd (upd N u (nI k)) (u + 1 - 1) (yn_v v)) E'
    rw [hN]; exact e3
  · rw [e4, hs]; rfl
/-- a chain's next part goes on the stack -/
theorem yi_push (h : yp_R t bo bw b1 b2) {z : Nat} {L : List Nat} (hC : yp_C t bo b1 b2 q z L) (hP0 : yi_P t ((true, q, k) :: st) M) (hM : ¬ M q k = true) (hP : yi_P t st (yi_m M q k)) (hQ : yi_Q t st (yi_m M q k)) (hD : yi_D t st) : z ≤ tr_len t ∧ yi_P t ((true, z, k) :: st) (yi_m M q k) ∧ yi_Q t ((true, z, k) :: st) (yi_m M q k) ∧ yi_D t ((true, z, k) :: st) := by
  rcases ch_invY hC with ⟨l', hE, _⟩ | ⟨hi, _⟩
  · have hx : (true, z, k).1 = true → ∀ pr, ¬ yp_I t pr (true, z, k).2.1 := fun _ pr => yp_ni h hE
    exact ⟨(yp_inv h hE).1, yi_Pc hx hP, yi_Qc hx hQ, yi_Dc hx hD⟩
  · obtain ⟨i1, i2, i3, i4⟩ := yp_i3 h hi
    have n1 : ¬ M z k = true := fun w => hM (hP0 q z k hi (Or.inl w))
    have n2 : (true, z, k) ∉ (true, q, k) :: st := fun w => hM (hP0 q z k hi (Or.inr w))
    have n3 : z ≠ q := fun e => n2 (by rw [e]; exact List.mem_cons_self)
    have n4 : (true, z, k) ∉ st := fun w => n2 (List.mem_cons_of_mem _ w)
    refine ⟨by omega, ?_, ?_, fun _ pr hi' => n4, hD⟩
    · intro pr z' k' hi' hz
      rcases hz with hz | hz
      · exact hP pr z' k' hi' (Or.inl hz)
      · rcases List.mem_cons.mp hz with e | hz
        · cases e
          rw [i4 pr hi']; exact yi_ms
        · exact hP pr z' k' hi' (Or.inr hz)
    · intro pr z' k' hi' hz hM'
      rcases List.mem_cons.mp hz with e | hz
      · cases e
        rcases yi_mi hM' with ⟨e1, _⟩ | hM'
        · exact n3 e1
        · exact n1 hM'
      · exact hQ pr z' k' hi' hz hM'
theorem yi_ep2 (h : yp_R t bo bw b1 b2) {q' l' z : Nat} {L2 : List Nat} (hI : yi_I t bo b1 b2 tx wh n s a M ((true, q, k) :: st) N) (hL : yp_L t q l) (hM : ¬ M q k = true) (k6 : ¬ (tr_G t).1 l = 6) (k0 : ¬ (tr_G t).1 l = 0) (hE' : yp_E t bo b1 q' l') (hC : yp_C t bo b1 b2 q z L2) (hs : gr_sx (tr_G t) (pk_e wh n k) (nt_a k) l N = ([l'] ++ L2).map (fun x => (x, N))) : yi_I t bo b1 b2 tx wh n s a (yi_m M q k) ((true, q', k) :: (true, z, k) :: st) N := by
  have hP0 : yi_P t ((true, q, k) :: st) M := by obtain ⟨_, _, _, _, _, _, h5, _⟩ := hI; exact h5
  obtain ⟨Z, E, E', e1, e2, e3, e4, e5, e6, e7, e8, e9, e10⟩ := yi_eps h hI hL hM k6 k0
  obtain ⟨p1, p2, p3, p4⟩ := yi_push h hC hP0 hM e8 e9 e10
  have hx : (true, q', k).1 = true → ∀ pr, ¬ yp_I t pr (true, q', k).2.1 := fun _ pr => yp_ni h hE'
  refine ⟨Z, E, e1, e2, yi_Ap (E' := fun j => if j = k then L2.map (fun x => (x, N)) ++ E' j else E' j) ⟨q, L2, E', hC, e3, fun j => rfl⟩ hE' (fun j => ?_), ⟨(yp_inv h hE').1, e5, e6, p1, e5, Nat.le_refl _, e7⟩, yi_Pc hx p2, yi_Qc hx p3, yi_Dc hx p4⟩
  rw [e4, hs]
  split
  · rfl
  · rfl
/-- an inner split -/
theorem yi_inn (h : yp_R t bo bw b1 b2) {pr q' l' z : Nat} {L2 : List Nat} (hI : yi_I t bo b1 b2 tx wh n s a M ((true, q, k) :: st) N) (hi : yp_I t pr q) (hE' : yp_E t bo b1 q' l') (hC : yp_C t bo b1 b2 q z L2) (hu : ∀ pr L, yp_C t bo b1 b2 pr q L → L = [l'] ++ L2) : ¬ M q k = true ∧ yi_I t bo b1 b2 tx wh n s a (yi_m M q k) ((true, q', k) :: (true, z, k) :: st) N := by
  obtain ⟨Z, E, h1, h2, ⟨pr', L, E', a0, a1, a2⟩, h4, h5, h6, h7⟩ := hI
  obtain ⟨_, o1, o2, o3⟩ := h4
  have hM : ¬ M q k = true := h6 pr q k hi List.mem_cons_self
  obtain ⟨i1, i2, i3, i4⟩ := yp_i3 h hi
  have hpr : ∀ pr2, yp_I t pr2 q → M pr2 k = true := fun pr2 hi2 => h5 pr2 q k hi2 (Or.inr List.mem_cons_self)
  have hns : ∀ pr2, yp_I t pr2 q → (true, q, k) ∉ st := fun pr2 hi2 => h7.1 rfl pr2 hi2
  have g1 := yi_Pm (k := k) hpr (yi_Pt h5)
  have g2 := yi_Qm (k := k) hns (yi_Qt h6)
  obtain ⟨p1, p2, p3, p4⟩ := yi_push h hC h5 hM g1 g2 h7.2
  have hx : (true, q', k).1 = true → ∀ pr, ¬ yp_I t pr (true, q', k).2.1 := fun _ pr => yp_ni h hE'
  refine ⟨hM, Z, E, h1, yi_Zi h2 i3, yi_Ap (E' := fun j => if j = k then L2.map (fun x => (x, N)) ++ E' j else E' j) ⟨q, L2, E', hC, a1, fun j => rfl⟩ hE' (fun j => ?_), ⟨(yp_inv h hE').1, o1, o2, p1, o1, Nat.le_refl _, o3⟩, yi_Pc hx p2, yi_Qc hx p3, yi_Dc hx p4⟩
  rw [a2, hu _ _ a0]
  split
  · rfl
  · rfl
theorem yi_tst (h : yp_R t bo bw b1 b2) {q' l' : Nat} (hI : yi_I t bo b1 b2 tx wh n s a M ((true, q, k) :: st) N) (hL : yp_L t q l) (hM : ¬ M q k = true) (k0 : (tr_G t).1 l = 0) (hk : k < n) (hb : ((tr_G t).2.1 l).testBit (tx k) = true) (hE' : yp_E t bo b1 q' l') (hn : (tr_G t).2.2 l = [l']) : yi_I t bo b1 b2 tx wh n s a (yi_m M q k) ((true, q', k + 1) :: st) N := by
  obtain ⟨Z, E, h1, h2, h3, h4, h5, h6, h7⟩ := hI
  obtain ⟨E', a1, a2⟩ := yi_At h h3 (re_lab hL)
  obtain ⟨_, o1, o2, o3⟩ := h4
  have nz : ¬ Z k l = true := fun z => hM ((h2 q l k hL).mp z)
  have ni : ∀ pr, ¬ yp_I t pr q := fun pr => yp_ni h (re_lab hL)
  have hx : (true, q', k + 1).1 = true → ∀ pr, ¬ yp_I t pr (true, q', k + 1).2.1 := fun _ pr => yp_ni h hE'
  have hz : ∀ j, k < j → E' j = [] := fun j hj => yi_Oz st a1 o3 j hj
  refine ⟨zz_m Z k l, fun j => if j = k + 1 then (l', N) :: E' j else E' j, ?_, yi_Zl h2 hL, yi_Ap a1 hE' (fun j => rfl), ⟨(yp_inv h hE').1, by omega, by omega, yi_Ow st (by omega) o3⟩, yi_Pc hx (yi_Pm (fun pr hi => absurd hi (ni pr)) (yi_Pt h5)), yi_Qc hx (yi_Qm (fun pr hi => absurd hi (ni pr)) (yi_Qt h6)), yi_Dc hx h7.2⟩
  refine an_step (A := k) o1 (by omega) (fun j hj => ⟨if_neg (by omega), ?_⟩) ?_ h1
  · rw [a2, if_neg (by omega), if_neg (by omega)]
  · obtain ⟨r, hr⟩ : ∃ r, n - s - (k - s) = r + 1 := ⟨n - k - 1, by omega⟩
    rw [hr]
    refine an_tst (l := l) (N := N) (R := E' k) (fun j hj => if_neg (by omega)) (if_pos rfl) (fun j hj => ?_) k0 nz hb ?_ ?_ ?_ ?_
    · rw [a2, if_neg (by omega), if_neg (by omega)]
    · rw [a2, if_pos rfl]
    · rw [if_neg (by omega)]
    · rw [a2, if_neg (by omega)]; exact hz _ (by omega)
    · rw [if_pos rfl, hz _ (by omega), hn]; rfl
theorem yi_tsf (h : yp_R t bo bw b1 b2) (hI : yi_I t bo b1 b2 tx wh n s a M ((true, q, k) :: st) N) (hL : yp_L t q l) (hM : ¬ M q k = true) (k0 : (tr_G t).1 l = 0) (hb : k = n ∨ ¬ ((tr_G t).2.1 l).testBit (tx k) = true) : yi_I t bo b1 b2 tx wh n s a (yi_m M q k) st N := by
  obtain ⟨Z, E, h1, h2, h3, h4, h5, h6, h7⟩ := hI
  obtain ⟨E', a1, a2⟩ := yi_At h h3 (re_lab hL)
  obtain ⟨_, o1, o2, o3⟩ := h4
  have nz : ¬ Z k l = true := fun z => hM ((h2 q l k hL).mp z)
  have ni : ∀ pr, ¬ yp_I t pr q := fun pr => yp_ni h (re_lab hL)
  refine ⟨zz_m Z k l, E', ?_, yi_Zl h2 hL, a1, yi_Ow st o2 o3, yi_Pm (fun pr hi => absurd hi (ni pr)) (yi_Pt h5), yi_Qm (fun pr hi => absurd hi (ni pr)) (yi_Qt h6), h7.2⟩
  refine an_step (A := k) o1 (by omega) (fun j hj => ⟨if_neg (by omega), ?_⟩) ?_ h1
  · rw [a2, if_neg (by omega)]
  · refine an_tsf (l := l) (N := N) (R := E' k) (fun j hj => if_neg (by omega)) (if_pos rfl) (fun j hj => ?_) k0 nz ?_ ?_ rfl
    · rw [a2, if_neg (by omega)]
    · rcases hb with hb | hb
      · left; omega
      · exact Or.inr hb
    · rw [a2, if_pos rfl]
end YIX
end YIV
end
section
section YWK
variable {g_count g_place g_end g_size g_large g_ready g_depth g_groups g_atom g_atomSize g_length g_found : Int32} {b_kind b_value b_op b_with b_one b_two b_copyOp b_copyWith b_copyOne b_copyTwo b_opened b_branch b_sizes b_jumps b_groupOf b_text b_todo b_notes : Nat → Int32} {b_met : Nat → Int64}
variable {post : Int32 → SY → Prop} {x2 : Int32} {fu T q k : Nat}
variable {J64 : Int32 → (Nat → Int32) → (Nat → Int32) → (Nat → Int32) → (Nat → Int32) → (Nat → Int32) → (Nat → Int32) → (Nat → Int32) → (Nat → Int32) → (Nat → Int32) → (Nat → Int32) → (Nat → Int32) → (Nat → Int32) → (Nat → Int32) → (Nat → Int32) → (Nat → Int32) → (Nat → Int32) → (Nat → Int64) → (Nat → Int32) → (Nat → Int32) → Prop} {J : Int32 → Int32 → Int32 → (Nat → Int32) → (Nat → Int32) → (Nat → Int32) → (Nat → Int32) → (Nat → Int32) → (Nat → Int32) → (Nat → Int32) → (Nat → Int32) → (Nat → Int32) → (Nat → Int32) → (Nat → Int32) → (Nat → Int32) → (Nat → Int32) → (Nat → Int32) → (Nat → Int32) → (Nat → Int32) → (Nat → Int64) → (Nat → Int32) → (Nat → Int32) → Prop}
/-! from the marked piece to where it goes -/
theorem yw_0 (h : J (nI T) (-1) (nI k) b_kind b_value b_op b_with b_one b_two b_copyOp b_copyWith b_copyOne b_copyTwo b_opened b_branch b_sizes b_jumps b_groupOf b_text b_met b_todo b_notes) : wY_search_446 post J64 J x2 (nI T) (nI q) (nI k) 0 g_count g_place g_end g_size g_large g_ready g_depth g_groups g_atom g_atomSize g_length g_found b_kind b_value b_op b_with b_one b_two b_copyOp b_copyWith b_copyOne b_copyTwo b_opened b_branch b_sizes b_jumps b_groupOf b_text b_met b_todo b_notes := br_t rfl h
theorem yw_1 {v : Nat} (hq : q < 160) (e : nI q + b_one q = nI v) (h : J (nI T) (nI v) (nI k) b_kind b_value b_op b_with b_one b_two b_copyOp b_copyWith b_copyOne b_copyTwo b_opened b_branch b_sizes b_jumps b_groupOf b_text b_met b_todo b_notes) : wY_search_446 post J64 J x2 (nI T) (nI q) (nI k) 1 g_count g_place g_end g_size g_large g_ready g_depth g_groups g_atom g_atomSize g_length g_found b_kind b_value b_op b_with b_one b_two b_copyOp b_copyWith b_copyOne b_copyTwo b_opened b_branch b_sizes b_jumps b_groupOf b_text b_met b_todo b_notes := by
  refine br_f (by decide) ⟨vp_in_nI hq (by omega), ?_⟩
  rw [nI_clamp (by omega), e]
  exact nm_e h
theorem yw_399 {z : Int32} (hq : q < 160) (ho : ¬ b_op q = 0) (h : wY_search_446 post J64 J x2 (nI T) (nI q) (nI k) z g_count g_place g_end g_size g_large g_ready g_depth g_groups g_atom g_atomSize g_length g_found b_kind b_value b_op b_with b_one b_two b_copyOp b_copyWith b_copyOne b_copyTwo b_opened b_branch b_sizes b_jumps b_groupOf b_text b_met b_todo b_notes) : wY_search_399 post J64 J x2 (nI T) (nI q) (nI k) z g_count g_place g_end g_size g_large g_ready g_depth g_groups g_atom g_atomSize g_length g_found b_kind b_value b_op b_with b_one b_two b_copyOp b_copyWith b_copyOne b_copyTwo b_opened b_branch b_sizes b_jumps b_groupOf b_text b_met b_todo b_notes := by
  refine ⟨vp_in_nI hq (by omega), ?_⟩
  rw [nI_clamp (by omega)]
  exact br_f ho h
/-- splits and notes -/
theorem yw_326 {v : Nat} (hq : q < 160) (h0 : ¬ b_op q = 0) (h1 : ¬ b_op q = 1) (h2 : ¬ b_op q = 2) (e : nI q + b_one q = nI v) (h : J (nI T) (nI v) (nI k) b_kind b_value b_op b_with b_one b_two b_copyOp b_copyWith b_copyOne b_copyTwo b_opened b_branch b_sizes b_jumps b_groupOf b_text b_met b_todo b_notes) : wY_search_326 post J64 J x2 (nI T) (nI q) (nI k) g_count g_place g_end g_size g_large g_ready g_depth g_groups g_atom g_atomSize g_length g_found b_kind b_value b_op b_with b_one b_two b_copyOp b_copyWith b_copyOne b_copyTwo b_opened b_branch b_sizes b_jumps b_groupOf b_text b_met b_todo b_notes := by
  have c : (nI q).toNatClampNeg = q := nI_clamp (by omega)
  refine ⟨vp_in_nI hq (by omega), ?_⟩
  rw [c]
  refine br_f h0 ⟨vp_in_nI hq (by omega), br_f h1 ⟨vp_in_nI hq (by omega), br_f h2 ?_⟩⟩
  exact yw_399 hq h0 (yw_1 hq e h)
theorem yw_266 (hq : q < 160) (h5 : ¬ b_op q = 5) (h : wY_search_326 post J64 J x2 (nI T) (nI q) (nI k) g_count g_place g_end g_size g_large g_ready g_depth g_groups g_atom g_atomSize g_length g_found b_kind b_value b_op b_with b_one b_two b_copyOp b_copyWith b_copyOne b_copyTwo b_opened b_branch b_sizes b_jumps b_groupOf b_text b_met b_todo b_notes) : wY_search_266 post J64 J x2 (nI T) (nI q) (nI k) g_count g_place g_end g_size g_large g_ready g_depth g_groups g_atom g_atomSize g_length g_found b_kind b_value b_op b_with b_one b_two b_copyOp b_copyWith b_copyOne b_copyTwo b_opened b_branch b_sizes b_jumps b_groupOf b_text b_met b_todo b_notes := by
  refine ⟨vp_in_nI hq (by omega), ?_⟩
  rw [nI_clamp (by omega)]
  exact br_f h5 h
section YWB
variable {n : Nat}
theorem yw_f0 {u : Nat} {tx : Nat → Nat} (hq : q < 160) (ho : b_op q = 0) (hk : k ≤ 32) (hlen : g_length = nI n) (hn : n ≤ 32) (hw : b_with q = nI u) (hu : u < 128) (htx : ∀ j, j < n → b_text j = nI (tx j) ∧ tx j < 4) (hb : n ≤ k ∨ ¬ u.testBit (tx k) = true)
    (h : J (nI T) (-1) (nI k) b_kind b_value b_op b_with b_one b_two b_copyOp b_copyWith b_copyOne b_copyTwo b_opened b_branch b_sizes b_jumps b_groupOf b_text b_met b_todo b_notes) : wY_search_266 post J64 J x2 (nI T) (nI q) (nI k) g_count g_place g_end g_size g_large g_ready g_depth g_groups g_atom g_atomSize g_length g_found b_kind b_value b_op b_with b_one b_two b_copyOp b_copyWith b_copyOne b_copyTwo b_opened b_branch b_sizes b_jumps b_groupOf b_text b_met b_todo b_notes := by
  have c : (nI q).toNatClampNeg = q := nI_clamp (by omega)
  refine yw_266 hq (by rw [ho]; decide) ⟨vp_in_nI hq (by omega), ?_⟩
  rw [c]
  refine br_t ho ⟨vp_in_nI hq (by omega), ?_⟩
  rw [c]
  refine br_f (by rw [ho]; decide) ⟨vp_in_nI hq (by omega), ?_⟩
  rw [c]
  refine br_f (by rw [ho]; decide) ⟨vp_in_nI hq (by omega), ?_⟩
  rw [c]
  refine br_t ho ?_
  by_cases z : n ≤ k
  · exact br_t (by rw [hlen]; exact nI_le z (by omega)) (yw_0 h)
  · obtain ⟨t1, t2⟩ := htx k (by omega)
    refine br_f (by rw [hlen]; exact nI_ge (by omega) (by omega)) ⟨vp_in_nI hq (by omega), vp_in_nI (by omega) (by omega), ?_⟩
    rw [nI_clamp (n := k) (by omega), hw, t1]
    exact br_t ((mn_tb0 hu (by omega)).mpr (hb.resolve_left z)) (yw_0 h)
theorem yw_f1 {u v : Nat} {tx : Nat → Nat} (hq : q < 160) (ho : b_op q = 0) (hk : k < n) (hlen : g_length = nI n) (hn : n ≤ 32) (hw : b_with q = nI u) (hu : u < 128) (htx : ∀ j, j < n → b_text j = nI (tx j) ∧ tx j < 4) (hb : u.testBit (tx k) = true) (e : nI q + b_one q = nI v)
    (h : J (nI T) (nI v) (nI (k + 1)) b_kind b_value b_op b_with b_one b_two b_copyOp b_copyWith b_copyOne b_copyTwo b_opened b_branch b_sizes b_jumps b_groupOf b_text b_met b_todo b_notes) : wY_search_266 post J64 J x2 (nI T) (nI q) (nI k) g_count g_place g_end g_size g_large g_ready g_depth g_groups g_atom g_atomSize g_length g_found b_kind b_value b_op b_with b_one b_two b_copyOp b_copyWith b_copyOne b_copyTwo b_opened b_branch b_sizes b_jumps b_groupOf b_text b_met b_todo b_notes := by
  have c : (nI q).toNatClampNeg = q := nI_clamp (by omega)
  refine yw_266 hq (by rw [ho]; decide) ⟨vp_in_nI hq (by omega), ?_⟩
  rw [c]
  refine br_t ho ⟨vp_in_nI hq (by omega), ?_⟩
  rw [c]
  refine br_f (by rw [ho]; decide) ⟨vp_in_nI hq (by omega), ?_⟩
  rw [c]
  refine br_f (by rw [ho]; decide) ⟨vp_in_nI hq (by omega), ?_⟩
  rw [c]
  refine br_t ho ?_
  obtain ⟨t1, t2⟩ := htx k (by omega)
  refine br_f (by rw [hlen]; exact nI_ge (by omega) (by omega)) ⟨vp_in_nI hq (by omega), vp_in_nI (by omega) (by omega), ?_⟩
  rw [nI_clamp (n := k) (by omega), hw, t1]
  refine br_f (fun z => (mn_tb0 hu (by omega)).mp z hb) (nm_r (nI_1 k) ?_)
  exact yw_1 hq e h
/-- begin and end -/
theorem yw_b1 {v : Nat} (hq : q < 160) (ho : b_op q = 1) (hk : k = 0) (e : nI q + b_one q = nI v) (h : J (nI T) (nI v) (nI k) b_kind b_value b_op b_with b_one b_two b_copyOp b_copyWith b_copyOne b_copyTwo b_opened b_branch b_sizes b_jumps b_groupOf b_text b_met b_todo b_notes) : wY_search_266 post J64 J x2 (nI T) (nI q) (nI k) g_count g_place g_end g_size g_large g_ready g_depth g_groups g_atom g_atomSize g_length g_found b_kind b_value b_op b_with b_one b_two b_copyOp b_copyWith b_copyOne b_copyTwo b_opened b_branch b_sizes b_jumps b_groupOf b_text b_met b_todo b_notes := by
  have c : (nI q).toNatClampNeg = q := nI_clamp (by omega)
  refine yw_266 hq (by rw [ho]; decide) ⟨vp_in_nI hq (by omega), ?_⟩
  rw [c]
  refine br_f (by rw [ho]; decide) ⟨vp_in_nI hq (by omega), br_t ho ⟨vp_in_nI hq (by omega), ?_⟩⟩
  rw [c]
  refine br_t ho (br_t (by rw [hk]; rfl) ?_)
  exact yw_399 hq (by rw [ho]; decide) (yw_1 hq e h)
theorem yw_b0 (hq : q < 160) (ho : b_op q = 1) (hk0 : k ≠ 0) (hk : k ≤ 32) (h : J (nI T) (-1) (nI k) b_kind b_value b_op b_with b_one b_two b_copyOp b_copyWith b_copyOne b_copyTwo b_opened b_branch b_sizes b_jumps b_groupOf b_text b_met b_todo b_notes) : wY_search_266 post J64 J x2 (nI T) (nI q) (nI k) g_count g_place g_end g_size g_large g_ready g_depth g_groups g_atom g_atomSize g_length g_found b_kind b_value b_op b_with b_one b_two b_copyOp b_copyWith b_copyOne b_copyTwo b_opened b_branch b_sizes b_jumps b_groupOf b_text b_met b_todo b_notes := by
  have c : (nI q).toNatClampNeg = q := nI_clamp (by omega)
  refine yw_266 hq (by rw [ho]; decide) ⟨vp_in_nI hq (by omega), ?_⟩
  rw [c]
  refine br_f (by rw [ho]; decide) ⟨vp_in_nI hq (by omega), br_t ho ⟨vp_in_nI hq (by omega), ?_⟩⟩
  rw [c]
  refine br_t ho (br_f (nI_ne0 (by omega) (by omega)) ⟨vp_in_nI hq (by omega), ?_⟩)
  rw [c]
  refine br_f (by rw [ho]; decide) ?_
  exact yw_399 hq (by rw [ho]; decide) (yw_0 h)
theorem yw_e1 {v : Nat} (hq : q < 160) (ho : b_op q = 2) (hlen : g_length = nI n) (hk : k = n) (e : nI q + b_one q = nI v) (h : J (nI T) (nI v) (nI k) b_kind b_value b_op b_with b_one b_two b_copyOp b_copyWith b_copyOne b_copyTwo b_opened b_branch b_sizes b_jumps b_groupOf b_text b_met b_todo b_notes) : wY_search_266 post J64 J x2 (nI T) (nI q) (nI k) g_count g_place g_end g_size g_large g_ready g_depth g_groups g_atom g_atomSize g_length g_found b_kind b_value b_op b_with b_one b_two b_copyOp b_copyWith b_copyOne b_copyTwo b_opened b_branch b_sizes b_jumps b_groupOf b_text b_met b_todo b_notes := by
  have c : (nI q).toNatClampNeg = q := nI_clamp (by omega)
  refine yw_266 hq (by rw [ho]; decide) ⟨vp_in_nI hq (by omega), ?_⟩
  rw [c]
  refine br_f (by rw [ho]; decide) ⟨vp_in_nI hq (by omega), br_f (by rw [ho]; decide) ⟨vp_in_nI hq (by omega), br_t ho ⟨vp_in_nI hq (by omega), ?_⟩⟩⟩
  rw [c]
  refine br_f (by rw [ho]; decide) ⟨vp_in_nI hq (by omega), ?_⟩
  rw [c]
  refine br_t ho (br_t (by rw [hlen, hk]) ?_)
  exact yw_399 hq (by rw [ho]; decide) (yw_1 hq e h)
theorem yw_e0 (hq : q < 160) (ho : b_op q = 2) (hlen : g_length = nI n) (hn : n ≤ 32) (hk0 : k ≠ n) (hk : k ≤ 32) (h : J (nI T) (-1) (nI k) b_kind b_value b_op b_with b_one b_two b_copyOp b_copyWith b_copyOne b_copyTwo b_opened b_branch b_sizes b_jumps b_groupOf b_text b_met b_todo b_notes) : wY_search_266 post J64 J x2 (nI T) (nI q) (nI k) g_count g_place g_end g_size g_large g_ready g_depth g_groups g_atom g_atomSize g_length g_found b_kind b_value b_op b_with b_one b_two b_copyOp b_copyWith b_copyOne b_copyTwo b_opened b_branch b_sizes b_jumps b_groupOf b_text b_met b_todo b_notes := by
  have c : (nI q).toNatClampNeg = q := nI_clamp (by omega)
  refine yw_266 hq (by rw [ho]; decide) ⟨vp_in_nI hq (by omega), ?_⟩
  rw [c]
  refine br_f (by rw [ho]; decide) ⟨vp_in_nI hq (by omega), br_f (by rw [ho]; decide) ⟨vp_in_nI hq (by omega), br_t ho ⟨vp_in_nI hq (by omega), ?_⟩⟩⟩
  rw [c]
  refine br_f (by rw [ho]; decide) ⟨vp_in_nI hq (by omega), ?_⟩
  rw [c]
  refine br_t ho (br_f (by rw [hlen]; exact mn_ne rfl hk0 (by omega) (by omega)) ?_)
  exact yw_399 hq (by rw [ho]; decide) (yw_0 h)
theorem yw_n {v w x : Nat} (hq : q < 160) (ho : b_op q = 5) (hT : T < 1400) (hw : b_with q = nI w) (hw8 : w < 8) (hx : b_notes w = yn_v x) (hx5 : x < 35) (hk : k ≤ 32) (e : nI q + b_one q = nI v)
    (h : J (nI (T + 1)) (nI v) (nI k) b_kind b_value b_op b_with b_one b_two b_copyOp b_copyWith b_copyOne b_copyTwo b_opened b_branch b_sizes b_jumps b_groupOf b_text b_met (upd b_todo T (-(nI (x * 8 + w)))) (upd b_notes w (nI k))) : wY_search_266 post J64 J x2 (nI T) (nI q) (nI k) g_count g_place g_end g_size g_large g_ready g_depth g_groups g_atom g_atomSize g_length g_found b_kind b_value b_op b_with b_one b_two b_copyOp b_copyWith b_copyOne b_copyTwo b_opened b_branch b_sizes b_jumps b_groupOf b_text b_met b_todo b_notes := by
  have c : (nI q).toNatClampNeg = q := nI_clamp (by omega)
  refine ⟨vp_in_nI hq (by omega), ?_⟩
  rw [c]
  refine br_t ho (nm_r (nI_1 T) ⟨vp_in_nI hq (by omega), ?_⟩)
  rw [hw, nI_clamp (n := w) (by omega), nI_clamp (n := T) (by omega), hx, (yn_p ⟨x, hx5⟩).1, (yc_n ⟨x, hx5⟩ ⟨w, hw8⟩).1, mn_b1 (by omega)]
  refine ⟨vp_in_nI hw8 (by omega), vp_in_nI hq (by omega), vp_in_nI hT (by omega), nm_e ⟨vp_in_nI hq (by omega), vp_in_nI hw8 (by omega), nm_e ?_⟩⟩
  exact yw_326 hq (by rw [ho]; decide) (by rw [ho]; decide) (by rw [ho]; decide) e h
theorem yw_s {v : Nat} (hq : q < 160) (ho : b_op q = 3) (e : nI q + b_one q = nI v) (h : J (nI T) (nI v) (nI k) b_kind b_value b_op b_with b_one b_two b_copyOp b_copyWith b_copyOne b_copyTwo b_opened b_branch b_sizes b_jumps b_groupOf b_text b_met b_todo b_notes) : wY_search_266 post J64 J x2 (nI T) (nI q) (nI k) g_count g_place g_end g_size g_large g_ready g_depth g_groups g_atom g_atomSize g_length g_found b_kind b_value b_op b_with b_one b_two b_copyOp b_copyWith b_copyOne b_copyTwo b_opened b_branch b_sizes b_jumps b_groupOf b_text b_met b_todo b_notes :=
  yw_266 hq (by rw [ho]; decide) (yw_326 hq (by rw [ho]; decide) (by rw [ho]; decide) (by rw [ho]; decide) e h)
/-! a turn of the inner loop -/
theorem yx_neg {x6 : Int32} (h : J64 (nI T) b_kind b_value b_op b_with b_one b_two b_copyOp b_copyWith b_copyOne b_copyTwo b_opened b_branch b_sizes b_jumps b_groupOf b_text b_met b_todo b_notes) : wY_search_120 post J64 x2 g_count g_place g_end g_size g_large g_ready g_depth g_groups g_atom g_atomSize g_length g_found (fu + 1) (nI T) (-1) x6 b_kind b_value b_op b_with b_one b_two b_copyOp b_copyWith b_copyOne b_copyTwo b_opened b_branch b_sizes b_jumps b_groupOf b_text b_met b_todo b_notes := br_t mn_neg1 h
theorem yx_d1 (hq : q < 160) (ho : b_op q = 6) (hk : k ≤ 32) (ha : x2 = 0 ∨ nI k = g_length) (h : post 1 (g_count, g_place, g_end, g_size, g_large, g_ready, g_depth, g_groups, g_atom, g_atomSize, g_length, g_found, b_kind, b_value, b_op, b_with, b_one, b_two, b_copyOp, b_copyWith, b_copyOne, b_copyTwo, b_opened, b_branch, b_sizes, b_jumps, b_groupOf, b_text, b_met, b_todo, upd b_notes 1 (nI k))) : wY_search_120 post J64 x2 g_count g_place g_end g_size g_large g_ready g_depth g_groups g_atom g_atomSize g_length g_found (fu + 1) (nI T) (nI q) (nI k) b_kind b_value b_op b_with b_one b_two b_copyOp b_copyWith b_copyOne b_copyTwo b_opened b_branch b_sizes b_jumps b_groupOf b_text b_met b_todo b_notes := by
  refine br_f (nI_pos (by omega)) ⟨vp_in_nI hq (by omega), ?_⟩
  rw [nI_clamp (by omega)]
  refine br_t ho ?_
  have h2 : wY_search_150 post (nI k) g_count g_place g_end g_size g_large g_ready g_depth g_groups g_atom g_atomSize g_length g_found b_kind b_value b_op b_with b_one b_two b_copyOp b_copyWith b_copyOne b_copyTwo b_opened b_branch b_sizes b_jumps b_groupOf b_text b_met b_todo b_notes := by
    unfold wY_search_150
    rw [mn_b1 (by omega)]
    exact nm_e h
  by_cases z : x2 = 0
  · exact br_t z h2
  · exact br_f z (br_t (ha.resolve_left z) h2)
theorem yx_d0 (hq : q < 160) (ho : b_op q = 6) (h1 : ¬ x2 = 0) (h2 : ¬ nI k = g_length) (h : wY_search_120 post J64 x2 g_count g_place g_end g_size g_large g_ready g_depth g_groups g_atom g_atomSize g_length g_found fu (nI T) (-1) (nI k) b_kind b_value b_op b_with b_one b_two b_copyOp b_copyWith b_copyOne b_copyTwo b_opened b_branch b_sizes b_jumps b_groupOf b_text b_met b_todo b_notes) : wY_search_120 post J64 x2 g_count g_place g_end g_size g_large g_ready g_depth g_groups g_atom g_atomSize g_length g_found (fu + 1) (nI T) (nI q) (nI k) b_kind b_value b_op b_with b_one b_two b_copyOp b_copyWith b_copyOne b_copyTwo b_opened b_branch b_sizes b_jumps b_groupOf b_text b_met b_todo b_notes := by
  refine br_f (nI_pos (by omega)) ⟨vp_in_nI hq (by omega), ?_⟩
  rw [nI_clamp (by omega)]
  exact br_t ho (br_f h1 (br_f h2 h))
theorem yx_j {v : Nat} (hq : q < 160) (ho : b_op q = 4) (e : nI q + b_one q = nI v) (h : wY_search_120 post J64 x2 g_count g_place g_end g_size g_large g_ready g_depth g_groups g_atom g_atomSize g_length g_found fu (nI T) (nI v) (nI k) b_kind b_value b_op b_with b_one b_two b_copyOp b_copyWith b_copyOne b_copyTwo b_opened b_branch b_sizes b_jumps b_groupOf b_text b_met b_todo b_notes) : wY_search_120 post J64 x2 g_count g_place g_end g_size g_large g_ready g_depth g_groups g_atom g_atomSize g_length g_found (fu + 1) (nI T) (nI q) (nI k) b_kind b_value b_op b_with b_one b_two b_copyOp b_copyWith b_copyOne b_copyTwo b_opened b_branch b_sizes b_jumps b_groupOf b_text b_met b_todo b_notes := by
  refine br_f (nI_pos (by omega)) ⟨vp_in_nI hq (by omega), ?_⟩
  rw [nI_clamp (by omega)]
  refine br_f (by rw [ho]; decide) ⟨vp_in_nI hq (by omega), br_t ho ⟨vp_in_nI hq (by omega), ?_⟩⟩
  rw [e]
  exact nm_e h
theorem yx_m (hq : q < 160) (h6 : ¬ b_op q = 6) (h4 : ¬ b_op q = 4) (hk : k ≤ 32) (hm : mt_b (b_met q) k = true) (h : wY_search_120 post J64 x2 g_count g_place g_end g_size g_large g_ready g_depth g_groups g_atom g_atomSize g_length g_found fu (nI T) (-1) (nI k) b_kind b_value b_op b_with b_one b_two b_copyOp b_copyWith b_copyOne b_copyTwo b_opened b_branch b_sizes b_jumps b_groupOf b_text b_met b_todo b_notes) : wY_search_120 post J64 x2 g_count g_place g_end g_size g_large g_ready g_depth g_groups g_atom g_atomSize g_length g_found (fu + 1) (nI T) (nI q) (nI k) b_kind b_value b_op b_with b_one b_two b_copyOp b_copyWith b_copyOne b_copyTwo b_opened b_branch b_sizes b_jumps b_groupOf b_text b_met b_todo b_notes := by
  refine br_f (nI_pos (by omega)) ⟨vp_in_nI hq (by omega), ?_⟩
  rw [nI_clamp (by omega)]
  exact br_f h6 ⟨vp_in_nI hq (by omega), br_f h4 ⟨vp_in_nI hq (by omega), br_f (fun z => (mt_t (by omega)).mp z hm) h⟩⟩
def yx_u (b_met : Nat → Int64) (q k : Nat) : Nat → Int64 := vp_updL b_met q (b_met q ||| ((1 : Int64) <<< ((nI k).toInt64 &&& 63)))
theorem yx_o (hq : q < 160) (h6 : ¬ b_op q = 6) (h4 : ¬ b_op q = 4) (h3 : ¬ b_op q = 3) (hk : k ≤ 32) (hm : ¬ mt_b (b_met q) k = true) (h : wY_search_266 post J64 (wY_search_120 post J64 x2 g_count g_place g_end g_size g_large g_ready g_depth g_groups g_atom g_atomSize g_length g_found fu) x2 (nI T) (nI q) (nI k) g_count g_place g_end g_size g_large g_ready g_depth g_groups g_atom g_atomSize g_length g_found b_kind b_value b_op b_with b_one b_two b_copyOp b_copyWith b_copyOne b_copyTwo b_opened b_branch b_sizes b_jumps b_groupOf b_text (yx_u b_met q k) b_todo b_notes) : wY_search_120 post J64 x2 g_count g_place g_end g_size g_large g_ready g_depth g_groups g_atom g_atomSize g_length g_found (fu + 1) (nI T) (nI q) (nI k) b_kind b_value b_op b_with b_one b_two b_copyOp b_copyWith b_copyOne b_copyTwo b_opened b_branch b_sizes b_jumps b_groupOf b_text b_met b_todo b_notes := by
  refine br_f (nI_pos (by omega)) ⟨vp_in_nI hq (by omega), ?_⟩
  rw [nI_clamp (by omega)]
  exact br_f h6 ⟨vp_in_nI hq (by omega), br_f h4 ⟨vp_in_nI hq (by omega), br_t ((mt_t (by omega)).mpr hm) ⟨vp_in_nI hq (by omega), vp_in_nI hq (by omega), nm_e ⟨vp_in_nI hq (by omega), br_f h3 h⟩⟩⟩⟩
theorem yx_s {v z : Nat} (hq : q < 160) (ho : b_op q = 3) (hT : T < 1400) (hk : k ≤ 32) (hm : ¬ mt_b (b_met q) k = true) (e1 : nI q + b_one q = nI v) (e2 : nI q + b_two q = nI z) (hz : z < 200) (h : wY_search_120 post J64 x2 g_count g_place g_end g_size g_large g_ready g_depth g_groups g_atom g_atomSize g_length g_found fu (nI (T + 1)) (nI v) (nI k) b_kind b_value b_op b_with b_one b_two b_copyOp b_copyWith b_copyOne b_copyTwo b_opened b_branch b_sizes b_jumps b_groupOf b_text (yx_u b_met q k) (upd b_todo T (nI (z * 64 + k))) b_notes) : wY_search_120 post J64 x2 g_count g_place g_end g_size g_large g_ready g_depth g_groups g_atom g_atomSize g_length g_found (fu + 1) (nI T) (nI q) (nI k) b_kind b_value b_op b_with b_one b_two b_copyOp b_copyWith b_copyOne b_copyTwo b_opened b_branch b_sizes b_jumps b_groupOf b_text b_met b_todo b_notes := by
  refine br_f (nI_pos (by omega)) ⟨vp_in_nI hq (by omega), ?_⟩
  rw [nI_clamp (by omega)]
  refine br_f (by rw [ho]; decide) ⟨vp_in_nI hq (by omega), br_f (by rw [ho]; decide) ⟨vp_in_nI hq (by omega), br_t ((mt_t (by omega)).mpr hm) ⟨vp_in_nI hq (by omega), vp_in_nI hq (by omega), nm_e ⟨vp_in_nI hq (by omega), br_t ho (nm_r (nI_1 T) ⟨vp_in_nI hq (by omega), vp_in_nI hT (by omega), ?_⟩)⟩⟩⟩⟩
  rw [e2, yc_t hz (by omega), nI_clamp (by omega)]
  exact nm_e (yw_s hq ho e1 h)
end YWB
end YWK
end
section
section YSR
/-! Y's search -/
def yc_s (f : Nat → Nat → Bool) (X : Nat) : Nat → Nat
  | 0 => 0
  | k + 1 => yc_s f X k + gr_u (f k) X
theorem yc_e {f g : Nat → Nat → Bool} {X : Nat} : ∀ n, (∀ k, k < n → f k = g k) → yc_s f X n = yc_s g X n := by
  intro n
  induction n with
  | zero => intro _; rfl
  | succ n ih =>
    intro h
    show yc_s f X n + gr_u (f n) X = yc_s g X n + gr_u (g n) X
    rw [ih (fun k hk => h k (by omega)), h n (by omega)]
theorem yc_m {f g : Nat → Nat → Bool} {X q k : Nat} (hq : q < X) (h0 : ¬ f k q = true) (hk : g k = gr_mk (f k) q) (hn : ∀ j, j ≠ k → g j = f j) : ∀ n, k < n → yc_s g X n + 1 = yc_s f X n := by
  intro n
  induction n with
  | zero => intro h; omega
  | succ n ih =>
    intro h
    show yc_s g X n + gr_u (g n) X + 1 = yc_s f X n + gr_u (f n) X
    by_cases e : k = n
    · subst e
      rw [yc_e k (fun j hj => hn j (by omega)), hk]
      have := gr_u_mk h0 X hq
      omega
    · have := ih (by omega)
      rw [hn n (fun z => e z.symm)]
      omega
theorem yc_le {f : Nat → Nat → Bool} {X B : Nat} (h : ∀ k, gr_u (f k) X ≤ B) : ∀ n, yc_s f X n ≤ n * B := by
  intro n
  induction n with
  | zero => show 0 ≤ _; omega
  | succ n ih =>
    show yc_s f X n + gr_u (f n) X ≤ (n + 1) * B
    have := h n
    rw [Nat.add_mul]; omega
def yU (m : Nat) (M : Nat → Nat → Bool) : Nat := yc_s (fun k q => M q k) (m + 1) 33
def yV (m : Nat) (bo : Nat → Int32) (M : Nat → Nat → Bool) : Nat := yc_s (fun k q => decide (¬ bo q = 3 ∧ ¬ bo q = 5) || M q k) (m + 1) 33
section YCN
variable {m q k : Nat} {bo : Nat → Int32} {M : Nat → Nat → Bool}
theorem yU_m (hq : q ≤ m) (hk : k ≤ 32) (h : ¬ M q k = true) : yU m (yi_m M q k) + 1 = yU m M := by
  refine yc_m (q := q) (k := k) (by omega) h ?_ ?_ 33 (by omega)
  · funext j
    unfold yi_m gr_mk
    by_cases e : j = q
    · rw [if_pos ⟨e, rfl⟩, if_pos e]
    · rw [if_neg (fun z => e z.1), if_neg e]
  · intro j hj
    funext i
    unfold yi_m
    rw [if_neg (fun z => hj z.2)]
theorem yV_m (hq : q ≤ m) (hk : k ≤ 32) (h : ¬ M q k = true) (ho : bo q = 3 ∨ bo q = 5) : yV m bo (yi_m M q k) + 1 = yV m bo M := by
  have hd : decide (¬ bo q = 3 ∧ ¬ bo q = 5) = false := by
    apply decide_eq_false
    rintro ⟨h1, h2⟩
    rcases ho with h | h
    · exact h1 h
    · exact h2 h
  refine yc_m (q := q) (k := k) (by omega) ?_ ?_ ?_ 33 (by omega)
  · rw [hd, Bool.false_or]; exact h
  · funext j
    unfold yi_m gr_mk
    by_cases e : j = q
    · rw [if_pos ⟨e, rfl⟩, if_pos e, Bool.or_true]
    · rw [if_neg (fun z => e z.1), if_neg e]
  · intro j hj
    funext i
    unfold yi_m
    rw [if_neg (fun z => hj z.2)]
theorem yV_n (ho : ¬ bo q = 3 ∧ ¬ bo q = 5) : yV m bo (yi_m M q k) = yV m bo M := by
  refine yc_e 33 (fun j _ => ?_)
  funext i
  unfold yi_m
  split
  · rename_i e
    rw [e.1, decide_eq_true ho, Bool.true_or, Bool.true_or]
  · rfl
end YCN
def yi_N (N : gr_N) (bn : Nat → Int32) : Prop := bn 0 = N 0 ∧ (∀ k, 1 ≤ k → k ≤ 6 → bn (k + 1) = N k) ∧ ∀ k, k ≤ 6 → ∃ v, 1 ≤ v ∧ v ≤ 34 ∧ N k = yn_v v
theorem yi_Nu {N : gr_N} {bn : Nat → Int32} {u v : Nat} (h : yi_N N bn) (h1 : 1 ≤ u) (h6 : u ≤ 6) (hv1 : 1 ≤ v) (hv : v ≤ 34) : yi_N (upd N u (yn_v v)) (upd bn (u + 1) (yn_v v)) := by
  refine ⟨?_, fun k k1 k6 => ?_, fun k k6 => ?_⟩
  · rw [pk_un (by omega), pk_un (by omega)]; exact h.1
  · by_cases e : k = u
    · rw [e, pk_us, pk_us]
    · rw [pk_un e, pk_un (by omega)]; exact h.2.1 k k1 k6
  · by_cases e : k = u
    · rw [e, pk_us]; exact ⟨v, hv1, hv, rfl⟩
    · rw [pk_un e]; exact h.2.2 k k6
def yM (b_met : Nat → Int64) : Nat → Nat → Bool := fun q k => mt_b (b_met q) k
theorem yM_u {b_met : Nat → Int64} {q k : Nat} (hk : k ≤ 32) : yM (yx_u b_met q k) = yi_m (yM b_met) q k := by
  funext q' k'
  unfold yM yx_u yi_m vp_updL
  by_cases e : q' = q
  · rw [if_pos e, mt_or (by omega)]
    by_cases e2 : k' = k
    · rw [if_pos e2, if_pos ⟨e, e2⟩]
    · rw [if_neg e2, if_neg (fun z => e2 z.2), e]
  · rw [if_neg e, if_neg (fun z => e z.1)]
theorem yp_Cu {t : Std.Format} {bo bw b1 b2 : Nat → Int32} (h : yp_R t bo bw b1 b2) : ∀ c {pr pr' z : Nat} {L L' : List Nat}, ch_f (xv_o (tr_len t) bo) (yv_s b1) (yv_s b2) (yp_L t) (yp_I t) (tr_len t) false c pr z L → yp_C t bo b1 b2 pr' z L' → L = L' := by
  have base : ∀ {pr' z l : Nat} {L' : List Nat}, yp_E t bo b1 z l → yp_C t bo b1 b2 pr' z L' → [l] = L' := by
    intro pr' z l L' h1 h2
    rcases ch_invY h2 with ⟨l', h4, rfl⟩ | ⟨hi, _⟩
    · rw [yp_fun h h1 h4]
    · exact absurd hi (yp_ni h h1)
  intro c
  induction c with
  | zero =>
    intro pr pr' z L L' h1 h2
    obtain ⟨l, h1, rfl⟩ := h1
    exact base h1 h2
  | succ c ih =>
    intro pr pr' z L L' h1 h2
    rcases h1 with h1 | ⟨hi, ho, ⟨e, _⟩ | ⟨_, l1, L2, h3, h4, rfl⟩⟩
    · exact ih h1 h2
    · cases e
    · rcases ch_invY h2 with ⟨l', h5, _⟩ | ⟨_, _, l1', L2', h5, h6, rfl⟩
      · exact absurd hi (yp_ni h h5)
      · rw [yp_fun h h3 h5, ih h4 h6]
variable {g_count g_place g_end g_size g_large g_ready g_depth g_groups g_atom g_atomSize g_length g_found : Int32} {b_kind b_value b_op b_with b_one b_two b_copyOp b_copyWith b_copyOne b_copyTwo b_opened b_branch b_sizes b_jumps b_groupOf b_text b_todo b_notes : Nat → Int32} {b_met : Nat → Int64}
variable {post : Int32 → SY → Prop} {x2 : Int32} {t : Std.Format} {tx : Nat → Nat} {wh : Bool} {n s : Nat} {a : Option gr_N}
theorem yz_jmp {f j q l k T n1 : Nat} (hP : yp_R t b_op b_with b_one b_two) (hr : rk_f (xv_o (tr_len t) b_op) (yv_s b_one) (yp_L t) (tr_len t) (j + 1) q l) (h : wY_search_120 post (wY_search_64 post x2 g_count g_place g_end g_size g_large g_ready g_depth g_groups g_atom g_atomSize g_length g_found f) x2 g_count g_place g_end g_size g_large g_ready g_depth g_groups g_atom g_atomSize g_length g_found n1 (nI T) (nI (yv_s b_one q)) (nI k) b_kind b_value b_op b_with b_one b_two b_copyOp b_copyWith b_copyOne b_copyTwo b_opened b_branch b_sizes b_jumps b_groupOf b_text b_met b_todo b_notes) : ∃ n120, wY_search_120 post (wY_search_64 post x2 g_count g_place g_end g_size g_large g_ready g_depth g_groups g_atom g_atomSize g_length g_found f) x2 g_count g_place g_end g_size g_large g_ready g_depth g_groups g_atom g_atomSize g_length g_found n120 (nI T) (nI q) (nI k) b_kind b_value b_op b_with b_one b_two b_copyOp b_copyWith b_copyOne b_copyTwo b_opened b_branch b_sizes b_jumps b_groupOf b_text b_met b_todo b_notes := by
  have hm72 := hP.1
  have hq := yp_b (by omega) hr.1
  have ho : b_op q = 4 := (yp_oc hP hq (c := 4) (by omega)).mp hr.1
  have hq2 : q ≠ tr_len t := by
    intro e
    have := hr.1
    rw [e, yp_om hP] at this; cases this
  exact ⟨n1 + 1, yx_j (by omega) ho (yp_s hP (by omega)) h⟩
/-- a piece that is no jump: marked, and onward -/
theorem yz_base {f q l k : Nat} {st : List (Bool × Nat × Nat)} {N : gr_N} {me : Nat → Int64} {td bn : Nat → Int32} (hP : yp_R t b_op b_with b_one b_two) (hn : n ≤ 32) (hlen : g_length = nI n) (htx : ∀ j, j < n → b_text j = nI (tx j) ∧ tx j < 4) (hwh : wh = true ↔ ¬ x2 = 0) (H1 : ∀ N, a = some N → ∀ me td (bn : Nat → Int32), bn 0 = N 0 → bn 1 = N 7 → (∀ k, 1 ≤ k → k ≤ 6 → bn (k + 1) = N k) → post 1 (g_count, g_place, g_end, g_size, g_large, g_ready, g_depth, g_groups, g_atom, g_atomSize, g_length, g_found, b_kind, b_value, b_op, b_with, b_one, b_two, b_copyOp, b_copyWith, b_copyOne, b_copyTwo, b_opened, b_branch, b_sizes, b_jumps, b_groupOf, b_text, me, td, bn)) (hOut : ∀ st N me td bn, yi_I t b_op b_one b_two tx wh n s a (yM me) st N → yi_K st td → yi_N N bn → st.length + yV (tr_len t) b_op (yM me) ≤ 1189 → 2 * yU (tr_len t) (yM me) + st.length < f → wY_search_64 post x2 g_count g_place g_end g_size g_large g_ready g_depth g_groups g_atom g_atomSize g_length g_found f (nI st.length) b_kind b_value b_op b_with b_one b_two b_copyOp b_copyWith b_copyOne b_copyTwo b_opened b_branch b_sizes b_jumps b_groupOf b_text me td bn) (hr : rk_f (xv_o (tr_len t) b_op) (yv_s b_one) (yp_L t) (tr_len t) 0 q l) (hI : yi_I t b_op b_one b_two tx wh n s a (yM me) ((true, q, k) :: st) N) (hK : yi_K st td) (hN : yi_N N bn) (hc : st.length + yV (tr_len t) b_op (yM me) ≤ 1189) (hf : 2 * yU (tr_len t) (yM me) + st.length < f)
    (ih : 0 < yU (tr_len t) (yM me) → ∀ q' l' k' st' N' me' td' bn', yp_E t b_op b_one q' l' → yU (tr_len t) (yM me') + 1 = yU (tr_len t) (yM me) → yi_I t b_op b_one b_two tx wh n s a (yM me') ((true, q', k') :: st') N' → yi_K st' td' → yi_N N' bn' → st'.length + yV (tr_len t) b_op (yM me') ≤ 1189 → 2 * yU (tr_len t) (yM me') + st'.length < f → ∃ n120, wY_search_120 post (wY_search_64 post x2 g_count g_place g_end g_size g_large g_ready g_depth g_groups g_atom g_atomSize g_length g_found f) x2 g_count g_place g_end g_size g_large g_ready g_depth g_groups g_atom g_atomSize g_length g_found n120 (nI st'.length) (nI q') (nI k') b_kind b_value b_op b_with b_one b_two b_copyOp b_copyWith b_copyOne b_copyTwo b_opened b_branch b_sizes b_jumps b_groupOf b_text me' td' bn') :
    ∃ n120, wY_search_120 post (wY_search_64 post x2 g_count g_place g_end g_size g_large g_ready g_depth g_groups g_atom g_atomSize g_length g_found f) x2 g_count g_place g_end g_size g_large g_ready g_depth g_groups g_atom g_atomSize g_length g_found n120 (nI st.length) (nI q) (nI k) b_kind b_value b_op b_with b_one b_two b_copyOp b_copyWith b_copyOne b_copyTwo b_opened b_branch b_sizes b_jumps b_groupOf b_text me td bn := by
  have hm72 := hP.1
  have hkn : k ≤ n := by obtain ⟨_, _, _, _, _, h4, _⟩ := hI; exact h4.2.2.1
  -- the item is given up
  have die : ∀ me', yi_I t b_op b_one b_two tx wh n s a (yM me') st N → st.length + yV (tr_len t) b_op (yM me') ≤ 1189 → 2 * yU (tr_len t) (yM me') + st.length < f → wY_search_120 post (wY_search_64 post x2 g_count g_place g_end g_size g_large g_ready g_depth g_groups g_atom g_atomSize g_length g_found f) x2 g_count g_place g_end g_size g_large g_ready g_depth g_groups g_atom g_atomSize g_length g_found 1 (nI st.length) (-1) (nI k) b_kind b_value b_op b_with b_one b_two b_copyOp b_copyWith b_copyOne b_copyTwo b_opened b_branch b_sizes b_jumps b_groupOf b_text me' td bn := by
    intro me' h1 h2 h3
    exact yx_neg (hOut st N me' td bn h1 hK hN h2 h3)
  rcases hr with hL | ⟨ho6, rfl⟩
  · have hE : yp_E t b_op b_one q l := re_lab hL
    obtain ⟨hq, hs1, hkind⟩ := yp_lab hP hL
    have hq160 : q < 160 := by omega
    have g6 : ¬ (tr_G t).1 l = 6 := by
      rcases hkind with ⟨_, g, _⟩ | ⟨_, g, _⟩ | ⟨_, g, _⟩ | ⟨_, g, _⟩ | ⟨_, g, _⟩ <;> rw [g] <;> decide
    have o64 : ¬ b_op q = 6 ∧ ¬ b_op q = 4 := by
      rcases hkind with ⟨g, _⟩ | ⟨g, _⟩ | ⟨g, _⟩ | ⟨g, _⟩ | ⟨g, _⟩ <;> rw [g] <;> decide
    by_cases hM : yM me q k = true
    · exact ⟨2, yx_m hq160 o64.1 o64.2 (by omega) hM (die me (yi_pop hP hI hE (Or.inr ⟨hL, g6, hM⟩)) hc hf)⟩
    · have hU := yU_m (m := tr_len t) (Nat.le_of_lt hq) (show k ≤ 32 by omega) hM
      have eM := yM_u (b_met := me) (q := q) (show k ≤ 32 by omega)
      have hpos : 0 < yU (tr_len t) (yM me) := by omega
      have hU2 : yU (tr_len t) (yM (yx_u me q k)) + 1 = yU (tr_len t) (yM me) := by rw [eM]; exact hU
      rcases hkind with ⟨ho, g1, u, l', hu, ew, g2, hE', g3⟩ | ⟨ho, g1, l', hE', g3⟩ | ⟨ho, g1, l', hE', g3⟩ | ⟨ho, g1, u, l', hu1, hu7, ew, g2, hE', g3⟩ | ⟨ho, g1, hs2, l1, L2, hE', hC, g3⟩
      · have hV : yV (tr_len t) b_op (yM (yx_u me q k)) = yV (tr_len t) b_op (yM me) := by
          rw [eM]; exact yV_n (by rw [ho]; decide)
        by_cases hb : k < n ∧ u.testBit (tx k) = true
        · obtain ⟨n1, h1⟩ := ih hpos _ l' (k + 1) st N (yx_u me q k) td bn hE' hU2 (by rw [eM]; exact yi_tst hP hI hL hM g1 hb.1 (by rw [g2]; exact hb.2) hE' g3) hK hN (by omega) (by omega)
          exact ⟨n1 + 1, yx_o hq160 o64.1 o64.2 (by rw [ho]; decide) (by omega) hM (yw_f1 hq160 ho hb.1 hlen hn ew hu htx hb.2 hs1 h1)⟩
        · have hb2 : n ≤ k ∨ ¬ u.testBit (tx k) = true := by
            by_cases z : k < n
            · exact Or.inr (fun y => hb ⟨z, y⟩)
            · left; omega
          have hI2 := yi_tsf hP hI hL hM g1 (hb2.imp (fun z => by omega) (fun z => by rw [g2]; exact z))
          exact ⟨2, yx_o hq160 o64.1 o64.2 (by rw [ho]; decide) (by omega) hM (yw_f0 hq160 ho (by omega) hlen hn ew hu htx hb2 (die _ (by rw [eM]; exact hI2) (by omega) (by omega)))⟩
      · have hV : yV (tr_len t) b_op (yM (yx_u me q k)) = yV (tr_len t) b_op (yM me) := by
          rw [eM]; exact yV_n (by rw [ho]; decide)
        by_cases hb : k = 0
        · have hI2 := yi_ep1 hP hI hL hM g6 (by rw [g1]; decide) hE' (by rw [gr_sx1 g1 (decide_eq_true hb), g3]; rfl)
          obtain ⟨n1, h1⟩ := ih hpos _ l' k st N (yx_u me q k) td bn hE' hU2 (by rw [eM]; exact hI2) hK hN (by omega) (by omega)
          exact ⟨n1 + 1, yx_o hq160 o64.1 o64.2 (by rw [ho]; decide) (by omega) hM (yw_b1 hq160 ho hb hs1 h1)⟩
        · have hI2 := yi_ep0 hP hI hL hM g6 (by rw [g1]; decide) (gr_sx1n g1 (fun z => hb (of_decide_eq_true (show decide (k = 0) = true from z))))
          exact ⟨2, yx_o hq160 o64.1 o64.2 (by rw [ho]; decide) (by omega) hM (yw_b0 hq160 ho hb (by omega) (die _ (by rw [eM]; exact hI2) (by omega) (by omega)))⟩
      · have hV : yV (tr_len t) b_op (yM (yx_u me q k)) = yV (tr_len t) b_op (yM me) := by
          rw [eM]; exact yV_n (by rw [ho]; decide)
        by_cases hb : k = n
        · have hI2 := yi_ep1 hP hI hL hM g6 (by rw [g1]; decide) hE' (by rw [gr_sx2 g1 (decide_eq_true hb), g3]; rfl)
          obtain ⟨n1, h1⟩ := ih hpos _ l' k st N (yx_u me q k) td bn hE' hU2 (by rw [eM]; exact hI2) hK hN (by omega) (by omega)
          exact ⟨n1 + 1, yx_o hq160 o64.1 o64.2 (by rw [ho]; decide) (by omega) hM (yw_e1 hq160 ho hlen hb hs1 h1)⟩
        · have hI2 := yi_ep0 hP hI hL hM g6 (by rw [g1]; decide) (gr_sx2n g1 (fun z => hb (of_decide_eq_true (show decide (k = n) = true from z))))
          exact ⟨2, yx_o hq160 o64.1 o64.2 (by rw [ho]; decide) (by omega) hM (yw_e0 hq160 ho hlen hn hb (by omega) (die _ (by rw [eM]; exact hI2) (by omega) (by omega)))⟩
      · have hV : yV (tr_len t) b_op (yM (yx_u me q k)) + 1 = yV (tr_len t) b_op (yM me) := by
          rw [eM]; exact yV_m (Nat.le_of_lt hq) (by omega) hM (Or.inr ho)
        obtain ⟨v, hv1, hv34, hv⟩ := hN.2.2 u (by omega)
        have hbn : bn (u + 1) = yn_v v := by rw [hN.2.1 u hu1 (by omega)]; exact hv
        have hI2 := yi_epn hP hI hL hM g6 (by rw [g1]; decide) hE' hu1 hu7 hv hv1 hv34 (by rw [gr_sx5 g1, g3, g2]; rfl)
        have hN2 : yi_N (upd N u (nI k)) (upd bn (u + 1) (nI k)) := by
          rw [← yn_n k]; exact yi_Nu hN hu1 (by omega) (by omega) (by omega)
        obtain ⟨n1, h1⟩ := ih hpos _ l' k ((false, u + 1, v) :: st) _ (yx_u me q k) (upd td st.length (-(nI (v * 8 + (u + 1))))) _ hE' hU2 (by rw [eM]; exact hI2) (yi_Kp hK rfl) hN2 (by rw [List.length_cons]; omega) (by rw [List.length_cons]; omega)
        exact ⟨n1 + 1, yx_o hq160 o64.1 o64.2 (by rw [ho]; decide) (by omega) hM (yw_n hq160 ho (by omega) ew (by omega) hbn (by omega) (by omega) hs1 h1)⟩
      · have hV : yV (tr_len t) b_op (yM (yx_u me q k)) + 1 = yV (tr_len t) b_op (yM me) := by
          rw [eM]; exact yV_m (Nat.le_of_lt hq) (by omega) hM (Or.inl ho)
        have hI2 := yi_ep2 hP hI hL hM g6 (by rw [g1]; decide) hE' hC (by rw [gr_sx3 g1, g3])
        have hz : yv_s b_two q ≤ tr_len t := by obtain ⟨_, _, _, _, _, h4, _⟩ := hI2; exact h4.2.2.2.1
        obtain ⟨n1, h1⟩ := ih hpos _ l1 k ((true, yv_s b_two q, k) :: st) N (yx_u me q k) (upd td st.length (nI (yv_s b_two q * 64 + k))) bn hE' hU2 (by rw [eM]; exact hI2) (yi_Kp hK rfl) hN (by rw [List.length_cons]; omega) (by rw [List.length_cons]; omega)
        exact ⟨n1 + 1, yx_s hq160 ho (by omega) (by omega) hM hs1 hs2 (by omega) h1⟩
  · have hE : yp_E t b_op b_one q (tr_len t) := re_m ho6
    have hq := yp_b (by omega) ho6
    have ho : b_op q = 6 := (yp_oc hP hq (c := 6) (by omega)).mp ho6
    by_cases hac : (pk_e wh n k).2.2 = true
    · have ha := yi_ok hP hI hE hac
      refine ⟨1, yx_d1 (by omega) ho (by omega) ?_ ?_⟩
      · have hac : (!wh || decide (k = n)) = true := hac
        rcases Bool.or_eq_true_iff.mp hac with h | h
        · left
          by_cases z : x2 = 0
          · exact z
          · rw [hwh.mpr z] at h; cases h
        · right; rw [hlen, of_decide_eq_true h]
      · refine H1 _ ha me td _ ?_ ?_ ?_
        · rw [pk_un (by omega), pk_un (by omega)]; exact hN.1
        · rw [pk_us, pk_us]
        · intro i i1 i6
          rw [pk_un (by omega), pk_un (by omega)]; exact hN.2.1 i i1 i6
    · have hac' : ¬ (!wh || decide (k = n)) = true := hac
      refine ⟨2, yx_d0 (by omega) ho ?_ ?_ (die me (yi_pop hP hI hE (Or.inl ⟨tr_Gm, hac⟩)) hc hf)⟩
      · refine hwh.mp ?_
        cases hw : wh with
        | true => rfl
        | false => rw [hw] at hac'; exact absurd rfl hac'
      · intro z
        rw [hlen] at z
        have := (nI_eq (by omega) (by omega)).mp z
        exact hac' (by rw [decide_eq_true this, Bool.or_true])
theorem yz_in {f : Nat} (hP : yp_R t b_op b_with b_one b_two) (hn : n ≤ 32) (hlen : g_length = nI n) (htx : ∀ j, j < n → b_text j = nI (tx j) ∧ tx j < 4) (hwh : wh = true ↔ ¬ x2 = 0) (H1 : ∀ N, a = some N → ∀ me td (bn : Nat → Int32), bn 0 = N 0 → bn 1 = N 7 → (∀ k, 1 ≤ k → k ≤ 6 → bn (k + 1) = N k) → post 1 (g_count, g_place, g_end, g_size, g_large, g_ready, g_depth, g_groups, g_atom, g_atomSize, g_length, g_found, b_kind, b_value, b_op, b_with, b_one, b_two, b_copyOp, b_copyWith, b_copyOne, b_copyTwo, b_opened, b_branch, b_sizes, b_jumps, b_groupOf, b_text, me, td, bn)) (hOut : ∀ st N me td bn, yi_I t b_op b_one b_two tx wh n s a (yM me) st N → yi_K st td → yi_N N bn → st.length + yV (tr_len t) b_op (yM me) ≤ 1189 → 2 * yU (tr_len t) (yM me) + st.length < f → wY_search_64 post x2 g_count g_place g_end g_size g_large g_ready g_depth g_groups g_atom g_atomSize g_length g_found f (nI st.length) b_kind b_value b_op b_with b_one b_two b_copyOp b_copyWith b_copyOne b_copyTwo b_opened b_branch b_sizes b_jumps b_groupOf b_text me td bn) :
    ∀ u j q l k st N me td bn, rk_f (xv_o (tr_len t) b_op) (yv_s b_one) (yp_L t) (tr_len t) j q l → yU (tr_len t) (yM me) ≤ u → yi_I t b_op b_one b_two tx wh n s a (yM me) ((true, q, k) :: st) N → yi_K st td → yi_N N bn → st.length + yV (tr_len t) b_op (yM me) ≤ 1189 → 2 * yU (tr_len t) (yM me) + st.length < f → ∃ n120, wY_search_120 post (wY_search_64 post x2 g_count g_place g_end g_size g_large g_ready g_depth g_groups g_atom g_atomSize g_length g_found f) x2 g_count g_place g_end g_size g_large g_ready g_depth g_groups g_atom g_atomSize g_length g_found n120 (nI st.length) (nI q) (nI k) b_kind b_value b_op b_with b_one b_two b_copyOp b_copyWith b_copyOne b_copyTwo b_opened b_branch b_sizes b_jumps b_groupOf b_text me td bn := by
  have hm72 := hP.1
  intro u
  induction u with
  | zero =>
    intro j
    induction j with
    | zero =>
      intro q l k st N me td bn hr hu hI hK hN hc hf
      exact yz_base hP hn hlen htx hwh H1 hOut hr hI hK hN hc hf (fun hz => absurd hz (by omega))
    | succ j ihj =>
      intro q l k st N me td bn hr hu hI hK hN hc hf
      obtain ⟨n1, h1⟩ := ihj _ l k st N me td bn hr.2 hu (yi_jmp hP hI (rk_re (j + 1) hr) (rk_re j hr.2)) hK hN hc hf
      exact yz_jmp hP hr h1
  | succ u ihu =>
    intro j
    induction j with
    | zero =>
      intro q l k st N me td bn hr hu hI hK hN hc hf
      exact yz_base hP hn hlen htx hwh H1 hOut hr hI hK hN hc hf (fun hz q' l' k' st' N' me' td' bn' hE' hu' hI' hK' hN' hc' hf' => by
        obtain ⟨j', hr'⟩ := re_rk hE'
        exact ihu j' q' l' k' st' N' me' td' bn' hr' (by omega) hI' hK' hN' hc' hf')
    | succ j ihj =>
      intro q l k st N me td bn hr hu hI hK hN hc hf
      obtain ⟨n1, h1⟩ := ihj _ l k st N me td bn hr.2 hu (yi_jmp hP hI (rk_re (j + 1) hr) (rk_re j hr.2)) hK hN hc hf
      exact yz_jmp hP hr h1
theorem yz_out (hP : yp_R t b_op b_with b_one b_two) (hn : n ≤ 32) (hlen : g_length = nI n) (htx : ∀ j, j < n → b_text j = nI (tx j) ∧ tx j < 4) (hwh : wh = true ↔ ¬ x2 = 0) (H1 : ∀ N, a = some N → ∀ me td (bn : Nat → Int32), bn 0 = N 0 → bn 1 = N 7 → (∀ k, 1 ≤ k → k ≤ 6 → bn (k + 1) = N k) → post 1 (g_count, g_place, g_end, g_size, g_large, g_ready, g_depth, g_groups, g_atom, g_atomSize, g_length, g_found, b_kind, b_value, b_op, b_with, b_one, b_two, b_copyOp, b_copyWith, b_copyOne, b_copyTwo, b_opened, b_branch, b_sizes, b_jumps, b_groupOf, b_text, me, td, bn)) (H0 : a = none → ∀ me td bn, post 0 (g_count, g_place, g_end, g_size, g_large, g_ready, g_depth, g_groups, g_atom, g_atomSize, g_length, g_found, b_kind, b_value, b_op, b_with, b_one, b_two, b_copyOp, b_copyWith, b_copyOne, b_copyTwo, b_opened, b_branch, b_sizes, b_jumps, b_groupOf, b_text, me, td, bn)) :
    ∀ f st N me td bn, yi_I t b_op b_one b_two tx wh n s a (yM me) st N → yi_K st td → yi_N N bn → st.length + yV (tr_len t) b_op (yM me) ≤ 1189 → 2 * yU (tr_len t) (yM me) + st.length < f → wY_search_64 post x2 g_count g_place g_end g_size g_large g_ready g_depth g_groups g_atom g_atomSize g_length g_found f (nI st.length) b_kind b_value b_op b_with b_one b_two b_copyOp b_copyWith b_copyOne b_copyTwo b_opened b_branch b_sizes b_jumps b_groupOf b_text me td bn := by
  have hm72 := hP.1
  intro f
  induction f with
  | zero => intro st N me td bn _ _ _ _ h; omega
  | succ f ih =>
    intro st N me td bn hI hK hN hc hf
    match st, hI, hK, hc, hf with
    | [], hI, hK, hc, hf => exact br_t (by decide) (H0 (yi_0 hI) me td bn)
    | (false, w, v) :: st, hI, hK, hc, hf =>
      rw [List.length_cons] at hc hf ⊢
      have hO : 2 ≤ w ∧ w ≤ 7 ∧ 1 ≤ v ∧ v ≤ 34 := by obtain ⟨_, _, _, _, _, h4, _⟩ := hI; exact ⟨h4.1, h4.2.1, h4.2.2.1, h4.2.2.2.1⟩
      refine br_f (nI_nle (by omega) (by omega)) (nm_r (pk_m1 st.length) ⟨vp_in_nI (by omega) (by omega), ?_⟩)
      rw [nI_clamp (by omega)]
      refine nm_r (e' := -(nI (v * 8 + w))) hK.1 (br_f (yc_neg ⟨v, by omega⟩ ⟨w, by omega⟩ (by show 0 < v; omega)) ?_)
      rw [(yc_n ⟨v, by omega⟩ ⟨w, by omega⟩).2.1, (yc_n ⟨v, by omega⟩ ⟨w, by omega⟩).2.2, nI_clamp (by omega), (yn_p ⟨v, by omega⟩).2]
      refine ⟨vp_in_nI (by omega) (by omega), nm_e ?_⟩
      have hN2 := yi_Nu (u := w - 1) hN (by omega) (by omega) hO.2.2.1 hO.2.2.2
      rw [show w - 1 + 1 = w by omega] at hN2
      exact ih st _ me td _ (yi_re hI) hK.2 hN2 (by omega) (by omega)
    | (true, q, k) :: st, hI, hK, hc, hf =>
      rw [List.length_cons] at hc hf ⊢
      have hO : q ≤ tr_len t ∧ k ≤ n := by obtain ⟨_, _, _, _, _, h4, _⟩ := hI; exact ⟨h4.1, h4.2.2.1⟩
      refine br_f (nI_nle (by omega) (by omega)) (nm_r (pk_m1 st.length) ⟨vp_in_nI (by omega) (by omega), ?_⟩)
      rw [nI_clamp (by omega)]
      refine nm_r (e' := nI (q * 64 + k)) hK.1 (br_t (nI_pos' (by omega)) (nm_r (yc_i (by omega) (by omega)) (nm_r (yc_a (by omega) (by omega)) ?_)))
      have hCH : ∃ pr L, yp_C t b_op b_one b_two pr q L := by obtain ⟨_, _, _, _, ⟨pr, L, _, h, _⟩, _⟩ := hI; exact ⟨pr, L, h⟩
      obtain ⟨pr, L, hC⟩ := hCH
      rcases ch_invY hC with ⟨l, hE, _⟩ | ⟨hi, ho3, l1, L2, hE1, hC2, eL⟩
      · obtain ⟨j, hr⟩ := re_rk hE
        exact yz_in hP hn hlen htx hwh H1 ih _ j q l k st N me td bn hr (Nat.le_refl _) hI hK.2 hN (by omega) (by omega)
      · obtain ⟨i1, i2, i3, i4⟩ := yp_i3 hP hi
        obtain ⟨hM, hI2⟩ := yi_inn hP hI hi hE1 hC2 (by
          intro pr' L' hC'
          obtain ⟨c', hC'⟩ := hC'
          rw [← eL]; exact yp_Cu hP c' hC' hC)
        have hU := yU_m (m := tr_len t) (Nat.le_of_lt i1) (show k ≤ 32 by omega) hM
        have eM := yM_u (b_met := me) (q := q) (show k ≤ 32 by omega)
        have hU2 : yU (tr_len t) (yM (yx_u me q k)) + 1 = yU (tr_len t) (yM me) := by rw [eM]; exact hU
        have hV : yV (tr_len t) b_op (yM (yx_u me q k)) + 1 = yV (tr_len t) b_op (yM me) := by
          rw [eM]; exact yV_m (Nat.le_of_lt i1) (by omega) hM (Or.inl i2)
        have hz : yv_s b_two q ≤ tr_len t := by obtain ⟨_, _, _, _, _, h4, _⟩ := hI2; exact h4.2.2.2.1
        obtain ⟨j, hr⟩ := re_rk hE1
        obtain ⟨n1, h1⟩ := yz_in hP hn hlen htx hwh H1 ih _ j _ l1 k ((true, yv_s b_two q, k) :: st) N (yx_u me q k) (upd td st.length (nI (yv_s b_two q * 64 + k))) bn hr (Nat.le_refl _) (by rw [eM]; exact hI2) (yi_Kp hK.2 rfl) hN (by rw [List.length_cons]; omega) (by rw [List.length_cons]; omega)
        exact ⟨n1 + 1, yx_s (by omega) i2 (by omega) (by omega) hM (yp_s hP i1) (yp_s2 hP i1 i2) (by omega) h1⟩
end YSR
end
section
section YSS
theorem fi_b1 : fits .boolean (.int 1) = true := by decide
theorem fi_b0 : fits .boolean (.int 0) = true := by decide
variable {g_count g_place g_end g_size g_large g_ready g_depth g_groups g_atom g_atomSize g_length g_found : Int32} {b_kind b_value b_op b_with b_one b_two b_copyOp b_copyWith b_copyOne b_copyTwo b_opened b_branch b_sizes b_jumps b_groupOf b_text b_todo b_notes : Nat → Int32} {b_met : Nat → Int64}
variable {post : Int32 → SY → Prop} {x2 : Int32} {t : Std.Format} {tx : Nat → Nat} {wh : Bool} {n s : Nat} {a : Option gr_N}
theorem ys_init (hP : yp_R t b_op b_with b_one b_two) {me : Nat → Int64} (hz : ∀ q, q ≤ tr_len t → me q = 0) (hs : s ≤ n) (hpk : pk_R (tr_G t) (tr_e0 t) tx wh n (n - s) s [pk_sd (tr_e0 t) s] false a) : yi_I t b_op b_one b_two tx wh n s a (yM me) [(true, 0, s)] (pk_sd (tr_e0 t) s).2 := by
  have hM : ∀ q k, q ≤ tr_len t → ¬ yM me q k = true := by
    intro q k hq
    unfold yM
    rw [hz q hq, mt_0]; decide
  have hE := (yp_main hP).1
  have h0 : ∀ pr z k, yp_I t pr z → (true, z, k) ∈ [(true, 0, s)] → False := by
    intro pr z k hi hm
    rcases List.mem_cons.mp hm with e | e
    · cases e; exact yp_ni hP hE hi
    · cases e
  refine ⟨fun _ _ => false, fun k => if k = s then [pk_sd (tr_e0 t) s] else [], an_pk _ _ _ _ hpk, ?_, ⟨0, [tr_e0 t], fun _ => [], ch_re hE, fun _ => rfl, fun j => rfl⟩, ⟨Nat.zero_le _, Nat.le_refl _, hs, trivial⟩, ?_, ?_, ?_⟩
  · intro q l k hL
    have := (yp_lm hL).1
    exact ⟨(fun z => nomatch z), fun z => absurd z (hM q k (by omega))⟩
  · intro pr z k hi hz'
    rcases hz' with h | h
    · exact absurd h (hM z k (by have := (yp_i3 hP hi).1; omega))
    · exact (h0 pr z k hi h).elim
  · intro pr z k hi h; exact (h0 pr z k hi h).elim
  · exact ⟨fun _ pr hi => absurd hi (yp_ni hP hE), trivial⟩
theorem ys_25 (hP : yp_R t b_op b_with b_one b_two) (hend : g_end = nI (tr_len t + 1)) (hct : gr_u (fun q => decide (¬ b_op q = 3 ∧ ¬ b_op q = 5)) (tr_len t + 1) ≤ 36) (hn : n ≤ 32) (hlen : g_length = nI n) (htx : ∀ j, j < n → b_text j = nI (tx j) ∧ tx j < 4) (hwh : wh = true ↔ ¬ x2 = 0) (H1 : ∀ N, a = some N → ∀ me td (bn : Nat → Int32), bn 0 = N 0 → bn 1 = N 7 → (∀ k, 1 ≤ k → k ≤ 6 → bn (k + 1) = N k) → post 1 (g_count, g_place, g_end, g_size, g_large, g_ready, g_depth, g_groups, g_atom, g_atomSize, g_length, g_found, b_kind, b_value, b_op, b_with, b_one, b_two, b_copyOp, b_copyWith, b_copyOne, b_copyTwo, b_opened, b_branch, b_sizes, b_jumps, b_groupOf, b_text, me, td, bn)) (H0 : a = none → ∀ me td bn, post 0 (g_count, g_place, g_end, g_size, g_large, g_ready, g_depth, g_groups, g_atom, g_atomSize, g_length, g_found, b_kind, b_value, b_op, b_with, b_one, b_two, b_copyOp, b_copyWith, b_copyOne, b_copyTwo, b_opened, b_branch, b_sizes, b_jumps, b_groupOf, b_text, me, td, bn)) {me : Nat → Int64} (hz : ∀ q, q ≤ tr_len t → me q = 0) (hs : s ≤ n) (hpk : pk_R (tr_G t) (tr_e0 t) tx wh n (n - s) s [pk_sd (tr_e0 t) s] false a) :
    ∀ d k fu bn, k + d = 8 → d < fu → (∀ j, j < k → bn j = -1) → wY_search_25 post (nI s) x2 g_count g_place g_end g_size g_large g_ready g_depth g_groups g_atom g_atomSize g_length g_found fu (nI k) b_kind b_value b_op b_with b_one b_two b_copyOp b_copyWith b_copyOne b_copyTwo b_opened b_branch b_sizes b_jumps b_groupOf b_text me b_todo bn := by
  have hm72 := hP.1
  intro d
  induction d with
  | zero =>
    intro k fu bn hk hfu hbn
    obtain ⟨fu, rfl⟩ : ∃ m, fu = m + 1 := ⟨fu - 1, by omega⟩
    have hk8 : k = 8 := by omega
    subst hk8
    refine br_t (by decide) ?_
    rw [mn_b1 (by omega)]
    refine nm_e (nm_r (e' := nI 1) rfl (nm_e ⟨2 * yU (tr_len t) (yM me) + 2, ?_⟩))
    have hI := ys_init hP hz hs hpk
    have hV : yV (tr_len t) b_op (yM me) ≤ 33 * 36 := by
      refine yc_le (fun k => ?_) 33
      rw [gr_u_cong (S' := fun q => decide (¬ b_op q = 3 ∧ ¬ b_op q = 5)) _ (fun j hj => by
        show (_ || mt_b (me j) k) = _
        rw [hz j (by omega), mt_0, Bool.or_false])]
      exact hct
    refine yz_out hP hn hlen htx hwh H1 H0 _ [(true, 0, s)] _ me _ _ hI ⟨?_, trivial⟩ ?_ (by show 1 + _ ≤ 1189; omega) (by show _ + 1 < _; omega)
    · show upd b_todo 0 (nI s) 0 = nI (0 * 64 + s)
      rw [pk_us, Nat.zero_mul, Nat.zero_add]
    · refine ⟨?_, fun k k1 k6 => ?_, fun k k6 => ?_⟩
      · rw [pk_us]; rfl
      · rw [pk_un (by omega), hbn _ (by omega)]
        show -1 = (if k = 0 then nI s else -1)
        rw [if_neg (by omega)]
      · show ∃ v, 1 ≤ v ∧ v ≤ 34 ∧ (if k = 0 then nI s else -1) = yn_v v
        split
        · exact ⟨s + 2, by omega, by omega, (yn_n s).symm⟩
        · exact ⟨1, by omega, by omega, yn_1.symm⟩
  | succ d ih =>
    intro k fu bn hk hfu hbn
    obtain ⟨fu, rfl⟩ : ∃ m, fu = m + 1 := ⟨fu - 1, by omega⟩
    refine br_f (nI_ge (b := 8) (by omega) (by omega)) ⟨vp_in_nI (by omega) (by omega), ?_⟩
    rw [nI_clamp (by omega), mn_bm.2.1]
    refine nm_e (nm_r (nI_1 k) (ih (k + 1) fu _ (by omega) (by omega) ?_))
    intro j hj
    by_cases e : j = k
    · rw [e, pk_us]
    · rw [pk_un e]; exact hbn j (by omega)
theorem ys_2 (hP : yp_R t b_op b_with b_one b_two) (hend : g_end = nI (tr_len t + 1)) (hct : gr_u (fun q => decide (¬ b_op q = 3 ∧ ¬ b_op q = 5)) (tr_len t + 1) ≤ 36) (hn : n ≤ 32) (hlen : g_length = nI n) (htx : ∀ j, j < n → b_text j = nI (tx j) ∧ tx j < 4) (hwh : wh = true ↔ ¬ x2 = 0) (H1 : ∀ N, a = some N → ∀ me td (bn : Nat → Int32), bn 0 = N 0 → bn 1 = N 7 → (∀ k, 1 ≤ k → k ≤ 6 → bn (k + 1) = N k) → post 1 (g_count, g_place, g_end, g_size, g_large, g_ready, g_depth, g_groups, g_atom, g_atomSize, g_length, g_found, b_kind, b_value, b_op, b_with, b_one, b_two, b_copyOp, b_copyWith, b_copyOne, b_copyTwo, b_opened, b_branch, b_sizes, b_jumps, b_groupOf, b_text, me, td, bn)) (H0 : a = none → ∀ me td bn, post 0 (g_count, g_place, g_end, g_size, g_large, g_ready, g_depth, g_groups, g_atom, g_atomSize, g_length, g_found, b_kind, b_value, b_op, b_with, b_one, b_two, b_copyOp, b_copyWith, b_copyOne, b_copyTwo, b_opened, b_branch, b_sizes, b_jumps, b_groupOf, b_text, me, td, bn)) (hs : s ≤ n) (hpk : pk_R (tr_G t) (tr_e0 t) tx wh n (n - s) s [pk_sd (tr_e0 t) s] false a) :
    ∀ d q fu me, q + d = tr_len t + 1 → d < fu → (∀ j, j < q → me j = 0) → wY_search_2 post (nI s) x2 g_count g_place g_end g_size g_large g_ready g_depth g_groups g_atom g_atomSize g_length g_found fu (nI q) b_kind b_value b_op b_with b_one b_two b_copyOp b_copyWith b_copyOne b_copyTwo b_opened b_branch b_sizes b_jumps b_groupOf b_text me b_todo b_notes := by
  have hm72 := hP.1
  intro d
  induction d with
  | zero =>
    intro q fu me hq hfu hme
    obtain ⟨fu, rfl⟩ : ∃ m, fu = m + 1 := ⟨fu - 1, by omega⟩
    refine br_t (by rw [hend]; exact nI_le (by omega) (by omega)) ⟨9, ?_⟩
    exact ys_25 hP hend hct hn hlen htx hwh H1 H0 (fun q hq => hme q (by omega)) hs hpk 8 0 9 b_notes (by omega) (by omega) (fun j h => by omega)
  | succ d ih =>
    intro q fu me hq hfu hme
    obtain ⟨fu, rfl⟩ : ∃ m, fu = m + 1 := ⟨fu - 1, by omega⟩
    refine br_f (by rw [hend]; exact nI_ge (by omega) (by omega)) ⟨vp_in_nI (by omega) (by omega), ?_⟩
    rw [nI_clamp (by omega)]
    refine nm_e (nm_r (nI_1 q) (ih (q + 1) fu _ (by omega) (by omega) ?_))
    intro j hj
    by_cases e : j = q
    · rw [e, pk_uLs]
    · rw [pk_uLn e]; exact hme j (by omega)
theorem ys_search (hP : yp_R t b_op b_with b_one b_two) (hend : g_end = nI (tr_len t + 1)) (hct : gr_u (fun q => decide (¬ b_op q = 3 ∧ ¬ b_op q = 5)) (tr_len t + 1) ≤ 36) (hn : n ≤ 32) (hlen : g_length = nI n) (htx : ∀ j, j < n → b_text j = nI (tx j) ∧ tx j < 4) (hwh : wh = true ↔ ¬ x2 = 0) (H1 : ∀ N, a = some N → ∀ me td (bn : Nat → Int32), bn 0 = N 0 → bn 1 = N 7 → (∀ k, 1 ≤ k → k ≤ 6 → bn (k + 1) = N k) → post 1 (g_count, g_place, g_end, g_size, g_large, g_ready, g_depth, g_groups, g_atom, g_atomSize, g_length, g_found, b_kind, b_value, b_op, b_with, b_one, b_two, b_copyOp, b_copyWith, b_copyOne, b_copyTwo, b_opened, b_branch, b_sizes, b_jumps, b_groupOf, b_text, me, td, bn)) (H0 : a = none → ∀ me td bn, post 0 (g_count, g_place, g_end, g_size, g_large, g_ready, g_depth, g_groups, g_atom, g_atomSize, g_length, g_found, b_kind, b_value, b_op, b_with, b_one, b_two, b_copyOp, b_copyWith, b_copyOne, b_copyTwo, b_opened, b_branch, b_sizes, b_jumps, b_groupOf, b_text, me, td, bn)) (hs : s ≤ n) (hpk : pk_R (tr_G t) (tr_e0 t) tx wh n (n - s) s [pk_sd (tr_e0 t) s] false a) : wpY_search post (g_count, g_place, g_end, g_size, g_large, g_ready, g_depth, g_groups, g_atom, g_atomSize, g_length, g_found, b_kind, b_value, b_op, b_with, b_one, b_two, b_copyOp, b_copyWith, b_copyOne, b_copyTwo, b_opened, b_branch, b_sizes, b_jumps, b_groupOf, b_text, b_met, b_todo, b_notes) (nI s) x2 :=
  ⟨tr_len t + 2, ys_2 hP hend hct hn hlen htx hwh H1 H0 hs hpk (tr_len t + 1) 0 _ b_met (by omega) (by omega) (fun j h => by omega)⟩
/-! find: start after start -/
theorem yf_28 (hP : yp_R t b_op b_with b_one b_two) (hend : g_end = nI (tr_len t + 1)) (hct : gr_u (fun q => decide (¬ b_op q = 3 ∧ ¬ b_op q = 5)) (tr_len t + 1) ≤ 36) (hn : n ≤ 32) (hlen : g_length = nI n) (htx : ∀ j, j < n → b_text j = nI (tx j) ∧ tx j < 4) (H : ∀ (fd : Int32) me td (bn : Nat → Int32), (a = none → fd = 0) → (∀ N, a = some N → fd = 1) → (∀ N, a = some N → bn 0 = N 0 ∧ bn 1 = N 7 ∧ ∀ k, 1 ≤ k → k ≤ 6 → bn (k + 1) = N k) → post fd (g_count, g_place, g_end, g_size, g_large, g_ready, g_depth, g_groups, g_atom, g_atomSize, g_length, fd, b_kind, b_value, b_op, b_with, b_one, b_two, b_copyOp, b_copyWith, b_copyOne, b_copyTwo, b_opened, b_branch, b_sizes, b_jumps, b_groupOf, b_text, me, td, bn)) :
    ∀ r s fu me td bn, s + r = n + 1 → r < fu → (r = 0 → a = none) → (∀ r', r = r' + 1 → pk_R (tr_G t) (tr_e0 t) tx false n r' s [pk_sd (tr_e0 t) s] true a) → wY_find_28 post fu (nI s) g_count g_place g_end g_size g_large g_ready g_depth g_groups g_atom g_atomSize g_length 0 b_kind b_value b_op b_with b_one b_two b_copyOp b_copyWith b_copyOne b_copyTwo b_opened b_branch b_sizes b_jumps b_groupOf b_text me td bn := by
  have hm72 := hP.1
  intro r
  induction r with
  | zero =>
    intro s fu me td bn hs hfu h0 _
    obtain ⟨fu, rfl⟩ : ∃ m, fu = m + 1 := ⟨fu - 1, by omega⟩
    refine br_t (by rw [hlen]; exact nI_lt (by omega) (by omega)) ⟨na_b0, ?_⟩
    exact H 0 me td bn (fun _ => rfl) (fun N h => by rw [h0 rfl] at h; cases h) (fun N h => by rw [h0 rfl] at h; cases h)
  | succ r ih =>
    intro s fu me td bn hs hfu _ hpk
    obtain ⟨fu, rfl⟩ : ∃ m, fu = m + 1 := ⟨fu - 1, by omega⟩
    have hpk := hpk r rfl
    refine br_f (by rw [hlen]; exact nI_nlt (by omega) (by omega)) (br_t rfl ?_)
    obtain ⟨a1, hp1⟩ := pk_tot (tx := tx) (wh := false) (n := n) (tr_ok t) (tr_e0m t) (n - s) s [pk_sd (tr_e0 t) s] false (by
      intro x hx
      rcases List.mem_cons.mp hx with rfl | hx
      · exact tr_e0m t
      · cases hx)
    have hr : n - s = r := by omega
    refine ys_search (wh := false) hP hend hct hn hlen htx (a := a1) ⟨(fun z => nomatch z), fun z => absurd rfl z⟩ ?_ ?_ (by omega) hp1
    · intro N hN me td bn k1 k2 k3
      dsimp only
      rw [hN, hr] at hp1
      have ha := pk_seek1 (tr_ok t) (tr_e0m t) hpk hp1
      have hp : post 1 (g_count, g_place, g_end, g_size, g_large, g_ready, g_depth, g_groups, g_atom, g_atomSize, g_length, 1, b_kind, b_value, b_op, b_with, b_one, b_two, b_copyOp, b_copyWith, b_copyOne, b_copyTwo, b_opened, b_branch, b_sizes, b_jumps, b_groupOf, b_text, me, td, bn) := by
        refine H 1 me td bn (fun h => by rw [ha] at h; cases h) (fun _ _ => rfl) ?_
        intro N' hN'
        rw [ha] at hN'; cases hN'
        exact ⟨k1, k2, k3⟩
      refine ⟨na_b1, fi_b1, nm_r (nI_1 s) ?_⟩
      obtain ⟨fu, rfl⟩ : ∃ m, fu = m + 1 := ⟨fu - 1, by omega⟩
      exact br_c (fun _ => ⟨na_b1, hp⟩) (fun _ => br_f (by decide) ⟨na_b1, hp⟩)
    · intro hN me td bn
      dsimp only
      rw [hN, hr] at hp1
      refine ⟨na_b0, fi_b0, nm_r (nI_1 s) (ih (s + 1) fu me td bn (by omega) (by omega) ?_ ?_)⟩
      · intro h0
        subst h0
        exact pk_seek0 hpk hp1
      · intro r' hr'
        subst hr'
        exact pk_seek (tr_ok t) (tr_e0m t) hpk hp1
theorem yf_find (hP : yp_R t b_op b_with b_one b_two) (hend : g_end = nI (tr_len t + 1)) (hct : gr_u (fun q => decide (¬ b_op q = 3 ∧ ¬ b_op q = 5)) (tr_len t + 1) ≤ 36) (hn : n ≤ 32) (hlen : g_length = nI n) (htx : ∀ j, j < n → b_text j = nI (tx j) ∧ tx j < 4) (hs : s ≤ n) (hrd : ¬ g_ready = 0) (hpk : pk_R (tr_G t) (tr_e0 t) tx false n (n - s) s [pk_sd (tr_e0 t) s] true a) (H : ∀ (fd : Int32) me td (bn : Nat → Int32), (a = none → fd = 0) → (∀ N, a = some N → fd = 1) → (∀ N, a = some N → bn 0 = N 0 ∧ bn 1 = N 7 ∧ ∀ k, 1 ≤ k → k ≤ 6 → bn (k + 1) = N k) → post fd (g_count, g_place, g_end, g_size, g_large, g_ready, g_depth, g_groups, g_atom, g_atomSize, g_length, fd, b_kind, b_value, b_op, b_with, b_one, b_two, b_copyOp, b_copyWith, b_copyOne, b_copyTwo, b_opened, b_branch, b_sizes, b_jumps, b_groupOf, b_text, me, td, bn)) : wpY_find post (g_count, g_place, g_end, g_size, g_large, g_ready, g_depth, g_groups, g_atom, g_atomSize, g_length, g_found, b_kind, b_value, b_op, b_with, b_one, b_two, b_copyOp, b_copyWith, b_copyOne, b_copyTwo, b_opened, b_branch, b_sizes, b_jumps, b_groupOf, b_text, b_met, b_todo, b_notes) (nI s) := by
  refine br_f hrd (br_f (nI_pos (by omega)) (br_t (by rw [hlen]; exact nI_le hs (by omega)) ⟨n - s + 2, ?_⟩))
  refine yf_28 hP hend hct hn hlen htx H (n - s + 1) s _ b_met b_todo b_notes (by omega) (by omega) (fun h => by omega) ?_
  intro r' hr'
  rw [show r' = n - s by omega]; exact hpk
end YSS
end
section
section NOD
/-! X's tree of nodes; X's layout in its arrays -/
def tr_it : Nat → Std.Format → Std.Format → Std.Format
  | 0, _, r => r
  | m + 1, a, r => .append a (tr_it m a r)
/-- node n stands for tree t; d: room on the stack of tasks -/
def tn_f (nk na nb nc : Nat → Int32) (nd : Nat) : Nat → Nat → Std.Format → Nat → Prop
  | 0, _, _, _ => False
  | f + 1, n, t, d => n < nd ∧ 1 ≤ d ∧ (
    (nk n = 0 ∧ ∃ w : Nat, w < 16 ∧ na n = nI w ∧ t = .nest (w : Int) .nil) ∨
    (nk n = 1 ∧ t = .line) ∨ (nk n = 2 ∧ t = .align true) ∨ (nk n = 3 ∧ t = .nil) ∨
    ((nk n = 4 ∨ nk n = 9) ∧ ∃ i j a b d1 d2, na n = nI i ∧ nb n = nI j ∧ tn_f nk na nb nc nd f i a d1 ∧ tn_f nk na nb nc nd f j b d2 ∧ d1 + 1 ≤ d ∧ d2 ≤ d ∧ t = .append a b) ∨
    (nk n = 5 ∧ ∃ i j a b d1 d2, na n = nI i ∧ nb n = nI j ∧ tn_f nk na nb nc nd f i a d1 ∧ tn_f nk na nb nc nd f j b d2 ∧ d1 + 2 ≤ d ∧ d2 + 1 ≤ d ∧ t = .group (.append a b) .allOrNone) ∨
    (nk n = 6 ∧ ∃ i z a d1, na n = nI i ∧ nb n = nI z ∧ z < 2 ∧ tn_f nk na nb nc nd f i a d1 ∧ d1 + 1 ≤ d ∧ t = .tag z a) ∨
    (nk n = 7 ∧ ∃ i z a d1, na n = nI i ∧ nb n = nI z ∧ z < 2 ∧ tn_f nk na nb nc nd f i a d1 ∧ d1 + 1 ≤ d ∧ t = .tag (2 + z) a) ∨
    (nk n = 8 ∧ ∃ i g a d1, na n = nI i ∧ nb n = nI g ∧ 1 ≤ g ∧ g ≤ 3 ∧ tn_f nk na nb nc nd f i a d1 ∧ d1 + 1 ≤ d ∧ t = .tag (3 + g) a) ∨
    (nk n = 10 ∧ ∃ i m a d1 r, na n = nI i ∧ nc n = nI m ∧ m ≤ 4 ∧ tn_f nk na nb nc nd f i a d1 ∧ t = tr_it m a r ∧ ((nb n = -1 ∧ r = .nil ∧ d1 + m ≤ d + 1) ∨ ∃ j d2, nb n = nI j ∧ tn_f nk na nb nc nd f j r d2 ∧ d2 ≤ d ∧ d1 + m ≤ d)))
def tn_R (nk na nb nc : Nat → Int32) (nd n : Nat) (t : Std.Format) (d : Nat) : Prop := ∃ f, tn_f nk na nb nc nd f n t d
section TNX
variable {nk na nb nc nk' na' nb' nc' : Nat → Int32} {nd nd' : Nat}
theorem tn_lt : ∀ {f n t d}, tn_f nk na nb nc nd f n t d → n < nd ∧ 1 ≤ d := by
  intro f n t d h
  cases f with
  | zero => exact h.elim
  | succ f => exact ⟨h.1, h.2.1⟩
theorem tn_fr (hnd : nd ≤ nd') (hq : ∀ i, i < nd → nk' i = nk i ∧ na' i = na i ∧ nb' i = nb i ∧ nc' i = nc i) : ∀ f n t d d', d ≤ d' → tn_f nk na nb nc nd f n t d → tn_f nk' na' nb' nc' nd' f n t d' := by
  intro f
  induction f with
  | zero => intro n t d d' _ h; exact h.elim
  | succ f ih =>
    intro n t d d' hd h
    obtain ⟨h1, h2, h3⟩ := h
    obtain ⟨e1, e2, e3, e4⟩ := hq n h1
    have ih' : ∀ n t d, tn_f nk na nb nc nd f n t d → tn_f nk' na' nb' nc' nd' f n t d := fun n t d h => ih n t d d (Nat.le_refl _) h
    refine ⟨by omega, by omega, ?_⟩
    rw [e1, e2, e3, e4]
    rcases h3 with h | h | h | h | h | h | h | h | h | h
    · exact Or.inl h
    · exact Or.inr (Or.inl h)
    · exact Or.inr (Or.inr (Or.inl h))
    · exact Or.inr (Or.inr (Or.inr (Or.inl h)))
    · obtain ⟨k, i, j, a, b, d1, d2, q1, q2, q3, q4, q5, q6, q7⟩ := h
      exact Or.inr (Or.inr (Or.inr (Or.inr (Or.inl ⟨k, i, j, a, b, d1, d2, q1, q2, ih' _ _ _ q3, ih' _ _ _ q4, by omega, by omega, q7⟩))))
    · obtain ⟨k, i, j, a, b, d1, d2, q1, q2, q3, q4, q5, q6, q7⟩ := h
      exact Or.inr (Or.inr (Or.inr (Or.inr (Or.inr (Or.inl ⟨k, i, j, a, b, d1, d2, q1, q2, ih' _ _ _ q3, ih' _ _ _ q4, by omega, by omega, q7⟩)))))
    · obtain ⟨k, i, z, a, d1, q1, q2, q3, q4, q5, q6⟩ := h
      exact Or.inr (Or.inr (Or.inr (Or.inr (Or.inr (Or.inr (Or.inl ⟨k, i, z, a, d1, q1, q2, q3, ih' _ _ _ q4, by omega, q6⟩))))))
    · obtain ⟨k, i, z, a, d1, q1, q2, q3, q4, q5, q6⟩ := h
      exact Or.inr (Or.inr (Or.inr (Or.inr (Or.inr (Or.inr (Or.inr (Or.inl ⟨k, i, z, a, d1, q1, q2, q3, ih' _ _ _ q4, by omega, q6⟩)))))))
    · obtain ⟨k, i, z, a, d1, q1, q2, q3, q4, q5, q6, q7⟩ := h
      exact Or.inr (Or.inr (Or.inr (Or.inr (Or.inr (Or.inr (Or.inr (Or.inr (Or.inl ⟨k, i, z, a, d1, q1, q2, q3, q4, ih' _ _ _ q5, by omega, q7⟩))))))))
    · obtain ⟨k, i, m, a, d1, r, q1, q2, q3, q4, q5, q6⟩ := h
      refine Or.inr (Or.inr (Or.inr (Or.inr (Or.inr (Or.inr (Or.inr (Or.inr (Or.inr ⟨k, i, m, a, d1, r, q1, q2, q3, ih' _ _ _ q4, q5, ?_⟩))))))))
      rcases q6 with ⟨r1, r2, r3⟩ | ⟨j, d2, r1, r2, r3, r4⟩
      · exact Or.inl ⟨r1, r2, by omega⟩
      · exact Or.inr ⟨j, d2, r1, ih' _ _ _ r2, by omega, by omega⟩
theorem tn_up {n d : Nat} {t : Std.Format} : ∀ g f, tn_f nk na nb nc nd f n t d → tn_f nk na nb nc nd (f + g) n t d := by
  have one : ∀ f n t d, tn_f nk na nb nc nd f n t d → tn_f nk na nb nc nd (f + 1) n t d := by
    intro f
    induction f with
    | zero => intro n t d h; exact h.elim
    | succ f ih =>
      intro n t d h
      obtain ⟨h1, h2, h3⟩ := h
      refine ⟨h1, h2, ?_⟩
      rcases h3 with h | h | h | h | h | h | h | h | h | h
      · exact Or.inl h
      · exact Or.inr (Or.inl h)
      · exact Or.inr (Or.inr (Or.inl h))
      · exact Or.inr (Or.inr (Or.inr (Or.inl h)))
      · obtain ⟨k, i, j, a, b, d1, d2, q1, q2, q3, q4, q5⟩ := h
        exact Or.inr (Or.inr (Or.inr (Or.inr (Or.inl ⟨k, i, j, a, b, d1, d2, q1, q2, ih _ _ _ q3, ih _ _ _ q4, q5⟩))))
      · obtain ⟨k, i, j, a, b, d1, d2, q1, q2, q3, q4, q5⟩ := h
        exact Or.inr (Or.inr (Or.inr (Or.inr (Or.inr (Or.inl ⟨k, i, j, a, b, d1, d2, q1, q2, ih _ _ _ q3, ih _ _ _ q4, q5⟩)))))
      · obtain ⟨k, i, z, a, d1, q1, q2, q3, q4, q5⟩ := h
        exact Or.inr (Or.inr (Or.inr (Or.inr (Or.inr (Or.inr (Or.inl ⟨k, i, z, a, d1, q1, q2, q3, ih _ _ _ q4, q5⟩))))))
      · obtain ⟨k, i, z, a, d1, q1, q2, q3, q4, q5⟩ := h
        exact Or.inr (Or.inr (Or.inr (Or.inr (Or.inr (Or.inr (Or.inr (Or.inl ⟨k, i, z, a, d1, q1, q2, q3, ih _ _ _ q4, q5⟩)))))))
      · obtain ⟨k, i, z, a, d1, q1, q2, q3, q4, q5, q6⟩ := h
        exact Or.inr (Or.inr (Or.inr (Or.inr (Or.inr (Or.inr (Or.inr (Or.inr (Or.inl ⟨k, i, z, a, d1, q1, q2, q3, q4, ih _ _ _ q5, q6⟩))))))))
      · obtain ⟨k, i, m, a, d1, r, q1, q2, q3, q4, q5, q6⟩ := h
        refine Or.inr (Or.inr (Or.inr (Or.inr (Or.inr (Or.inr (Or.inr (Or.inr (Or.inr ⟨k, i, m, a, d1, r, q1, q2, q3, ih _ _ _ q4, q5, ?_⟩))))))))
        rcases q6 with q6 | ⟨j, d2, r1, r2, r3⟩
        · exact Or.inl q6
        · exact Or.inr ⟨j, d2, r1, ih _ _ _ r2, r3⟩
  intro g
  induction g with
  | zero => intro f h; exact h
  | succ g ih => intro f h; exact one _ _ _ _ (ih f h)
theorem tn_mono {n : Nat} {t : Std.Format} {d d' : Nat} (hnd : nd ≤ nd') (hq : ∀ i, i < nd → nk' i = nk i ∧ na' i = na i ∧ nb' i = nb i ∧ nc' i = nc i) (hd : d ≤ d') (h : tn_R nk na nb nc nd n t d) : tn_R nk' na' nb' nc' nd' n t d' := by
  obtain ⟨f, h⟩ := h
  exact ⟨f, tn_fr hnd hq f n t d d' hd h⟩
theorem tn_Rlt {n : Nat} {t : Std.Format} {d : Nat} (h : tn_R nk na nb nc nd n t d) : n < nd ∧ 1 ≤ d := by
  obtain ⟨f, h⟩ := h; exact tn_lt h
/-- the builders -/
theorem tn_tst {n w d : Nat} (hn : n < nd) (hd : 1 ≤ d) (h : nk n = 0) (hw : w < 16) (ha : na n = nI w) : tn_R nk na nb nc nd n (.nest (w : Int) .nil) d := ⟨1, hn, hd, Or.inl ⟨h, w, hw, ha, rfl⟩⟩
theorem tn_beg {n d : Nat} (hn : n < nd) (hd : 1 ≤ d) (h : nk n = 1) : tn_R nk na nb nc nd n .line d := ⟨1, hn, hd, Or.inr (Or.inl ⟨h, rfl⟩)⟩
theorem tn_end {n d : Nat} (hn : n < nd) (hd : 1 ≤ d) (h : nk n = 2) : tn_R nk na nb nc nd n (.align true) d := ⟨1, hn, hd, Or.inr (Or.inr (Or.inl ⟨h, rfl⟩))⟩
theorem tn_emp {n d : Nat} (hn : n < nd) (hd : 1 ≤ d) (h : nk n = 3) : tn_R nk na nb nc nd n .nil d := ⟨1, hn, hd, Or.inr (Or.inr (Or.inr (Or.inl ⟨h, rfl⟩)))⟩
theorem tn_cat {n i j d d1 d2 : Nat} {a b : Std.Format} (hn : n < nd) (h : nk n = 4 ∨ nk n = 9) (ha : na n = nI i) (hb : nb n = nI j) (h1 : tn_R nk na nb nc nd i a d1) (h2 : tn_R nk na nb nc nd j b d2) (k1 : d1 + 1 ≤ d) (k2 : d2 ≤ d) : tn_R nk na nb nc nd n (.append a b) d := by
  obtain ⟨f1, h1⟩ := h1
  obtain ⟨f2, h2⟩ := h2
  have h2' := tn_up f1 f2 h2
  rw [Nat.add_comm] at h2'
  exact ⟨f1 + f2 + 1, hn, by omega, Or.inr (Or.inr (Or.inr (Or.inr (Or.inl ⟨h, i, j, a, b, d1, d2, ha, hb, tn_up f2 f1 h1, h2', k1, k2, rfl⟩))))⟩
theorem tn_alt {n i j d d1 d2 : Nat} {a b : Std.Format} (hn : n < nd) (h : nk n = 5) (ha : na n = nI i) (hb : nb n = nI j) (h1 : tn_R nk na nb nc nd i a d1) (h2 : tn_R nk na nb nc nd j b d2) (k1 : d1 + 2 ≤ d) (k2 : d2 + 1 ≤ d) : tn_R nk na nb nc nd n (.group (.append a b) .allOrNone) d := by
  obtain ⟨f1, h1⟩ := h1
  obtain ⟨f2, h2⟩ := h2
  have h2' := tn_up f1 f2 h2
  rw [Nat.add_comm] at h2'
  exact ⟨f1 + f2 + 1, hn, by omega, Or.inr (Or.inr (Or.inr (Or.inr (Or.inr (Or.inl ⟨h, i, j, a, b, d1, d2, ha, hb, tn_up f2 f1 h1, h2', k1, k2, rfl⟩)))))⟩
theorem tn_st {n i z d d1 : Nat} {a : Std.Format} (hn : n < nd) (h : nk n = 6) (ha : na n = nI i) (hb : nb n = nI z) (hz : z < 2) (h1 : tn_R nk na nb nc nd i a d1) (k1 : d1 + 1 ≤ d) : tn_R nk na nb nc nd n (.tag z a) d := by
  obtain ⟨f1, h1⟩ := h1
  exact ⟨f1 + 1, hn, by omega, Or.inr (Or.inr (Or.inr (Or.inr (Or.inr (Or.inr (Or.inl ⟨h, i, z, a, d1, ha, hb, hz, h1, k1, rfl⟩))))))⟩
theorem tn_op {n i z d d1 : Nat} {a : Std.Format} (hn : n < nd) (h : nk n = 7) (ha : na n = nI i) (hb : nb n = nI z) (hz : z < 2) (h1 : tn_R nk na nb nc nd i a d1) (k1 : d1 + 1 ≤ d) : tn_R nk na nb nc nd n (.tag (2 + z) a) d := by
  obtain ⟨f1, h1⟩ := h1
  exact ⟨f1 + 1, hn, by omega, Or.inr (Or.inr (Or.inr (Or.inr (Or.inr (Or.inr (Or.inr (Or.inl ⟨h, i, z, a, d1, ha, hb, hz, h1, k1, rfl⟩)))))))⟩
theorem tn_gr {n i g d d1 : Nat} {a : Std.Format} (hn : n < nd) (h : nk n = 8) (ha : na n = nI i) (hb : nb n = nI g) (hg1 : 1 ≤ g) (hg : g ≤ 3) (h1 : tn_R nk na nb nc nd i a d1) (k1 : d1 + 1 ≤ d) : tn_R nk na nb nc nd n (.tag (3 + g) a) d := by
  obtain ⟨f1, h1⟩ := h1
  exact ⟨f1 + 1, hn, by omega, Or.inr (Or.inr (Or.inr (Or.inr (Or.inr (Or.inr (Or.inr (Or.inr (Or.inl ⟨h, i, g, a, d1, ha, hb, hg1, hg, h1, k1, rfl⟩))))))))⟩
theorem tn_tm0 {n i m d d1 : Nat} {a : Std.Format} (hn : n < nd) (hd : 1 ≤ d) (h : nk n = 10) (ha : na n = nI i) (hb : nb n = -1) (hc : nc n = nI m) (hm : m ≤ 4) (h1 : tn_R nk na nb nc nd i a d1) (k1 : d1 + m ≤ d + 1) : tn_R nk na nb nc nd n (tr_it m a .nil) d := by
  obtain ⟨f1, h1⟩ := h1
  exact ⟨f1 + 1, hn, hd, Or.inr (Or.inr (Or.inr (Or.inr (Or.inr (Or.inr (Or.inr (Or.inr (Or.inr ⟨h, i, m, a, d1, .nil, ha, hc, hm, h1, rfl, Or.inl ⟨hb, rfl, k1⟩⟩))))))))⟩
theorem tn_tm1 {n i j m d d1 d2 : Nat} {a r : Std.Format} (hn : n < nd) (hd : 1 ≤ d) (h : nk n = 10) (ha : na n = nI i) (hb : nb n = nI j) (hc : nc n = nI m) (hm : m ≤ 4) (h1 : tn_R nk na nb nc nd i a d1) (h2 : tn_R nk na nb nc nd j r d2) (k1 : d1 + m ≤ d) (k2 : d2 ≤ d) : tn_R nk na nb nc nd n (tr_it m a r) d := by
  obtain ⟨f1, h1⟩ := h1
  obtain ⟨f2, h2⟩ := h2
  have h2' := tn_up f1 f2 h2
  rw [Nat.add_comm] at h2'
  exact ⟨f1 + f2 + 1, hn, hd, Or.inr (Or.inr (Or.inr (Or.inr (Or.inr (Or.inr (Or.inr (Or.inr (Or.inr ⟨h, i, m, a, d1, r, ha, hc, hm, tn_up f2 f1 h1, rfl, Or.inr ⟨j, d2, hb, h2', k2, k1⟩⟩))))))))⟩
end TNX
/-! layouts in X's arrays -/
theorem cx_cong {o w s1 s2 o' w' s1' s2' : Nat → Nat} : ∀ t p, (∀ q, p ≤ q → q < p + tr_len t → o' q = o q ∧ w' q = w q ∧ s1' q = s1 q ∧ s2' q = s2 q) → cx_L o w s1 s2 t p → cx_L o' w' s1' s2' t p := by
  intro t
  induction t using tr_ind with
  | h0 => intro p _ h; trivial
  | h1 => intro p hq h; obtain ⟨e1, e2, e3, e4⟩ := hq p (Nat.le_refl _) (Nat.lt_succ_self p); exact ⟨e1.trans h.1, e3.trans h.2⟩
  | h2 b => intro p hq h; obtain ⟨e1, e2, e3, e4⟩ := hq p (Nat.le_refl _) (Nat.lt_succ_self p); exact ⟨e1.trans h.1, e3.trans h.2⟩
  | h3 s => intro p _ h; trivial
  | h4 i f => intro p hq h; obtain ⟨e1, e2, e3, e4⟩ := hq p (Nat.le_refl _) (Nat.lt_succ_self p); exact ⟨e1.trans h.1, e2.trans h.2.1, e3.trans h.2.2⟩
  | h5 a b ha hb =>
    intro p hq h
    rw [tr_len_app] at hq
    exact ⟨ha p (fun q h1 h2 => hq q h1 (by omega)) h.1, hb _ (fun q h1 h2 => hq q (by omega) (by omega)) h.2⟩
  | h6 a b c ha hb =>
    intro p hq h
    rw [tr_len_alt] at hq
    obtain ⟨c1, c2, c3, c4, c5, c6, c7⟩ := h
    obtain ⟨e1, e2, e3, e4⟩ := hq p (Nat.le_refl _) (by omega)
    obtain ⟨f1, f2, f3, f4⟩ := hq (p + 1 + tr_len a) (by omega) (by omega)
    exact ⟨e1.trans c1, e3.trans c2, e4.trans c3, ha _ (fun q h1 h2 => hq q (by omega) (by omega)) c4, f1.trans c5, f3.trans c6, hb _ (fun q h1 h2 => hq q (by omega) (by omega)) c7⟩
  | h7 f c hf => intro p _ h; cases f <;> first | trivial | exact absurd rfl (hf _ _)
  | h8 k a ha =>
    intro p hq h
    unfold cx_L at h ⊢
    obtain ⟨e1, e2, e3, e4⟩ := hq p (Nat.le_refl _) (by have := tr_len_tg (t := k) (a := a); omega)
    have ha' := ha (p + 1) (fun q h1 h2 => hq q (by omega) (by have := tr_len_tg (t := k) (a := a); omega))
    by_cases t1 : k ≤ 1
    · rw [if_pos t1] at h ⊢
      rw [tr_len_st t1] at hq
      obtain ⟨f1, f2, f3, f4⟩ := hq (p + 1 + tr_len a) (by omega) (by omega)
      obtain ⟨c1, c2, c3, c4, c5, c6⟩ := h
      exact ⟨e1.trans c1, e3.trans c2, e4.trans c3, ha' c4, f1.trans c5, f3.trans c6⟩
    · rw [if_neg t1] at h ⊢
      by_cases t3 : k ≤ 3
      · rw [if_pos t3] at h ⊢
        obtain ⟨c1, c2, c3, c4⟩ := h
        exact ⟨e1.trans c1, e3.trans c2, e4.trans c3, ha' c4⟩
      · rw [if_neg t3] at h ⊢
        rw [tr_len_gr t1 t3] at hq
        obtain ⟨f1, f2, f3, f4⟩ := hq (p + 1 + tr_len a) (by omega) (by omega)
        obtain ⟨c1, c2, c3, c4, c5, c6, c7⟩ := h
        exact ⟨e1.trans c1, e2.trans c2, e3.trans c3, ha' c4, f1.trans c5, f2.trans c6, f3.trans c7⟩
def lv_1 (op x y : Nat → Int32) (q : Nat) : Prop := ∃ c u v : Nat, c ≤ 5 ∧ op q = nI c ∧ u < 100 ∧ x q = nI u ∧ v < 100 ∧ (c = 3 → y q = nI v) ∧ (c = 5 → u < 7)
def lx_R (t : Std.Format) (p : Nat) (op x y pp : Nat → Int32) : Prop := cx_L (xv_o 200 op) (xv_w x) (xv_1 200 op x y pp) (xv_2 y pp) t p ∧ ∀ q, p ≤ q → q < p + tr_len t → lv_1 op x y q
theorem xv_oe {m q c : Nat} {op : Nat → Int32} (h : q ≤ m) (e : op q = nI c) (hc : c < 100) : xv_o m op q = c := by
  unfold xv_o; rw [if_pos h, e]; exact nI_clamp (by omega)
theorem xv_we {q c : Nat} {x : Nat → Int32} (e : x q = nI c) (hc : c < 200) : xv_w x q = c := by
  unfold xv_w; rw [e]; exact nI_clamp (by omega)
section LXX
variable {op x y pp op' x' y' pp' : Nat → Int32} {p : Nat}
theorem lx_fr {t : Std.Format} (hp : ∀ q, p ≤ q → q < p + tr_len t → op' q = op q ∧ x' q = x q ∧ y' q = y q ∧ pp' q = pp q) (h : lx_R t p op x y pp) : lx_R t p op' x' y' pp' := by
  refine ⟨cx_cong t p (fun q h1 h2 => ?_) h.1, fun q h1 h2 => ?_⟩
  · obtain ⟨e1, e2, e3, e4⟩ := hp q h1 h2
    unfold xv_o xv_w xv_1 xv_2 xv_o
    rw [e1, e2, e3, e4]
    exact ⟨rfl, rfl, rfl, rfl⟩
  · obtain ⟨e1, e2, e3, e4⟩ := hp q h1 h2
    unfold lv_1
    rw [e1, e2, e3]
    exact h.2 q h1 h2
theorem lx_nil : lx_R .nil p op x y pp := ⟨trivial, fun q h1 h2 => absurd h2 (by show ¬ q < p + 0; omega)⟩
/-- ways of an instruction that is neither split nor jump -/
theorem xv_1o {c : Nat} (hp : p ≤ 200) (e : op p = nI c) (hc : c < 7) (h3 : c ≠ 3) (h4 : c ≠ 4) : xv_1 200 op x y pp p = p + 1 := by
  unfold xv_1
  rw [xv_oe hp e (by omega), if_neg h4, if_neg (fun z => h3 z.1)]
theorem xv_1j {v : Nat} (hp : p ≤ 200) (e : op p = nI 4) (ex : x p = nI v) (hv : v < 200) : xv_1 200 op x y pp p = v := by
  unfold xv_1
  rw [xv_oe hp e (by omega), if_pos rfl, ex]; exact nI_clamp (by omega)
theorem xv_1s {v z : Nat} (hp : p ≤ 200) (e : op p = nI 3) (ey : y p = nI v) (hv : v < 200) (ez : pp p = nI z) (hz : z < 2) : xv_1 200 op x y pp p = (if z = 0 then p + 1 else v) ∧ xv_2 y pp p = (if z = 0 then v else p + 1) := by
  unfold xv_1 xv_2
  rw [xv_oe hp e (by omega), if_neg (by omega), ez, ey, nI_clamp (by omega)]
  by_cases h : z = 0
  · subst h
    rw [if_pos rfl, if_pos rfl, if_neg (fun w => w.2 nI_0), if_pos nI_0]
    exact ⟨rfl, rfl⟩
  · have : ¬ nI z = 0 := nI_ne0 (by omega) (by omega)
    rw [if_neg h, if_neg h, if_neg this, if_pos ⟨rfl, this⟩]
    exact ⟨rfl, rfl⟩
theorem lx_tst {w : Nat} (hp : p < 100) (hw : w < 16) (e : op p = nI 0) (ex : x p = nI w) : lx_R (.nest (w : Int) .nil) p op x y pp := by
  refine ⟨⟨xv_oe (by omega) e (by omega), xv_we ex (by omega), xv_1o (by omega) e (by omega) (by omega) (by omega)⟩, fun q h1 h2 => ?_⟩
  have : q = p := by have h2 : q < p + 1 := h2; omega
  subst this
  exact ⟨0, w, 0, by omega, e, by omega, ex, by omega, (fun h => by omega), fun h => by omega⟩
theorem lx_beg (hp : p < 100) (e : op p = nI 1) (ex : x p = nI 0) : lx_R .line p op x y pp := by
  refine ⟨⟨xv_oe (by omega) e (by omega), xv_1o (by omega) e (by omega) (by omega) (by omega)⟩, fun q h1 h2 => ?_⟩
  have : q = p := by have h2 : q < p + 1 := h2; omega
  subst this
  exact ⟨1, 0, 0, by omega, e, by omega, ex, by omega, (fun h => by omega), fun h => by omega⟩
theorem lx_end (hp : p < 100) (e : op p = nI 2) (ex : x p = nI 0) : lx_R (.align true) p op x y pp := by
  refine ⟨⟨xv_oe (by omega) e (by omega), xv_1o (by omega) e (by omega) (by omega) (by omega)⟩, fun q h1 h2 => ?_⟩
  have : q = p := by have h2 : q < p + 1 := h2; omega
  subst this
  exact ⟨2, 0, 0, by omega, e, by omega, ex, by omega, (fun h => by omega), fun h => by omega⟩
theorem lx_app {a b : Std.Format} (h1 : lx_R a p op x y pp) (h2 : lx_R b (p + tr_len a) op x y pp) : lx_R (.append a b) p op x y pp := by
  refine ⟨⟨h1.1, h2.1⟩, fun q k1 k2 => ?_⟩
  rw [tr_len_app] at k2
  by_cases c : q < p + tr_len a
  · exact h1.2 q k1 c
  · exact h2.2 q (by omega) (by omega)
theorem lx_alt {a b : Std.Format} (hp : p + tr_len a + 2 + tr_len b < 100) (e : op p = nI 3) (ex : x p = nI 0) (ey : y p = nI (p + tr_len a + 2)) (ez : pp p = nI 0) (h1 : lx_R a (p + 1) op x y pp) (ej : op (p + 1 + tr_len a) = nI 4) (exj : x (p + 1 + tr_len a) = nI (p + tr_len a + 2 + tr_len b)) (h2 : lx_R b (p + tr_len a + 2) op x y pp) : lx_R (.group (.append a b) .allOrNone) p op x y pp := by
  have hs := xv_1s (op := op) (x := x) (y := y) (pp := pp) (p := p) (by omega) e ey (by omega) ez (by omega)
  rw [if_pos rfl, if_pos rfl] at hs
  refine ⟨⟨xv_oe (by omega) e (by omega), hs.1, hs.2, h1.1, xv_oe (by omega) ej (by omega), xv_1j (by omega) ej exj (by omega), h2.1⟩, fun q k1 k2 => ?_⟩
  rw [tr_len_alt] at k2
  by_cases c1 : q = p
  · subst c1
    exact ⟨3, 0, q + tr_len a + 2, by omega, e, by omega, ex, by omega, (fun _ => ey), fun h => by omega⟩
  · by_cases c2 : q < p + 1 + tr_len a
    · exact h1.2 q (by omega) c2
    · by_cases c3 : q = p + 1 + tr_len a
      · subst c3
        exact ⟨4, _, 0, by omega, ej, by omega, exj, by omega, (fun h => by omega), fun h => by omega⟩
      · exact h2.2 q (by omega) (by omega)
theorem lx_st {a : Std.Format} {z : Nat} (hz : z < 2) (hp : p + tr_len a + 2 < 100) (e : op p = nI 3) (ex : x p = nI 0) (ey : y p = nI (p + tr_len a + 2)) (ez : pp p = nI z) (h1 : lx_R a (p + 1) op x y pp) (ej : op (p + 1 + tr_len a) = nI 4) (exj : x (p + 1 + tr_len a) = nI p) : lx_R (.tag z a) p op x y pp := by
  have hs := xv_1s (op := op) (x := x) (y := y) (pp := pp) (p := p) (by omega) e ey (by omega) ez hz
  refine ⟨?_, fun q k1 k2 => ?_⟩
  · unfold cx_L
    rw [if_pos (by omega)]
    exact ⟨xv_oe (by omega) e (by omega), hs.1, hs.2, h1.1, xv_oe (by omega) ej (by omega), xv_1j (by omega) ej exj (by omega)⟩
  · rw [tr_len_st (by omega)] at k2
    by_cases c1 : q = p
    · subst c1
      exact ⟨3, 0, q + tr_len a + 2, by omega, e, by omega, ex, by omega, (fun _ => ey), fun h => by omega⟩
    · by_cases c2 : q < p + 1 + tr_len a
      · exact h1.2 q (by omega) c2
      · have c3 : q = p + 1 + tr_len a := by omega
        subst c3
        exact ⟨4, _, 0, by omega, ej, by omega, exj, by omega, (fun h => by omega), fun h => by omega⟩
theorem lx_op {a : Std.Format} {z : Nat} (hz : z < 2) (hp : p + tr_len a + 1 < 100) (e : op p = nI 3) (ex : x p = nI 0) (ey : y p = nI (p + tr_len a + 1)) (ez : pp p = nI z) (h1 : lx_R a (p + 1) op x y pp) : lx_R (.tag (2 + z) a) p op x y pp := by
  have hs := xv_1s (op := op) (x := x) (y := y) (pp := pp) (p := p) (by omega) e ey (by omega) ez hz
  refine ⟨?_, fun q k1 k2 => ?_⟩
  · unfold cx_L
    rw [if_neg (by omega), if_pos (by omega)]
    refine ⟨xv_oe (by omega) e (by omega), ?_, ?_, h1.1⟩
    · rw [hs.1]
      by_cases c : z = 0
      · rw [if_pos c, if_pos (by omega)]
      · rw [if_neg c, if_neg (by omega)]
    · rw [hs.2]
      by_cases c : z = 0
      · rw [if_pos c, if_pos (by omega)]
      · rw [if_neg c, if_neg (by omega)]
  · rw [tr_len_op (by omega) (by omega)] at k2
    by_cases c1 : q = p
    · subst c1
      exact ⟨3, 0, q + tr_len a + 1, by omega, e, by omega, ex, by omega, (fun _ => ey), fun h => by omega⟩
    · exact h1.2 q (by omega) (by omega)
theorem lx_gr {a : Std.Format} {g : Nat} (hg1 : 1 ≤ g) (hg : g ≤ 3) (hp : p + tr_len a + 2 < 100) (e : op p = nI 5) (ex : x p = nI (2 * g - 1)) (h1 : lx_R a (p + 1) op x y pp) (ej : op (p + 1 + tr_len a) = nI 5) (exj : x (p + 1 + tr_len a) = nI (2 * g)) : lx_R (.tag (3 + g) a) p op x y pp := by
  refine ⟨?_, fun q k1 k2 => ?_⟩
  · unfold cx_L
    rw [if_neg (by omega), if_neg (by omega), show 3 + g - 3 = g by omega]
    exact ⟨xv_oe (by omega) e (by omega), xv_we ex (by omega), xv_1o (by omega) e (by omega) (by omega) (by omega), h1.1, xv_oe (by omega) ej (by omega), xv_we exj (by omega), by rw [xv_1o (by omega) ej (by omega) (by omega) (by omega)]; omega⟩
  · rw [tr_len_gr (by omega) (by omega)] at k2
    by_cases c1 : q = p
    · subst c1
      exact ⟨5, _, 0, by omega, e, by omega, ex, by omega, (fun h => by omega), fun h => by omega⟩
    · by_cases c2 : q < p + 1 + tr_len a
      · exact h1.2 q (by omega) c2
      · have c3 : q = p + 1 + tr_len a := by omega
        subst c3
        exact ⟨5, _, 0, by omega, ej, by omega, exj, by omega, (fun h => by omega), fun h => by omega⟩
end LXX
/-- the whole program -/
theorem lx_xp {t : Std.Format} {op x y pp : Nat → Int32} (hm : tr_len t ≤ 72) (h : lx_R t 0 op x y pp) (h6 : op (tr_len t) = 6) : xp_R t op x y pp := by
  refine ⟨hm, cx_cong t 0 (fun q h1 h2 => ?_) h.1, h6, fun q hq => h.2 q (by omega) (by omega)⟩
  have e : xv_o (tr_len t) op q = xv_o 200 op q := by
    unfold xv_o; rw [if_pos (by omega), if_pos (by omega)]
  refine ⟨e, rfl, ?_, rfl⟩
  unfold xv_1
  rw [e]
end NOD
end
section
section XEM
/-! emitAll -/
theorem mn_ng : vp_nar .short (-1 : Int32).toInt16.toInt32 = -1 ∧ vp_nar .short (-2 : Int32).toInt16.toInt32 = -2 ∧ vp_nar .short (-3 : Int32).toInt16.toInt32 = -3 ∧ vp_nar .short (-4 : Int32).toInt16.toInt32 = -4 ∧ vp_nar .short (-6 : Int32).toInt16.toInt32 = -6 := by decide +kernel
variable {f_count f_place f_there f_length f_nodes f_level f_groups f_size f_tasks f_threads f_added f_bank f_matchFrom f_matchNotes f_found f_states f_flushed : Int32} {a_tok a_val a_text a_nKind a_nC a_nA a_nB a_nSize a_lAlt a_lSeq a_lAtom a_lGroup a_op a_x a_y a_prefersPast a_tNode a_tArg a_pc a_newPc a_from a_noted a_notes a_seen a_stack a_stackNotes a_best a_kPc a_kCount a_kFlags a_next a_kMatch a_kMatchNotes a_kFrom a_kNotes : Nat → Int32}
section XEB
variable {post : Int32 → SX → Prop}
theorem xm_emit {p o u v : Nat} (hp : p < 110) (ho : o < 128) (hu : u < 128) (hv : v < 128) (h : post (nI p) (f_count, f_place, f_there, f_length, f_nodes, f_level, f_groups, nI (p + 1), f_tasks, f_threads, f_added, f_bank, f_matchFrom, f_matchNotes, f_found, f_states, f_flushed, a_tok, a_val, a_text, a_nKind, a_nC, a_nA, a_nB, a_nSize, a_lAlt, a_lSeq, a_lAtom, a_lGroup, upd a_op p (nI o), upd a_x p (nI u), upd a_y p (nI v), a_prefersPast, a_tNode, a_tArg, a_pc, a_newPc, a_from, a_noted, a_notes, a_seen, a_stack, a_stackNotes, a_best, a_kPc, a_kCount, a_kFlags, a_next, a_kMatch, a_kMatchNotes, a_kFrom, a_kNotes)) : wpX_emit post (f_count, f_place, f_there, f_length, f_nodes, f_level, f_groups, nI p, f_tasks, f_threads, f_added, f_bank, f_matchFrom, f_matchNotes, f_found, f_states, f_flushed, a_tok, a_val, a_text, a_nKind, a_nC, a_nA, a_nB, a_nSize, a_lAlt, a_lSeq, a_lAtom, a_lGroup, a_op, a_x, a_y, a_prefersPast, a_tNode, a_tArg, a_pc, a_newPc, a_from, a_noted, a_notes, a_seen, a_stack, a_stackNotes, a_best, a_kPc, a_kCount, a_kFlags, a_next, a_kMatch, a_kMatchNotes, a_kFrom, a_kNotes) (nI o) (nI u) (nI v) := by
  unfold wpX_emit
  dsimp only
  rw [nI_clamp (by omega), mn_b1 ho, mn_b1 hu, mn_b1 hv]
  exact ⟨vp_in_nI hp (by omega), nm_e ⟨vp_in_nI hp (by omega), nm_e ⟨vp_in_nI hp (by omega), nm_e (nm_r (nI_1 p) h)⟩⟩⟩
theorem xm_split {p z : Nat} (hp : p < 110) (hz : z < 2) (h : post (nI p) (f_count, f_place, f_there, f_length, f_nodes, f_level, f_groups, nI (p + 1), f_tasks, f_threads, f_added, f_bank, f_matchFrom, f_matchNotes, f_found, f_states, f_flushed, a_tok, a_val, a_text, a_nKind, a_nC, a_nA, a_nB, a_nSize, a_lAlt, a_lSeq, a_lAtom, a_lGroup, upd a_op p (nI 3), upd a_x p (nI 0), upd a_y p (nI 0), upd a_prefersPast p (nI z), a_tNode, a_tArg, a_pc, a_newPc, a_from, a_noted, a_notes, a_seen, a_stack, a_stackNotes, a_best, a_kPc, a_kCount, a_kFlags, a_next, a_kMatch, a_kMatchNotes, a_kFrom, a_kNotes)) : wpX_split post (f_count, f_place, f_there, f_length, f_nodes, f_level, f_groups, nI p, f_tasks, f_threads, f_added, f_bank, f_matchFrom, f_matchNotes, f_found, f_states, f_flushed, a_tok, a_val, a_text, a_nKind, a_nC, a_nA, a_nB, a_nSize, a_lAlt, a_lSeq, a_lAtom, a_lGroup, a_op, a_x, a_y, a_prefersPast, a_tNode, a_tArg, a_pc, a_newPc, a_from, a_noted, a_notes, a_seen, a_stack, a_stackNotes, a_best, a_kPc, a_kCount, a_kFlags, a_next, a_kMatch, a_kMatchNotes, a_kFrom, a_kNotes) (nI z) := by
  unfold wpX_split
  dsimp only
  refine xm_emit (o := 3) (u := 0) (v := 0) hp (by omega) (by omega) (by omega) ?_
  dsimp only
  rw [nI_clamp (by omega), mn_t.1, mn_t.2]
  by_cases c : z = 1
  · subst c
    exact br_t rfl ⟨vp_in_nI hp (by omega), nm_e h⟩
  · have c : z = 0 := by omega
    subst c
    exact br_f (by decide) ⟨vp_in_nI hp (by omega), nm_e h⟩
end XEB
variable {post : SX → Prop}
theorem xm_task {T : Nat} {v w v' w' : Int32} (hT : T < 200) (hv : vp_nar .short v.toInt16.toInt32 = v') (hw : vp_nar .short w.toInt16.toInt32 = w') (h : post (f_count, f_place, f_there, f_length, f_nodes, f_level, f_groups, f_size, nI (T + 1), f_threads, f_added, f_bank, f_matchFrom, f_matchNotes, f_found, f_states, f_flushed, a_tok, a_val, a_text, a_nKind, a_nC, a_nA, a_nB, a_nSize, a_lAlt, a_lSeq, a_lAtom, a_lGroup, a_op, a_x, a_y, a_prefersPast, upd a_tNode T v', upd a_tArg T w', a_pc, a_newPc, a_from, a_noted, a_notes, a_seen, a_stack, a_stackNotes, a_best, a_kPc, a_kCount, a_kFlags, a_next, a_kMatch, a_kMatchNotes, a_kFrom, a_kNotes)) : wpX_task post (f_count, f_place, f_there, f_length, f_nodes, f_level, f_groups, f_size, nI T, f_threads, f_added, f_bank, f_matchFrom, f_matchNotes, f_found, f_states, f_flushed, a_tok, a_val, a_text, a_nKind, a_nC, a_nA, a_nB, a_nSize, a_lAlt, a_lSeq, a_lAtom, a_lGroup, a_op, a_x, a_y, a_prefersPast, a_tNode, a_tArg, a_pc, a_newPc, a_from, a_noted, a_notes, a_seen, a_stack, a_stackNotes, a_best, a_kPc, a_kCount, a_kFlags, a_next, a_kMatch, a_kMatchNotes, a_kFrom, a_kNotes) v w := by
  unfold wpX_task
  dsimp only
  rw [nI_clamp (by omega), hv, hw]
  exact ⟨vp_in_nI hT (by omega), nm_e (nm_r (nI_1 T) ⟨vp_in_nI hT (by omega), nm_e h⟩)⟩
theorem xm_pop {f T n p : Nat} {op x y pp tN tA : Nat → Int32} (hT : T < 200) (hn : n < 200) (e : tN T = nI n) (h : wpX_part (fun u => match u with | (f_count, f_place, f_there, f_length, f_nodes, f_level, f_groups, f_size, f_tasks, f_threads, f_added, f_bank, f_matchFrom, f_matchNotes, f_found, f_states, f_flushed, a_tok, a_val, a_text, a_nKind, a_nC, a_nA, a_nB, a_nSize, a_lAlt, a_lSeq, a_lAtom, a_lGroup, a_op, a_x, a_y, a_prefersPast, a_tNode, a_tArg, a_pc, a_newPc, a_from, a_noted, a_notes, a_seen, a_stack, a_stackNotes, a_best, a_kPc, a_kCount, a_kFlags, a_next, a_kMatch, a_kMatchNotes, a_kFrom, a_kNotes) => wX_emitAll_16 post f f_count f_place f_there f_length f_nodes f_level f_groups f_size f_tasks f_threads f_added f_bank f_matchFrom f_matchNotes f_found f_states f_flushed a_tok a_val a_text a_nKind a_nC a_nA a_nB a_nSize a_lAlt a_lSeq a_lAtom a_lGroup a_op a_x a_y a_prefersPast a_tNode a_tArg a_pc a_newPc a_from a_noted a_notes a_seen a_stack a_stackNotes a_best a_kPc a_kCount a_kFlags a_next a_kMatch a_kMatchNotes a_kFrom a_kNotes) (f_count, f_place, f_there, f_length, f_nodes, f_level, f_groups, nI p, nI T, f_threads, f_added, f_bank, f_matchFrom, f_matchNotes, f_found, f_states, f_flushed, a_tok, a_val, a_text, a_nKind, a_nC, a_nA, a_nB, a_nSize, a_lAlt, a_lSeq, a_lAtom, a_lGroup, op, x, y, pp, tN, tA, a_pc, a_newPc, a_from, a_noted, a_notes, a_seen, a_stack, a_stackNotes, a_best, a_kPc, a_kCount, a_kFlags, a_next, a_kMatch, a_kMatchNotes, a_kFrom, a_kNotes) (nI n)) : wX_emitAll_16 post (f + 1) f_count f_place f_there f_length f_nodes f_level f_groups (nI p) (nI (T + 1)) f_threads f_added f_bank f_matchFrom f_matchNotes f_found f_states f_flushed a_tok a_val a_text a_nKind a_nC a_nA a_nB a_nSize a_lAlt a_lSeq a_lAtom a_lGroup op x y pp tN tA a_pc a_newPc a_from a_noted a_notes a_seen a_stack a_stackNotes a_best a_kPc a_kCount a_kFlags a_next a_kMatch a_kMatchNotes a_kFrom a_kNotes := by
  refine br_f (nI_nle (by omega) (by omega)) (nm_r (nI_pred T) ⟨vp_in_nI hT (by omega), ?_⟩)
  rw [nI_clamp (by omega), e]
  exact nm_e ⟨vp_in_nI hT (by omega), nm_e (br_t (nI_pos' (by omega)) h)⟩
theorem xm_popb {f T p : Nat} {w v : Int32} {op x y pp tN tA : Nat → Int32} (hT : T < 200) (e : tN T = w) (e2 : tA T = v) (hw : ¬ 0 ≤ w) (h : wpX_behind (fun u => match u with | (f_count, f_place, f_there, f_length, f_nodes, f_level, f_groups, f_size, f_tasks, f_threads, f_added, f_bank, f_matchFrom, f_matchNotes, f_found, f_states, f_flushed, a_tok, a_val, a_text, a_nKind, a_nC, a_nA, a_nB, a_nSize, a_lAlt, a_lSeq, a_lAtom, a_lGroup, a_op, a_x, a_y, a_prefersPast, a_tNode, a_tArg, a_pc, a_newPc, a_from, a_noted, a_notes, a_seen, a_stack, a_stackNotes, a_best, a_kPc, a_kCount, a_kFlags, a_next, a_kMatch, a_kMatchNotes, a_kFrom, a_kNotes) => wX_emitAll_16 post f f_count f_place f_there f_length f_nodes f_level f_groups f_size f_tasks f_threads f_added f_bank f_matchFrom f_matchNotes f_found f_states f_flushed a_tok a_val a_text a_nKind a_nC a_nA a_nB a_nSize a_lAlt a_lSeq a_lAtom a_lGroup a_op a_x a_y a_prefersPast a_tNode a_tArg a_pc a_newPc a_from a_noted a_notes a_seen a_stack a_stackNotes a_best a_kPc a_kCount a_kFlags a_next a_kMatch a_kMatchNotes a_kFrom a_kNotes) (f_count, f_place, f_there, f_length, f_nodes, f_level, f_groups, nI p, nI T, f_threads, f_added, f_bank, f_matchFrom, f_matchNotes, f_found, f_states, f_flushed, a_tok, a_val, a_text, a_nKind, a_nC, a_nA, a_nB, a_nSize, a_lAlt, a_lSeq, a_lAtom, a_lGroup, op, x, y, pp, tN, tA, a_pc, a_newPc, a_from, a_noted, a_notes, a_seen, a_stack, a_stackNotes, a_best, a_kPc, a_kCount, a_kFlags, a_next, a_kMatch, a_kMatchNotes, a_kFrom, a_kNotes) w v) : wX_emitAll_16 post (f + 1) f_count f_place f_there f_length f_nodes f_level f_groups (nI p) (nI (T + 1)) f_threads f_added f_bank f_matchFrom f_matchNotes f_found f_states f_flushed a_tok a_val a_text a_nKind a_nC a_nA a_nB a_nSize a_lAlt a_lSeq a_lAtom a_lGroup op x y pp tN tA a_pc a_newPc a_from a_noted a_notes a_seen a_stack a_stackNotes a_best a_kPc a_kCount a_kFlags a_next a_kMatch a_kMatchNotes a_kFrom a_kNotes := by
  refine br_f (nI_nle (by omega) (by omega)) (nm_r (nI_pred T) ⟨vp_in_nI hT (by omega), ?_⟩)
  rw [nI_clamp (by omega), e, e2]
  exact nm_e ⟨vp_in_nI hT (by omega), nm_e (br_f hw h)⟩
/-- what an emission leaves -/
def em_C (t : Std.Format) (p : Nat) (op x y pp op' x' y' pp' : Nat → Int32) : Prop := (∀ q, q < p → op' q = op q ∧ x' q = x q ∧ y' q = y q ∧ pp' q = pp q) ∧ lx_R t p op' x' y' pp'
def em_T (T : Nat) (tN tA tN' tA' : Nat → Int32) : Prop := ∀ i, i < T → tN' i = tN i ∧ tA' i = tA i
theorem xm_239 {s i : Nat} {x2 : Int32} (hx : x2 = nI i) (hi : i < 200) : ∀ m n T (tN tA : Nat → Int32), T + m ≤ 200 → m < n → (∀ tN' tA', em_T T tN tA tN' tA' → (∀ j, T ≤ j → j < T + m → tN' j = nI i) → post (f_count, f_place, f_there, f_length, f_nodes, f_level, f_groups, f_size, nI (T + m), f_threads, f_added, f_bank, f_matchFrom, f_matchNotes, f_found, f_states, f_flushed, a_tok, a_val, a_text, a_nKind, a_nC, a_nA, a_nB, a_nSize, a_lAlt, a_lSeq, a_lAtom, a_lGroup, a_op, a_x, a_y, a_prefersPast, tN', tA', a_pc, a_newPc, a_from, a_noted, a_notes, a_seen, a_stack, a_stackNotes, a_best, a_kPc, a_kCount, a_kFlags, a_next, a_kMatch, a_kMatchNotes, a_kFrom, a_kNotes)) → wX_part_239 post x2 n (nI m) f_count f_place f_there f_length f_nodes f_level f_groups f_size (nI T) f_threads f_added f_bank f_matchFrom f_matchNotes f_found f_states f_flushed a_tok a_val a_text a_nKind a_nC a_nA a_nB a_nSize a_lAlt a_lSeq a_lAtom a_lGroup a_op a_x a_y a_prefersPast tN tA a_pc a_newPc a_from a_noted a_notes a_seen a_stack a_stackNotes a_best a_kPc a_kCount a_kFlags a_next a_kMatch a_kMatchNotes a_kFrom a_kNotes := by
  subst hx
  intro m
  induction m with
  | zero =>
    intro n T tN tA hT hn H
    obtain ⟨n, rfl⟩ : ∃ m, n = m + 1 := ⟨n - 1, by omega⟩
    exact br_t (by decide) (H tN tA (fun i _ => ⟨rfl, rfl⟩) (fun j h1 h2 => by omega))
  | succ m ih =>
    intro n T tN tA hT hn H
    obtain ⟨n, rfl⟩ : ∃ m, n = m + 1 := ⟨n - 1, by omega⟩
    refine br_f (nI_nle (by omega) (by omega)) ?_
    refine xm_task (T := T) (v' := nI i) (w' := 0) (by omega) (mn_s1 (by omega)) (by decide) ?_
    dsimp only
    refine nm_r (pk_m1 m) (ih n (T + 1) _ _ (by omega) (by omega) ?_)
    intro tN' tA' h1 h2
    have e : T + 1 + m = T + (m + 1) := by omega
    rw [e]
    refine H tN' tA' (fun j hj => ?_) (fun j h3 h4 => ?_)
    · have := h1 j (by omega)
      rw [pk_un (by omega), pk_un (by omega)] at this
      exact this
    · by_cases c : j = T
      · rw [(h1 j (by omega)).1, c, pk_us]
      · exact h2 j (by omega) (by omega)
theorem em_cat {p : Nat} {a b : Std.Format} {op x y pp op1 x1 y1 pp1 op2 x2 y2 pp2 : Nat → Int32} (h1 : em_C a p op x y pp op1 x1 y1 pp1) (h2 : em_C b (p + tr_len a) op1 x1 y1 pp1 op2 x2 y2 pp2) : em_C (.append a b) p op x y pp op2 x2 y2 pp2 := by
  refine ⟨fun q hq => ?_, lx_app (lx_fr (fun q k1 k2 => h2.1 q k2) h1.2) h2.2⟩
  obtain ⟨a1, a2, a3, a4⟩ := h1.1 q hq
  obtain ⟨b1, b2, b3, b4⟩ := h2.1 q (by omega)
  exact ⟨b1.trans a1, b2.trans a2, b3.trans a3, b4.trans a4⟩
theorem em_Tt {T T' : Nat} {tN tA tN1 tA1 tN2 tA2 : Nat → Int32} (hT : T ≤ T') (h1 : em_T T tN tA tN1 tA1) (h2 : em_T T' tN1 tA1 tN2 tA2) : em_T T tN tA tN2 tA2 := fun i hi => ⟨(h2 i (by omega)).1.trans (h1 i hi).1, (h2 i (by omega)).2.trans (h1 i hi).2⟩
theorem em_Tu {T : Nat} {tN tA : Nat → Int32} {v w : Int32} : em_T T tN tA (upd tN T v) (upd tA T w) := fun i hi => ⟨pk_un (by omega), pk_un (by omega)⟩
end XEM
end
section
section XEN
variable {f_count f_place f_there f_length f_nodes f_level f_groups f_size f_tasks f_threads f_added f_bank f_matchFrom f_matchNotes f_found f_states f_flushed : Int32} {a_tok a_val a_text a_nKind a_nC a_nA a_nB a_nSize a_lAlt a_lSeq a_lAtom a_lGroup a_op a_x a_y a_prefersPast a_tNode a_tArg a_pc a_newPc a_from a_noted a_notes a_seen a_stack a_stackNotes a_best a_kPc a_kCount a_kFlags a_next a_kMatch a_kMatchNotes a_kFrom a_kNotes : Nat → Int32}
variable {post : SX → Prop} {n : Nat}
theorem em_tst {w d : Nat} (hn : n < 200) (hd : 1 ≤ d) (hk : a_nKind n = 0) (hw : w < 16) (ha : a_nA n = nI w) : ∃ k, ∀ f p T (op x y pp tN tA : Nat → Int32), p + tr_len (.nest (w : Int) .nil) ≤ 99 → T + d ≤ 200 → tN T = nI n → (∀ op' x' y' pp' tN' tA', em_C (.nest (w : Int) .nil) p op x y pp op' x' y' pp' → em_T T tN tA tN' tA' → wX_emitAll_16 post f f_count f_place f_there f_length f_nodes f_level f_groups (nI (p + tr_len (.nest (w : Int) .nil))) (nI T) f_threads f_added f_bank f_matchFrom f_matchNotes f_found f_states f_flushed a_tok a_val a_text a_nKind a_nC a_nA a_nB a_nSize a_lAlt a_lSeq a_lAtom a_lGroup op' x' y' pp' tN' tA' a_pc a_newPc a_from a_noted a_notes a_seen a_stack a_stackNotes a_best a_kPc a_kCount a_kFlags a_next a_kMatch a_kMatchNotes a_kFrom a_kNotes) → wX_emitAll_16 post (f + k) f_count f_place f_there f_length f_nodes f_level f_groups (nI p) (nI (T + 1)) f_threads f_added f_bank f_matchFrom f_matchNotes f_found f_states f_flushed a_tok a_val a_text a_nKind a_nC a_nA a_nB a_nSize a_lAlt a_lSeq a_lAtom a_lGroup op x y pp tN tA a_pc a_newPc a_from a_noted a_notes a_seen a_stack a_stackNotes a_best a_kPc a_kCount a_kFlags a_next a_kMatch a_kMatchNotes a_kFrom a_kNotes := by
  refine ⟨1, ?_⟩
  intro f p T op x y pp tN tA hp hT e H
  have hp : p + 1 ≤ 99 := hp
  refine xm_pop (by omega) hn e ?_
  unfold wpX_part
  dsimp only
  rw [nI_clamp (by omega)]
  refine ⟨vp_in_nI hn (by omega), nm_r ha ⟨vp_in_nI hn (by omega), nm_e ⟨vp_in_nI hn (by omega), nm_r hk (br_f (by decide) (br_f (by decide) (br_t rfl ?_)))⟩⟩⟩
  refine xm_emit (o := 0) (v := 0) (by omega) (by omega) (by omega) (by omega) ?_
  dsimp only
  refine H _ _ _ _ _ _ ⟨fun q hq => ⟨pk_un (by omega), pk_un (by omega), pk_un (by omega), rfl⟩, lx_tst (by omega) hw pk_us pk_us⟩ (fun i _ => ⟨rfl, rfl⟩)
theorem em_beg {d : Nat} (hn : n < 200) (hd : 1 ≤ d) (hk : a_nKind n = 1) : ∃ k, ∀ f p T (op x y pp tN tA : Nat → Int32), p + tr_len (.line) ≤ 99 → T + d ≤ 200 → tN T = nI n → (∀ op' x' y' pp' tN' tA', em_C (.line) p op x y pp op' x' y' pp' → em_T T tN tA tN' tA' → wX_emitAll_16 post f f_count f_place f_there f_length f_nodes f_level f_groups (nI (p + tr_len (.line))) (nI T) f_threads f_added f_bank f_matchFrom f_matchNotes f_found f_states f_flushed a_tok a_val a_text a_nKind a_nC a_nA a_nB a_nSize a_lAlt a_lSeq a_lAtom a_lGroup op' x' y' pp' tN' tA' a_pc a_newPc a_from a_noted a_notes a_seen a_stack a_stackNotes a_best a_kPc a_kCount a_kFlags a_next a_kMatch a_kMatchNotes a_kFrom a_kNotes) → wX_emitAll_16 post (f + k) f_count f_place f_there f_length f_nodes f_level f_groups (nI p) (nI (T + 1)) f_threads f_added f_bank f_matchFrom f_matchNotes f_found f_states f_flushed a_tok a_val a_text a_nKind a_nC a_nA a_nB a_nSize a_lAlt a_lSeq a_lAtom a_lGroup op x y pp tN tA a_pc a_newPc a_from a_noted a_notes a_seen a_stack a_stackNotes a_best a_kPc a_kCount a_kFlags a_next a_kMatch a_kMatchNotes a_kFrom a_kNotes := by
  refine ⟨1, ?_⟩
  intro f p T op x y pp tN tA hp hT e H
  have hp : p + 1 ≤ 99 := hp
  refine xm_pop (by omega) hn e ?_
  unfold wpX_part
  dsimp only
  rw [nI_clamp (by omega)]
  refine ⟨vp_in_nI hn (by omega), nm_e ⟨vp_in_nI hn (by omega), nm_e ⟨vp_in_nI hn (by omega), nm_r hk (br_f (by decide) (br_f (by decide) (br_f (by decide) (br_t rfl ?_))))⟩⟩⟩
  refine xm_emit (o := 1) (u := 0) (v := 0) (by omega) (by omega) (by omega) (by omega) ?_
  dsimp only
  refine H _ _ _ _ _ _ ⟨fun q hq => ⟨pk_un (by omega), pk_un (by omega), pk_un (by omega), rfl⟩, lx_beg (by omega) pk_us pk_us⟩ (fun i _ => ⟨rfl, rfl⟩)
theorem em_end {d : Nat} (hn : n < 200) (hd : 1 ≤ d) (hk : a_nKind n = 2) : ∃ k, ∀ f p T (op x y pp tN tA : Nat → Int32), p + tr_len (.align true) ≤ 99 → T + d ≤ 200 → tN T = nI n → (∀ op' x' y' pp' tN' tA', em_C (.align true) p op x y pp op' x' y' pp' → em_T T tN tA tN' tA' → wX_emitAll_16 post f f_count f_place f_there f_length f_nodes f_level f_groups (nI (p + tr_len (.align true))) (nI T) f_threads f_added f_bank f_matchFrom f_matchNotes f_found f_states f_flushed a_tok a_val a_text a_nKind a_nC a_nA a_nB a_nSize a_lAlt a_lSeq a_lAtom a_lGroup op' x' y' pp' tN' tA' a_pc a_newPc a_from a_noted a_notes a_seen a_stack a_stackNotes a_best a_kPc a_kCount a_kFlags a_next a_kMatch a_kMatchNotes a_kFrom a_kNotes) → wX_emitAll_16 post (f + k) f_count f_place f_there f_length f_nodes f_level f_groups (nI p) (nI (T + 1)) f_threads f_added f_bank f_matchFrom f_matchNotes f_found f_states f_flushed a_tok a_val a_text a_nKind a_nC a_nA a_nB a_nSize a_lAlt a_lSeq a_lAtom a_lGroup op x y pp tN tA a_pc a_newPc a_from a_noted a_notes a_seen a_stack a_stackNotes a_best a_kPc a_kCount a_kFlags a_next a_kMatch a_kMatchNotes a_kFrom a_kNotes := by
  refine ⟨1, ?_⟩
  intro f p T op x y pp tN tA hp hT e H
  have hp : p + 1 ≤ 99 := hp
  refine xm_pop (by omega) hn e ?_
  unfold wpX_part
  dsimp only
  rw [nI_clamp (by omega)]
  refine ⟨vp_in_nI hn (by omega), nm_e ⟨vp_in_nI hn (by omega), nm_e ⟨vp_in_nI hn (by omega), nm_r hk (br_f (by decide) (br_f (by decide) (br_f (by decide) (br_f (by decide) (br_t rfl ?_)))))⟩⟩⟩
  refine xm_emit (o := 2) (u := 0) (v := 0) (by omega) (by omega) (by omega) (by omega) ?_
  dsimp only
  refine H _ _ _ _ _ _ ⟨fun q hq => ⟨pk_un (by omega), pk_un (by omega), pk_un (by omega), rfl⟩, lx_end (by omega) pk_us pk_us⟩ (fun i _ => ⟨rfl, rfl⟩)
theorem em_emp {d : Nat} (hn : n < 200) (hd : 1 ≤ d) (hk : a_nKind n = 3) : ∃ k, ∀ f p T (op x y pp tN tA : Nat → Int32), p + tr_len (.nil) ≤ 99 → T + d ≤ 200 → tN T = nI n → (∀ op' x' y' pp' tN' tA', em_C (.nil) p op x y pp op' x' y' pp' → em_T T tN tA tN' tA' → wX_emitAll_16 post f f_count f_place f_there f_length f_nodes f_level f_groups (nI (p + tr_len (.nil))) (nI T) f_threads f_added f_bank f_matchFrom f_matchNotes f_found f_states f_flushed a_tok a_val a_text a_nKind a_nC a_nA a_nB a_nSize a_lAlt a_lSeq a_lAtom a_lGroup op' x' y' pp' tN' tA' a_pc a_newPc a_from a_noted a_notes a_seen a_stack a_stackNotes a_best a_kPc a_kCount a_kFlags a_next a_kMatch a_kMatchNotes a_kFrom a_kNotes) → wX_emitAll_16 post (f + k) f_count f_place f_there f_length f_nodes f_level f_groups (nI p) (nI (T + 1)) f_threads f_added f_bank f_matchFrom f_matchNotes f_found f_states f_flushed a_tok a_val a_text a_nKind a_nC a_nA a_nB a_nSize a_lAlt a_lSeq a_lAtom a_lGroup op x y pp tN tA a_pc a_newPc a_from a_noted a_notes a_seen a_stack a_stackNotes a_best a_kPc a_kCount a_kFlags a_next a_kMatch a_kMatchNotes a_kFrom a_kNotes := by
  refine ⟨1, ?_⟩
  intro f p T op x y pp tN tA hp hT e H
  refine xm_pop (by omega) hn e ?_
  unfold wpX_part
  dsimp only
  rw [nI_clamp (by omega)]
  refine ⟨vp_in_nI hn (by omega), nm_e ⟨vp_in_nI hn (by omega), nm_e ⟨vp_in_nI hn (by omega), nm_r hk (br_f (by decide) (br_f (by decide) (br_f (by decide) (br_f (by decide) (br_f (by decide) (br_t rfl ?_))))))⟩⟩⟩
  exact H _ _ _ _ _ _ ⟨fun q hq => ⟨rfl, rfl, rfl, rfl⟩, lx_nil⟩ (fun i _ => ⟨rfl, rfl⟩)
theorem em_seq {i j d d1 d2 : Nat} {a b : Std.Format} (hn : n < 200) (hi : i < 200) (hj : j < 200) (hk : a_nKind n = 4 ∨ a_nKind n = 9) (ha : a_nA n = nI i) (hb : a_nB n = nI j) (h1 : 1 ≤ d2) (k1 : d1 + 1 ≤ d) (k2 : d2 ≤ d) (k3 : 1 ≤ d1) (ea : ∃ k, ∀ f p T (op x y pp tN tA : Nat → Int32), p + tr_len (a) ≤ 99 → T + d1 ≤ 200 → tN T = nI i → (∀ op' x' y' pp' tN' tA', em_C (a) p op x y pp op' x' y' pp' → em_T T tN tA tN' tA' → wX_emitAll_16 post f f_count f_place f_there f_length f_nodes f_level f_groups (nI (p + tr_len (a))) (nI T) f_threads f_added f_bank f_matchFrom f_matchNotes f_found f_states f_flushed a_tok a_val a_text a_nKind a_nC a_nA a_nB a_nSize a_lAlt a_lSeq a_lAtom a_lGroup op' x' y' pp' tN' tA' a_pc a_newPc a_from a_noted a_notes a_seen a_stack a_stackNotes a_best a_kPc a_kCount a_kFlags a_next a_kMatch a_kMatchNotes a_kFrom a_kNotes) → wX_emitAll_16 post (f + k) f_count f_place f_there f_length f_nodes f_level f_groups (nI p) (nI (T + 1)) f_threads f_added f_bank f_matchFrom f_matchNotes f_found f_states f_flushed a_tok a_val a_text a_nKind a_nC a_nA a_nB a_nSize a_lAlt a_lSeq a_lAtom a_lGroup op x y pp tN tA a_pc a_newPc a_from a_noted a_notes a_seen a_stack a_stackNotes a_best a_kPc a_kCount a_kFlags a_next a_kMatch a_kMatchNotes a_kFrom a_kNotes) (eb : ∃ k, ∀ f p T (op x y pp tN tA : Nat → Int32), p + tr_len (b) ≤ 99 → T + d2 ≤ 200 → tN T = nI j → (∀ op' x' y' pp' tN' tA', em_C (b) p op x y pp op' x' y' pp' → em_T T tN tA tN' tA' → wX_emitAll_16 post f f_count f_place f_there f_length f_nodes f_level f_groups (nI (p + tr_len (b))) (nI T) f_threads f_added f_bank f_matchFrom f_matchNotes f_found f_states f_flushed a_tok a_val a_text a_nKind a_nC a_nA a_nB a_nSize a_lAlt a_lSeq a_lAtom a_lGroup op' x' y' pp' tN' tA' a_pc a_newPc a_from a_noted a_notes a_seen a_stack a_stackNotes a_best a_kPc a_kCount a_kFlags a_next a_kMatch a_kMatchNotes a_kFrom a_kNotes) → wX_emitAll_16 post (f + k) f_count f_place f_there f_length f_nodes f_level f_groups (nI p) (nI (T + 1)) f_threads f_added f_bank f_matchFrom f_matchNotes f_found f_states f_flushed a_tok a_val a_text a_nKind a_nC a_nA a_nB a_nSize a_lAlt a_lSeq a_lAtom a_lGroup op x y pp tN tA a_pc a_newPc a_from a_noted a_notes a_seen a_stack a_stackNotes a_best a_kPc a_kCount a_kFlags a_next a_kMatch a_kMatchNotes a_kFrom a_kNotes) : ∃ k, ∀ f p T (op x y pp tN tA : Nat → Int32), p + tr_len (.append a b) ≤ 99 → T + d ≤ 200 → tN T = nI n → (∀ op' x' y' pp' tN' tA', em_C (.append a b) p op x y pp op' x' y' pp' → em_T T tN tA tN' tA' → wX_emitAll_16 post f f_count f_place f_there f_length f_nodes f_level f_groups (nI (p + tr_len (.append a b))) (nI T) f_threads f_added f_bank f_matchFrom f_matchNotes f_found f_states f_flushed a_tok a_val a_text a_nKind a_nC a_nA a_nB a_nSize a_lAlt a_lSeq a_lAtom a_lGroup op' x' y' pp' tN' tA' a_pc a_newPc a_from a_noted a_notes a_seen a_stack a_stackNotes a_best a_kPc a_kCount a_kFlags a_next a_kMatch a_kMatchNotes a_kFrom a_kNotes) → wX_emitAll_16 post (f + k) f_count f_place f_there f_length f_nodes f_level f_groups (nI p) (nI (T + 1)) f_threads f_added f_bank f_matchFrom f_matchNotes f_found f_states f_flushed a_tok a_val a_text a_nKind a_nC a_nA a_nB a_nSize a_lAlt a_lSeq a_lAtom a_lGroup op x y pp tN tA a_pc a_newPc a_from a_noted a_notes a_seen a_stack a_stackNotes a_best a_kPc a_kCount a_kFlags a_next a_kMatch a_kMatchNotes a_kFrom a_kNotes := by
  obtain ⟨ka, ea⟩ := ea
  obtain ⟨kb, eb⟩ := eb
  refine ⟨kb + ka + 1, ?_⟩
  intro f p T op x y pp tN tA hp hT e H
  rw [tr_len_app] at hp
  rw [tr_len_app] at H
  refine xm_pop (f := f + (kb + ka)) (by omega) hn e ?_
  unfold wpX_part
  dsimp only
  rw [nI_clamp (by omega)]
  -- both kinds push the second, then the first
  have body : wpX_task (fun u => match u with | (f_count, f_place, f_there, f_length, f_nodes, f_level, f_groups, f_size, f_tasks, f_threads, f_added, f_bank, f_matchFrom, f_matchNotes, f_found, f_states, f_flushed, a_tok, a_val, a_text, a_nKind, a_nC, a_nA, a_nB, a_nSize, a_lAlt, a_lSeq, a_lAtom, a_lGroup, a_op, a_x, a_y, a_prefersPast, a_tNode, a_tArg, a_pc, a_newPc, a_from, a_noted, a_notes, a_seen, a_stack, a_stackNotes, a_best, a_kPc, a_kCount, a_kFlags, a_next, a_kMatch, a_kMatchNotes, a_kFrom, a_kNotes) => wpX_task (fun u => match u with | (f_count, f_place, f_there, f_length, f_nodes, f_level, f_groups, f_size, f_tasks, f_threads, f_added, f_bank, f_matchFrom, f_matchNotes, f_found, f_states, f_flushed, a_tok, a_val, a_text, a_nKind, a_nC, a_nA, a_nB, a_nSize, a_lAlt, a_lSeq, a_lAtom, a_lGroup, a_op, a_x, a_y, a_prefersPast, a_tNode, a_tArg, a_pc, a_newPc, a_from, a_noted, a_notes, a_seen, a_stack, a_stackNotes, a_best, a_kPc, a_kCount, a_kFlags, a_next, a_kMatch, a_kMatchNotes, a_kFrom, a_kNotes) => wX_emitAll_16 post (f + (kb + ka)) f_count f_place f_there f_length f_nodes f_level f_groups f_size f_tasks f_threads f_added f_bank f_matchFrom f_matchNotes f_found f_states f_flushed a_tok a_val a_text a_nKind a_nC a_nA a_nB a_nSize a_lAlt a_lSeq a_lAtom a_lGroup a_op a_x a_y a_prefersPast a_tNode a_tArg a_pc a_newPc a_from a_noted a_notes a_seen a_stack a_stackNotes a_best a_kPc a_kCount a_kFlags a_next a_kMatch a_kMatchNotes a_kFrom a_kNotes) (f_count, f_place, f_there, f_length, f_nodes, f_level, f_groups, f_size, f_tasks, f_threads, f_added, f_bank, f_matchFrom, f_matchNotes, f_found, f_states, f_flushed, a_tok, a_val, a_text, a_nKind, a_nC, a_nA, a_nB, a_nSize, a_lAlt, a_lSeq, a_lAtom, a_lGroup, a_op, a_x, a_y, a_prefersPast, a_tNode, a_tArg, a_pc, a_newPc, a_from, a_noted, a_notes, a_seen, a_stack, a_stackNotes, a_best, a_kPc, a_kCount, a_kFlags, a_next, a_kMatch, a_kMatchNotes, a_kFrom, a_kNotes) (nI i) 0) (f_count, f_place, f_there, f_length, f_nodes, f_level, f_groups, nI p, nI T, f_threads, f_added, f_bank, f_matchFrom, f_matchNotes, f_found, f_states, f_flushed, a_tok, a_val, a_text, a_nKind, a_nC, a_nA, a_nB, a_nSize, a_lAlt, a_lSeq, a_lAtom, a_lGroup, op, x, y, pp, tN, tA, a_pc, a_newPc, a_from, a_noted, a_notes, a_seen, a_stack, a_stackNotes, a_best, a_kPc, a_kCount, a_kFlags, a_next, a_kMatch, a_kMatchNotes, a_kFrom, a_kNotes) (nI j) 0 := by
    refine xm_task (v' := nI j) (w' := 0) (by omega) (mn_s1 (by omega)) (by decide) ?_
    dsimp only
    refine xm_task (v' := nI i) (w' := 0) (by omega) (mn_s1 (by omega)) (by decide) ?_
    dsimp only
    have e2 : f + (kb + ka) = f + kb + ka := by omega
    rw [e2]
    refine ea (f + kb) p (T + 1) op x y pp _ _ (by omega) (by omega) pk_us ?_
    intro op1 x1 y1 pp1 tN1 tA1 c1 t1
    refine eb f (p + tr_len a) T op1 x1 y1 pp1 tN1 tA1 (by omega) (by omega) ?_ ?_
    · rw [(t1 T (by omega)).1, pk_un (by omega), pk_us]
    · intro op2 x2 y2 pp2 tN2 tA2 c2 t2
      rw [show p + tr_len a + tr_len b = p + (tr_len a + tr_len b) by omega]
      refine H op2 x2 y2 pp2 tN2 tA2 (em_cat c1 c2) ?_
      intro q hq
      obtain ⟨u1, u2⟩ := t1 q (by omega)
      obtain ⟨v1, v2⟩ := t2 q hq
      rw [pk_un (by omega), pk_un (by omega)] at u1 u2
      exact ⟨v1.trans u1, v2.trans u2⟩
  rcases hk with hk | hk
  · exact ⟨vp_in_nI hn (by omega), nm_r ha ⟨vp_in_nI hn (by omega), nm_r hb ⟨vp_in_nI hn (by omega), nm_r hk (br_f (by decide) (br_f (by decide) (br_f (by decide) (br_f (by decide) (br_f (by decide) (br_f (by decide) (br_t rfl body)))))))⟩⟩⟩
  · exact ⟨vp_in_nI hn (by omega), nm_r ha ⟨vp_in_nI hn (by omega), nm_r hb ⟨vp_in_nI hn (by omega), nm_r hk (br_f (by decide) (br_f (by decide) (br_f (by decide) (br_f (by decide) (br_f (by decide) (br_f (by decide) (br_f (by decide) (br_f (by decide) (br_f (by decide) (br_f (by decide) (br_f (by decide) (br_t rfl body))))))))))))⟩⟩⟩
end XEN
end
section
section XEO
variable {f_count f_place f_there f_length f_nodes f_level f_groups f_size f_tasks f_threads f_added f_bank f_matchFrom f_matchNotes f_found f_states f_flushed : Int32} {a_tok a_val a_text a_nKind a_nC a_nA a_nB a_nSize a_lAlt a_lSeq a_lAtom a_lGroup a_op a_x a_y a_prefersPast a_tNode a_tArg a_pc a_newPc a_from a_noted a_notes a_seen a_stack a_stackNotes a_best a_kPc a_kCount a_kFlags a_next a_kMatch a_kMatchNotes a_kFrom a_kNotes : Nat → Int32}
variable {post : SX → Prop} {n : Nat}
theorem em_alt {i j d d1 d2 : Nat} {a b : Std.Format} (hn : n < 200) (hi : i < 200) (hj : j < 200) (hk : a_nKind n = 5) (ha : a_nA n = nI i) (hb : a_nB n = nI j) (k1 : d1 + 2 ≤ d) (k2 : d2 + 1 ≤ d) (k3 : 1 ≤ d1) (k4 : 1 ≤ d2) (ea : ∃ k, ∀ f p T (op x y pp tN tA : Nat → Int32), p + tr_len (a) ≤ 99 → T + d1 ≤ 200 → tN T = nI i → (∀ op' x' y' pp' tN' tA', em_C (a) p op x y pp op' x' y' pp' → em_T T tN tA tN' tA' → wX_emitAll_16 post f f_count f_place f_there f_length f_nodes f_level f_groups (nI (p + tr_len (a))) (nI T) f_threads f_added f_bank f_matchFrom f_matchNotes f_found f_states f_flushed a_tok a_val a_text a_nKind a_nC a_nA a_nB a_nSize a_lAlt a_lSeq a_lAtom a_lGroup op' x' y' pp' tN' tA' a_pc a_newPc a_from a_noted a_notes a_seen a_stack a_stackNotes a_best a_kPc a_kCount a_kFlags a_next a_kMatch a_kMatchNotes a_kFrom a_kNotes) → wX_emitAll_16 post (f + k) f_count f_place f_there f_length f_nodes f_level f_groups (nI p) (nI (T + 1)) f_threads f_added f_bank f_matchFrom f_matchNotes f_found f_states f_flushed a_tok a_val a_text a_nKind a_nC a_nA a_nB a_nSize a_lAlt a_lSeq a_lAtom a_lGroup op x y pp tN tA a_pc a_newPc a_from a_noted a_notes a_seen a_stack a_stackNotes a_best a_kPc a_kCount a_kFlags a_next a_kMatch a_kMatchNotes a_kFrom a_kNotes) (eb : ∃ k, ∀ f p T (op x y pp tN tA : Nat → Int32), p + tr_len (b) ≤ 99 → T + d2 ≤ 200 → tN T = nI j → (∀ op' x' y' pp' tN' tA', em_C (b) p op x y pp op' x' y' pp' → em_T T tN tA tN' tA' → wX_emitAll_16 post f f_count f_place f_there f_length f_nodes f_level f_groups (nI (p + tr_len (b))) (nI T) f_threads f_added f_bank f_matchFrom f_matchNotes f_found f_states f_flushed a_tok a_val a_text a_nKind a_nC a_nA a_nB a_nSize a_lAlt a_lSeq a_lAtom a_lGroup op' x' y' pp' tN' tA' a_pc a_newPc a_from a_noted a_notes a_seen a_stack a_stackNotes a_best a_kPc a_kCount a_kFlags a_next a_kMatch a_kMatchNotes a_kFrom a_kNotes) → wX_emitAll_16 post (f + k) f_count f_place f_there f_length f_nodes f_level f_groups (nI p) (nI (T + 1)) f_threads f_added f_bank f_matchFrom f_matchNotes f_found f_states f_flushed a_tok a_val a_text a_nKind a_nC a_nA a_nB a_nSize a_lAlt a_lSeq a_lAtom a_lGroup op x y pp tN tA a_pc a_newPc a_from a_noted a_notes a_seen a_stack a_stackNotes a_best a_kPc a_kCount a_kFlags a_next a_kMatch a_kMatchNotes a_kFrom a_kNotes) : ∃ k, ∀ f p T (op x y pp tN tA : Nat → Int32), p + tr_len (.group (.append a b) .allOrNone) ≤ 99 → T + d ≤ 200 → tN T = nI n → (∀ op' x' y' pp' tN' tA', em_C (.group (.append a b) .allOrNone) p op x y pp op' x' y' pp' → em_T T tN tA tN' tA' → wX_emitAll_16 post f f_count f_place f_there f_length f_nodes f_level f_groups (nI (p + tr_len (.group (.append a b) .allOrNone))) (nI T) f_threads f_added f_bank f_matchFrom f_matchNotes f_found f_states f_flushed a_tok a_val a_text a_nKind a_nC a_nA a_nB a_nSize a_lAlt a_lSeq a_lAtom a_lGroup op' x' y' pp' tN' tA' a_pc a_newPc a_from a_noted a_notes a_seen a_stack a_stackNotes a_best a_kPc a_kCount a_kFlags a_next a_kMatch a_kMatchNotes a_kFrom a_kNotes) → wX_emitAll_16 post (f + k) f_count f_place f_there f_length f_nodes f_level f_groups (nI p) (nI (T + 1)) f_threads f_added f_bank f_matchFrom f_matchNotes f_found f_states f_flushed a_tok a_val a_text a_nKind a_nC a_nA a_nB a_nSize a_lAlt a_lSeq a_lAtom a_lGroup op x y pp tN tA a_pc a_newPc a_from a_noted a_notes a_seen a_stack a_stackNotes a_best a_kPc a_kCount a_kFlags a_next a_kMatch a_kMatchNotes a_kFrom a_kNotes := by
  obtain ⟨ka, ea⟩ := ea
  obtain ⟨kb, eb⟩ := eb
  refine ⟨1 + kb + 1 + ka + 1, ?_⟩
  intro f p T op x y pp tN tA hp hT e H
  rw [tr_len_alt] at hp
  rw [tr_len_alt] at H
  refine xm_pop (f := f + (1 + kb + 1 + ka)) (by omega) hn e ?_
  unfold wpX_part
  dsimp only
  rw [nI_clamp (by omega)]
  refine ⟨vp_in_nI hn (by omega), nm_r ha ⟨vp_in_nI hn (by omega), nm_r hb ⟨vp_in_nI hn (by omega), nm_r hk (br_f (by decide) (br_f (by decide) (br_f (by decide) (br_f (by decide) (br_f (by decide) (br_f (by decide) (br_f (by decide) (br_t rfl ?_))))))))⟩⟩⟩
  refine xm_split (p := p) (z := 0) (by omega) (by omega) ?_
  dsimp only
  refine xm_task (v' := nI j) (w' := 0) (by omega) (mn_s1 (by omega)) (by decide) ?_
  dsimp only
  refine xm_task (v' := -3) (w' := nI p) (by omega) mn_ng.2.2.1 (mn_s1 (by omega)) ?_
  dsimp only
  refine xm_task (v' := nI i) (w' := 0) (by omega) (mn_s1 (by omega)) (by decide) ?_
  dsimp only
  rw [show f + (1 + kb + 1 + ka) = f + 1 + kb + 1 + ka by omega]
  refine ea (f + 1 + kb + 1) (p + 1) (T + 2) _ _ _ _ _ _ (by omega) (by omega) pk_us ?_
  intro op1 x1 y1 pp1 tN1 tA1 c1 t1
  obtain ⟨b1, b2, b3, b4⟩ := c1.1 p (by omega)
  rw [pk_us] at b1 b2 b3 b4
  have hN1 : tN1 (T + 1) = -3 := by rw [(t1 (T + 1) (by omega)).1, pk_un (by omega), pk_us]
  have hA1 : tA1 (T + 1) = nI p := by rw [(t1 (T + 1) (by omega)).2, pk_un (by omega), pk_us]
  have hN0 : tN1 T = nI j := by rw [(t1 T (by omega)).1, pk_un (by omega), pk_un (by omega), pk_us]
  refine xm_popb (T := T + 1) (by omega) hN1 hA1 (by decide) ?_
  unfold wpX_behind
  dsimp only
  refine br_f (by decide) (br_f (by decide) (br_f (by decide) (br_t rfl ?_)))
  refine xm_emit (p := p + 1 + tr_len a) (o := 4) (u := 0) (v := 0) (by omega) (by omega) (by omega) (by omega) ?_
  dsimp only
  rw [nI_clamp (n := p) (by omega), mn_b1 (by omega)]
  refine ⟨vp_in_nI (by omega) (by omega), nm_e (nm_r (nI_pred T) ⟨vp_in_nI (by omega) (by omega), ?_⟩)⟩
  rw [nI_clamp (n := T) (by omega), hN0]
  refine nm_e ?_
  refine xm_task (v' := -6) (w' := nI (p + 1 + tr_len a)) (by omega) mn_ng.2.2.2.2 (mn_s1 (by omega)) ?_
  dsimp only
  refine xm_task (v' := nI j) (w' := 0) (by omega) (mn_s1 (by omega)) (by decide) ?_
  dsimp only
  refine eb (f + 1) (p + 1 + tr_len a + 1) (T + 1) _ _ _ _ _ _ (by omega) (by omega) pk_us ?_
  intro op2 x2 y2 pp2 tN2 tA2 c2 t2
  have hN2 : tN2 T = -6 := by rw [(t2 T (by omega)).1, pk_un (by omega), pk_us]
  have hA2 : tA2 T = nI (p + 1 + tr_len a) := by rw [(t2 T (by omega)).2, pk_un (by omega), pk_us]
  refine xm_popb (T := T) (by omega) hN2 hA2 (by decide) ?_
  unfold wpX_behind
  dsimp only
  rw [nI_clamp (n := p + 1 + tr_len a) (by omega), mn_b1 (by omega)]
  refine br_t (by decide) ⟨vp_in_nI (by omega) (by omega), nm_e ?_⟩
  have el : p + 1 + tr_len a + 1 + tr_len b = p + (tr_len a + tr_len b + 2) := by omega
  rw [el]
  have el2 : p + 1 + tr_len a + 1 = p + tr_len a + 2 := by omega
  rw [el2] at c2
  refine H _ _ _ _ _ _ ⟨fun q hq => ?_, ?_⟩ (fun q hq => ?_)
  · obtain ⟨g1, g2, g3, g4⟩ := c2.1 q (by omega)
    obtain ⟨h1, h2, h3, h4⟩ := c1.1 q (by omega)
    rw [pk_un (by omega)] at g1 g2 h1 h2 h3 h4 g3
    rw [pk_un (by omega)] at g3
    rw [pk_un (by omega)]
    exact ⟨g1.trans h1, g2.trans h2, g3.trans h3, g4.trans h4⟩
  · obtain ⟨g1, g2, g3, g4⟩ := c2.1 p (by omega)
    obtain ⟨j1, j2, j3, j4⟩ := c2.1 (p + 1 + tr_len a) (by omega)
    rw [pk_un (by omega)] at g1 g2
    rw [pk_us] at g3 j1
    refine lx_alt (by omega) (g1.trans b1) ?_ ?_ (g4.trans b4) ?_ j1 ?_ ?_
    · rw [pk_un (by omega)]; exact g2.trans b2
    · rw [g3]
    · refine lx_fr (fun q q1 q2 => ?_) c1.2
      obtain ⟨i1, i2, i3, i4⟩ := c2.1 q (by omega)
      rw [pk_un (by omega)] at i1 i2 i3
      rw [pk_un (by omega)] at i3
      rw [pk_un (by omega)]
      exact ⟨i1, i2, i3, i4⟩
    · rw [pk_us]; congr 1; omega
    · refine lx_fr (fun q q1 q2 => ?_) c2.2
      rw [pk_un (by omega)]
      exact ⟨rfl, rfl, rfl, rfl⟩
  · obtain ⟨u1, u2⟩ := t1 q (by omega)
    obtain ⟨v1, v2⟩ := t2 q (by omega)
    rw [pk_un (by omega), pk_un (by omega), pk_un (by omega)] at u1 u2
    rw [pk_un (by omega), pk_un (by omega)] at v1 v2
    exact ⟨v1.trans u1, v2.trans u2⟩
theorem em_st {i z d d1 : Nat} {a : Std.Format} (hn : n < 200) (hi : i < 200) (hz : z < 2) (hk : a_nKind n = 6) (ha : a_nA n = nI i) (hb : a_nB n = nI z) (k1 : d1 + 1 ≤ d) (k3 : 1 ≤ d1) (ea : ∃ k, ∀ f p T (op x y pp tN tA : Nat → Int32), p + tr_len (a) ≤ 99 → T + d1 ≤ 200 → tN T = nI i → (∀ op' x' y' pp' tN' tA', em_C (a) p op x y pp op' x' y' pp' → em_T T tN tA tN' tA' → wX_emitAll_16 post f f_count f_place f_there f_length f_nodes f_level f_groups (nI (p + tr_len (a))) (nI T) f_threads f_added f_bank f_matchFrom f_matchNotes f_found f_states f_flushed a_tok a_val a_text a_nKind a_nC a_nA a_nB a_nSize a_lAlt a_lSeq a_lAtom a_lGroup op' x' y' pp' tN' tA' a_pc a_newPc a_from a_noted a_notes a_seen a_stack a_stackNotes a_best a_kPc a_kCount a_kFlags a_next a_kMatch a_kMatchNotes a_kFrom a_kNotes) → wX_emitAll_16 post (f + k) f_count f_place f_there f_length f_nodes f_level f_groups (nI p) (nI (T + 1)) f_threads f_added f_bank f_matchFrom f_matchNotes f_found f_states f_flushed a_tok a_val a_text a_nKind a_nC a_nA a_nB a_nSize a_lAlt a_lSeq a_lAtom a_lGroup op x y pp tN tA a_pc a_newPc a_from a_noted a_notes a_seen a_stack a_stackNotes a_best a_kPc a_kCount a_kFlags a_next a_kMatch a_kMatchNotes a_kFrom a_kNotes) : ∃ k, ∀ f p T (op x y pp tN tA : Nat → Int32), p + tr_len (.tag z a) ≤ 99 → T + d ≤ 200 → tN T = nI n → (∀ op' x' y' pp' tN' tA', em_C (.tag z a) p op x y pp op' x' y' pp' → em_T T tN tA tN' tA' → wX_emitAll_16 post f f_count f_place f_there f_length f_nodes f_level f_groups (nI (p + tr_len (.tag z a))) (nI T) f_threads f_added f_bank f_matchFrom f_matchNotes f_found f_states f_flushed a_tok a_val a_text a_nKind a_nC a_nA a_nB a_nSize a_lAlt a_lSeq a_lAtom a_lGroup op' x' y' pp' tN' tA' a_pc a_newPc a_from a_noted a_notes a_seen a_stack a_stackNotes a_best a_kPc a_kCount a_kFlags a_next a_kMatch a_kMatchNotes a_kFrom a_kNotes) → wX_emitAll_16 post (f + k) f_count f_place f_there f_length f_nodes f_level f_groups (nI p) (nI (T + 1)) f_threads f_added f_bank f_matchFrom f_matchNotes f_found f_states f_flushed a_tok a_val a_text a_nKind a_nC a_nA a_nB a_nSize a_lAlt a_lSeq a_lAtom a_lGroup op x y pp tN tA a_pc a_newPc a_from a_noted a_notes a_seen a_stack a_stackNotes a_best a_kPc a_kCount a_kFlags a_next a_kMatch a_kMatchNotes a_kFrom a_kNotes := by
  obtain ⟨ka, ea⟩ := ea
  refine ⟨1 + ka + 1, ?_⟩
  intro f p T op x y pp tN tA hp hT e H
  rw [tr_len_st (by omega)] at hp
  rw [tr_len_st (by omega)] at H
  refine xm_pop (f := f + (1 + ka)) (by omega) hn e ?_
  unfold wpX_part
  dsimp only
  rw [nI_clamp (by omega)]
  refine ⟨vp_in_nI hn (by omega), nm_r ha ⟨vp_in_nI hn (by omega), nm_r hb ⟨vp_in_nI hn (by omega), nm_r hk (br_f (by decide) (br_f (by decide) (br_f (by decide) (br_f (by decide) (br_f (by decide) (br_f (by decide) (br_f (by decide) (br_f (by decide) (br_t rfl ?_)))))))))⟩⟩⟩
  unfold wpX_star
  dsimp only
  refine xm_split (p := p) (z := z) (by omega) hz ?_
  dsimp only
  refine xm_task (v' := -1) (w' := nI p) (by omega) mn_ng.1 (mn_s1 (by omega)) ?_
  dsimp only
  refine xm_task (v' := nI i) (w' := 0) (by omega) (mn_s1 (by omega)) (by decide) ?_
  dsimp only
  rw [show f + (1 + ka) = f + 1 + ka by omega]
  refine ea (f + 1) (p + 1) (T + 1) _ _ _ _ _ _ (by omega) (by omega) pk_us ?_
  intro op1 x1 y1 pp1 tN1 tA1 c1 t1
  obtain ⟨b1, b2, b3, b4⟩ := c1.1 p (by omega)
  rw [pk_us] at b1 b2 b3 b4
  have hN1 : tN1 T = -1 := by rw [(t1 T (by omega)).1, pk_un (by omega), pk_us]
  have hA1 : tA1 T = nI p := by rw [(t1 T (by omega)).2, pk_un (by omega), pk_us]
  refine xm_popb (T := T) (by omega) hN1 hA1 (by decide) ?_
  unfold wpX_behind
  dsimp only
  refine br_f (by decide) (br_f (by decide) (br_f (by decide) (br_f (by decide) (br_f (by decide) (br_t rfl ?_)))))
  refine xm_emit (p := p + 1 + tr_len a) (o := 4) (u := p) (v := 0) (by omega) (by omega) (by omega) (by omega) ?_
  dsimp only
  rw [nI_clamp (n := p) (by omega), mn_b1 (by omega)]
  refine ⟨vp_in_nI (by omega) (by omega), nm_e ?_⟩
  rw [show p + 1 + tr_len a + 1 = p + (tr_len a + 2) by omega]
  refine H _ _ _ _ _ _ ⟨fun q hq => ?_, ?_⟩ (fun q hq => ?_)
  · obtain ⟨h1, h2, h3, h4⟩ := c1.1 q (by omega)
    rw [pk_un (by omega)] at h1 h2 h3 h4
    rw [pk_un (by omega), pk_un (by omega), pk_un (by omega), pk_un (by omega)]
    exact ⟨h1, h2, h3, h4⟩
  · refine lx_st hz (by omega) ?_ ?_ ?_ b4 ?_ pk_us pk_us
    · rw [pk_un (by omega)]; exact b1
    · rw [pk_un (by omega)]; exact b2
    · rw [pk_us]; congr 1
    · refine lx_fr (fun q q1 q2 => ?_) c1.2
      rw [pk_un (by omega), pk_un (by omega), pk_un (by omega), pk_un (by omega)]
      exact ⟨rfl, rfl, rfl, rfl⟩
  · obtain ⟨u1, u2⟩ := t1 q (by omega)
    rw [pk_un (by omega), pk_un (by omega)] at u1 u2
    exact ⟨u1, u2⟩
theorem em_op {i z d d1 : Nat} {a : Std.Format} (hn : n < 200) (hi : i < 200) (hz : z < 2) (hk : a_nKind n = 7) (ha : a_nA n = nI i) (hb : a_nB n = nI z) (k1 : d1 + 1 ≤ d) (k3 : 1 ≤ d1) (ea : ∃ k, ∀ f p T (op x y pp tN tA : Nat → Int32), p + tr_len (a) ≤ 99 → T + d1 ≤ 200 → tN T = nI i → (∀ op' x' y' pp' tN' tA', em_C (a) p op x y pp op' x' y' pp' → em_T T tN tA tN' tA' → wX_emitAll_16 post f f_count f_place f_there f_length f_nodes f_level f_groups (nI (p + tr_len (a))) (nI T) f_threads f_added f_bank f_matchFrom f_matchNotes f_found f_states f_flushed a_tok a_val a_text a_nKind a_nC a_nA a_nB a_nSize a_lAlt a_lSeq a_lAtom a_lGroup op' x' y' pp' tN' tA' a_pc a_newPc a_from a_noted a_notes a_seen a_stack a_stackNotes a_best a_kPc a_kCount a_kFlags a_next a_kMatch a_kMatchNotes a_kFrom a_kNotes) → wX_emitAll_16 post (f + k) f_count f_place f_there f_length f_nodes f_level f_groups (nI p) (nI (T + 1)) f_threads f_added f_bank f_matchFrom f_matchNotes f_found f_states f_flushed a_tok a_val a_text a_nKind a_nC a_nA a_nB a_nSize a_lAlt a_lSeq a_lAtom a_lGroup op x y pp tN tA a_pc a_newPc a_from a_noted a_notes a_seen a_stack a_stackNotes a_best a_kPc a_kCount a_kFlags a_next a_kMatch a_kMatchNotes a_kFrom a_kNotes) : ∃ k, ∀ f p T (op x y pp tN tA : Nat → Int32), p + tr_len (.tag (2 + z) a) ≤ 99 → T + d ≤ 200 → tN T = nI n → (∀ op' x' y' pp' tN' tA', em_C (.tag (2 + z) a) p op x y pp op' x' y' pp' → em_T T tN tA tN' tA' → wX_emitAll_16 post f f_count f_place f_there f_length f_nodes f_level f_groups (nI (p + tr_len (.tag (2 + z) a))) (nI T) f_threads f_added f_bank f_matchFrom f_matchNotes f_found f_states f_flushed a_tok a_val a_text a_nKind a_nC a_nA a_nB a_nSize a_lAlt a_lSeq a_lAtom a_lGroup op' x' y' pp' tN' tA' a_pc a_newPc a_from a_noted a_notes a_seen a_stack a_stackNotes a_best a_kPc a_kCount a_kFlags a_next a_kMatch a_kMatchNotes a_kFrom a_kNotes) → wX_emitAll_16 post (f + k) f_count f_place f_there f_length f_nodes f_level f_groups (nI p) (nI (T + 1)) f_threads f_added f_bank f_matchFrom f_matchNotes f_found f_states f_flushed a_tok a_val a_text a_nKind a_nC a_nA a_nB a_nSize a_lAlt a_lSeq a_lAtom a_lGroup op x y pp tN tA a_pc a_newPc a_from a_noted a_notes a_seen a_stack a_stackNotes a_best a_kPc a_kCount a_kFlags a_next a_kMatch a_kMatchNotes a_kFrom a_kNotes := by
  obtain ⟨ka, ea⟩ := ea
  refine ⟨1 + ka + 1, ?_⟩
  intro f p T op x y pp tN tA hp hT e H
  rw [tr_len_op (by omega) (by omega)] at hp
  rw [tr_len_op (by omega) (by omega)] at H
  refine xm_pop (f := f + (1 + ka)) (by omega) hn e ?_
  unfold wpX_part
  dsimp only
  rw [nI_clamp (by omega)]
  refine ⟨vp_in_nI hn (by omega), nm_r ha ⟨vp_in_nI hn (by omega), nm_r hb ⟨vp_in_nI hn (by omega), nm_r hk (br_f (by decide) (br_f (by decide) (br_f (by decide) (br_f (by decide) (br_f (by decide) (br_f (by decide) (br_f (by decide) (br_f (by decide) (br_f (by decide) (br_t rfl ?_))))))))))⟩⟩⟩
  unfold wpX_option
  dsimp only
  refine xm_split (p := p) (z := z) (by omega) hz ?_
  dsimp only
  refine xm_task (v' := -2) (w' := nI p) (by omega) mn_ng.2.1 (mn_s1 (by omega)) ?_
  dsimp only
  refine xm_task (v' := nI i) (w' := 0) (by omega) (mn_s1 (by omega)) (by decide) ?_
  dsimp only
  rw [show f + (1 + ka) = f + 1 + ka by omega]
  refine ea (f + 1) (p + 1) (T + 1) _ _ _ _ _ _ (by omega) (by omega) pk_us ?_
  intro op1 x1 y1 pp1 tN1 tA1 c1 t1
  obtain ⟨b1, b2, b3, b4⟩ := c1.1 p (by omega)
  rw [pk_us] at b1 b2 b3 b4
  have hN1 : tN1 T = -2 := by rw [(t1 T (by omega)).1, pk_un (by omega), pk_us]
  have hA1 : tA1 T = nI p := by rw [(t1 T (by omega)).2, pk_un (by omega), pk_us]
  refine xm_popb (T := T) (by omega) hN1 hA1 (by decide) ?_
  unfold wpX_behind
  dsimp only
  rw [nI_clamp (n := p) (by omega), mn_b1 (by omega)]
  refine br_f (by decide) (br_f (by decide) (br_f (by decide) (br_f (by decide) (br_t rfl ⟨vp_in_nI (by omega) (by omega), nm_e ?_⟩))))
  rw [show p + 1 + tr_len a = p + (tr_len a + 1) by omega]
  refine H _ _ _ _ _ _ ⟨fun q hq => ?_, ?_⟩ (fun q hq => ?_)
  · obtain ⟨h1, h2, h3, h4⟩ := c1.1 q (by omega)
    rw [pk_un (by omega)] at h1 h2 h3 h4
    rw [pk_un (by omega)]
    exact ⟨h1, h2, h3, h4⟩
  · refine lx_op hz (by omega) b1 b2 ?_ b4 ?_
    · rw [pk_us]; congr 1
    · refine lx_fr (fun q q1 q2 => ?_) c1.2
      rw [pk_un (by omega)]
      exact ⟨rfl, rfl, rfl, rfl⟩
  · obtain ⟨u1, u2⟩ := t1 q (by omega)
    rw [pk_un (by omega), pk_un (by omega)] at u1 u2
    exact ⟨u1, u2⟩
theorem em_gr {i g d d1 : Nat} {a : Std.Format} (hn : n < 200) (hi : i < 200) (hg1 : 1 ≤ g) (hg : g ≤ 3) (hk : a_nKind n = 8) (ha : a_nA n = nI i) (hb : a_nB n = nI g) (k1 : d1 + 1 ≤ d) (k3 : 1 ≤ d1) (ea : ∃ k, ∀ f p T (op x y pp tN tA : Nat → Int32), p + tr_len (a) ≤ 99 → T + d1 ≤ 200 → tN T = nI i → (∀ op' x' y' pp' tN' tA', em_C (a) p op x y pp op' x' y' pp' → em_T T tN tA tN' tA' → wX_emitAll_16 post f f_count f_place f_there f_length f_nodes f_level f_groups (nI (p + tr_len (a))) (nI T) f_threads f_added f_bank f_matchFrom f_matchNotes f_found f_states f_flushed a_tok a_val a_text a_nKind a_nC a_nA a_nB a_nSize a_lAlt a_lSeq a_lAtom a_lGroup op' x' y' pp' tN' tA' a_pc a_newPc a_from a_noted a_notes a_seen a_stack a_stackNotes a_best a_kPc a_kCount a_kFlags a_next a_kMatch a_kMatchNotes a_kFrom a_kNotes) → wX_emitAll_16 post (f + k) f_count f_place f_there f_length f_nodes f_level f_groups (nI p) (nI (T + 1)) f_threads f_added f_bank f_matchFrom f_matchNotes f_found f_states f_flushed a_tok a_val a_text a_nKind a_nC a_nA a_nB a_nSize a_lAlt a_lSeq a_lAtom a_lGroup op x y pp tN tA a_pc a_newPc a_from a_noted a_notes a_seen a_stack a_stackNotes a_best a_kPc a_kCount a_kFlags a_next a_kMatch a_kMatchNotes a_kFrom a_kNotes) : ∃ k, ∀ f p T (op x y pp tN tA : Nat → Int32), p + tr_len (.tag (3 + g) a) ≤ 99 → T + d ≤ 200 → tN T = nI n → (∀ op' x' y' pp' tN' tA', em_C (.tag (3 + g) a) p op x y pp op' x' y' pp' → em_T T tN tA tN' tA' → wX_emitAll_16 post f f_count f_place f_there f_length f_nodes f_level f_groups (nI (p + tr_len (.tag (3 + g) a))) (nI T) f_threads f_added f_bank f_matchFrom f_matchNotes f_found f_states f_flushed a_tok a_val a_text a_nKind a_nC a_nA a_nB a_nSize a_lAlt a_lSeq a_lAtom a_lGroup op' x' y' pp' tN' tA' a_pc a_newPc a_from a_noted a_notes a_seen a_stack a_stackNotes a_best a_kPc a_kCount a_kFlags a_next a_kMatch a_kMatchNotes a_kFrom a_kNotes) → wX_emitAll_16 post (f + k) f_count f_place f_there f_length f_nodes f_level f_groups (nI p) (nI (T + 1)) f_threads f_added f_bank f_matchFrom f_matchNotes f_found f_states f_flushed a_tok a_val a_text a_nKind a_nC a_nA a_nB a_nSize a_lAlt a_lSeq a_lAtom a_lGroup op x y pp tN tA a_pc a_newPc a_from a_noted a_notes a_seen a_stack a_stackNotes a_best a_kPc a_kCount a_kFlags a_next a_kMatch a_kMatchNotes a_kFrom a_kNotes := by
  obtain ⟨ka, ea⟩ := ea
  refine ⟨1 + ka + 1, ?_⟩
  intro f p T op x y pp tN tA hp hT e H
  rw [tr_len_gr (by omega) (by omega)] at hp
  rw [tr_len_gr (by omega) (by omega)] at H
  refine xm_pop (f := f + (1 + ka)) (by omega) hn e ?_
  unfold wpX_part
  dsimp only
  rw [nI_clamp (by omega)]
  refine ⟨vp_in_nI hn (by omega), nm_r ha ⟨vp_in_nI hn (by omega), nm_r hb ⟨vp_in_nI hn (by omega), nm_r hk (br_f (by decide) (br_f (by decide) (br_f (by decide) (br_f (by decide) (br_f (by decide) (br_f (by decide) (br_f (by decide) (br_f (by decide) (br_f (by decide) (br_f (by decide) (br_t rfl ?_)))))))))))⟩⟩⟩
  have e2 : 2 * nI g = nI (2 * g) := by rw [show (2 : Int32) = nI 2 from rfl, pk_mul]
  have e3 : nI (2 * g) - 1 = nI (2 * g - 1) := pk_sub (b := 1) (by omega)
  rw [e2, e3]
  refine xm_emit (p := p) (o := 5) (u := 2 * g - 1) (v := 0) (by omega) (by omega) (by omega) (by omega) ?_
  dsimp only
  refine xm_task (v' := -4) (w' := nI (2 * g)) (by omega) mn_ng.2.2.2.1 (mn_s1 (by omega)) ?_
  dsimp only
  refine xm_task (v' := nI i) (w' := 0) (by omega) (mn_s1 (by omega)) (by decide) ?_
  dsimp only
  rw [show f + (1 + ka) = f + 1 + ka by omega]
  refine ea (f + 1) (p + 1) (T + 1) _ _ _ _ _ _ (by omega) (by omega) pk_us ?_
  intro op1 x1 y1 pp1 tN1 tA1 c1 t1
  obtain ⟨b1, b2, b3, b4⟩ := c1.1 p (by omega)
  rw [pk_us] at b1 b2 b3
  have hN1 : tN1 T = -4 := by rw [(t1 T (by omega)).1, pk_un (by omega), pk_us]
  have hA1 : tA1 T = nI (2 * g) := by rw [(t1 T (by omega)).2, pk_un (by omega), pk_us]
  refine xm_popb (T := T) (by omega) hN1 hA1 (by decide) ?_
  unfold wpX_behind
  dsimp only
  refine br_f (by decide) (br_f (by decide) (br_t rfl ?_))
  refine xm_emit (p := p + 1 + tr_len a) (o := 5) (u := 2 * g) (v := 0) (by omega) (by omega) (by omega) (by omega) ?_
  dsimp only
  rw [show p + 1 + tr_len a + 1 = p + (tr_len a + 2) by omega]
  refine H _ _ _ _ _ _ ⟨fun q hq => ?_, ?_⟩ (fun q hq => ?_)
  · obtain ⟨h1, h2, h3, h4⟩ := c1.1 q (by omega)
    rw [pk_un (by omega)] at h1 h2 h3
    rw [pk_un (by omega), pk_un (by omega), pk_un (by omega)]
    exact ⟨h1, h2, h3, h4⟩
  · refine lx_gr hg1 hg (by omega) ?_ ?_ ?_ pk_us pk_us
    · rw [pk_un (by omega)]; exact b1
    · rw [pk_un (by omega)]; exact b2
    · refine lx_fr (fun q q1 q2 => ?_) c1.2
      rw [pk_un (by omega), pk_un (by omega), pk_un (by omega)]
      exact ⟨rfl, rfl, rfl, rfl⟩
  · obtain ⟨u1, u2⟩ := t1 q (by omega)
    rw [pk_un (by omega), pk_un (by omega)] at u1 u2
    exact ⟨u1, u2⟩
/-- m copies on the stack, then what lies below -/
theorem em_cp {i d d1 : Nat} {a r : Std.Format} (ea : ∃ k, ∀ f p T (op x y pp tN tA : Nat → Int32), p + tr_len (a) ≤ 99 → T + d1 ≤ 200 → tN T = nI i → (∀ op' x' y' pp' tN' tA', em_C (a) p op x y pp op' x' y' pp' → em_T T tN tA tN' tA' → wX_emitAll_16 post f f_count f_place f_there f_length f_nodes f_level f_groups (nI (p + tr_len (a))) (nI T) f_threads f_added f_bank f_matchFrom f_matchNotes f_found f_states f_flushed a_tok a_val a_text a_nKind a_nC a_nA a_nB a_nSize a_lAlt a_lSeq a_lAtom a_lGroup op' x' y' pp' tN' tA' a_pc a_newPc a_from a_noted a_notes a_seen a_stack a_stackNotes a_best a_kPc a_kCount a_kFlags a_next a_kMatch a_kMatchNotes a_kFrom a_kNotes) → wX_emitAll_16 post (f + k) f_count f_place f_there f_length f_nodes f_level f_groups (nI p) (nI (T + 1)) f_threads f_added f_bank f_matchFrom f_matchNotes f_found f_states f_flushed a_tok a_val a_text a_nKind a_nC a_nA a_nB a_nSize a_lAlt a_lSeq a_lAtom a_lGroup op x y pp tN tA a_pc a_newPc a_from a_noted a_notes a_seen a_stack a_stackNotes a_best a_kPc a_kCount a_kFlags a_next a_kMatch a_kMatchNotes a_kFrom a_kNotes) (k3 : 1 ≤ d1) : ∀ m, ∃ k, ∀ f p T (op x y pp tN tA : Nat → Int32), p + tr_len (tr_it m a r) ≤ 99 → T + m + d1 ≤ 201 → (∀ j, T ≤ j → j < T + m → tN j = nI i) →
    (∀ op' x' y' pp' tN' tA', (∀ op2 x2 y2 pp2, em_C r (p + m * tr_len a) op' x' y' pp' op2 x2 y2 pp2 → em_C (tr_it m a r) p op x y pp op2 x2 y2 pp2) → em_T T tN tA tN' tA' → wX_emitAll_16 post f f_count f_place f_there f_length f_nodes f_level f_groups (nI (p + m * tr_len a)) (nI T) f_threads f_added f_bank f_matchFrom f_matchNotes f_found f_states f_flushed a_tok a_val a_text a_nKind a_nC a_nA a_nB a_nSize a_lAlt a_lSeq a_lAtom a_lGroup op' x' y' pp' tN' tA' a_pc a_newPc a_from a_noted a_notes a_seen a_stack a_stackNotes a_best a_kPc a_kCount a_kFlags a_next a_kMatch a_kMatchNotes a_kFrom a_kNotes) → wX_emitAll_16 post (f + k) f_count f_place f_there f_length f_nodes f_level f_groups (nI p) (nI (T + m)) f_threads f_added f_bank f_matchFrom f_matchNotes f_found f_states f_flushed a_tok a_val a_text a_nKind a_nC a_nA a_nB a_nSize a_lAlt a_lSeq a_lAtom a_lGroup op x y pp tN tA a_pc a_newPc a_from a_noted a_notes a_seen a_stack a_stackNotes a_best a_kPc a_kCount a_kFlags a_next a_kMatch a_kMatchNotes a_kFrom a_kNotes := by
  obtain ⟨ka, ea⟩ := ea
  intro m
  induction m with
  | zero =>
    refine ⟨0, ?_⟩
    intro f p T op x y pp tN tA hp hT hN H
    have := H op x y pp tN tA (fun op2 x2 y2 pp2 h => by rw [Nat.zero_mul] at h; exact h) (fun i _ => ⟨rfl, rfl⟩)
    rw [Nat.zero_mul] at this
    exact this
  | succ m ih =>
    obtain ⟨k, ih⟩ := ih
    refine ⟨k + ka, ?_⟩
    intro f p T op x y pp tN tA hp hT hN H
    have hp' : p + (tr_len a + tr_len (tr_it m a r)) ≤ 99 := hp
    rw [show f + (k + ka) = f + k + ka by omega]
    refine ea (f + k) p (T + m) op x y pp tN tA (by omega) (by omega) (hN (T + m) (by omega) (by omega)) ?_
    intro op1 x1 y1 pp1 tN1 tA1 c1 t1
    refine ih f (p + tr_len a) T op1 x1 y1 pp1 tN1 tA1 (by omega) (by omega) ?_ ?_
    · intro j h1 h2
      rw [(t1 j (by omega)).1]; exact hN j h1 (by omega)
    · intro op2 x2 y2 pp2 tN2 tA2 c2 t2
      have el : p + tr_len a + m * tr_len a = p + (m + 1) * tr_len a := by rw [Nat.add_mul]; omega
      rw [el] at c2
      rw [el]
      refine H op2 x2 y2 pp2 tN2 tA2 (fun op3 x3 y3 pp3 c3 => ?_) ?_
      · exact em_cat c1 (c2 op3 x3 y3 pp3 c3)
      · exact em_Tt (T := T) (T' := T) (Nat.le_refl _) (fun j hj => t1 j (by omega)) t2
theorem tr_it_len {a r : Std.Format} : ∀ m, tr_len (tr_it m a r) = m * tr_len a + tr_len r := by
  intro m
  induction m with
  | zero => show tr_len r = _; omega
  | succ m ih =>
    show tr_len a + tr_len (tr_it m a r) = _
    rw [ih, Nat.add_mul]; omega
theorem em_tm0 {i m d d1 : Nat} {a : Std.Format} (hn : n < 200) (hi : i < 200) (hd : 1 ≤ d) (hm : m ≤ 4) (hk : a_nKind n = 10) (ha : a_nA n = nI i) (hb : a_nB n = -1) (hc : a_nC n = nI m) (k1 : d1 + m ≤ d + 1) (k3 : 1 ≤ d1) (ea : ∃ k, ∀ f p T (op x y pp tN tA : Nat → Int32), p + tr_len (a) ≤ 99 → T + d1 ≤ 200 → tN T = nI i → (∀ op' x' y' pp' tN' tA', em_C (a) p op x y pp op' x' y' pp' → em_T T tN tA tN' tA' → wX_emitAll_16 post f f_count f_place f_there f_length f_nodes f_level f_groups (nI (p + tr_len (a))) (nI T) f_threads f_added f_bank f_matchFrom f_matchNotes f_found f_states f_flushed a_tok a_val a_text a_nKind a_nC a_nA a_nB a_nSize a_lAlt a_lSeq a_lAtom a_lGroup op' x' y' pp' tN' tA' a_pc a_newPc a_from a_noted a_notes a_seen a_stack a_stackNotes a_best a_kPc a_kCount a_kFlags a_next a_kMatch a_kMatchNotes a_kFrom a_kNotes) → wX_emitAll_16 post (f + k) f_count f_place f_there f_length f_nodes f_level f_groups (nI p) (nI (T + 1)) f_threads f_added f_bank f_matchFrom f_matchNotes f_found f_states f_flushed a_tok a_val a_text a_nKind a_nC a_nA a_nB a_nSize a_lAlt a_lSeq a_lAtom a_lGroup op x y pp tN tA a_pc a_newPc a_from a_noted a_notes a_seen a_stack a_stackNotes a_best a_kPc a_kCount a_kFlags a_next a_kMatch a_kMatchNotes a_kFrom a_kNotes) : ∃ k, ∀ f p T (op x y pp tN tA : Nat → Int32), p + tr_len (tr_it m a .nil) ≤ 99 → T + d ≤ 200 → tN T = nI n → (∀ op' x' y' pp' tN' tA', em_C (tr_it m a .nil) p op x y pp op' x' y' pp' → em_T T tN tA tN' tA' → wX_emitAll_16 post f f_count f_place f_there f_length f_nodes f_level f_groups (nI (p + tr_len (tr_it m a .nil))) (nI T) f_threads f_added f_bank f_matchFrom f_matchNotes f_found f_states f_flushed a_tok a_val a_text a_nKind a_nC a_nA a_nB a_nSize a_lAlt a_lSeq a_lAtom a_lGroup op' x' y' pp' tN' tA' a_pc a_newPc a_from a_noted a_notes a_seen a_stack a_stackNotes a_best a_kPc a_kCount a_kFlags a_next a_kMatch a_kMatchNotes a_kFrom a_kNotes) → wX_emitAll_16 post (f + k) f_count f_place f_there f_length f_nodes f_level f_groups (nI p) (nI (T + 1)) f_threads f_added f_bank f_matchFrom f_matchNotes f_found f_states f_flushed a_tok a_val a_text a_nKind a_nC a_nA a_nB a_nSize a_lAlt a_lSeq a_lAtom a_lGroup op x y pp tN tA a_pc a_newPc a_from a_noted a_notes a_seen a_stack a_stackNotes a_best a_kPc a_kCount a_kFlags a_next a_kMatch a_kMatchNotes a_kFrom a_kNotes := by
  obtain ⟨k, hcp⟩ := em_cp (d := d) (r := .nil) ea k3 m
  refine ⟨k + 1, ?_⟩
  intro f p T op x y pp tN tA hp hT e H
  refine xm_pop (f := f + k) (by omega) hn e ?_
  unfold wpX_part
  dsimp only
  rw [nI_clamp (by omega)]
  refine ⟨vp_in_nI hn (by omega), nm_r ha ⟨vp_in_nI hn (by omega), nm_r hb ⟨vp_in_nI hn (by omega), nm_r hk (br_f (by decide) (br_f (by decide) (br_f (by decide) (br_f (by decide) (br_f (by decide) (br_f (by decide) (br_f (by decide) (br_f (by decide) (br_f (by decide) (br_f (by decide) (br_f (by decide) (br_f (by decide) (br_t rfl (br_t mn_neg1 ⟨vp_in_nI hn (by omega), nm_r hc ⟨m + 1, ?_⟩⟩))))))))))))))⟩⟩⟩
  refine xm_239 (s := 0) rfl hi m _ T tN tA (by omega) (by omega) ?_
  intro tN' tA' h1 h2
  dsimp only
  refine hcp f p T op x y pp tN' tA' hp (by omega) h2 ?_
  intro op1 x1 y1 pp1 tN1 tA1 c1 t1
  rw [tr_it_len] at H
  refine H op1 x1 y1 pp1 tN1 tA1 (c1 _ _ _ _ ⟨fun q hq => ⟨rfl, rfl, rfl, rfl⟩, lx_nil⟩) (em_Tt (Nat.le_refl _) h1 t1)
theorem em_tm1 {i j m d d1 d2 : Nat} {a r : Std.Format} (hn : n < 200) (hi : i < 200) (hj : j < 200) (hd : 1 ≤ d) (hm : m ≤ 4) (hk : a_nKind n = 10) (ha : a_nA n = nI i) (hb : a_nB n = nI j) (hc : a_nC n = nI m) (k1 : d1 + m ≤ d) (k2 : d2 ≤ d) (k3 : 1 ≤ d1) (k4 : 1 ≤ d2) (ea : ∃ k, ∀ f p T (op x y pp tN tA : Nat → Int32), p + tr_len (a) ≤ 99 → T + d1 ≤ 200 → tN T = nI i → (∀ op' x' y' pp' tN' tA', em_C (a) p op x y pp op' x' y' pp' → em_T T tN tA tN' tA' → wX_emitAll_16 post f f_count f_place f_there f_length f_nodes f_level f_groups (nI (p + tr_len (a))) (nI T) f_threads f_added f_bank f_matchFrom f_matchNotes f_found f_states f_flushed a_tok a_val a_text a_nKind a_nC a_nA a_nB a_nSize a_lAlt a_lSeq a_lAtom a_lGroup op' x' y' pp' tN' tA' a_pc a_newPc a_from a_noted a_notes a_seen a_stack a_stackNotes a_best a_kPc a_kCount a_kFlags a_next a_kMatch a_kMatchNotes a_kFrom a_kNotes) → wX_emitAll_16 post (f + k) f_count f_place f_there f_length f_nodes f_level f_groups (nI p) (nI (T + 1)) f_threads f_added f_bank f_matchFrom f_matchNotes f_found f_states f_flushed a_tok a_val a_text a_nKind a_nC a_nA a_nB a_nSize a_lAlt a_lSeq a_lAtom a_lGroup op x y pp tN tA a_pc a_newPc a_from a_noted a_notes a_seen a_stack a_stackNotes a_best a_kPc a_kCount a_kFlags a_next a_kMatch a_kMatchNotes a_kFrom a_kNotes) (er : ∃ k, ∀ f p T (op x y pp tN tA : Nat → Int32), p + tr_len (r) ≤ 99 → T + d2 ≤ 200 → tN T = nI j → (∀ op' x' y' pp' tN' tA', em_C (r) p op x y pp op' x' y' pp' → em_T T tN tA tN' tA' → wX_emitAll_16 post f f_count f_place f_there f_length f_nodes f_level f_groups (nI (p + tr_len (r))) (nI T) f_threads f_added f_bank f_matchFrom f_matchNotes f_found f_states f_flushed a_tok a_val a_text a_nKind a_nC a_nA a_nB a_nSize a_lAlt a_lSeq a_lAtom a_lGroup op' x' y' pp' tN' tA' a_pc a_newPc a_from a_noted a_notes a_seen a_stack a_stackNotes a_best a_kPc a_kCount a_kFlags a_next a_kMatch a_kMatchNotes a_kFrom a_kNotes) → wX_emitAll_16 post (f + k) f_count f_place f_there f_length f_nodes f_level f_groups (nI p) (nI (T + 1)) f_threads f_added f_bank f_matchFrom f_matchNotes f_found f_states f_flushed a_tok a_val a_text a_nKind a_nC a_nA a_nB a_nSize a_lAlt a_lSeq a_lAtom a_lGroup op x y pp tN tA a_pc a_newPc a_from a_noted a_notes a_seen a_stack a_stackNotes a_best a_kPc a_kCount a_kFlags a_next a_kMatch a_kMatchNotes a_kFrom a_kNotes) : ∃ k, ∀ f p T (op x y pp tN tA : Nat → Int32), p + tr_len (tr_it m a r) ≤ 99 → T + d ≤ 200 → tN T = nI n → (∀ op' x' y' pp' tN' tA', em_C (tr_it m a r) p op x y pp op' x' y' pp' → em_T T tN tA tN' tA' → wX_emitAll_16 post f f_count f_place f_there f_length f_nodes f_level f_groups (nI (p + tr_len (tr_it m a r))) (nI T) f_threads f_added f_bank f_matchFrom f_matchNotes f_found f_states f_flushed a_tok a_val a_text a_nKind a_nC a_nA a_nB a_nSize a_lAlt a_lSeq a_lAtom a_lGroup op' x' y' pp' tN' tA' a_pc a_newPc a_from a_noted a_notes a_seen a_stack a_stackNotes a_best a_kPc a_kCount a_kFlags a_next a_kMatch a_kMatchNotes a_kFrom a_kNotes) → wX_emitAll_16 post (f + k) f_count f_place f_there f_length f_nodes f_level f_groups (nI p) (nI (T + 1)) f_threads f_added f_bank f_matchFrom f_matchNotes f_found f_states f_flushed a_tok a_val a_text a_nKind a_nC a_nA a_nB a_nSize a_lAlt a_lSeq a_lAtom a_lGroup op x y pp tN tA a_pc a_newPc a_from a_noted a_notes a_seen a_stack a_stackNotes a_best a_kPc a_kCount a_kFlags a_next a_kMatch a_kMatchNotes a_kFrom a_kNotes := by
  obtain ⟨k, hcp⟩ := em_cp (d := d) (r := r) ea k3 m
  obtain ⟨kr, er⟩ := er
  refine ⟨kr + k + 1, ?_⟩
  intro f p T op x y pp tN tA hp hT e H
  refine xm_pop (f := f + (kr + k)) (by omega) hn e ?_
  unfold wpX_part
  dsimp only
  rw [nI_clamp (by omega)]
  refine ⟨vp_in_nI hn (by omega), nm_r ha ⟨vp_in_nI hn (by omega), nm_r hb ⟨vp_in_nI hn (by omega), nm_r hk (br_f (by decide) (br_f (by decide) (br_f (by decide) (br_f (by decide) (br_f (by decide) (br_f (by decide) (br_f (by decide) (br_f (by decide) (br_f (by decide) (br_f (by decide) (br_f (by decide) (br_f (by decide) (br_t rfl (br_f (nI_pos (by omega)) ?_))))))))))))))⟩⟩⟩
  refine xm_task (v' := nI j) (w' := 0) (by omega) (mn_s1 (by omega)) (by decide) ?_
  dsimp only
  refine ⟨vp_in_nI hn (by omega), nm_r hc ⟨m + 1, ?_⟩⟩
  refine xm_239 (s := 0) rfl hi m _ (T + 1) _ _ (by omega) (by omega) ?_
  intro tN' tA' h1 h2
  dsimp only
  rw [show f + (kr + k) = f + kr + k by omega]
  refine hcp (f + kr) p (T + 1) op x y pp tN' tA' hp (by omega) h2 ?_
  intro op1 x1 y1 pp1 tN1 tA1 c1 t1
  rw [tr_it_len] at hp
  refine er f (p + m * tr_len a) T op1 x1 y1 pp1 tN1 tA1 (by omega) (by omega) ?_ ?_
  · rw [(t1 T (by omega)).1, (h1 T (by omega)).1, pk_us]
  · intro op2 x2 y2 pp2 tN2 tA2 c2 t2
    rw [tr_it_len] at H
    rw [show p + m * tr_len a + tr_len r = p + (m * tr_len a + tr_len r) by omega]
    refine H op2 x2 y2 pp2 tN2 tA2 (c1 _ _ _ _ c2) ?_
    intro q hq
    obtain ⟨u1, u2⟩ := h1 q (by omega)
    obtain ⟨v1, v2⟩ := t1 q (by omega)
    obtain ⟨w1, w2⟩ := t2 q hq
    rw [pk_un (by omega)] at u1 u2
    exact ⟨w1.trans (v1.trans u1), w2.trans (v2.trans u2)⟩
theorem em_main {nd : Nat} (hnd : nd ≤ 200) : ∀ fn n t d, tn_f a_nKind a_nA a_nB a_nC nd fn n t d → ∃ k, ∀ f p T (op x y pp tN tA : Nat → Int32), p + tr_len (t) ≤ 99 → T + d ≤ 200 → tN T = nI n → (∀ op' x' y' pp' tN' tA', em_C (t) p op x y pp op' x' y' pp' → em_T T tN tA tN' tA' → wX_emitAll_16 post f f_count f_place f_there f_length f_nodes f_level f_groups (nI (p + tr_len (t))) (nI T) f_threads f_added f_bank f_matchFrom f_matchNotes f_found f_states f_flushed a_tok a_val a_text a_nKind a_nC a_nA a_nB a_nSize a_lAlt a_lSeq a_lAtom a_lGroup op' x' y' pp' tN' tA' a_pc a_newPc a_from a_noted a_notes a_seen a_stack a_stackNotes a_best a_kPc a_kCount a_kFlags a_next a_kMatch a_kMatchNotes a_kFrom a_kNotes) → wX_emitAll_16 post (f + k) f_count f_place f_there f_length f_nodes f_level f_groups (nI p) (nI (T + 1)) f_threads f_added f_bank f_matchFrom f_matchNotes f_found f_states f_flushed a_tok a_val a_text a_nKind a_nC a_nA a_nB a_nSize a_lAlt a_lSeq a_lAtom a_lGroup op x y pp tN tA a_pc a_newPc a_from a_noted a_notes a_seen a_stack a_stackNotes a_best a_kPc a_kCount a_kFlags a_next a_kMatch a_kMatchNotes a_kFrom a_kNotes := by
  intro fn
  induction fn with
  | zero => intro n t d h; exact h.elim
  | succ fn ih =>
    intro n t d h
    obtain ⟨hn, hd, h⟩ := h
    have hn : n < 200 := by omega
    rcases h with h | h | h | h | h | h | h | h | h | h
    · obtain ⟨hk, w, hw, ha, rfl⟩ := h
      exact em_tst hn hd hk hw ha
    · obtain ⟨hk, rfl⟩ := h
      exact em_beg hn hd hk
    · obtain ⟨hk, rfl⟩ := h
      exact em_end hn hd hk
    · obtain ⟨hk, rfl⟩ := h
      exact em_emp hn hd hk
    · obtain ⟨hk, i, j, a, b, d1, d2, q1, q2, q3, q4, q5, q6, rfl⟩ := h
      have l1 := tn_lt q3
      have l2 := tn_lt q4
      exact em_seq hn (by omega) (by omega) hk q1 q2 l2.2 q5 q6 l1.2 (ih _ _ _ q3) (ih _ _ _ q4)
    · obtain ⟨hk, i, j, a, b, d1, d2, q1, q2, q3, q4, q5, q6, rfl⟩ := h
      have l1 := tn_lt q3
      have l2 := tn_lt q4
      exact em_alt hn (by omega) (by omega) hk q1 q2 q5 q6 l1.2 l2.2 (ih _ _ _ q3) (ih _ _ _ q4)
    · obtain ⟨hk, i, z, a, d1, q1, q2, q3, q4, q5, rfl⟩ := h
      have l1 := tn_lt q4
      exact em_st hn (by omega) q3 hk q1 q2 q5 l1.2 (ih _ _ _ q4)
    · obtain ⟨hk, i, z, a, d1, q1, q2, q3, q4, q5, rfl⟩ := h
      have l1 := tn_lt q4
      exact em_op hn (by omega) q3 hk q1 q2 q5 l1.2 (ih _ _ _ q4)
    · obtain ⟨hk, i, g, a, d1, q1, q2, q3, q4, q5, q6, rfl⟩ := h
      have l1 := tn_lt q5
      exact em_gr hn (by omega) q3 q4 hk q1 q2 q6 l1.2 (ih _ _ _ q5)
    · obtain ⟨hk, i, m, a, d1, r, q1, q2, q3, q4, rfl, q6⟩ := h
      have l1 := tn_lt q4
      rcases q6 with ⟨r1, rfl, r3⟩ | ⟨j, d2, r1, r2, r3, r4⟩
      · exact em_tm0 hn (by omega) hd q3 hk q1 r1 q2 r3 l1.2 (ih _ _ _ q4)
      · have l2 := tn_lt r2
        exact em_tm1 hn (by omega) (by omega) hd q3 hk q1 r1 q2 r4 r3 l1.2 l2.2 (ih _ _ _ q4) (ih _ _ _ r2)
/-- the whole program -/
theorem em_all {nd n d : Nat} {t : Std.Format} (hnd : nd ≤ 200) (h : tn_R a_nKind a_nA a_nB a_nC nd n t d) (hd : d ≤ 200) (ht : tr_len t ≤ 72) (H : ∀ op x y pp tN tA, xp_R t op x y pp → post (f_count, f_place, f_there, f_length, f_nodes, f_level, f_groups, nI (tr_len t + 1), nI 0, f_threads, f_added, f_bank, f_matchFrom, f_matchNotes, f_found, f_states, f_flushed, a_tok, a_val, a_text, a_nKind, a_nC, a_nA, a_nB, a_nSize, a_lAlt, a_lSeq, a_lAtom, a_lGroup, op, x, y, pp, tN, tA, a_pc, a_newPc, a_from, a_noted, a_notes, a_seen, a_stack, a_stackNotes, a_best, a_kPc, a_kCount, a_kFlags, a_next, a_kMatch, a_kMatchNotes, a_kFrom, a_kNotes)) : wpX_emitAll post (f_count, f_place, f_there, f_length, f_nodes, f_level, f_groups, f_size, f_tasks, f_threads, f_added, f_bank, f_matchFrom, f_matchNotes, f_found, f_states, f_flushed, a_tok, a_val, a_text, a_nKind, a_nC, a_nA, a_nB, a_nSize, a_lAlt, a_lSeq, a_lAtom, a_lGroup, a_op, a_x, a_y, a_prefersPast, a_tNode, a_tArg, a_pc, a_newPc, a_from, a_noted, a_notes, a_seen, a_stack, a_stackNotes, a_best, a_kPc, a_kCount, a_kFlags, a_next, a_kMatch, a_kMatchNotes, a_kFrom, a_kNotes) (nI n) := by
  obtain ⟨fn, h⟩ := h
  have hn := (tn_lt h).1
  obtain ⟨k, hk⟩ := em_main (post := post) hnd fn n t d h
  unfold wpX_emitAll
  dsimp only
  refine xm_task (T := 0) (v' := nI n) (w' := 0) (by omega) (mn_s1 (by omega)) (by decide) ?_
  dsimp only
  refine ⟨1 + k, ?_⟩
  refine hk 1 0 0 a_op a_x a_y a_prefersPast _ _ (by omega) (by omega) pk_us ?_
  intro op x y pp tN tA c _
  refine br_t (by decide) ?_
  rw [Nat.zero_add]
  refine xm_emit (p := tr_len t) (o := 6) (u := 0) (v := 0) (by omega) (by omega) (by omega) (by omega) ?_
  dsimp only
  refine H _ _ _ _ _ _ (lx_xp ht (lx_fr (fun q h1 h2 => ?_) c.2) pk_us)
  rw [pk_un (by omega), pk_un (by omega), pk_un (by omega)]
  exact ⟨rfl, rfl, rfl, rfl⟩
end XEO
end
section
section PRS
/-! reading the tokens, once for both: levels with alternatives so far, sequence so far, last atom (and whether it may be quantified) -/
def tr_sz : Std.Format → Nat
  | .nil => 0
  | .line => 1
  | .align _ => 1
  | .text _ => 0
  | .nest _ _ => 1
  | .append a b => tr_sz a + tr_sz b
  | .group (.append a b) _ => tr_sz a + tr_sz b + 1
  | .group _ _ => 0
  | .tag k a => if k ≤ 3 then tr_sz a + 1 else tr_sz a + 2
abbrev pf_F : Type := Nat × Option Std.Format × Option Std.Format × Option (Std.Format × Bool)
def pf_s (sq : Option Std.Format) (a : Option (Std.Format × Bool)) : Option Std.Format := match a with
  | none => sq
  | some x => match sq with
    | none => some x.1
    | some s => some (.append s x.1)
def pf_o (o : Option Std.Format) : Std.Format := match o with
  | none => .nil
  | some t => t
def pf_a (al : Option Std.Format) (s : Std.Format) : Std.Format := match al with
  | none => s
  | some l => .group (.append l s) .allOrNone
def pf_w (g : Nat) (t : Std.Format) : Std.Format := if g = 0 then .append t .nil else .tag (3 + g) t
def op_it : Nat → Std.Format → Std.Format
  | 0, _ => .nil
  | k + 1, a => .tag 2 (if k = 0 then a else .append a (op_it k a))
def pf_q (k v : Nat) (a : Std.Format) : Std.Format :=
  if k = 14 then tr_it (v / 8) a (op_it (v % 8 - v / 8) a) else if k = 7 then .tag 0 a else if k = 10 then .tag 1 a else if k = 8 then .append a (.tag 0 a) else if k = 11 then .append a (.tag 1 a) else if k = 9 then .tag 2 a else .tag 3 a
def pf_m (k v : Nat) : Nat := if k = 0 then 2 ^ v else if k = 1 then 15 else v
def pf_t (k v : Nat) : Std.Format := if k = 13 then .line else if k = 15 then .align true else .nest (pf_m k v : Nat) .nil
/-- one token: groups so far and levels (the last first) -/
def pt_st (k v : Nat) (s : Nat × List pf_F) : Option (Nat × List pf_F) := match s with
  | (_, []) => none
  | (gc, (g, al, sq, a) :: rest) =>
    if k ≤ 2 ∨ k = 13 ∨ k = 15 then some (gc, (g, al, pf_s sq a, some (pf_t k v, true)) :: rest)
    else if k = 3 then (if 3 ≤ gc then none else some (gc + 1, (gc + 1, none, none, none) :: (g, al, pf_s sq a, none) :: rest))
    else if k = 4 then some (gc, (0, none, none, none) :: (g, al, pf_s sq a, none) :: rest)
    else if k = 5 then (match rest with
      | [] => none
      | (g', al', sq', _) :: rest' => some (gc, (g', al', sq', some (pf_w g (pf_a al (pf_o (pf_s sq a))), true)) :: rest'))
    else if k = 6 then some (gc, (g, some (pf_a al (pf_o (pf_s sq a))), none, none) :: rest)
    else (match a with
      | some (x, true) => some (gc, (g, al, sq, some (pf_q k v x, false)) :: rest)
      | _ => none)
/-- what a token may be -/
def pt_ok (k v : Nat) : Prop := k ≤ 15 ∧ (k = 0 → v ≤ 3) ∧ (k = 2 → 1 ≤ v ∧ v ≤ 15) ∧ (k = 14 → v ≤ 36 ∧ 1 ≤ v % 8 ∧ v % 8 ≤ 4 ∧ v / 8 ≤ v % 8)
theorem pf_m16 {k v : Nat} (h : pt_ok k v) (hk : k ≤ 2) : pf_m k v < 16 := by
  obtain ⟨_, h0, h2, _⟩ := h
  unfold pf_m
  by_cases c0 : k = 0
  · rw [if_pos c0]
    have := h0 c0
    have : 2 ^ v ≤ 2 ^ 3 := Nat.pow_le_pow_right (by omega) this
    omega
  · rw [if_neg c0]
    by_cases c1 : k = 1
    · rw [if_pos c1]; omega
    · rw [if_neg c1]
      have := h2 (by omega); omega
theorem tr_sz_it {a r : Std.Format} : ∀ m, tr_sz (tr_it m a r) = m * tr_sz a + tr_sz r := by
  intro m
  induction m with
  | zero => show tr_sz r = _; omega
  | succ m ih =>
    show tr_sz a + tr_sz (tr_it m a r) = _
    rw [ih, Nat.add_mul]; omega
theorem tr_sz_op {a : Std.Format} : ∀ k, tr_sz (op_it k a) = k * (tr_sz a + 1) := by
  intro k
  induction k with
  | zero => show 0 = _; omega
  | succ k ih =>
    show (if 2 ≤ 3 then tr_sz (if k = 0 then a else .append a (op_it k a)) + 1 else _) = _
    rw [if_pos (by omega), Nat.add_mul]
    by_cases c : k = 0
    · subst c; rw [if_pos rfl]; omega
    · rw [if_neg c]
      show tr_sz a + tr_sz (op_it k a) + 1 = _
      rw [ih]; omega
theorem tr_len_sz : ∀ t, tr_len t ≤ 2 * tr_sz t := by
  intro t
  induction t using tr_ind with
  | h0 => exact Nat.zero_le _
  | h1 => show 1 ≤ 2 * 1; omega
  | h2 b => show 1 ≤ 2 * 1; omega
  | h3 s => exact Nat.zero_le _
  | h4 i f => show 1 ≤ 2 * 1; omega
  | h5 a b ha hb => show tr_len a + tr_len b ≤ 2 * (tr_sz a + tr_sz b); omega
  | h6 a b c ha hb => show tr_len a + tr_len b + 2 ≤ 2 * (tr_sz a + tr_sz b + 1); omega
  | h7 f c hf => cases f <;> first | exact Nat.zero_le _ | exact absurd rfl (hf _ _)
  | h8 k a ha =>
    show tr_len (.tag k a) ≤ 2 * (if k ≤ 3 then tr_sz a + 1 else tr_sz a + 2)
    by_cases t1 : k ≤ 1
    · rw [tr_len_st t1, if_pos (by omega)]; omega
    · by_cases t3 : k ≤ 3
      · rw [tr_len_op t1 t3, if_pos t3]; omega
      · rw [tr_len_gr t1 t3, if_neg t3]; omega
/-! X's side of it -/
def px_O (nk na nb nc ns : Nat → Int32) (N D : Nat) : Option Std.Format → Int32 → Prop
  | none, v => v = -1
  | some t, v => ∃ n, v = nI n ∧ tn_R nk na nb nc N n t D ∧ ns n = nI (min 999 (tr_sz t))
def px_A (nk na nb nc ns : Nat → Int32) (N D : Nat) : Option (Std.Format × Bool) → Int32 → Prop
  | none, v => v = -1
  | some a, v => ∃ n, v = nI n ∧ tn_R nk na nb nc N n a.1 D ∧ ns n = nI (min 999 (tr_sz a.1)) ∧ (a.2 = true → ¬ nk n = 6 ∧ ¬ nk n = 7 ∧ ¬ nk n = 9 ∧ ¬ nk n = 10) ∧ (¬ a.2 = true → nk n = 6 ∨ nk n = 7 ∨ nk n = 9 ∨ nk n = 10)
def px_F (nk na nb nc ns : Nat → Int32) (N D : Nat) : List pf_F → (Nat → Int32) → (Nat → Int32) → (Nat → Int32) → (Nat → Int32) → Prop
  | [], _, _, _, _ => True
  | fr :: rest, lA, lS, lT, lG => (px_O nk na nb nc ns N D fr.2.1 (lA rest.length) ∧ px_O nk na nb nc ns N D fr.2.2.1 (lS rest.length) ∧ px_A nk na nb nc ns N D fr.2.2.2 (lT rest.length) ∧ lG rest.length = nI fr.1 ∧ fr.1 ≤ 3) ∧ px_F nk na nb nc ns N D rest lA lS lT lG
/-- old nodes stay -/
def nx_R (N N' : Nat) (nk na nb nc ns nk' na' nb' nc' ns' : Nat → Int32) : Prop := N ≤ N' ∧ ∀ i, i < N → nk' i = nk i ∧ na' i = na i ∧ nb' i = nb i ∧ nc' i = nc i ∧ ns' i = ns i
section PXX
variable {nk na nb nc ns nk' na' nb' nc' ns' : Nat → Int32} {N N' D D' : Nat}
theorem px_Om (h : nx_R N N' nk na nb nc ns nk' na' nb' nc' ns') (hD : D ≤ D') : ∀ {o v}, px_O nk na nb nc ns N D o v → px_O nk' na' nb' nc' ns' N' D' o v := by
  intro o v ho
  cases o with
  | none => exact ho
  | some t =>
    obtain ⟨n, e, h1, h2⟩ := ho
    have hn := (tn_Rlt h1).1
    exact ⟨n, e, tn_mono h.1 (fun i hi => ⟨(h.2 i hi).1, (h.2 i hi).2.1, (h.2 i hi).2.2.1, (h.2 i hi).2.2.2.1⟩) hD h1, (h.2 n hn).2.2.2.2.trans h2⟩
theorem px_Am (h : nx_R N N' nk na nb nc ns nk' na' nb' nc' ns') (hD : D ≤ D') : ∀ {o v}, px_A nk na nb nc ns N D o v → px_A nk' na' nb' nc' ns' N' D' o v := by
  intro o v ho
  cases o with
  | none => exact ho
  | some t =>
    obtain ⟨n, e, h1, h2, h3, h4⟩ := ho
    have hn := (tn_Rlt h1).1
    refine ⟨n, e, tn_mono h.1 (fun i hi => ⟨(h.2 i hi).1, (h.2 i hi).2.1, (h.2 i hi).2.2.1, (h.2 i hi).2.2.2.1⟩) hD h1, (h.2 n hn).2.2.2.2.trans h2, ?_, ?_⟩
    · rw [(h.2 n hn).1]; exact h3
    · rw [(h.2 n hn).1]; exact h4
theorem px_Fm (h : nx_R N N' nk na nb nc ns nk' na' nb' nc' ns') (hD : D ≤ D') : ∀ fs {lA lS lT lG lA' lS' lT' lG' : Nat → Int32}, (∀ i, i < fs.length → lA' i = lA i ∧ lS' i = lS i ∧ lT' i = lT i ∧ lG' i = lG i) → px_F nk na nb nc ns N D fs lA lS lT lG → px_F nk' na' nb' nc' ns' N' D' fs lA' lS' lT' lG' := by
  intro fs
  induction fs with
  | nil => intro _ _ _ _ _ _ _ _ _ _; trivial
  | cons fr rest ih =>
    intro lA lS lT lG lA' lS' lT' lG' hl hF
    obtain ⟨⟨h1, h2, h3, h4, h5⟩, h6⟩ := hF
    obtain ⟨e1, e2, e3, e4⟩ := hl rest.length (Nat.lt_succ_self _)
    refine ⟨⟨?_, ?_, ?_, e4.trans h4, h5⟩, ih (fun i hi => hl i (Nat.lt_succ_of_lt hi)) h6⟩
    · rw [e1]; exact px_Om h hD h1
    · rw [e2]; exact px_Om h hD h2
    · rw [e3]; exact px_Am h hD h3
theorem nx_rf : nx_R N N nk na nb nc ns nk na nb nc ns := ⟨Nat.le_refl _, fun i _ => ⟨rfl, rfl, rfl, rfl, rfl⟩⟩
theorem nx_tr {N'' : Nat} {nk'' na'' nb'' nc'' ns'' : Nat → Int32} (h1 : nx_R N N' nk na nb nc ns nk' na' nb' nc' ns') (h2 : nx_R N' N'' nk' na' nb' nc' ns' nk'' na'' nb'' nc'' ns'') : nx_R N N'' nk na nb nc ns nk'' na'' nb'' nc'' ns'' := by
  refine ⟨Nat.le_trans h1.1 h2.1, fun i hi => ?_⟩
  obtain ⟨a1, a2, a3, a4, a5⟩ := h1.2 i hi
  obtain ⟨b1, b2, b3, b4, b5⟩ := h2.2 i (by have := h1.1; omega)
  exact ⟨b1.trans a1, b2.trans a2, b3.trans a3, b4.trans a4, b5.trans a5⟩
theorem nx_1 {k a b s : Int32} : nx_R N (N + 1) nk na nb nc ns (upd nk N k) (upd na N a) (upd nb N b) nc (upd ns N s) :=
  ⟨by omega, fun i hi => ⟨pk_un (by omega), pk_un (by omega), pk_un (by omega), rfl, pk_un (by omega)⟩⟩
theorem px_v {o : Option Std.Format} {v : Int32} (hN : N ≤ 200) (h : px_O nk na nb nc ns N D o v) : (o = none ∧ v = -1) ∨ ∃ n t, o = some t ∧ n < N ∧ v = nI n ∧ tn_R nk na nb nc N n t D ∧ ns n = nI (min 999 (tr_sz t)) := by
  cases o with
  | none => exact Or.inl ⟨rfl, h⟩
  | some t =>
    obtain ⟨n, e, h1, h2⟩ := h
    exact Or.inr ⟨n, t, rfl, (tn_Rlt h1).1, e, h1, h2⟩
end PXX
end PRS
end
section
section XRD
/-! X reads: nodes, levels -/
variable {f_count f_place f_there f_length f_nodes f_level f_groups f_size f_tasks f_threads f_added f_bank f_matchFrom f_matchNotes f_found f_states f_flushed : Int32} {a_tok a_val a_text a_nKind a_nC a_nA a_nB a_nSize a_lAlt a_lSeq a_lAtom a_lGroup a_op a_x a_y a_prefersPast a_tNode a_tArg a_pc a_newPc a_from a_noted a_notes a_seen a_stack a_stackNotes a_best a_kPc a_kCount a_kFlags a_next a_kMatch a_kMatchNotes a_kFrom a_kNotes : Nat → Int32}
variable {N D : Nat}
section XRA
variable {post : Int32 → SX → Prop} {nk na nb nc ns lA lS lT lG : Nat → Int32}
theorem xn_node {k s : Nat} {a b a' b' : Int32} (hN : N < 200) (hk : k < 128) (hs : s < 100000) (ea : vp_nar .short a.toInt16.toInt32 = a') (eb : vp_nar .short b.toInt16.toInt32 = b') (h : post (nI N) (f_count, f_place, f_there, f_length, nI (N + 1), f_level, f_groups, f_size, f_tasks, f_threads, f_added, f_bank, f_matchFrom, f_matchNotes, f_found, f_states, f_flushed, a_tok, a_val, a_text, upd nk N (nI k), nc, upd na N a', upd nb N b', upd ns N (nI (min 999 s)), lA, lS, lT, lG, a_op, a_x, a_y, a_prefersPast, a_tNode, a_tArg, a_pc, a_newPc, a_from, a_noted, a_notes, a_seen, a_stack, a_stackNotes, a_best, a_kPc, a_kCount, a_kFlags, a_next, a_kMatch, a_kMatchNotes, a_kFrom, a_kNotes)) : wpX_node post (f_count, f_place, f_there, f_length, nI N, f_level, f_groups, f_size, f_tasks, f_threads, f_added, f_bank, f_matchFrom, f_matchNotes, f_found, f_states, f_flushed, a_tok, a_val, a_text, nk, nc, na, nb, ns, lA, lS, lT, lG, a_op, a_x, a_y, a_prefersPast, a_tNode, a_tArg, a_pc, a_newPc, a_from, a_noted, a_notes, a_seen, a_stack, a_stackNotes, a_best, a_kPc, a_kCount, a_kFlags, a_next, a_kMatch, a_kMatchNotes, a_kFrom, a_kNotes) (nI k) a b (nI s) := by
  unfold wpX_node
  dsimp only
  rw [nI_clamp (by omega), mn_b1 hk, ea, eb]
  refine ⟨vp_in_nI hN (by omega), nm_e ⟨vp_in_nI hN (by omega), nm_e ⟨vp_in_nI hN (by omega), nm_e ?_⟩⟩⟩
  by_cases c : s ≤ 999
  · refine br_t (nI_le (b := 999) c (by omega)) ?_
    unfold wX_node_57
    rw [nI_clamp (by omega), mn_s1 (by omega)]
    refine ⟨vp_in_nI hN (by omega), nm_e (nm_r (nI_1 N) ?_)⟩
    rw [Nat.min_eq_right c] at h
    exact h
  · refine br_f (nI_ge (a := 999) (by omega) (by omega)) ?_
    unfold wX_node_57
    rw [nI_clamp (by omega)]
    refine ⟨vp_in_nI hN (by omega), ?_⟩
    rw [show (999 : Int32) = nI 999 from rfl, mn_s1 (by omega)]
    refine nm_e (nm_r (nI_1 N) ?_)
    rw [Nat.min_eq_left (by omega)] at h
    exact h
theorem xn_sz {n : Nat} {t : Std.Format} (h : ns n = nI (min 999 (tr_sz t))) : ∃ z, z ≤ 999 ∧ ns n = nI z ∧ z = min 999 (tr_sz t) := ⟨_, by omega, h, rfl⟩
/-- two parts are joined -/
theorem xn_join {k i j d : Nat} {a b : Std.Format} {d1 d2 : Nat} (hN : N < 200) (hk : k = 4 ∨ k = 5) (h1 : tn_R nk na nb nc N i a d1) (h2 : tn_R nk na nb nc N j b d2) (s1 : ns i = nI (min 999 (tr_sz a))) (s2 : ns j = nI (min 999 (tr_sz b))) (k4 : k = 4 → d1 + 1 ≤ d ∧ d2 ≤ d) (k5 : k = 5 → d1 + 2 ≤ d ∧ d2 + 1 ≤ d)
    (H : ∀ N' nk' na' nb' ns' t, N' = N + 1 → nx_R N N' nk na nb nc ns nk' na' nb' nc ns' → t = (if k = 4 then .append a b else .group (.append a b) .allOrNone) → tn_R nk' na' nb' nc N' N t d → ns' N = nI (min 999 (tr_sz t)) → post (nI N) (f_count, f_place, f_there, f_length, nI N', f_level, f_groups, f_size, f_tasks, f_threads, f_added, f_bank, f_matchFrom, f_matchNotes, f_found, f_states, f_flushed, a_tok, a_val, a_text, nk', nc, na', nb', ns', lA, lS, lT, lG, a_op, a_x, a_y, a_prefersPast, a_tNode, a_tArg, a_pc, a_newPc, a_from, a_noted, a_notes, a_seen, a_stack, a_stackNotes, a_best, a_kPc, a_kCount, a_kFlags, a_next, a_kMatch, a_kMatchNotes, a_kFrom, a_kNotes)) : wpX_join post (f_count, f_place, f_there, f_length, nI N, f_level, f_groups, f_size, f_tasks, f_threads, f_added, f_bank, f_matchFrom, f_matchNotes, f_found, f_states, f_flushed, a_tok, a_val, a_text, nk, nc, na, nb, ns, lA, lS, lT, lG, a_op, a_x, a_y, a_prefersPast, a_tNode, a_tArg, a_pc, a_newPc, a_from, a_noted, a_notes, a_seen, a_stack, a_stackNotes, a_best, a_kPc, a_kCount, a_kFlags, a_next, a_kMatch, a_kMatchNotes, a_kFrom, a_kNotes) (nI k) (nI i) (nI j) := by
  have hi := (tn_Rlt h1).1
  have hj := (tn_Rlt h2).1
  unfold wpX_join
  dsimp only
  rw [nI_clamp (n := i) (by omega), nI_clamp (n := j) (by omega), s1, s2]
  refine ⟨vp_in_nI (by omega) (by omega), vp_in_nI (by omega) (by omega), ?_⟩
  have m1 : ∀ i, i < N → upd nk N (nI k) i = nk i ∧ upd na N (nI i) i = na i ∧ True := fun i _ => ⟨pk_un (by omega), pk_un (by omega), trivial⟩
  rcases hk with rfl | rfl
  · refine br_f (by decide) ?_
    unfold wX_join_23
    refine nm_r (e' := nI (min 999 (tr_sz a) + min 999 (tr_sz b))) (by rw [nI_add, show (0 : Int32) = nI 0 from rfl, nI_add, Nat.add_zero]) ?_
    refine xn_node (k := 4) hN (by omega) (by omega) (mn_s1 (by omega)) (mn_s1 (by omega)) ?_
    dsimp only
    refine H (N + 1) _ _ _ _ (.append a b) rfl nx_1 (by rw [if_pos rfl]) ?_ ?_
    · have q : ∀ x, x < N → upd nk N (nI 4) x = nk x ∧ upd na N (nI i) x = na x ∧ upd nb N (nI j) x = nb x ∧ nc x = nc x := fun x hx => ⟨pk_un (by omega), pk_un (by omega), pk_un (by omega), rfl⟩
      exact tn_cat (by omega) (Or.inl pk_us) pk_us pk_us (tn_mono (by omega) q (Nat.le_refl _) h1) (tn_mono (by omega) q (Nat.le_refl _) h2) (k4 rfl).1 (k4 rfl).2
    · rw [pk_us]
      congr 1
      show _ = min 999 (tr_sz a + tr_sz b)
      omega
  · refine br_t rfl ?_
    unfold wX_join_23
    refine nm_r (e' := nI (min 999 (tr_sz a) + min 999 (tr_sz b) + 1)) (by rw [nI_add, nI_1]) ?_
    refine xn_node (k := 5) hN (by omega) (by omega) (mn_s1 (by omega)) (mn_s1 (by omega)) ?_
    dsimp only
    refine H (N + 1) _ _ _ _ (.group (.append a b) .allOrNone) rfl nx_1 (by rw [if_neg (by omega)]) ?_ ?_
    · have q : ∀ x, x < N → upd nk N (nI 5) x = nk x ∧ upd na N (nI i) x = na x ∧ upd nb N (nI j) x = nb x ∧ nc x = nc x := fun x hx => ⟨pk_un (by omega), pk_un (by omega), pk_un (by omega), rfl⟩
      exact tn_alt (by omega) pk_us pk_us pk_us (tn_mono (by omega) q (Nat.le_refl _) h1) (tn_mono (by omega) q (Nat.le_refl _) h2) (k5 rfl).1 (k5 rfl).2
    · rw [pk_us]
      congr 1
      show _ = min 999 (tr_sz a + tr_sz b + 1)
      omega
end XRA
section XRB
variable {post : SX → Prop} {nk na nb nc ns lA lS lT lG : Nat → Int32} {rest : List pf_F} {g : Nat} {al sq : Option Std.Format} {a : Option (Std.Format × Bool)}
theorem xs_42 {v w : Int32} (hr : rest.length < 26) (ev : vp_nar .short v.toInt16.toInt32 = w) (h : post (f_count, f_place, f_there, f_length, nI N, f_level, f_groups, f_size, f_tasks, f_threads, f_added, f_bank, f_matchFrom, f_matchNotes, f_found, f_states, f_flushed, a_tok, a_val, a_text, nk, nc, na, nb, ns, lA, upd lS rest.length w, upd lT rest.length (-1), lG, a_op, a_x, a_y, a_prefersPast, a_tNode, a_tArg, a_pc, a_newPc, a_from, a_noted, a_notes, a_seen, a_stack, a_stackNotes, a_best, a_kPc, a_kCount, a_kFlags, a_next, a_kMatch, a_kMatchNotes, a_kFrom, a_kNotes)) : wX_settle_42 post (nI rest.length) v f_count f_place f_there f_length (nI N) f_level f_groups f_size f_tasks f_threads f_added f_bank f_matchFrom f_matchNotes f_found f_states f_flushed a_tok a_val a_text nk nc na nb ns lA lS lT lG a_op a_x a_y a_prefersPast a_tNode a_tArg a_pc a_newPc a_from a_noted a_notes a_seen a_stack a_stackNotes a_best a_kPc a_kCount a_kFlags a_next a_kMatch a_kMatchNotes a_kFrom a_kNotes := by
  unfold wX_settle_42
  rw [nI_clamp (by omega), ev, mn_bm.2.2.1]
  exact ⟨vp_in_nI hr (by omega), nm_e ⟨vp_in_nI hr (by omega), nm_e h⟩⟩
theorem px_top {N' D' : Nat} {nk' na' nb' nc' ns' lA' lS' lT' lG' : Nat → Int32} {fr : pf_F} (hx : nx_R N N' nk na nb nc ns nk' na' nb' nc' ns') (hD : D ≤ D') (hF : px_F nk na nb nc ns N D rest lA lS lT lG) (hl : ∀ i, i < rest.length → lA' i = lA i ∧ lS' i = lS i ∧ lT' i = lT i ∧ lG' i = lG i)
    (h1 : px_O nk' na' nb' nc' ns' N' D' fr.2.1 (lA' rest.length)) (h2 : px_O nk' na' nb' nc' ns' N' D' fr.2.2.1 (lS' rest.length)) (h3 : px_A nk' na' nb' nc' ns' N' D' fr.2.2.2 (lT' rest.length)) (h4 : lG' rest.length = nI fr.1) (h5 : fr.1 ≤ 3) : px_F nk' na' nb' nc' ns' N' D' (fr :: rest) lA' lS' lT' lG' :=
  ⟨⟨h1, h2, h3, h4, h5⟩, px_Fm hx hD rest hl hF⟩
theorem xl_settle (hN : N < 200) (hr : rest.length < 26) (hF : px_F nk na nb nc ns N D ((g, al, sq, a) :: rest) lA lS lT lG)
    (H : ∀ N' nk' na' nb' ns' lS' lT', N ≤ N' → N' ≤ N + 1 → (pf_s sq a = none → N' = N) → px_F nk' na' nb' nc ns' N' (D + 1) ((g, al, pf_s sq a, none) :: rest) lA lS' lT' lG → post (f_count, f_place, f_there, f_length, nI N', f_level, f_groups, f_size, f_tasks, f_threads, f_added, f_bank, f_matchFrom, f_matchNotes, f_found, f_states, f_flushed, a_tok, a_val, a_text, nk', nc, na', nb', ns', lA, lS', lT', lG, a_op, a_x, a_y, a_prefersPast, a_tNode, a_tArg, a_pc, a_newPc, a_from, a_noted, a_notes, a_seen, a_stack, a_stackNotes, a_best, a_kPc, a_kCount, a_kFlags, a_next, a_kMatch, a_kMatchNotes, a_kFrom, a_kNotes)) : wpX_settle post (f_count, f_place, f_there, f_length, nI N, f_level, f_groups, f_size, f_tasks, f_threads, f_added, f_bank, f_matchFrom, f_matchNotes, f_found, f_states, f_flushed, a_tok, a_val, a_text, nk, nc, na, nb, ns, lA, lS, lT, lG, a_op, a_x, a_y, a_prefersPast, a_tNode, a_tArg, a_pc, a_newPc, a_from, a_noted, a_notes, a_seen, a_stack, a_stackNotes, a_best, a_kPc, a_kCount, a_kFlags, a_next, a_kMatch, a_kMatchNotes, a_kFrom, a_kNotes) (nI rest.length) := by
  obtain ⟨⟨f1, f2, f3, f4, f5⟩, f6⟩ := hF
  dsimp only at f1 f2 f3 f4 f5
  unfold wpX_settle
  dsimp only
  rw [nI_clamp (by omega)]
  refine ⟨vp_in_nI hr (by omega), nm_e ⟨vp_in_nI hr (by omega), ?_⟩⟩
  have hl : ∀ (v w : Int32) i, i < rest.length → lA i = lA i ∧ upd lS rest.length v i = lS i ∧ upd lT rest.length w i = lT i ∧ lG i = lG i := fun v w i hi => ⟨rfl, pk_un (by omega), pk_un (by omega), rfl⟩
  cases a with
  | none =>
    have f3 : lT rest.length = -1 := f3
    refine br_t (by rw [f3]; exact mn_neg1) ?_
    rcases px_v (by omega) f2 with ⟨rfl, e⟩ | ⟨n, t, rfl, hn, e, _, _⟩
    · refine xs_42 (w := -1) hr (by rw [e]; exact mn_bm.2.2.2) ?_
      refine H N nk na nb ns _ _ (Nat.le_refl _) (by omega) (fun _ => rfl) (px_top nx_rf (by omega) f6 (hl _ _) (px_Om nx_rf (by omega) f1) pk_us pk_us f4 f5)
    · refine xs_42 (w := nI n) hr (by rw [e]; exact mn_s1 (by omega)) ?_
      refine H N nk na nb ns _ _ (Nat.le_refl _) (by omega) (fun _ => rfl) (px_top nx_rf (by omega) f6 (hl _ _) (px_Om nx_rf (by omega) f1) ?_ pk_us f4 f5)
      dsimp only
      rw [pk_us, ← e]
      exact px_Om nx_rf (by omega) f2
  | some a =>
    obtain ⟨j, ej, h1, h2, h3, h4⟩ := f3
    have hj := (tn_Rlt h1).1
    rw [ej]
    refine br_f (nI_pos (by omega)) ?_
    rcases px_v (by omega) f2 with ⟨rfl, e⟩ | ⟨n, t, rfl, hn, e, t1, t2⟩
    · refine br_f (by rw [e]; decide) ⟨vp_in_nI hr (by omega), ?_⟩
      refine xs_42 (w := nI j) hr (mn_s1 (by omega)) ?_
      refine H N nk na nb ns _ _ (Nat.le_refl _) (by omega) (fun h => nomatch h) (px_top nx_rf (by omega) f6 (hl _ _) (px_Om nx_rf (by omega) f1) ?_ pk_us f4 f5)
      dsimp only
      rw [pk_us]
      exact ⟨j, rfl, tn_mono (Nat.le_refl _) (fun i _ => ⟨rfl, rfl, rfl, rfl⟩) (by omega) h1, h2⟩
    · rw [e]
      refine br_t (nI_pos' (by omega)) ⟨vp_in_nI hr (by omega), ?_⟩
      refine xn_join (k := 4) (d := D + 1) hN (Or.inl rfl) t1 h1 t2 h2 (fun _ => by omega) (fun h => by omega) ?_
      intro N' nk' na' nb' ns' T eN hx eT hT hTs
      dsimp only
      unfold wX_settle_41
      rw [if_pos rfl] at eT
      subst eT
      refine xs_42 (w := nI N) hr (mn_s1 (by omega)) ?_
      refine H N' nk' na' nb' ns' _ _ (by omega) (by omega) (fun h => nomatch h) (px_top hx (by omega) f6 (hl _ _) (px_Om hx (by omega) f1) ?_ pk_us f4 f5)
      dsimp only
      rw [pk_us]
      exact ⟨N, rfl, hT, hTs⟩
theorem xs_47 {v w : Int32} (hr : rest.length < 26) (ev : vp_nar .short v.toInt16.toInt32 = w) (h : post (f_count, f_place, f_there, f_length, nI N, f_level, f_groups, f_size, f_tasks, f_threads, f_added, f_bank, f_matchFrom, f_matchNotes, f_found, f_states, f_flushed, a_tok, a_val, a_text, nk, nc, na, nb, ns, upd lA rest.length w, upd lS rest.length (-1), lT, lG, a_op, a_x, a_y, a_prefersPast, a_tNode, a_tArg, a_pc, a_newPc, a_from, a_noted, a_notes, a_seen, a_stack, a_stackNotes, a_best, a_kPc, a_kCount, a_kFlags, a_next, a_kMatch, a_kMatchNotes, a_kFrom, a_kNotes)) : wX_alternative_47 post (nI rest.length) v f_count f_place f_there f_length (nI N) f_level f_groups f_size f_tasks f_threads f_added f_bank f_matchFrom f_matchNotes f_found f_states f_flushed a_tok a_val a_text nk nc na nb ns lA lS lT lG a_op a_x a_y a_prefersPast a_tNode a_tArg a_pc a_newPc a_from a_noted a_notes a_seen a_stack a_stackNotes a_best a_kPc a_kCount a_kFlags a_next a_kMatch a_kMatchNotes a_kFrom a_kNotes := by
  unfold wX_alternative_47
  rw [nI_clamp (by omega), ev, mn_bm.2.2.1]
  exact ⟨vp_in_nI hr (by omega), nm_e ⟨vp_in_nI hr (by omega), nm_e h⟩⟩
theorem xl_25 {n : Nat} {s : Std.Format} (hN : N < 200) (hr : rest.length < 26) (hD : 1 ≤ D) (hF : px_F nk na nb nc ns N D ((g, al, sq, none) :: rest) lA lS lT lG) (hn : tn_R nk na nb nc N n s (D + 1)) (hs : ns n = nI (min 999 (tr_sz s)))
    (H : ∀ N' nk' na' nb' ns' lA' lS', N ≤ N' → N' ≤ N + 1 → px_F nk' na' nb' nc ns' N' (D + 2) ((g, some (pf_a al s), none, none) :: rest) lA' lS' lT lG → post (f_count, f_place, f_there, f_length, nI N', f_level, f_groups, f_size, f_tasks, f_threads, f_added, f_bank, f_matchFrom, f_matchNotes, f_found, f_states, f_flushed, a_tok, a_val, a_text, nk', nc, na', nb', ns', lA', lS', lT, lG, a_op, a_x, a_y, a_prefersPast, a_tNode, a_tArg, a_pc, a_newPc, a_from, a_noted, a_notes, a_seen, a_stack, a_stackNotes, a_best, a_kPc, a_kCount, a_kFlags, a_next, a_kMatch, a_kMatchNotes, a_kFrom, a_kNotes)) : wX_alternative_25 post (nI rest.length) (nI n) f_count f_place f_there f_length (nI N) f_level f_groups f_size f_tasks f_threads f_added f_bank f_matchFrom f_matchNotes f_found f_states f_flushed a_tok a_val a_text nk nc na nb ns lA lS lT lG a_op a_x a_y a_prefersPast a_tNode a_tArg a_pc a_newPc a_from a_noted a_notes a_seen a_stack a_stackNotes a_best a_kPc a_kCount a_kFlags a_next a_kMatch a_kMatchNotes a_kFrom a_kNotes := by
  obtain ⟨⟨f1, f2, f3, f4, f5⟩, f6⟩ := hF
  dsimp only at f1 f2 f3 f4 f5
  have hnN := (tn_Rlt hn).1
  unfold wX_alternative_25
  rw [nI_clamp (by omega)]
  refine ⟨vp_in_nI hr (by omega), ?_⟩
  have hl : ∀ (v w : Int32) i, i < rest.length → upd lA rest.length v i = lA i ∧ upd lS rest.length w i = lS i ∧ lT i = lT i ∧ lG i = lG i := fun v w i hi => ⟨pk_un (by omega), pk_un (by omega), rfl, rfl⟩
  rcases px_v (by omega) f1 with ⟨rfl, e⟩ | ⟨m, t, rfl, hm, e, t1, t2⟩
  · refine br_t (by rw [e]; exact mn_neg1) (xs_47 (w := nI n) hr (mn_s1 (by omega)) ?_)
    refine H N nk na nb ns _ _ (Nat.le_refl _) (by omega) (px_top nx_rf (by omega) f6 (hl _ _) ?_ pk_us f3 f4 f5)
    dsimp only
    rw [pk_us]
    exact ⟨n, rfl, tn_mono (Nat.le_refl _) (fun i _ => ⟨rfl, rfl, rfl, rfl⟩) (by omega) hn, hs⟩
  · rw [e]
    refine br_f (nI_pos (by omega)) ⟨vp_in_nI hr (by omega), ?_⟩
    refine xn_join (k := 5) (d := D + 2) hN (Or.inr rfl) t1 hn t2 hs (fun h => by omega) (fun _ => by omega) ?_
    intro N' nk' na' nb' ns' T eN hx eT hT hTs
    dsimp only
    rw [if_neg (by omega)] at eT
    subst eT
    refine xs_47 (w := nI N) hr (mn_s1 (by omega)) ?_
    refine H N' nk' na' nb' ns' _ _ (by omega) (by omega) (px_top hx (by omega) f6 (hl _ _) ?_ pk_us f3 f4 f5)
    dsimp only
    rw [pk_us]
    exact ⟨N, rfl, hT, hTs⟩
theorem xl_alt (hN : N + 1 < 200) (hr : rest.length < 26) (hD : 1 ≤ D) (hF : px_F nk na nb nc ns N D ((g, al, sq, a) :: rest) lA lS lT lG)
    (H : ∀ N' nk' na' nb' ns' lA' lS' lT', N ≤ N' → N' ≤ N + 2 → px_F nk' na' nb' nc ns' N' (D + 3) ((g, some (pf_a al (pf_o (pf_s sq a))), none, none) :: rest) lA' lS' lT' lG → post (f_count, f_place, f_there, f_length, nI N', f_level, f_groups, f_size, f_tasks, f_threads, f_added, f_bank, f_matchFrom, f_matchNotes, f_found, f_states, f_flushed, a_tok, a_val, a_text, nk', nc, na', nb', ns', lA', lS', lT', lG, a_op, a_x, a_y, a_prefersPast, a_tNode, a_tArg, a_pc, a_newPc, a_from, a_noted, a_notes, a_seen, a_stack, a_stackNotes, a_best, a_kPc, a_kCount, a_kFlags, a_next, a_kMatch, a_kMatchNotes, a_kFrom, a_kNotes)) : wpX_alternative post (f_count, f_place, f_there, f_length, nI N, f_level, f_groups, f_size, f_tasks, f_threads, f_added, f_bank, f_matchFrom, f_matchNotes, f_found, f_states, f_flushed, a_tok, a_val, a_text, nk, nc, na, nb, ns, lA, lS, lT, lG, a_op, a_x, a_y, a_prefersPast, a_tNode, a_tArg, a_pc, a_newPc, a_from, a_noted, a_notes, a_seen, a_stack, a_stackNotes, a_best, a_kPc, a_kCount, a_kFlags, a_next, a_kMatch, a_kMatchNotes, a_kFrom, a_kNotes) (nI rest.length) := by
  unfold wpX_alternative
  dsimp only
  refine xl_settle (by omega) hr hF ?_
  intro N1 nk1 na1 nb1 ns1 lS1 lT1 hN1 hN1' hno hF1
  dsimp only
  rw [nI_clamp (by omega)]
  refine ⟨vp_in_nI hr (by omega), nm_e ?_⟩
  have f2 : px_O nk1 na1 nb1 nc ns1 N1 (D + 1) (pf_s sq a) (lS1 rest.length) := hF1.1.2.1
  rcases px_v (by omega) f2 with ⟨en, e⟩ | ⟨n, t, en, hn, e, t1, t2⟩
  · rw [e]
    have hN1N := hno en
    refine br_f (by decide) ?_
    refine xn_node (k := 3) (s := 0) (a' := 0) (b' := 0) (by omega) (by omega) (by omega) (by decide) (by decide) ?_
    dsimp only
    have hx : nx_R N1 (N1 + 1) nk1 na1 nb1 nc ns1 (upd nk1 N1 (nI 3)) (upd na1 N1 0) (upd nb1 N1 0) nc (upd ns1 N1 (nI (min 999 0))) := nx_1
    have hF2 := px_Fm (D' := D + 1) hx (Nat.le_refl _) _ (fun i _ => ⟨rfl, rfl, rfl, rfl⟩) hF1
    refine xl_25 (sq := pf_s sq a) (s := .nil) (by omega) hr (by omega) hF2 (tn_emp (by omega) (by omega) pk_us) pk_us ?_
    intro N2 nk2 na2 nb2 ns2 lA2 lS2 h1 h2 h3
    exact H N2 nk2 na2 nb2 ns2 lA2 lS2 lT1 (by omega) (by omega) (by rw [en]; exact h3)
  · rw [e]
    refine br_t (nI_pos' (by omega)) ?_
    refine xl_25 (sq := pf_s sq a) (s := t) (by omega) hr (by omega) hF1 (tn_mono (Nat.le_refl _) (fun i _ => ⟨rfl, rfl, rfl, rfl⟩) (by omega) t1) t2 ?_
    intro N2 nk2 na2 nb2 ns2 lA2 lS2 h1 h2 h3
    exact H N2 nk2 na2 nb2 ns2 lA2 lS2 lT1 (by omega) (by omega) (by rw [en]; exact h3)
theorem xl_open {fs : List pf_F} (hr : fs.length < 26) (hg : g ≤ 3) (hF : px_F nk na nb nc ns N D fs lA lS lT lG)
    (H : ∀ lA' lS' lT' lG', px_F nk na nb nc ns N D ((g, none, none, none) :: fs) lA' lS' lT' lG' → post (f_count, f_place, f_there, f_length, nI N, nI (fs.length + 1), f_groups, f_size, f_tasks, f_threads, f_added, f_bank, f_matchFrom, f_matchNotes, f_found, f_states, f_flushed, a_tok, a_val, a_text, nk, nc, na, nb, ns, lA', lS', lT', lG', a_op, a_x, a_y, a_prefersPast, a_tNode, a_tArg, a_pc, a_newPc, a_from, a_noted, a_notes, a_seen, a_stack, a_stackNotes, a_best, a_kPc, a_kCount, a_kFlags, a_next, a_kMatch, a_kMatchNotes, a_kFrom, a_kNotes)) : wpX_openLevel post (f_count, f_place, f_there, f_length, nI N, nI fs.length, f_groups, f_size, f_tasks, f_threads, f_added, f_bank, f_matchFrom, f_matchNotes, f_found, f_states, f_flushed, a_tok, a_val, a_text, nk, nc, na, nb, ns, lA, lS, lT, lG, a_op, a_x, a_y, a_prefersPast, a_tNode, a_tArg, a_pc, a_newPc, a_from, a_noted, a_notes, a_seen, a_stack, a_stackNotes, a_best, a_kPc, a_kCount, a_kFlags, a_next, a_kMatch, a_kMatchNotes, a_kFrom, a_kNotes) (nI g) := by
  unfold wpX_openLevel
  dsimp only
  rw [nI_clamp (by omega), mn_b1 (by omega), mn_bm.2.2.1]
  refine ⟨vp_in_nI hr (by omega), nm_e ⟨vp_in_nI hr (by omega), nm_e ⟨vp_in_nI hr (by omega), nm_e (nm_r (nI_1 fs.length) ⟨vp_in_nI hr (by omega), nm_e ?_⟩)⟩⟩⟩
  refine H _ _ _ _ (px_top nx_rf (Nat.le_refl _) hF (fun i hi => ⟨pk_un (by omega), pk_un (by omega), pk_un (by omega), pk_un (by omega)⟩) pk_us pk_us pk_us pk_us hg)
end XRB
end XRD
end
section
section XRQ
theorem tn_nx {nk na nb nc ns nk' na' nb' nc' ns' : Nat → Int32} {N N' n d d' : Nat} {t : Std.Format} (h : nx_R N N' nk na nb nc ns nk' na' nb' nc' ns') (hd : d ≤ d') (ht : tn_R nk na nb nc N n t d) : tn_R nk' na' nb' nc' N' n t d' :=
  tn_mono h.1 (fun i hi => ⟨(h.2 i hi).1, (h.2 i hi).2.1, (h.2 i hi).2.2.1, (h.2 i hi).2.2.2.1⟩) hd ht
variable {f_count f_place f_there f_length f_nodes f_level f_groups f_size f_tasks f_threads f_added f_bank f_matchFrom f_matchNotes f_found f_states f_flushed : Int32} {a_tok a_val a_text a_nKind a_nC a_nA a_nB a_nSize a_lAlt a_lSeq a_lAtom a_lGroup a_op a_x a_y a_prefersPast a_tNode a_tArg a_pc a_newPc a_from a_noted a_notes a_seen a_stack a_stackNotes a_best a_kPc a_kCount a_kFlags a_next a_kMatch a_kMatchNotes a_kFrom a_kNotes : Nat → Int32}
variable {N D : Nat}
variable {post : Int32 → SX → Prop} {nk na nb nc ns lA lS lT lG : Nat → Int32} {rest : List pf_F} {g : Nat} {al sq : Option Std.Format} {a : Option (Std.Format × Bool)}
theorem xl_atom {k v : Nat} {vi : Int32} (hN : N < 200) (hD : 1 ≤ D) (hok : pt_ok k v) (hk : k ≤ 2 ∨ k = 13 ∨ k = 15) (hv : k = 0 ∨ k = 2 → vi = nI v)
    (H : ∀ nk' na' nb' ns', nx_R N (N + 1) nk na nb nc ns nk' na' nb' nc ns' → tn_R nk' na' nb' nc (N + 1) N (pf_t k v) D → ns' N = nI (min 999 (tr_sz (pf_t k v))) → (¬ nk' N = 6 ∧ ¬ nk' N = 7 ∧ ¬ nk' N = 9 ∧ ¬ nk' N = 10) → post (nI N) (f_count, f_place, f_there, f_length, nI (N + 1), f_level, f_groups, f_size, f_tasks, f_threads, f_added, f_bank, f_matchFrom, f_matchNotes, f_found, f_states, f_flushed, a_tok, a_val, a_text, nk', nc, na', nb', ns', lA, lS, lT, lG, a_op, a_x, a_y, a_prefersPast, a_tNode, a_tArg, a_pc, a_newPc, a_from, a_noted, a_notes, a_seen, a_stack, a_stackNotes, a_best, a_kPc, a_kCount, a_kFlags, a_next, a_kMatch, a_kMatchNotes, a_kFrom, a_kNotes)) : wpX_atom post (f_count, f_place, f_there, f_length, nI N, f_level, f_groups, f_size, f_tasks, f_threads, f_added, f_bank, f_matchFrom, f_matchNotes, f_found, f_states, f_flushed, a_tok, a_val, a_text, nk, nc, na, nb, ns, lA, lS, lT, lG, a_op, a_x, a_y, a_prefersPast, a_tNode, a_tArg, a_pc, a_newPc, a_from, a_noted, a_notes, a_seen, a_stack, a_stackNotes, a_best, a_kPc, a_kCount, a_kFlags, a_next, a_kMatch, a_kMatchNotes, a_kFrom, a_kNotes) (nI k) vi := by
  unfold wpX_atom
  dsimp only
  by_cases c2 : k ≤ 2
  · have hm := pf_m16 hok c2
    have et : pf_t k v = .nest (pf_m k v : Nat) .nil := by unfold pf_t; rw [if_neg (by omega), if_neg (by omega)]
    have key : ∀ z : Int32, z = nI (pf_m k v) → wX_atom_47 post z 0 f_count f_place f_there f_length (nI N) f_level f_groups f_size f_tasks f_threads f_added f_bank f_matchFrom f_matchNotes f_found f_states f_flushed a_tok a_val a_text nk nc na nb ns lA lS lT lG a_op a_x a_y a_prefersPast a_tNode a_tArg a_pc a_newPc a_from a_noted a_notes a_seen a_stack a_stackNotes a_best a_kPc a_kCount a_kFlags a_next a_kMatch a_kMatchNotes a_kFrom a_kNotes := by
      intro z hz
      subst hz
      unfold wX_atom_47
      refine xn_node (k := 0) (s := 1) (b' := 0) hN (by omega) (by omega) (mn_s1 (by omega)) (by decide) ?_
      dsimp only
      refine H _ _ _ _ nx_1 ?_ ?_ ?_
      · rw [et]; exact tn_tst (by omega) hD pk_us hm pk_us
      · rw [et, pk_us]; rfl
      · rw [pk_us]; decide
    refine br_t (nI_le (b := 2) c2 (by omega)) ?_
    by_cases c0 : k = 0
    · subst c0
      refine br_t rfl (key _ ?_)
      rw [hv (Or.inl rfl)]
      have := hok.2.1 rfl
      exact mn_sh1 (by omega)
    · refine br_f (nI_ne0 (by omega) (by omega)) ?_
      by_cases c1 : k = 1
      · subst c1
        exact br_t rfl (key _ rfl)
      · have e2 : k = 2 := by omega
        subst e2
        refine br_f (by decide) (key _ ?_)
        rw [hv (Or.inr rfl)]; rfl
  · refine br_f (nI_ge (a := 2) (by omega) (by omega)) ?_
    by_cases c13 : k = 13
    · subst c13
      refine br_t rfl ?_
      unfold wX_atom_17
      refine xn_node (k := 1) (s := 1) (a' := 0) (b' := 0) hN (by omega) (by omega) (by decide) (by decide) ?_
      dsimp only
      refine H _ _ _ _ nx_1 (tn_beg (by omega) hD pk_us) ?_ ?_
      · rw [pk_us]; rfl
      · rw [pk_us]; decide
    · have e15 : k = 15 := by omega
      subst e15
      refine br_f (by decide) ?_
      unfold wX_atom_17
      refine xn_node (k := 2) (s := 1) (a' := 0) (b' := 0) hN (by omega) (by omega) (by decide) (by decide) ?_
      dsimp only
      refine H _ _ _ _ nx_1 (tn_end (by omega) hD pk_us) ?_ ?_
      · rw [pk_us]; rfl
      · rw [pk_us]; decide
theorem xl_85 {g' : Nat} {al' sq' : Option Std.Format} {a' : Option (Std.Format × Bool)} {n : Nat} {T : Std.Format} (hr : rest.length + 1 < 26) (hF : px_F nk na nb nc ns N D ((g', al', sq', a') :: rest) lA lS lT lG) (hT : tn_R nk na nb nc N n T D) (hTs : ns n = nI (min 999 (tr_sz T))) (hTk : ¬ nk n = 6 ∧ ¬ nk n = 7 ∧ ¬ nk n = 9 ∧ ¬ nk n = 10) (hN : N ≤ 200)
    (H : ∀ lT', px_F nk na nb nc ns N D ((g', al', sq', some (T, true)) :: rest) lA lS lT' lG → post 1 (f_count, f_place, f_there, f_length, nI N, nI (rest.length + 1), f_groups, f_size, f_tasks, f_threads, f_added, f_bank, f_matchFrom, f_matchNotes, f_found, f_states, f_flushed, a_tok, a_val, a_text, nk, nc, na, nb, ns, lA, lS, lT', lG, a_op, a_x, a_y, a_prefersPast, a_tNode, a_tArg, a_pc, a_newPc, a_from, a_noted, a_notes, a_seen, a_stack, a_stackNotes, a_best, a_kPc, a_kCount, a_kFlags, a_next, a_kMatch, a_kMatchNotes, a_kFrom, a_kNotes)) : wX_closeLevel_85 post (nI (rest.length + 1)) (nI n) f_count f_place f_there f_length (nI N) (nI (rest.length + 2)) f_groups f_size f_tasks f_threads f_added f_bank f_matchFrom f_matchNotes f_found f_states f_flushed a_tok a_val a_text nk nc na nb ns lA lS lT lG a_op a_x a_y a_prefersPast a_tNode a_tArg a_pc a_newPc a_from a_noted a_notes a_seen a_stack a_stackNotes a_best a_kPc a_kCount a_kFlags a_next a_kMatch a_kMatchNotes a_kFrom a_kNotes := by
  have hn := (tn_Rlt hT).1
  obtain ⟨⟨f1, f2, f3, f4, f5⟩, f6⟩ := hF
  unfold wX_closeLevel_85
  rw [nI_pred rest.length, nI_clamp (by omega), mn_s1 (by omega)]
  refine nm_r (nI_pred (rest.length + 1)) ⟨vp_in_nI (by omega) (by omega), nm_e ?_⟩
  refine H _ (px_top nx_rf (Nat.le_refl _) f6 (fun i hi => ⟨rfl, rfl, pk_un (by omega), rfl⟩) f1 f2 ?_ f4 f5)
  dsimp only
  rw [pk_us]
  exact ⟨n, rfl, hT, hTs, fun _ => hTk, fun h => absurd rfl h⟩
theorem xl_close {g' : Nat} {al' sq' : Option Std.Format} {a' : Option (Std.Format × Bool)} (hN : N + 3 < 200) (hr : rest.length + 1 < 26) (hD : 1 ≤ D) (hF : px_F nk na nb nc ns N D ((g, al, sq, a) :: (g', al', sq', a') :: rest) lA lS lT lG)
    (H : ∀ N' nk' na' nb' ns' lA' lS' lT', N ≤ N' → N' ≤ N + 4 → px_F nk' na' nb' nc ns' N' (D + 4) ((g', al', sq', some (pf_w g (pf_a al (pf_o (pf_s sq a))), true)) :: rest) lA' lS' lT' lG → post 1 (f_count, f_place, f_there, f_length, nI N', nI (rest.length + 1), f_groups, f_size, f_tasks, f_threads, f_added, f_bank, f_matchFrom, f_matchNotes, f_found, f_states, f_flushed, a_tok, a_val, a_text, nk', nc, na', nb', ns', lA', lS', lT', lG, a_op, a_x, a_y, a_prefersPast, a_tNode, a_tArg, a_pc, a_newPc, a_from, a_noted, a_notes, a_seen, a_stack, a_stackNotes, a_best, a_kPc, a_kCount, a_kFlags, a_next, a_kMatch, a_kMatchNotes, a_kFrom, a_kNotes)) : wpX_closeLevel post (f_count, f_place, f_there, f_length, nI N, nI (rest.length + 2), f_groups, f_size, f_tasks, f_threads, f_added, f_bank, f_matchFrom, f_matchNotes, f_found, f_states, f_flushed, a_tok, a_val, a_text, nk, nc, na, nb, ns, lA, lS, lT, lG, a_op, a_x, a_y, a_prefersPast, a_tNode, a_tArg, a_pc, a_newPc, a_from, a_noted, a_notes, a_seen, a_stack, a_stackNotes, a_best, a_kPc, a_kCount, a_kFlags, a_next, a_kMatch, a_kMatchNotes, a_kFrom, a_kNotes) := by
  unfold wpX_closeLevel
  dsimp only
  refine br_f (mn_ne (b := 1) rfl (by omega) (by omega) (by omega)) (nm_r (nI_pred (rest.length + 1)) ?_)
  refine xl_alt (rest := (g', al', sq', a') :: rest) (by omega) (by rw [List.length_cons]; omega) hD hF ?_
  intro N1 nk1 na1 nb1 ns1 lA1 lS1 lT1 hN1 hN1' hF1
  dsimp only
  rw [nI_clamp (by omega)]
  obtain ⟨⟨f1, f2, f3, f4, f5⟩, f6⟩ := hF1
  dsimp only at f1 f2 f3 f4 f5
  rw [List.length_cons] at f1 f4
  obtain ⟨n, en, tn, sn⟩ := f1
  have hn := (tn_Rlt tn).1
  rw [en, f4]
  refine ⟨vp_in_nI (by omega) (by omega), nm_e ⟨vp_in_nI (by omega) (by omega), nm_e ?_⟩⟩
  by_cases cg : g = 0
  · subst cg
    refine br_t (by decide) ?_
    refine xn_node (k := 3) (s := 0) (a' := 0) (b' := 0) (by omega) (by omega) (by omega) (by decide) (by decide) ?_
    dsimp only
    have hx1 : nx_R N1 (N1 + 1) nk1 na1 nb1 nc ns1 (upd nk1 N1 (nI 3)) (upd na1 N1 0) (upd nb1 N1 0) nc (upd ns1 N1 (nI (min 999 0))) := nx_1
    rw [nI_clamp (by omega), pk_un (by omega), sn]
    refine ⟨vp_in_nI (by omega) (by omega), ?_⟩
    refine xn_node (k := 4) (by omega) (by omega) (by omega) (mn_s1 (by omega)) (mn_s1 (by omega)) ?_
    dsimp only
    have hx2 := nx_tr hx1 (nx_1 (k := nI 4) (a := nI n) (b := nI N1) (s := nI (min 999 (min 999 (tr_sz (pf_a al (pf_o (pf_s sq a))))))))
    refine xl_85 (a' := a') (T := .append (pf_a al (pf_o (pf_s sq a))) .nil) hr (px_Fm (D' := D + 4) hx2 (by omega) _ (fun i _ => ⟨rfl, rfl, rfl, rfl⟩) f6) ?_ ?_ ?_ (by omega) ?_
    · refine tn_cat (d1 := D + 3) (d2 := 1) (i := n) (j := N1) (by omega) (Or.inl pk_us) pk_us pk_us (tn_nx hx2 (Nat.le_refl _) tn) (tn_emp (by omega) (by omega) ?_) (by omega) (by omega)
      rw [pk_un (by omega), pk_us]; rfl
    · rw [pk_us]; congr 1
      show _ = min 999 (tr_sz _ + 0)
      omega
    · rw [pk_us]; decide
    · intro lT' h
      exact H _ _ _ _ _ _ _ _ (by omega) (by omega) h
  · refine br_f (nI_nle (by omega) (by omega)) ?_
    rw [nI_clamp (by omega), sn, show (2 : Int32) = nI 2 from rfl, nI_add]
    refine ⟨vp_in_nI (by omega) (by omega), ?_⟩
    refine xn_node (k := 8) (by omega) (by omega) (by omega) (mn_s1 (by omega)) (mn_s1 (by omega)) ?_
    dsimp only
    have hx2 : nx_R N1 (N1 + 1) nk1 na1 nb1 nc ns1 (upd nk1 N1 (nI 8)) (upd na1 N1 (nI n)) (upd nb1 N1 (nI g)) nc (upd ns1 N1 (nI (min 999 (min 999 (tr_sz (pf_a al (pf_o (pf_s sq a)))) + 2)))) := nx_1
    refine xl_85 (a' := a') (T := .tag (3 + g) (pf_a al (pf_o (pf_s sq a)))) hr (px_Fm (D' := D + 4) hx2 (by omega) _ (fun i _ => ⟨rfl, rfl, rfl, rfl⟩) f6) ?_ ?_ ?_ (by omega) ?_
    · exact tn_gr (d1 := D + 3) (by omega) pk_us pk_us pk_us (by omega) f5 (tn_nx hx2 (Nat.le_refl _) tn) (by omega)
    · rw [pk_us]; congr 1
      show _ = min 999 (if 3 + g ≤ 3 then _ else tr_sz _ + 2)
      rw [if_neg (by omega)]
      omega
    · rw [pk_us]; decide
    · intro lT' h
      refine H _ _ _ _ _ _ _ _ (by omega) (by omega) ?_
      unfold pf_w
      rw [if_neg cg]
      exact h
theorem xl_close0 (hl : f_level = 1) (h : post 0 (f_count, f_place, f_there, f_length, f_nodes, f_level, f_groups, f_size, f_tasks, f_threads, f_added, f_bank, f_matchFrom, f_matchNotes, f_found, f_states, f_flushed, a_tok, a_val, a_text, a_nKind, a_nC, a_nA, a_nB, a_nSize, a_lAlt, a_lSeq, a_lAtom, a_lGroup, a_op, a_x, a_y, a_prefersPast, a_tNode, a_tArg, a_pc, a_newPc, a_from, a_noted, a_notes, a_seen, a_stack, a_stackNotes, a_best, a_kPc, a_kCount, a_kFlags, a_next, a_kMatch, a_kMatchNotes, a_kFrom, a_kNotes)) : wpX_closeLevel post (f_count, f_place, f_there, f_length, f_nodes, f_level, f_groups, f_size, f_tasks, f_threads, f_added, f_bank, f_matchFrom, f_matchNotes, f_found, f_states, f_flushed, a_tok, a_val, a_text, a_nKind, a_nC, a_nA, a_nB, a_nSize, a_lAlt, a_lSeq, a_lAtom, a_lGroup, a_op, a_x, a_y, a_prefersPast, a_tNode, a_tArg, a_pc, a_newPc, a_from, a_noted, a_notes, a_seen, a_stack, a_stackNotes, a_best, a_kPc, a_kCount, a_kFlags, a_next, a_kMatch, a_kMatchNotes, a_kFrom, a_kNotes) := br_t hl h
end XRQ
end
section
section XQT
variable {f_count f_place f_there f_length f_nodes f_level f_groups f_size f_tasks f_threads f_added f_bank f_matchFrom f_matchNotes f_found f_states f_flushed : Int32} {a_tok a_val a_text a_nKind a_nC a_nA a_nB a_nSize a_lAlt a_lSeq a_lAtom a_lGroup a_op a_x a_y a_prefersPast a_tNode a_tArg a_pc a_newPc a_from a_noted a_notes a_seen a_stack a_stackNotes a_best a_kPc a_kCount a_kFlags a_next a_kMatch a_kMatchNotes a_kFrom a_kNotes : Nat → Int32}
variable {N D : Nat}
theorem xq_sz {p q S : Nat} (h : 1 ≤ p + q) : min 999 (p * min 999 S + q * (min 999 S + 1)) = min 999 (p * S + q * (S + 1)) := by
  by_cases c : S ≤ 999
  · rw [Nat.min_eq_right c]
  · rw [Nat.min_eq_left (a := 999) (b := S) (by omega)]
    have h1 : 999 ≤ p * 999 + q * (999 + 1) := by
      by_cases cp : p = 0
      · have : 1 ≤ q := by omega
        have := Nat.mul_le_mul_right (999 + 1) this
        omega
      · have : 1 ≤ p := by omega
        have := Nat.mul_le_mul_right 999 this
        omega
    have h2 : 999 ≤ p * S + q * (S + 1) := by
      by_cases cp : p = 0
      · have : 1 ≤ q := by omega
        have := Nat.mul_le_mul_right (S + 1) this
        omega
      · have : 1 ≤ p := by omega
        have := Nat.mul_le_mul_right S this
        omega
    rw [Nat.min_eq_left h1, Nat.min_eq_left h2]
section XQA
variable {post : Int32 → SX → Prop} {nk0 na0 nb0 nc0 ns0 lA lS lT lG : Nat → Int32} {N0 i m nn : Nat} {a : Std.Format}
theorem xt_14 (hN0 : N0 + 8 ≤ 200) (hm : m ≤ nn) (hnn : nn ≤ 4) (h1n : 1 ≤ nn) (hD : 1 ≤ D)
    (H : ∀ N' nk' na' nb' nc' ns', N' < N0 + 8 → N0 ≤ N' → nx_R N0 (N' + 1) nk0 na0 nb0 nc0 ns0 nk' na' nb' nc' ns' → tn_R nk' na' nb' nc' (N' + 1) N' (tr_it m a (op_it (nn - m) a)) (D + 4) → ns' N' = nI (min 999 (tr_sz (tr_it m a (op_it (nn - m) a)))) → nk' N' = 10 → post (nI N') (f_count, f_place, f_there, f_length, nI (N' + 1), f_level, f_groups, f_size, f_tasks, f_threads, f_added, f_bank, f_matchFrom, f_matchNotes, f_found, f_states, f_flushed, a_tok, a_val, a_text, nk', nc', na', nb', ns', lA, lS, lT, lG, a_op, a_x, a_y, a_prefersPast, a_tNode, a_tArg, a_pc, a_newPc, a_from, a_noted, a_notes, a_seen, a_stack, a_stackNotes, a_best, a_kPc, a_kCount, a_kFlags, a_next, a_kMatch, a_kMatchNotes, a_kFrom, a_kNotes)) :
    ∀ d j n N nk na nb ns (x4 : Int32), m + j + d = nn → d < n → N ≤ N0 + 2 * j → nx_R N0 N nk0 na0 nb0 nc0 ns0 nk na nb nc0 ns → ((j = 0 ∧ x4 = -1) ∨ (0 < j ∧ N + 1 ≤ N0 + 2 * j ∧ ∃ r, x4 = nI r ∧ tn_R nk na nb nc0 N r (op_it j a) (D + j))) → tn_R nk na nb nc0 N i a D → wX_times_14 post (nI i) (nI m) (nI nn) (nI (min 999 (tr_sz a))) n x4 (nI (m + j)) f_count f_place f_there f_length (nI N) f_level f_groups f_size f_tasks f_threads f_added f_bank f_matchFrom f_matchNotes f_found f_states f_flushed a_tok a_val a_text nk nc0 na nb ns lA lS lT lG a_op a_x a_y a_prefersPast a_tNode a_tArg a_pc a_newPc a_from a_noted a_notes a_seen a_stack a_stackNotes a_best a_kPc a_kCount a_kFlags a_next a_kMatch a_kMatchNotes a_kFrom a_kNotes := by
  intro d
  induction d with
  | zero =>
    intro j n N nk na nb ns x4 hj hn hN hx hr hi
    obtain ⟨n, rfl⟩ : ∃ m, n = m + 1 := ⟨n - 1, by omega⟩
    have hiN := (tn_Rlt hi).1
    refine br_t (nI_le (by omega) (by omega)) ?_
    have esz : nI m * nI (min 999 (tr_sz a)) + (nI nn - nI m) * (nI (min 999 (tr_sz a)) + 1) = nI (m * min 999 (tr_sz a) + (nn - m) * (min 999 (tr_sz a) + 1)) := by
      rw [pk_sub hm, nI_1, pk_mul, pk_mul, nI_add]
    have hsm : m * min 999 (tr_sz a) + (nn - m) * (min 999 (tr_sz a) + 1) < 100000 := by
      have h1 := Nat.mul_le_mul (show m ≤ 4 by omega) (show min 999 (tr_sz a) ≤ 999 by omega)
      have h2 := Nat.mul_le_mul (show nn - m ≤ 4 by omega) (show min 999 (tr_sz a) + 1 ≤ 1000 by omega)
      omega
    rw [esz]
    have ej : nn - m = j := by omega
    have esT : min 999 (m * min 999 (tr_sz a) + (nn - m) * (min 999 (tr_sz a) + 1)) = min 999 (tr_sz (tr_it m a (op_it (nn - m) a))) := by
      rw [xq_sz (by omega), tr_sz_it, tr_sz_op]
    have hNN : N + 1 ≤ 200 := by rcases hr with ⟨_, _⟩ | ⟨_, _, _⟩ <;> omega
    have hN8 : N < N0 + 8 := by rcases hr with ⟨_, _⟩ | ⟨_, _, _⟩ <;> omega
    have hx4 : ∃ z, vp_nar .short x4.toInt16.toInt32 = z ∧ z = x4 := by
      rcases hr with ⟨_, e⟩ | ⟨_, _, r, e, h⟩
      · rw [e]; exact ⟨_, mn_bm.2.2.2, rfl⟩
      · have := (tn_Rlt h).1
        rw [e]; exact ⟨_, mn_s1 (by omega), rfl⟩
    obtain ⟨z, hz, rfl⟩ := hx4
    refine xn_node (k := 10) (by omega) (by omega) hsm (mn_s1 (by omega)) hz ?_
    dsimp only
    rw [nI_clamp (by omega), mn_b1 (by omega)]
    refine ⟨vp_in_nI (by omega) (by omega), nm_e ?_⟩
    have hx1 : nx_R N (N + 1) nk na nb nc0 ns (upd nk N (nI 10)) (upd na N (nI i)) (upd nb N z) (upd nc0 N (nI m)) (upd ns N (nI (min 999 (m * min 999 (tr_sz a) + (nn - m) * (min 999 (tr_sz a) + 1))))) :=
      ⟨by omega, fun x hx => ⟨pk_un (by omega), pk_un (by omega), pk_un (by omega), pk_un (by omega), pk_un (by omega)⟩⟩
    refine H N _ _ _ _ _ hN8 hx.1 (nx_tr hx hx1) ?_ ?_ pk_us
    · rcases hr with ⟨e1, e2⟩ | ⟨e1, e2, r, e3, h⟩
      · have e0 : nn - m = 0 := by omega
        rw [e0]
        exact tn_tm0 (d1 := D) (by omega) (by omega) pk_us pk_us (by rw [pk_us]; exact e2) pk_us (by omega) (tn_nx hx1 (Nat.le_refl _) hi) (by omega)
      · rw [ej]
        exact tn_tm1 (d1 := D) (d2 := D + j) (by omega) (by omega) pk_us pk_us (by rw [pk_us]; exact e3) pk_us (by omega) (tn_nx hx1 (Nat.le_refl _) hi) (tn_nx hx1 (Nat.le_refl _) h) (by omega) (by omega)
    · rw [pk_us, esT]
  | succ d ih =>
    intro j n N nk na nb ns x4 hj hn hN hx hr hi
    obtain ⟨n, rfl⟩ : ∃ m, n = m + 1 := ⟨n - 1, by omega⟩
    have hiN := (tn_Rlt hi).1
    refine br_f (nI_ge (by omega) (by omega)) ?_
    rcases hr with ⟨e1, e2⟩ | ⟨e1, e2, r, e3, h⟩
    · subst e1 e2
      refine br_f (by decide) ?_
      unfold wX_times_38
      refine xn_node (k := 7) (s := 0) (b' := 0) (by omega) (by omega) (by omega) (mn_s1 (by omega)) (by decide) ?_
      dsimp only
      refine nm_r (nI_1 (m + 0)) ?_
      have hx1 : nx_R N (N + 1) nk na nb nc0 ns (upd nk N (nI 7)) (upd na N (nI i)) (upd nb N 0) nc0 (upd ns N (nI (min 999 0))) := nx_1
      refine ih 1 n (N + 1) _ _ _ _ _ (by omega) (by omega) (by omega) (nx_tr hx hx1) (Or.inr ⟨by omega, by omega, N, rfl, ?_⟩) (tn_nx hx1 (Nat.le_refl _) hi)
      exact tn_op (z := 0) (d1 := D) (by omega) pk_us pk_us pk_us (by omega) (tn_nx hx1 (Nat.le_refl _) hi) (by omega)
    · have hrN := (tn_Rlt h).1
      subst e3
      refine br_t (nI_pos' (by omega)) ?_
      refine xn_node (k := 4) (s := 0) (by omega) (by omega) (by omega) (mn_s1 (by omega)) (mn_s1 (by omega)) ?_
      dsimp only
      have hx1 : nx_R N (N + 1) nk na nb nc0 ns (upd nk N (nI 4)) (upd na N (nI i)) (upd nb N (nI r)) nc0 (upd ns N (nI (min 999 0))) := nx_1
      unfold wX_times_38
      refine xn_node (k := 7) (s := 0) (b' := 0) (by omega) (by omega) (by omega) (mn_s1 (by omega)) (by decide) ?_
      dsimp only
      refine nm_r (nI_1 (m + j)) ?_
      have hx2 := nx_tr hx1 (nx_1 (N := N + 1) (k := nI 7) (a := nI N) (b := 0) (s := nI (min 999 0)))
      refine ih (j + 1) n (N + 1 + 1) _ _ _ _ _ (by omega) (by omega) (by omega) (nx_tr hx hx2) (Or.inr ⟨by omega, by omega, N + 1, rfl, ?_⟩) (tn_nx hx2 (Nat.le_refl _) hi)
      have hcat : tn_R (upd nk N (nI 4)) (upd na N (nI i)) (upd nb N (nI r)) nc0 (N + 1) N (.append a (op_it j a)) (D + j) := by
        exact tn_cat (d1 := D) (d2 := D + j) (by omega) (Or.inl pk_us) pk_us pk_us (tn_nx hx1 (Nat.le_refl _) hi) (tn_nx hx1 (Nat.le_refl _) h) (by omega) (by omega)
      show tn_R _ _ _ _ _ _ (.tag 2 (if j = 0 then a else .append a (op_it j a))) _
      rw [if_neg (by omega)]
      exact tn_op (z := 0) (d1 := D + j) (by omega) pk_us pk_us pk_us (by omega) (tn_nx (nx_1 (N := N + 1) (ns := upd ns N (nI (min 999 0))) (s := nI (min 999 0))) (Nat.le_refl _) hcat) (by omega)
end XQA
section XQB
variable {post : Int32 → SX → Prop} {nk na nb nc ns lA lS lT lG : Nat → Int32} {rest : List pf_F} {g : Nat} {al sq : Option Std.Format}
theorem xq_211 {N' D' n : Nat} {nk' na' nb' nc' ns' : Nat → Int32} {T : Std.Format} {ao : Option (Std.Format × Bool)} (hr : rest.length < 26) (hx : nx_R N N' nk na nb nc ns nk' na' nb' nc' ns') (hD : D ≤ D') (hF : px_F nk na nb nc ns N D ((g, al, sq, ao) :: rest) lA lS lT lG) (hT : tn_R nk' na' nb' nc' N' n T D') (hTs : ns' n = nI (min 999 (tr_sz T))) (hTk : nk' n = 6 ∨ nk' n = 7 ∨ nk' n = 9 ∨ nk' n = 10) (hN : N' ≤ 200)
    (H : ∀ lT', px_F nk' na' nb' nc' ns' N' D' ((g, al, sq, some (T, false)) :: rest) lA lS lT' lG → post 1 (f_count, f_place, f_there, f_length, nI N', f_level, f_groups, f_size, f_tasks, f_threads, f_added, f_bank, f_matchFrom, f_matchNotes, f_found, f_states, f_flushed, a_tok, a_val, a_text, nk', nc', na', nb', ns', lA, lS, lT', lG, a_op, a_x, a_y, a_prefersPast, a_tNode, a_tArg, a_pc, a_newPc, a_from, a_noted, a_notes, a_seen, a_stack, a_stackNotes, a_best, a_kPc, a_kCount, a_kFlags, a_next, a_kMatch, a_kMatchNotes, a_kFrom, a_kNotes)) : wX_quantify_211 post (nI rest.length) (nI n) f_count f_place f_there f_length (nI N') f_level f_groups f_size f_tasks f_threads f_added f_bank f_matchFrom f_matchNotes f_found f_states f_flushed a_tok a_val a_text nk' nc' na' nb' ns' lA lS lT lG a_op a_x a_y a_prefersPast a_tNode a_tArg a_pc a_newPc a_from a_noted a_notes a_seen a_stack a_stackNotes a_best a_kPc a_kCount a_kFlags a_next a_kMatch a_kMatchNotes a_kFrom a_kNotes := by
  have hn := (tn_Rlt hT).1
  obtain ⟨⟨f1, f2, f3, f4, f5⟩, f6⟩ := hF
  unfold wX_quantify_211
  rw [nI_clamp (by omega), mn_s1 (by omega)]
  refine ⟨vp_in_nI hr (by omega), nm_e ?_⟩
  refine H _ (px_top hx hD f6 (fun i hi => ⟨rfl, rfl, pk_un (by omega), rfl⟩) (px_Om hx hD f1) (px_Om hx hD f2) ?_ f4 f5)
  dsimp only
  rw [pk_us]
  exact ⟨n, rfl, hT, hTs, (fun h => nomatch h), fun _ => hTk⟩
theorem xq_f {k : Nat} {vi : Int32} {ao : Option (Std.Format × Bool)} (hN : N ≤ 200) (hr : rest.length < 26) (hF : px_F nk na nb nc ns N D ((g, al, sq, ao) :: rest) lA lS lT lG) (hao : ∀ x, ao ≠ some (x, true)) (h : post 0 (f_count, f_place, f_there, f_length, nI N, f_level, f_groups, f_size, f_tasks, f_threads, f_added, f_bank, f_matchFrom, f_matchNotes, f_found, f_states, f_flushed, a_tok, a_val, a_text, nk, nc, na, nb, ns, lA, lS, lT, lG, a_op, a_x, a_y, a_prefersPast, a_tNode, a_tArg, a_pc, a_newPc, a_from, a_noted, a_notes, a_seen, a_stack, a_stackNotes, a_best, a_kPc, a_kCount, a_kFlags, a_next, a_kMatch, a_kMatchNotes, a_kFrom, a_kNotes)) : wpX_quantify post (f_count, f_place, f_there, f_length, nI N, f_level, f_groups, f_size, f_tasks, f_threads, f_added, f_bank, f_matchFrom, f_matchNotes, f_found, f_states, f_flushed, a_tok, a_val, a_text, nk, nc, na, nb, ns, lA, lS, lT, lG, a_op, a_x, a_y, a_prefersPast, a_tNode, a_tArg, a_pc, a_newPc, a_from, a_noted, a_notes, a_seen, a_stack, a_stackNotes, a_best, a_kPc, a_kCount, a_kFlags, a_next, a_kMatch, a_kMatchNotes, a_kFrom, a_kNotes) (nI rest.length) (nI k) vi := by
  obtain ⟨⟨_, _, f3, _⟩, _⟩ := hF
  dsimp only at f3
  unfold wpX_quantify
  dsimp only
  rw [nI_clamp (by omega)]
  refine ⟨vp_in_nI hr (by omega), nm_e ?_⟩
  cases ao with
  | none =>
    have f3 : lT rest.length = -1 := f3
    rw [f3]
    exact br_t mn_neg1 h
  | some x =>
    obtain ⟨n, e, h1, h2, h3, h4⟩ := f3
    have hn := (tn_Rlt h1).1
    have h4 := h4 (fun z => hao x.1 (by rw [← z]))
    rw [e, nI_clamp (by omega)]
    refine br_f (nI_pos (by omega)) ⟨vp_in_nI (by omega) (by omega), ?_⟩
    by_cases c6 : nk n = 6
    · exact br_t c6 h
    · refine br_f c6 ⟨vp_in_nI (by omega) (by omega), ?_⟩
      by_cases c7 : nk n = 7
      · exact br_t c7 h
      · refine br_f c7 ⟨vp_in_nI (by omega) (by omega), ?_⟩
        by_cases c9 : nk n = 9
        · exact br_t c9 h
        · refine br_f c9 ⟨vp_in_nI (by omega) (by omega), ?_⟩
          have c10 : nk n = 10 := by
            rcases h4 with h4 | h4 | h4 | h4
            · exact absurd h4 c6
            · exact absurd h4 c7
            · exact absurd h4 c9
            · exact h4
          exact br_t c10 h
theorem xq_q {k v : Nat} {vi : Int32} {x : Std.Format} (hN : N + 8 ≤ 200) (hr : rest.length < 26) (hD : 1 ≤ D) (hok : pt_ok k v) (hk : (7 ≤ k ∧ k ≤ 12) ∨ k = 14) (hv : k = 14 → vi = nI v) (hF : px_F nk na nb nc ns N D ((g, al, sq, some (x, true)) :: rest) lA lS lT lG)
    (H : ∀ N' nk' na' nb' nc' ns' lT', N ≤ N' → N' ≤ N + 8 → px_F nk' na' nb' nc' ns' N' (D + 4) ((g, al, sq, some (pf_q k v x, false)) :: rest) lA lS lT' lG → post 1 (f_count, f_place, f_there, f_length, nI N', f_level, f_groups, f_size, f_tasks, f_threads, f_added, f_bank, f_matchFrom, f_matchNotes, f_found, f_states, f_flushed, a_tok, a_val, a_text, nk', nc', na', nb', ns', lA, lS, lT', lG, a_op, a_x, a_y, a_prefersPast, a_tNode, a_tArg, a_pc, a_newPc, a_from, a_noted, a_notes, a_seen, a_stack, a_stackNotes, a_best, a_kPc, a_kCount, a_kFlags, a_next, a_kMatch, a_kMatchNotes, a_kFrom, a_kNotes)) : wpX_quantify post (f_count, f_place, f_there, f_length, nI N, f_level, f_groups, f_size, f_tasks, f_threads, f_added, f_bank, f_matchFrom, f_matchNotes, f_found, f_states, f_flushed, a_tok, a_val, a_text, nk, nc, na, nb, ns, lA, lS, lT, lG, a_op, a_x, a_y, a_prefersPast, a_tNode, a_tArg, a_pc, a_newPc, a_from, a_noted, a_notes, a_seen, a_stack, a_stackNotes, a_best, a_kPc, a_kCount, a_kFlags, a_next, a_kMatch, a_kMatchNotes, a_kFrom, a_kNotes) (nI rest.length) (nI k) vi := by
  have hF0 := hF
  obtain ⟨⟨_, _, ⟨n, e, h1, h2, h3, h4⟩, _⟩, _⟩ := hF0
  dsimp only at e h1 h2 h3 h4
  have hn := (tn_Rlt h1).1
  obtain ⟨n6, n7, n9, n10⟩ := h3 rfl
  unfold wpX_quantify
  dsimp only
  rw [nI_clamp (n := rest.length) (by omega), e]
  refine ⟨vp_in_nI hr (by omega), nm_e ?_⟩
  rw [nI_clamp (n := n) (by omega), h2]
  refine br_f (nI_pos (by omega)) ⟨vp_in_nI (by omega) (by omega), br_f n6 ⟨vp_in_nI (by omega) (by omega), br_f n7 ⟨vp_in_nI (by omega) (by omega), br_f n9 ⟨vp_in_nI (by omega) (by omega), br_f n10 ⟨vp_in_nI (by omega) (by omega), nm_e ?_⟩⟩⟩⟩⟩
  have main : ∀ z, z < 2 → (k = 14 ∨ (k ≤ 9 ∧ z = 0) ∨ (10 ≤ k ∧ k ≤ 12 ∧ z = 1)) → wX_quantify_89 post (nI rest.length) (nI k) vi (nI n) (nI (min 999 (tr_sz x))) (nI z) f_count f_place f_there f_length (nI N) f_level f_groups f_size f_tasks f_threads f_added f_bank f_matchFrom f_matchNotes f_found f_states f_flushed a_tok a_val a_text nk nc na nb ns lA lS lT lG a_op a_x a_y a_prefersPast a_tNode a_tArg a_pc a_newPc a_from a_noted a_notes a_seen a_stack a_stackNotes a_best a_kPc a_kCount a_kFlags a_next a_kMatch a_kMatchNotes a_kFrom a_kNotes := by
    intro z hz hkz
    unfold wX_quantify_89
    by_cases c14 : k = 14
    · subst c14
      have hv := hv rfl
      obtain ⟨v1, v2, v3, v4⟩ := hok.2.2.2 rfl
      refine br_t rfl ?_
      rw [hv, pk_shrN (by omega) _ 3 (by decide), pk_andN (by omega) 3 (by decide)]
      unfold wpX_times
      dsimp only
      rw [nI_clamp (by omega), h2]
      refine ⟨vp_in_nI (by omega) (by omega), nm_e ⟨5, ?_⟩⟩
      refine xt_14 (N0 := N) (i := n) (m := v / 8) (nn := v % 8) (a := x) (D := D) (by omega) v4 v3 v2 hD ?_ (v % 8 - v / 8) 0 5 N nk na nb ns (-1) (by omega) (by omega) (by omega) nx_rf (Or.inl ⟨rfl, rfl⟩) h1
      intro N' nk' na' nb' nc' ns' q1 q2 q3 q4 q5 q6
      dsimp only
      refine xq_211 hr q3 (by omega) hF q4 q5 (Or.inr (Or.inr (Or.inr q6))) (by omega) ?_
      intro lT' hF'
      refine H (N' + 1) nk' na' nb' nc' ns' lT' (by omega) (by omega) ?_
      unfold pf_q
      rw [if_pos rfl]
      exact hF'
    · refine br_f (mn_ne (b := 14) rfl c14 (by omega) (by omega)) ?_
      have hst : k = 7 ∨ k = 10 → wX_quantify_127 post (nI rest.length) (nI n) (nI (min 999 (tr_sz x))) (nI z) f_count f_place f_there f_length (nI N) f_level f_groups f_size f_tasks f_threads f_added f_bank f_matchFrom f_matchNotes f_found f_states f_flushed a_tok a_val a_text nk nc na nb ns lA lS lT lG a_op a_x a_y a_prefersPast a_tNode a_tArg a_pc a_newPc a_from a_noted a_notes a_seen a_stack a_stackNotes a_best a_kPc a_kCount a_kFlags a_next a_kMatch a_kMatchNotes a_kFrom a_kNotes := by
        intro h710
        unfold wX_quantify_127
        rw [nI_1]
        refine xn_node (k := 6) (by omega) (by omega) (by omega) (mn_s1 (by omega)) (mn_s1 (by omega)) ?_
        dsimp only
        have hx1 : nx_R N (N + 1) nk na nb nc ns (upd nk N (nI 6)) (upd na N (nI n)) (upd nb N (nI z)) nc (upd ns N (nI (min 999 (min 999 (tr_sz x) + 1)))) := nx_1
        refine xq_211 (D' := D + 4) (T := .tag z x) hr hx1 (by omega) hF (tn_st (d1 := D) (by omega) pk_us pk_us pk_us hz (tn_nx hx1 (Nat.le_refl _) h1) (by omega)) ?_ (Or.inl pk_us) (by omega) ?_
        · rw [pk_us]; congr 1
          show _ = min 999 (if z ≤ 3 then tr_sz x + 1 else _)
          rw [if_pos (by omega)]; omega
        · intro lT' hF'
          refine H (N + 1) _ _ _ _ _ lT' (by omega) (by omega) ?_
          have eq : pf_q k v x = .tag z x := by
            unfold pf_q
            rw [if_neg c14]
            by_cases c : k = 7
            · rw [if_pos c, show z = 0 by omega]
            · rw [if_neg c, if_pos (by omega), show z = 1 by omega]
          rw [eq]; exact hF'
      have hpl : k = 8 ∨ k = 11 → wX_quantify_158 post (nI rest.length) (nI n) (nI (min 999 (tr_sz x))) (nI z) f_count f_place f_there f_length (nI N) f_level f_groups f_size f_tasks f_threads f_added f_bank f_matchFrom f_matchNotes f_found f_states f_flushed a_tok a_val a_text nk nc na nb ns lA lS lT lG a_op a_x a_y a_prefersPast a_tNode a_tArg a_pc a_newPc a_from a_noted a_notes a_seen a_stack a_stackNotes a_best a_kPc a_kCount a_kFlags a_next a_kMatch a_kMatchNotes a_kFrom a_kNotes := by
        intro h811
        unfold wX_quantify_158
        rw [nI_1]
        refine xn_node (k := 6) (by omega) (by omega) (by omega) (mn_s1 (by omega)) (mn_s1 (by omega)) ?_
        dsimp only
        have e2 : 2 * nI (min 999 (tr_sz x)) + 1 = nI (2 * min 999 (tr_sz x) + 1) := by rw [show (2 : Int32) = nI 2 from rfl, pk_mul, nI_1]
        rw [e2]
        refine xn_node (k := 9) (by omega) (by omega) (by omega) (mn_s1 (by omega)) (mn_s1 (by omega)) ?_
        dsimp only
        have hx1 : nx_R N (N + 1) nk na nb nc ns (upd nk N (nI 6)) (upd na N (nI n)) (upd nb N (nI z)) nc (upd ns N (nI (min 999 (min 999 (tr_sz x) + 1)))) := nx_1
        have hst1 : tn_R (upd nk N (nI 6)) (upd na N (nI n)) (upd nb N (nI z)) nc (N + 1) N (.tag z x) (D + 1) := tn_st (d1 := D) (by omega) pk_us pk_us pk_us hz (tn_nx hx1 (Nat.le_refl _) h1) (by omega)
        have hx2 := nx_1 (N := N + 1) (nk := upd nk N (nI 6)) (na := upd na N (nI n)) (nb := upd nb N (nI z)) (nc := nc) (ns := upd ns N (nI (min 999 (min 999 (tr_sz x) + 1)))) (k := nI 9) (a := nI n) (b := nI N) (s := nI (min 999 (2 * min 999 (tr_sz x) + 1)))
        refine xq_211 (D' := D + 4) (T := .append x (.tag z x)) hr (nx_tr hx1 hx2) (by omega) hF (tn_cat (i := n) (j := N) (d1 := D) (d2 := D + 1) (by omega) (Or.inr pk_us) pk_us pk_us (tn_nx (nx_tr hx1 hx2) (Nat.le_refl _) h1) (tn_nx hx2 (Nat.le_refl _) hst1) (by omega) (by omega)) ?_ (Or.inr (Or.inr (Or.inl pk_us))) (by omega) ?_
        · rw [pk_us]; congr 1
          show _ = min 999 (tr_sz x + (if z ≤ 3 then tr_sz x + 1 else _))
          rw [if_pos (by omega)]; omega
        · intro lT' hF'
          refine H (N + 1 + 1) _ _ _ _ _ lT' (by omega) (by omega) ?_
          have eq : pf_q k v x = .append x (.tag z x) := by
            unfold pf_q
            rw [if_neg c14, if_neg (by omega), if_neg (by omega)]
            by_cases c : k = 8
            · rw [if_pos c, show z = 0 by omega]
            · rw [if_neg c, if_pos (by omega), show z = 1 by omega]
          rw [eq]; exact hF'
      by_cases c7 : k = 7
      · exact br_t (by rw [c7]; rfl) (hst (Or.inl c7))
      · refine br_f (mn_ne (b := 7) rfl c7 (by omega) (by omega)) ?_
        by_cases c10 : k = 10
        · exact br_t (by rw [c10]; rfl) (hst (Or.inr c10))
        · refine br_f (mn_ne (b := 10) rfl c10 (by omega) (by omega)) ?_
          by_cases c8 : k = 8
          · exact br_t (by rw [c8]; rfl) (hpl (Or.inl c8))
          · refine br_f (mn_ne (b := 8) rfl c8 (by omega) (by omega)) ?_
            by_cases c11 : k = 11
            · exact br_t (by rw [c11]; rfl) (hpl (Or.inr c11))
            · refine br_f (mn_ne (b := 11) rfl c11 (by omega) (by omega)) ?_
              rw [nI_1]
              refine xn_node (k := 7) (by omega) (by omega) (by omega) (mn_s1 (by omega)) (mn_s1 (by omega)) ?_
              dsimp only
              have hx1 : nx_R N (N + 1) nk na nb nc ns (upd nk N (nI 7)) (upd na N (nI n)) (upd nb N (nI z)) nc (upd ns N (nI (min 999 (min 999 (tr_sz x) + 1)))) := nx_1
              refine xq_211 (D' := D + 4) (T := .tag (2 + z) x) hr hx1 (by omega) hF (tn_op (d1 := D) (by omega) pk_us pk_us pk_us hz (tn_nx hx1 (Nat.le_refl _) h1) (by omega)) ?_ (Or.inr (Or.inl pk_us)) (by omega) ?_
              · rw [pk_us]; congr 1
                show _ = min 999 (if 2 + z ≤ 3 then tr_sz x + 1 else _)
                rw [if_pos (by omega)]; omega
              · intro lT' hF'
                refine H (N + 1) _ _ _ _ _ lT' (by omega) (by omega) ?_
                have eq : pf_q k v x = .tag (2 + z) x := by
                  unfold pf_q
                  rw [if_neg c14, if_neg c7, if_neg c10, if_neg c8, if_neg c11]
                  by_cases c : k = 9
                  · rw [if_pos c, show z = 0 by omega]
                  · rw [if_neg c, show z = 1 by omega]
                rw [eq]; exact hF'
  by_cases c9 : k ≤ 9
  · exact br_t (nI_le (b := 9) c9 (by omega)) (main 0 (by omega) (Or.inr (Or.inl ⟨c9, rfl⟩)))
  · refine br_f (nI_ge (a := 9) (by omega) (by omega)) ?_
    by_cases c13 : 13 ≤ k
    · exact br_t (nI_le (a := 13) c13 (by omega)) (main 0 (by omega) (Or.inl (by omega)))
    · exact br_f (nI_ge (b := 13) (by omega) (by omega)) (main 1 (by omega) (Or.inr (Or.inr ⟨by omega, by omega, rfl⟩)))
end XQB
end XQT
end
section
section XRL
/-! the run over the tokens -/
def tk_R (cnt : Nat) (tok val : Nat → Int32) (K V : Nat → Nat) : Prop := cnt ≤ 24 ∧ ∀ i, i < cnt → tok i = nI (K i) ∧ pt_ok (K i) (V i) ∧ (K i = 0 ∨ K i = 2 ∨ K i = 14 → val i = nI (V i))
def pt_run (K V : Nat → Nat) : Nat → Nat → Nat × List pf_F → Sum Nat (Nat × List pf_F)
  | 0, _, s => .inr s
  | r + 1, i, s => match pt_st (K i) (V i) s with
    | none => .inl i
    | some s' => pt_run K V r (i + 1) s'
theorem pt_rn {K V : Nat → Nat} {r i : Nat} {s : Nat × List pf_F} (h : pt_st (K i) (V i) s = none) : pt_run K V (r + 1) i s = .inl i := by
  show (match pt_st (K i) (V i) s with | none => _ | some s' => _) = _
  rw [h]
theorem pt_rs {K V : Nat → Nat} {r i : Nat} {s s' : Nat × List pf_F} (h : pt_st (K i) (V i) s = some s') : pt_run K V (r + 1) i s = pt_run K V r (i + 1) s' := by
  show (match pt_st (K i) (V i) s with | none => _ | some s' => _) = _
  rw [h]
section PTS
variable {k v gc g : Nat} {al sq : Option Std.Format} {a : Option (Std.Format × Bool)} {rest : List pf_F}
theorem pt_a (h : k ≤ 2 ∨ k = 13 ∨ k = 15) : pt_st k v (gc, (g, al, sq, a) :: rest) = some (gc, (g, al, pf_s sq a, some (pf_t k v, true)) :: rest) := if_pos h
theorem pt_3 (hg : gc < 3) : pt_st 3 v (gc, (g, al, sq, a) :: rest) = some (gc + 1, (gc + 1, none, none, none) :: (g, al, pf_s sq a, none) :: rest) := by
  unfold pt_st
  dsimp only
  rw [if_neg (by omega), if_pos rfl, if_neg (by omega)]
theorem pt_3n (hg : 3 ≤ gc) : pt_st 3 v (gc, (g, al, sq, a) :: rest) = none := by
  unfold pt_st
  dsimp only
  rw [if_neg (by omega), if_pos rfl, if_pos hg]
theorem pt_4 : pt_st 4 v (gc, (g, al, sq, a) :: rest) = some (gc, (0, none, none, none) :: (g, al, pf_s sq a, none) :: rest) := rfl
theorem pt_5n : pt_st 5 v (gc, [(g, al, sq, a)]) = none := rfl
theorem pt_5 {g' : Nat} {al' sq' : Option Std.Format} {a' : Option (Std.Format × Bool)} : pt_st 5 v (gc, (g, al, sq, a) :: (g', al', sq', a') :: rest) = some (gc, (g', al', sq', some (pf_w g (pf_a al (pf_o (pf_s sq a))), true)) :: rest) := rfl
theorem pt_6 : pt_st 6 v (gc, (g, al, sq, a) :: rest) = some (gc, (g, some (pf_a al (pf_o (pf_s sq a))), none, none) :: rest) := rfl
theorem pt_q {x : Std.Format} (hk : (7 ≤ k ∧ k ≤ 12) ∨ k = 14) : pt_st k v (gc, (g, al, sq, some (x, true)) :: rest) = some (gc, (g, al, sq, some (pf_q k v x, false)) :: rest) := by
  unfold pt_st
  dsimp only
  rw [if_neg (by omega), if_neg (by omega), if_neg (by omega), if_neg (by omega), if_neg (by omega)]
theorem pt_qn (hk : (7 ≤ k ∧ k ≤ 12) ∨ k = 14) (ha : ∀ x, a ≠ some (x, true)) : pt_st k v (gc, (g, al, sq, a) :: rest) = none := by
  unfold pt_st
  dsimp only
  rw [if_neg (by omega), if_neg (by omega), if_neg (by omega), if_neg (by omega), if_neg (by omega)]
  match a, ha with
  | none, _ => rfl
  | some (x, false), _ => rfl
  | some (x, true), ha => exact absurd rfl (ha x)
end PTS
def pf_Q (fs : List pf_F) : Nat := match fs with
  | (_, _, _, some (_, true)) :: _ => 4
  | _ => 0
variable {f_count f_place f_there f_length f_nodes f_level f_groups f_size f_tasks f_threads f_added f_bank f_matchFrom f_matchNotes f_found f_states f_flushed : Int32} {a_tok a_val a_text a_nKind a_nC a_nA a_nB a_nSize a_lAlt a_lSeq a_lAtom a_lGroup a_op a_x a_y a_prefersPast a_tNode a_tArg a_pc a_newPc a_from a_noted a_notes a_seen a_stack a_stackNotes a_best a_kPc a_kCount a_kFlags a_next a_kMatch a_kMatchNotes a_kFrom a_kNotes : Nat → Int32}
theorem xl_open0 {post : SX → Prop} {L gn : Nat} (hr : L < 26) (hg : gn < 128) (H : ∀ lA lS lT lG : Nat → Int32, post (f_count, f_place, f_there, f_length, f_nodes, nI (L + 1), f_groups, f_size, f_tasks, f_threads, f_added, f_bank, f_matchFrom, f_matchNotes, f_found, f_states, f_flushed, a_tok, a_val, a_text, a_nKind, a_nC, a_nA, a_nB, a_nSize, lA, lS, lT, lG, a_op, a_x, a_y, a_prefersPast, a_tNode, a_tArg, a_pc, a_newPc, a_from, a_noted, a_notes, a_seen, a_stack, a_stackNotes, a_best, a_kPc, a_kCount, a_kFlags, a_next, a_kMatch, a_kMatchNotes, a_kFrom, a_kNotes)) : wpX_openLevel post (f_count, f_place, f_there, f_length, f_nodes, nI L, f_groups, f_size, f_tasks, f_threads, f_added, f_bank, f_matchFrom, f_matchNotes, f_found, f_states, f_flushed, a_tok, a_val, a_text, a_nKind, a_nC, a_nA, a_nB, a_nSize, a_lAlt, a_lSeq, a_lAtom, a_lGroup, a_op, a_x, a_y, a_prefersPast, a_tNode, a_tArg, a_pc, a_newPc, a_from, a_noted, a_notes, a_seen, a_stack, a_stackNotes, a_best, a_kPc, a_kCount, a_kFlags, a_next, a_kMatch, a_kMatchNotes, a_kFrom, a_kNotes) (nI gn) := by
  unfold wpX_openLevel
  dsimp only
  exact ⟨vp_in_nI hr (by omega), nm_e ⟨vp_in_nI hr (by omega), nm_e ⟨vp_in_nI hr (by omega), nm_e (nm_r (nI_1 L) ⟨vp_in_nI hr (by omega), nm_e (H _ _ _ _)⟩)⟩⟩⟩
variable {post : Int32 → SX → Prop} {cnt : Nat} {K V : Nat → Nat} {res : Sum Nat (Nat × List pf_F)}
theorem xr_loop (htk : tk_R cnt a_tok a_val K V) (hcnt : f_count = nI cnt) (H1 : ∀ j, res = .inl j → ∀ (nd lv gr : Int32) (nk na nb nc ns lA lS lT lG : Nat → Int32), post (nI j) (f_count, f_place, f_there, f_length, nd, lv, gr, f_size, f_tasks, f_threads, f_added, f_bank, f_matchFrom, f_matchNotes, f_found, f_states, f_flushed, a_tok, a_val, a_text, nk, nc, na, nb, ns, lA, lS, lT, lG, a_op, a_x, a_y, a_prefersPast, a_tNode, a_tArg, a_pc, a_newPc, a_from, a_noted, a_notes, a_seen, a_stack, a_stackNotes, a_best, a_kPc, a_kCount, a_kFlags, a_next, a_kMatch, a_kMatchNotes, a_kFrom, a_kNotes)) (H2 : ∀ gc fs, res = .inr (gc, fs) → fs.length ≠ 1 → ∀ (nd lv gr : Int32) (nk na nb nc ns lA lS lT lG : Nat → Int32), post (nI cnt) (f_count, f_place, f_there, f_length, nd, lv, gr, f_size, f_tasks, f_threads, f_added, f_bank, f_matchFrom, f_matchNotes, f_found, f_states, f_flushed, a_tok, a_val, a_text, nk, nc, na, nb, ns, lA, lS, lT, lG, a_op, a_x, a_y, a_prefersPast, a_tNode, a_tArg, a_pc, a_newPc, a_from, a_noted, a_notes, a_seen, a_stack, a_stackNotes, a_best, a_kPc, a_kCount, a_kFlags, a_next, a_kMatch, a_kMatchNotes, a_kFrom, a_kNotes)) (H3 : ∀ gc g al sq a, res = .inr (gc, [(g, al, sq, a)]) → ∀ N n d (lv gr : Int32) (nk na nb nc ns lA lS lT lG : Nat → Int32), N ≤ 200 → d ≤ 200 → lA 0 = nI n → tn_R nk na nb nc N n (pf_a al (pf_o (pf_s sq a))) d → ns n = nI (min 999 (tr_sz (pf_a al (pf_o (pf_s sq a))))) → post (-1) (f_count, f_place, f_there, f_length, nI N, lv, gr, f_size, f_tasks, f_threads, f_added, f_bank, f_matchFrom, f_matchNotes, f_found, f_states, f_flushed, a_tok, a_val, a_text, nk, nc, na, nb, ns, lA, lS, lT, lG, a_op, a_x, a_y, a_prefersPast, a_tNode, a_tArg, a_pc, a_newPc, a_from, a_noted, a_notes, a_seen, a_stack, a_stackNotes, a_best, a_kPc, a_kCount, a_kFlags, a_next, a_kMatch, a_kMatchNotes, a_kFrom, a_kNotes)) : ∀ r i fu gc g al sq a rest N nk na nb nc ns lA lS lT lG, i + r = cnt → r < fu → gc ≤ 3 → rest.length ≤ i → N + pf_Q ((g, al, sq, a) :: rest) ≤ 8 * i → px_F nk na nb nc ns N (1 + 4 * i) ((g, al, sq, a) :: rest) lA lS lT lG → pt_run K V r i (gc, (g, al, sq, a) :: rest) = res →
    wX_read_22 post fu (nI i) f_count f_place f_there f_length (nI N) (nI (rest.length + 1)) (nI gc) f_size f_tasks f_threads f_added f_bank f_matchFrom f_matchNotes f_found f_states f_flushed a_tok a_val a_text nk nc na nb ns lA lS lT lG a_op a_x a_y a_prefersPast a_tNode a_tArg a_pc a_newPc a_from a_noted a_notes a_seen a_stack a_stackNotes a_best a_kPc a_kCount a_kFlags a_next a_kMatch a_kMatchNotes a_kFrom a_kNotes := by
  have hc24 := htk.1
  intro r
  induction r with
  | zero =>
    intro i fu gc g al sq a rest N nk na nb nc ns lA lS lT lG hi hfu hgc hl hQ hF hr
    obtain ⟨fu, rfl⟩ : ∃ m, fu = m + 1 := ⟨fu - 1, by omega⟩
    have hr : Sum.inr (gc, (g, al, sq, a) :: rest) = res := hr
    refine br_t (by rw [hcnt]; exact nI_le (by omega) (by omega)) ?_
    cases rest with
    | nil =>
      refine br_t (by decide) ?_
      refine xl_alt (rest := []) (by omega) (by decide) (by omega) hF ?_
      intro N' nk' na' nb' ns' lA' lS' lT' h1 h2 hF'
      dsimp only
      obtain ⟨⟨n, en, tn, sn⟩, _⟩ := hF'.1
      exact H3 gc g al sq a hr.symm N' n _ _ _ _ _ _ _ _ _ _ _ _ (by omega) (by omega) en tn sn
    | cons fr rest =>
      refine br_f (nI_ge (a := 1) (by rw [List.length_cons]; omega) (by rw [List.length_cons]; rw [List.length_cons] at hl; omega)) ?_
      rw [hcnt]
      have := H2 gc _ hr.symm (by rw [List.length_cons, List.length_cons]; omega) (nI N) (nI ((fr :: rest).length + 1)) (nI gc) nk na nb nc ns lA lS lT lG
      rw [hcnt] at this
      exact this
  | succ r ih =>
    intro i fu gc g al sq a rest N nk na nb nc ns lA lS lT lG hi hfu hgc hl hQ hF hr
    obtain ⟨fu, rfl⟩ : ∃ m, fu = m + 1 := ⟨fu - 1, by omega⟩
    obtain ⟨tk, tok, tv⟩ := htk.2 i (by omega)
    have hk15 := tok.1
    have hQ0 : N ≤ 8 * i := by omega
    have hm : ∀ {N' D' : Nat} {nk' na' nb' nc' ns' lA' lS' lT' lG' : Nat → Int32} {fs : List pf_F}, D' ≤ 1 + 4 * (i + 1) → px_F nk' na' nb' nc' ns' N' D' fs lA' lS' lT' lG' → px_F nk' na' nb' nc' ns' N' (1 + 4 * (i + 1)) fs lA' lS' lT' lG' := fun hD h => px_Fm nx_rf hD _ (fun i _ => ⟨rfl, rfl, rfl, rfl⟩) h
    refine br_f (by rw [hcnt]; exact nI_ge (by omega) (by omega)) ⟨vp_in_nI (by omega) (by omega), ?_⟩
    rw [nI_clamp (n := i) (by omega), tk]
    refine nm_e (nm_r (nI_pred rest.length) ?_)
    -- an atom
    have atom : (K i ≤ 2 ∨ K i = 13 ∨ K i = 15) → wX_read_64 post (wX_read_22 post fu) (nI i) (nI (K i)) (nI rest.length) 1 f_count f_place f_there f_length (nI N) (nI (rest.length + 1)) (nI gc) f_size f_tasks f_threads f_added f_bank f_matchFrom f_matchNotes f_found f_states f_flushed a_tok a_val a_text nk nc na nb ns lA lS lT lG a_op a_x a_y a_prefersPast a_tNode a_tArg a_pc a_newPc a_from a_noted a_notes a_seen a_stack a_stackNotes a_best a_kPc a_kCount a_kFlags a_next a_kMatch a_kMatchNotes a_kFrom a_kNotes := by
      intro hka
      unfold wX_read_64
      refine xl_settle (by omega) (by omega) hF ?_
      intro N' nk' na' nb' ns' lS' lT' h1 h2 _ hF'
      dsimp only
      rw [nI_clamp (n := i) (by omega)]
      refine ⟨vp_in_nI (by omega) (by omega), ?_⟩
      refine xl_atom (D := 1 + 4 * i + 1) (by omega) (by omega) tok hka (fun h => tv (by omega)) ?_
      intro nk2 na2 nb2 ns2 hx ht hs hkk
      dsimp only
      rw [nI_clamp (n := rest.length) (by omega), mn_s1 (by omega)]
      refine ⟨vp_in_nI (by omega) (by omega), nm_e (br_f (by decide) (nm_r (nI_1 i) ?_))⟩
      refine ih (i + 1) fu gc g al (pf_s sq a) (some (pf_t (K i) (V i), true)) rest (N' + 1) _ _ _ _ _ _ _ _ _ (by omega) (by omega) hgc (by omega) (by show N' + 1 + 4 ≤ _; omega) (hm (D' := 1 + 4 * i + 1) (by omega) ?_) (by rw [← hr, pt_rs (pt_a hka)])
      obtain ⟨⟨f1, f2, f3, f4, f5⟩, f6⟩ := hF'
      refine px_top hx (Nat.le_refl _) f6 (fun i hi => ⟨rfl, rfl, pk_un (by omega), rfl⟩) (px_Om hx (Nat.le_refl _) f1) (px_Om hx (Nat.le_refl _) f2) ?_ f4 f5
      dsimp only
      rw [pk_us]
      exact ⟨N', rfl, ht, hs, (fun _ => hkk), fun h => absurd rfl h⟩
    by_cases k2 : K i ≤ 2
    · exact br_t (nI_le (b := 2) k2 (by omega)) (atom (Or.inl k2))
    refine br_f (nI_ge (a := 2) (by omega) (by omega)) ?_
    by_cases k13 : K i = 13
    · exact br_t (by rw [k13]; rfl) (atom (Or.inr (Or.inl k13)))
    refine br_f (mn_ne (b := 13) rfl k13 (by omega) (by omega)) ?_
    by_cases k15 : K i = 15
    · exact br_t (by rw [k15]; rfl) (atom (Or.inr (Or.inr k15)))
    refine br_f (mn_ne (b := 15) rfl k15 (by omega) (by omega)) ?_
    -- an opening bracket
    have opn : ∀ (gn gc' : Nat), gn ≤ 3 → gc' ≤ 3 → pt_run K V r (i + 1) (gc', (gn, none, none, none) :: (g, al, pf_s sq a, none) :: rest) = res → ∀ N' nk' na' nb' ns' lS' lT', N' ≤ N + 1 → px_F nk' na' nb' nc ns' N' (1 + 4 * i + 1) ((g, al, pf_s sq a, none) :: rest) lA lS' lT' lG →
        wX_read_158 post (wX_read_22 post fu) (nI i) 1 (nI gn) f_count f_place f_there f_length (nI N') (nI (rest.length + 1)) (nI gc') f_size f_tasks f_threads f_added f_bank f_matchFrom f_matchNotes f_found f_states f_flushed a_tok a_val a_text nk' nc na' nb' ns' lA lS' lT' lG a_op a_x a_y a_prefersPast a_tNode a_tArg a_pc a_newPc a_from a_noted a_notes a_seen a_stack a_stackNotes a_best a_kPc a_kCount a_kFlags a_next a_kMatch a_kMatchNotes a_kFrom a_kNotes := by
      intro gn gc' hgn hgc' hrun N' nk' na' nb' ns' lS' lT' hN' hF'
      unfold wX_read_158
      refine xl_open (fs := (g, al, pf_s sq a, none) :: rest) (by rw [List.length_cons]; omega) hgn hF' ?_
      intro lA2 lS2 lT2 lG2 hF2
      dsimp only
      refine br_f (by decide) (nm_r (nI_1 i) ?_)
      exact ih (i + 1) fu gc' gn none none none ((g, al, pf_s sq a, none) :: rest) N' _ _ _ _ _ _ _ _ _ (by omega) (by omega) hgc' (by rw [List.length_cons]; omega) (by show N' + 0 ≤ _; omega) (hm (D' := 1 + 4 * i + 1) (by omega) hF2) hrun
    by_cases k3 : K i = 3
    · refine br_t (by rw [k3]; rfl) ?_
      unfold wX_read_104
      refine xl_settle (by omega) (by omega) hF ?_
      intro N' nk' na' nb' ns' lS' lT' h1 h2 _ hF'
      dsimp only
      refine br_f (by rw [k3]; decide) ?_
      rw [k3]
      by_cases hg3 : gc < 3
      · refine br_f (nI_ge (b := 3) hg3 (by omega)) ?_
        unfold wX_read_122 wX_read_127
        refine br_t rfl (nm_r (nI_1 gc) ?_)
        unfold wX_read_144
        refine br_t rfl ?_
        exact opn (gc + 1) (gc + 1) (by omega) (by omega) (by rw [← hr, pt_rs (by rw [k3]; exact pt_3 hg3)]) N' nk' na' nb' ns' lS' lT' h2 hF'
      · refine br_t (nI_le (a := 3) (by omega) (by omega)) ?_
        unfold wX_read_127
        refine br_t rfl (nm_r (nI_1 gc) ?_)
        unfold wX_read_144
        refine br_t rfl ?_
        unfold wX_read_158
        refine xl_open0 (L := rest.length + 1) (gn := gc + 1) (by omega) (by omega) ?_
        intro lA2 lS2 lT2 lG2
        dsimp only
        refine br_t rfl ?_
        exact H1 i (by rw [← hr, pt_rn (by rw [k3]; exact pt_3n (by omega))]) _ _ _ _ _ _ _ _ _ _ _ _
    refine br_f (mn_ne (b := 3) rfl k3 (by omega) (by omega)) ?_
    by_cases k4 : K i = 4
    · refine br_t (by rw [k4]; rfl) ?_
      unfold wX_read_104
      refine xl_settle (by omega) (by omega) hF ?_
      intro N' nk' na' nb' ns' lS' lT' h1 h2 _ hF'
      dsimp only
      rw [k4]
      refine br_t rfl ?_
      unfold wX_read_122 wX_read_127
      refine br_f (by decide) ?_
      unfold wX_read_144
      refine br_f (by decide) ?_
      exact opn 0 gc (by omega) hgc (by rw [← hr, pt_rs (by rw [k4]; exact pt_4)]) N' nk' na' nb' ns' lS' lT' h2 hF'
    refine br_f (mn_ne (b := 4) rfl k4 (by omega) (by omega)) ?_
    by_cases k5 : K i = 5
    · refine br_t (by rw [k5]; rfl) ?_
      cases rest with
      | nil =>
        refine xl_close0 rfl ?_
        dsimp only
        refine br_t rfl ?_
        exact H1 i (by rw [← hr, pt_rn (by rw [k5]; exact pt_5n)]) _ _ _ _ _ _ _ _ _ _ _ _
      | cons fr rest =>
        obtain ⟨g', al', sq', a'⟩ := fr
        rw [List.length_cons] at hl ⊢
        refine xl_close (by omega) (by omega) (by omega) hF ?_
        intro N' nk' na' nb' ns' lA' lS' lT' h1 h2 hF'
        dsimp only
        refine br_f (by decide) (nm_r (nI_1 i) ?_)
        exact ih (i + 1) fu gc g' al' sq' (some (pf_w g (pf_a al (pf_o (pf_s sq a))), true)) rest N' _ _ _ _ _ _ _ _ _ (by omega) (by omega) hgc (by omega) (by show N' + 4 ≤ _; omega) (hm (D' := 1 + 4 * i + 4) (by omega) hF') (by rw [← hr, pt_rs (by rw [k5]; exact pt_5)])
    refine br_f (mn_ne (b := 5) rfl k5 (by omega) (by omega)) ?_
    by_cases k6 : K i = 6
    · refine br_t (by rw [k6]; rfl) ?_
      refine xl_alt (by omega) (by omega) (by omega) hF ?_
      intro N' nk' na' nb' ns' lA' lS' lT' h1 h2 hF'
      dsimp only
      refine br_f (by decide) (nm_r (nI_1 i) ?_)
      exact ih (i + 1) fu gc g (some (pf_a al (pf_o (pf_s sq a)))) none none rest N' _ _ _ _ _ _ _ _ _ (by omega) (by omega) hgc (by omega) (by show N' + 0 ≤ _; omega) (hm (D' := 1 + 4 * i + 3) (by omega) hF') (by rw [← hr, pt_rs (by rw [k6]; exact pt_6)])
    refine br_f (mn_ne (b := 6) rfl k6 (by omega) (by omega)) ⟨vp_in_nI (by omega) (by omega), ?_⟩
    have hkq : (7 ≤ K i ∧ K i ≤ 12) ∨ K i = 14 := by omega
    by_cases hax : ∃ x, a = some (x, true)
    · obtain ⟨x, rfl⟩ := hax
      have hQ4 : N + 4 ≤ 8 * i := hQ
      refine xq_q (v := V i) (by omega) (by omega) (by omega) tok hkq (fun h => tv (Or.inr (Or.inr h))) hF ?_
      intro N' nk' na' nb' nc' ns' lT' h1 h2 hF'
      dsimp only
      refine br_f (by decide) (nm_r (nI_1 i) ?_)
      exact ih (i + 1) fu gc g al sq (some (pf_q (K i) (V i) x, false)) rest N' _ _ _ _ _ _ _ _ _ (by omega) (by omega) hgc (by omega) (by show N' + 0 ≤ _; omega) (hm (D' := 1 + 4 * i + 4) (by omega) hF') (by rw [← hr, pt_rs (pt_q hkq)])
    · have hao : ∀ x, a ≠ some (x, true) := fun x e => hax ⟨x, e⟩
      refine xq_f (by omega) (by omega) hF hao ?_
      dsimp only
      refine br_t rfl ?_
      exact H1 i (by rw [← hr, pt_rn (pt_qn hkq hao)]) _ _ _ _ _ _ _ _ _ _ _ _
theorem xr_read (htk : tk_R cnt a_tok a_val K V) (hcnt : f_count = nI cnt) (hres : pt_run K V cnt 0 (0, [(0, none, none, none)]) = res) (H1 : ∀ j, res = .inl j → ∀ (nd lv gr : Int32) (nk na nb nc ns lA lS lT lG : Nat → Int32), post (nI j) (f_count, f_place, f_there, f_length, nd, lv, gr, f_size, f_tasks, f_threads, f_added, f_bank, f_matchFrom, f_matchNotes, f_found, f_states, f_flushed, a_tok, a_val, a_text, nk, nc, na, nb, ns, lA, lS, lT, lG, a_op, a_x, a_y, a_prefersPast, a_tNode, a_tArg, a_pc, a_newPc, a_from, a_noted, a_notes, a_seen, a_stack, a_stackNotes, a_best, a_kPc, a_kCount, a_kFlags, a_next, a_kMatch, a_kMatchNotes, a_kFrom, a_kNotes)) (H2 : ∀ gc fs, res = .inr (gc, fs) → fs.length ≠ 1 → ∀ (nd lv gr : Int32) (nk na nb nc ns lA lS lT lG : Nat → Int32), post (nI cnt) (f_count, f_place, f_there, f_length, nd, lv, gr, f_size, f_tasks, f_threads, f_added, f_bank, f_matchFrom, f_matchNotes, f_found, f_states, f_flushed, a_tok, a_val, a_text, nk, nc, na, nb, ns, lA, lS, lT, lG, a_op, a_x, a_y, a_prefersPast, a_tNode, a_tArg, a_pc, a_newPc, a_from, a_noted, a_notes, a_seen, a_stack, a_stackNotes, a_best, a_kPc, a_kCount, a_kFlags, a_next, a_kMatch, a_kMatchNotes, a_kFrom, a_kNotes)) (H3 : ∀ gc g al sq a, res = .inr (gc, [(g, al, sq, a)]) → ∀ N n d (lv gr : Int32) (nk na nb nc ns lA lS lT lG : Nat → Int32), N ≤ 200 → d ≤ 200 → lA 0 = nI n → tn_R nk na nb nc N n (pf_a al (pf_o (pf_s sq a))) d → ns n = nI (min 999 (tr_sz (pf_a al (pf_o (pf_s sq a))))) → post (-1) (f_count, f_place, f_there, f_length, nI N, lv, gr, f_size, f_tasks, f_threads, f_added, f_bank, f_matchFrom, f_matchNotes, f_found, f_states, f_flushed, a_tok, a_val, a_text, nk, nc, na, nb, ns, lA, lS, lT, lG, a_op, a_x, a_y, a_prefersPast, a_tNode, a_tArg, a_pc, a_newPc, a_from, a_noted, a_notes, a_seen, a_stack, a_stackNotes, a_best, a_kPc, a_kCount, a_kFlags, a_next, a_kMatch, a_kMatchNotes, a_kFrom, a_kNotes)) : wpX_read post (f_count, f_place, f_there, f_length, f_nodes, f_level, f_groups, f_size, f_tasks, f_threads, f_added, f_bank, f_matchFrom, f_matchNotes, f_found, f_states, f_flushed, a_tok, a_val, a_text, a_nKind, a_nC, a_nA, a_nB, a_nSize, a_lAlt, a_lSeq, a_lAtom, a_lGroup, a_op, a_x, a_y, a_prefersPast, a_tNode, a_tArg, a_pc, a_newPc, a_from, a_noted, a_notes, a_seen, a_stack, a_stackNotes, a_best, a_kPc, a_kCount, a_kFlags, a_next, a_kMatch, a_kMatchNotes, a_kFrom, a_kNotes) := by
  unfold wpX_read
  dsimp only
  refine xl_open (N := 0) (D := 1) (fs := []) (g := 0) (by decide) (by omega) trivial ?_
  intro lA lS lT lG hF
  dsimp only
  exact ⟨cnt + 1, xr_loop htk hcnt H1 H2 H3 cnt 0 (cnt + 1) 0 0 none none none [] 0 _ _ _ _ _ _ _ _ _ (by omega) (by omega) (by omega) (Nat.le_refl _) (by decide) hF hres⟩
end XRL
end
section
section YLY
/-! Y's layout with ways counted from the piece itself -/
section CZ
variable (bo bw b1 b2 : Nat → Int32)
def cz_w (md : Option Nat) (n q : Nat) (C : Nat → Prop) : Prop := match md with
  | none => C q
  | some m => bo q = nI 3 ∧ b1 q = nI 1 ∧ b2 q = nI (n + 2) ∧ C (q + 1) ∧ bo (q + 1 + n) = nI 4 ∧ b1 (q + 1 + n) = nI (m + 1)
def cz_L : Std.Format → Option Nat → Nat → Prop
  | .nil, md, q => cz_w bo b1 b2 md 0 q (fun _ => True)
  | .line, md, q => cz_w bo b1 b2 md 1 q (fun q => bo q = nI 1 ∧ b1 q = nI 1)
  | .align _, md, q => cz_w bo b1 b2 md 1 q (fun q => bo q = nI 2 ∧ b1 q = nI 1)
  | .text _, md, q => cz_w bo b1 b2 md 0 q (fun _ => True)
  | .nest i _, md, q => cz_w bo b1 b2 md 1 q (fun q => bo q = nI 0 ∧ bw q = nI i.toNat ∧ i.toNat < 16 ∧ b1 q = nI 1)
  | .append a b, md, q => cz_w bo b1 b2 md (tr_len a + tr_len b) q (fun q => cz_L a none q ∧ cz_L b none (q + tr_len a))
  | .group (.append a b) _, md, q => match md with
    | none => cz_L a (some (tr_len b)) q ∧ cz_L b none (q + tr_len a + 2)
    | some m => cz_L a (some (tr_len b + 2 + m)) q ∧ bo (q + tr_len a + 2) = nI 3 ∧ b1 (q + tr_len a + 2) = nI 1 ∧ b2 (q + tr_len a + 2) = nI (tr_len b + 2) ∧ cz_L b none (q + tr_len a + 3) ∧ bo (q + tr_len a + 3 + tr_len b) = nI 4 ∧ b1 (q + tr_len a + 3 + tr_len b) = nI (m + 1)
  | .group _ _, md, q => cz_w bo b1 b2 md 0 q (fun _ => True)
  | .tag t a, md, q => cz_w bo b1 b2 md (tr_len (.tag t a)) q (fun p =>
    if t ≤ 1 then bo p = nI 3 ∧ b1 p = nI (if t = 0 then 1 else tr_len a + 2) ∧ b2 p = nI (if t = 0 then tr_len a + 2 else 1) ∧ cz_L a none (p + 1) ∧ bo (p + 1 + tr_len a) = nI 4 ∧ b1 (p + 1 + tr_len a) = -(nI (tr_len a + 1))
    else if t ≤ 3 then bo p = nI 3 ∧ b1 p = nI (if t = 2 then 1 else tr_len a + 1) ∧ b2 p = nI (if t = 2 then tr_len a + 1 else 1) ∧ cz_L a none (p + 1)
    else t ≤ 6 ∧ bo p = nI 5 ∧ bw p = nI (2 * (t - 3)) ∧ b1 p = nI 1 ∧ cz_L a none (p + 1) ∧ bo (p + 1 + tr_len a) = nI 5 ∧ bw (p + 1 + tr_len a) = nI (2 * (t - 3) + 1) ∧ b1 (p + 1 + tr_len a) = nI 1)
end CZ
/-- trees that are no alternatives: the chain mode is the plain one behind a split -/
def cz_N (t : Std.Format) : Prop := ∀ (bo bw b1 b2 : Nat → Int32) m q, cz_L bo bw b1 b2 t (some m) q ↔ (bo q = nI 3 ∧ b1 q = nI 1 ∧ b2 q = nI (tr_len t + 2) ∧ cz_L bo bw b1 b2 t none (q + 1) ∧ bo (q + 1 + tr_len t) = nI 4 ∧ b1 (q + 1 + tr_len t) = nI (m + 1))
theorem cz_N0 : cz_N .nil := fun _ _ _ _ _ _ => Iff.rfl
theorem cz_N1 : cz_N .line := fun _ _ _ _ _ _ => Iff.rfl
theorem cz_N2 {b : Bool} : cz_N (.align b) := fun _ _ _ _ _ _ => Iff.rfl
theorem cz_N3 {s : String} : cz_N (.text s) := fun _ _ _ _ _ _ => Iff.rfl
theorem cz_N4 {i : Int} {f : Std.Format} : cz_N (.nest i f) := fun _ _ _ _ _ _ => Iff.rfl
theorem cz_N5 {a b : Std.Format} : cz_N (.append a b) := fun _ _ _ _ _ _ => Iff.rfl
theorem cz_N8 {t : Nat} {a : Std.Format} : cz_N (.tag t a) := fun _ _ _ _ _ _ => Iff.rfl
theorem cz_N7 {f : Std.Format} {c : Std.Format.FlattenBehavior} (hf : ∀ a b, f ≠ .append a b) : cz_N (.group f c) := by
  cases f <;> first | exact fun _ _ _ _ _ _ => Iff.rfl | exact absurd rfl (hf _ _)
/-- values that a copy keeps -/
def vr_b (x y : Int32) : Prop := ∀ c, c < 128 → x = nI c → y = nI c
def vr_s (x y : Int32) : Prop := (∀ c, c < 200 → x = nI c → y = nI c) ∧ ∀ c, c < 200 → x = -(nI c) → y = -(nI c)
theorem mn_s0 : ∀ p : Fin 200, vp_nar .short (nI p.val) = nI p.val ∧ vp_nar .short (-(nI p.val)) = -(nI p.val) ∧ vp_nar .short (-(nI p.val)).toInt16.toInt32 = -(nI p.val) := by decide +kernel
theorem vr_br (x : Int32) : vr_b x x := fun _ _ h => h
theorem vr_sr (x : Int32) : vr_s x x := ⟨fun _ _ h => h, fun _ _ h => h⟩
theorem vr_b0 (x : Int32) : vr_b x (vp_nar .byte x) := fun c hc h => by rw [h]; exact mn_b0 hc
theorem vr_b1 (x : Int32) : vr_b x (vp_nar .byte x.toInt8.toInt32) := fun c hc h => by rw [h]; exact mn_b1 hc
theorem vr_s0 (x : Int32) : vr_s x (vp_nar .short x) := ⟨fun c hc h => by rw [h]; exact (mn_s0 ⟨c, hc⟩).1, fun c hc h => by rw [h]; exact (mn_s0 ⟨c, hc⟩).2.1⟩
theorem vr_s1 (x : Int32) : vr_s x (vp_nar .short x.toInt16.toInt32) := ⟨fun c hc h => by rw [h]; exact mn_s1 (by omega), fun c hc h => by rw [h]; exact (mn_s0 ⟨c, hc⟩).2.2⟩
theorem vr_bt {x y z : Int32} (h1 : vr_b x y) (h2 : vr_b y z) : vr_b x z := fun c hc h => h2 c hc (h1 c hc h)
theorem vr_st {x y z : Int32} (h1 : vr_s x y) (h2 : vr_s y z) : vr_s x z := ⟨fun c hc h => h2.1 c hc (h1.1 c hc h), fun c hc h => h2.2 c hc (h1.2 c hc h)⟩
def vr_R (bo bw b1 b2 bo' bw' b1' b2' : Nat → Int32) (q q' : Nat) : Prop := vr_b (bo q) (bo' q') ∧ vr_b (bw q) (bw' q') ∧ vr_s (b1 q) (b1' q') ∧ vr_s (b2 q) (b2' q')
section CZM
variable {bo bw b1 b2 bo' bw' b1' b2' : Nat → Int32}
theorem cz_mv : ∀ t, tr_len t ≤ 100 → (∀ q q', (∀ i, i < tr_len t → vr_R bo bw b1 b2 bo' bw' b1' b2' (q + i) (q' + i)) → cz_L bo bw b1 b2 t none q → cz_L bo' bw' b1' b2' t none q') ∧ (∀ m q q', tr_len t + m ≤ 150 → (∀ i, i < tr_len t + 2 → vr_R bo bw b1 b2 bo' bw' b1' b2' (q + i) (q' + i)) → cz_L bo bw b1 b2 t (some m) q → cz_L bo' bw' b1' b2' t (some m) q') := by
  have key : ∀ t, cz_N t → tr_len t ≤ 100 → (∀ q q', (∀ i, i < tr_len t → vr_R bo bw b1 b2 bo' bw' b1' b2' (q + i) (q' + i)) → cz_L bo bw b1 b2 t none q → cz_L bo' bw' b1' b2' t none q') → (∀ m q q', tr_len t + m ≤ 150 → (∀ i, i < tr_len t + 2 → vr_R bo bw b1 b2 bo' bw' b1' b2' (q + i) (q' + i)) → cz_L bo bw b1 b2 t (some m) q → cz_L bo' bw' b1' b2' t (some m) q') := by
    intro t hN ht hA m q q' hm hv hc
    obtain ⟨c1, c2, c3, c4, c5, c6⟩ := (hN bo bw b1 b2 m q).mp hc
    refine (hN bo' bw' b1' b2' m q').mpr ?_
    have v0 := hv 0 (by omega)
    have vl := hv (1 + tr_len t) (by omega)
    rw [Nat.add_zero, Nat.add_zero] at v0
    rw [show q + (1 + tr_len t) = q + 1 + tr_len t by omega, show q' + (1 + tr_len t) = q' + 1 + tr_len t by omega] at vl
    exact ⟨v0.1 3 (by omega) c1, v0.2.2.1.1 1 (by omega) c2, v0.2.2.2.1 _ (by omega) c3, hA (q + 1) (q' + 1) (fun i hi => by
      have := hv (1 + i) (by omega)
      rw [show q + (1 + i) = q + 1 + i by omega, show q' + (1 + i) = q' + 1 + i by omega] at this
      exact this) c4, vl.1 4 (by omega) c5, vl.2.2.1.1 _ (by omega) c6⟩
  intro t
  induction t using tr_ind with
  | h0 => intro ht; exact ⟨fun q q' _ _ => trivial, key _ cz_N0 ht (fun q q' _ _ => trivial)⟩
  | h1 =>
    intro ht
    have h : ∀ q q', (∀ i, i < tr_len .line → vr_R bo bw b1 b2 bo' bw' b1' b2' (q + i) (q' + i)) → cz_L bo bw b1 b2 .line none q → cz_L bo' bw' b1' b2' .line none q' := by
      intro q q' hv hc
      have v0 := hv 0 (by show 0 < 1; omega)
      exact ⟨v0.1 1 (by omega) hc.1, v0.2.2.1.1 1 (by omega) hc.2⟩
    exact ⟨h, key _ cz_N1 ht h⟩
  | h2 b =>
    intro ht
    have h : ∀ q q', (∀ i, i < tr_len (.align b) → vr_R bo bw b1 b2 bo' bw' b1' b2' (q + i) (q' + i)) → cz_L bo bw b1 b2 (.align b) none q → cz_L bo' bw' b1' b2' (.align b) none q' := by
      intro q q' hv hc
      have v0 := hv 0 (by show 0 < 1; omega)
      exact ⟨v0.1 2 (by omega) hc.1, v0.2.2.1.1 1 (by omega) hc.2⟩
    exact ⟨h, key _ cz_N2 ht h⟩
  | h3 s => intro ht; exact ⟨fun q q' _ _ => trivial, key _ cz_N3 ht (fun q q' _ _ => trivial)⟩
  | h4 i f =>
    intro ht
    have h : ∀ q q', (∀ j, j < tr_len (.nest i f) → vr_R bo bw b1 b2 bo' bw' b1' b2' (q + j) (q' + j)) → cz_L bo bw b1 b2 (.nest i f) none q → cz_L bo' bw' b1' b2' (.nest i f) none q' := by
      intro q q' hv hc
      obtain ⟨c1, c2, c3, c4⟩ := hc
      have v0 := hv 0 (by show 0 < 1; omega)
      exact ⟨v0.1 0 (by omega) c1, v0.2.1 _ (by omega) c2, c3, v0.2.2.1.1 1 (by omega) c4⟩
    exact ⟨h, key _ cz_N4 ht h⟩
  | h5 a b ha hb =>
    intro ht
    rw [tr_len_app] at ht
    have h : ∀ q q', (∀ i, i < tr_len (.append a b) → vr_R bo bw b1 b2 bo' bw' b1' b2' (q + i) (q' + i)) → cz_L bo bw b1 b2 (.append a b) none q → cz_L bo' bw' b1' b2' (.append a b) none q' := by
      intro q q' hv hc
      rw [tr_len_app] at hv
      refine ⟨(ha (by omega)).1 q q' (fun i hi => hv i (by omega)) hc.1, (hb (by omega)).1 _ _ (fun i hi => ?_) hc.2⟩
      have := hv (tr_len a + i) (by omega)
      rw [← Nat.add_assoc, ← Nat.add_assoc] at this
      exact this
    exact ⟨h, key _ cz_N5 (by rw [tr_len_app]; exact ht) h⟩
  | h6 a b c ha hb =>
    intro ht
    rw [tr_len_alt] at ht
    rw [tr_len_alt]
    refine ⟨fun q q' hv hc => ?_, fun m q q' hm hv hc => ?_⟩
    · refine ⟨(ha (by omega)).2 _ q q' (by omega) (fun i hi => hv i (by omega)) hc.1, (hb (by omega)).1 _ _ (fun i hi => ?_) hc.2⟩
      have := hv (tr_len a + 2 + i) (by omega)
      rw [show q + (tr_len a + 2 + i) = q + tr_len a + 2 + i by omega, show q' + (tr_len a + 2 + i) = q' + tr_len a + 2 + i by omega] at this
      exact this
    · obtain ⟨c1, c2, c3, c4, c5, c6, c7⟩ := hc
      have vz := hv (tr_len a + 2) (by omega)
      have vl := hv (tr_len a + 3 + tr_len b) (by omega)
      rw [show q + (tr_len a + 2) = q + tr_len a + 2 by omega, show q' + (tr_len a + 2) = q' + tr_len a + 2 by omega] at vz
      rw [show q + (tr_len a + 3 + tr_len b) = q + tr_len a + 3 + tr_len b by omega, show q' + (tr_len a + 3 + tr_len b) = q' + tr_len a + 3 + tr_len b by omega] at vl
      refine ⟨(ha (by omega)).2 _ q q' (by omega) (fun i hi => hv i (by omega)) c1, vz.1 3 (by omega) c2, vz.2.2.1.1 1 (by omega) c3, vz.2.2.2.1 _ (by omega) c4, (hb (by omega)).1 _ _ (fun i hi => ?_) c5, vl.1 4 (by omega) c6, vl.2.2.1.1 _ (by omega) c7⟩
      have := hv (tr_len a + 3 + i) (by omega)
      rw [show q + (tr_len a + 3 + i) = q + tr_len a + 3 + i by omega, show q' + (tr_len a + 3 + i) = q' + tr_len a + 3 + i by omega] at this
      exact this
  | h7 f c hf =>
    intro ht
    have h : ∀ q q', (∀ i, i < tr_len (.group f c) → vr_R bo bw b1 b2 bo' bw' b1' b2' (q + i) (q' + i)) → cz_L bo bw b1 b2 (.group f c) none q → cz_L bo' bw' b1' b2' (.group f c) none q' := by
      intro q q' _ _
      cases f <;> first | trivial | exact absurd rfl (hf _ _)
    exact ⟨h, key _ (cz_N7 hf) ht h⟩
  | h8 t a ha =>
    intro ht
    have h : ∀ q q', (∀ i, i < tr_len (.tag t a) → vr_R bo bw b1 b2 bo' bw' b1' b2' (q + i) (q' + i)) → cz_L bo bw b1 b2 (.tag t a) none q → cz_L bo' bw' b1' b2' (.tag t a) none q' := by
      intro q q' hv hc
      have hl := tr_len_tg (t := t) (a := a)
      have v0 := hv 0 (by omega)
      rw [Nat.add_zero, Nat.add_zero] at v0
      have ha' := (ha (by omega)).1 (q + 1) (q' + 1) (fun i hi => by
        have := hv (1 + i) (by omega)
        rw [show q + (1 + i) = q + 1 + i by omega, show q' + (1 + i) = q' + 1 + i by omega] at this
        exact this)
      unfold cz_L cz_w at hc ⊢
      dsimp only at hc ⊢
      by_cases t1 : t ≤ 1
      · rw [if_pos t1] at hc ⊢
        rw [tr_len_st t1] at hv ht
        have vl := hv (1 + tr_len a) (by omega)
        rw [show q + (1 + tr_len a) = q + 1 + tr_len a by omega, show q' + (1 + tr_len a) = q' + 1 + tr_len a by omega] at vl
        obtain ⟨c1, c2, c3, c4, c5, c6⟩ := hc
        exact ⟨v0.1 3 (by omega) c1, v0.2.2.1.1 _ (by split <;> omega) c2, v0.2.2.2.1 _ (by split <;> omega) c3, ha' c4, vl.1 4 (by omega) c5, vl.2.2.1.2 _ (by omega) c6⟩
      · rw [if_neg t1] at hc ⊢
        by_cases t3 : t ≤ 3
        · rw [if_pos t3] at hc ⊢
          rw [tr_len_op t1 t3] at hv ht
          obtain ⟨c1, c2, c3, c4⟩ := hc
          exact ⟨v0.1 3 (by omega) c1, v0.2.2.1.1 _ (by split <;> omega) c2, v0.2.2.2.1 _ (by split <;> omega) c3, ha' c4⟩
        · rw [if_neg t3] at hc ⊢
          rw [tr_len_gr t1 t3] at hv ht
          have vl := hv (1 + tr_len a) (by omega)
          rw [show q + (1 + tr_len a) = q + 1 + tr_len a by omega, show q' + (1 + tr_len a) = q' + 1 + tr_len a by omega] at vl
          obtain ⟨c0, c1, c2, c3, c4, c5, c6, c7⟩ := hc
          exact ⟨c0, v0.1 5 (by omega) c1, v0.2.1 _ (by omega) c2, v0.2.2.1.1 1 (by omega) c3, ha' c4, vl.1 5 (by omega) c5, vl.2.1 _ (by omega) c6, vl.2.2.1.1 1 (by omega) c7⟩
    exact ⟨h, key _ cz_N8 ht h⟩
end CZM
end YLY
end
section
section YLZ
/-! from counted ways to places -/
variable {bo bw b1 b2 : Nat → Int32}
theorem yv_se {q d : Nat} {b : Nat → Int32} (h : b q = nI d) (hq : q + d < 2 ^ 31) : yv_s b q = q + d := by
  unfold yv_s
  rw [h, nI_add, nI_clamp hq]
theorem yv_sn {q d : Nat} {b : Nat → Int32} (h : b q = -(nI d)) (hq : q < 2 ^ 31) (hd : d ≤ q) : yv_s b q = q - d := by
  unfold yv_s
  have : nI q + -(nI d) = nI (q - d) := by
    rw [← pk_sub hd, Int32.sub_eq_add_neg]
  rw [h, this, nI_clamp (by omega)]
def yv_1 (bo bw b1 b2 : Nat → Int32) (q : Nat) : Prop := ∃ c u v z : Nat, c ≤ 5 ∧ bo q = nI c ∧ (c = 0 → bw q = nI u ∧ u < 128) ∧ (c = 5 → bw q = nI (u + 1) ∧ 1 ≤ u ∧ u < 7) ∧ nI q + b1 q = nI v ∧ v < 2 ^ 31 ∧ (c = 3 → nI q + b2 q = nI z ∧ z < 2 ^ 31)
theorem yv_1s {q d e : Nat} (hq : q < 200) (hd : d < 200) (he : e < 200) (h : bo q = nI 3) (h1 : b1 q = nI d) (h2 : b2 q = nI e) : yv_1 bo bw b1 b2 q :=
  ⟨3, 0, q + d, q + e, by omega, h, (fun z => by omega), (fun z => by omega), by rw [h1, nI_add], by omega, fun _ => ⟨by rw [h2, nI_add], by omega⟩⟩
theorem yv_1j {q d : Nat} (hq : q < 200) (hd : d < 200) (h : bo q = nI 4) (h1 : b1 q = nI d) : yv_1 bo bw b1 b2 q :=
  ⟨4, 0, q + d, 0, by omega, h, (fun z => by omega), (fun z => by omega), by rw [h1, nI_add], by omega, fun z => by omega⟩
theorem yv_1n {q d : Nat} (hq : q < 200) (hd : d ≤ q) (h : bo q = nI 4) (h1 : b1 q = -(nI d)) : yv_1 bo bw b1 b2 q :=
  ⟨4, 0, q - d, 0, by omega, h, (fun z => by omega), (fun z => by omega), by rw [h1, ← pk_sub hd, Int32.sub_eq_add_neg], by omega, fun z => by omega⟩
/-- the layout in places, and each piece as it should be -/
def cq_A (bo bw b1 b2 : Nat → Int32) (t : Std.Format) : Prop := ∀ q, q + tr_len t ≤ 150 → cz_L bo bw b1 b2 t none q → cy_L (xv_o 200 bo) (yv_w bo bw) (yv_s b1) (yv_s b2) t none q ∧ ∀ j, q ≤ j → j < q + tr_len t → yv_1 bo bw b1 b2 j
def cq_B (bo bw b1 b2 : Nat → Int32) (t : Std.Format) : Prop := ∀ m q, q + tr_len t + 2 + m ≤ 150 → cz_L bo bw b1 b2 t (some m) q → cy_L (xv_o 200 bo) (yv_w bo bw) (yv_s b1) (yv_s b2) t (some (q + tr_len t + 2 + m)) q ∧ ∀ j, q ≤ j → j < q + tr_len t + 2 → yv_1 bo bw b1 b2 j
theorem cq_N {t : Std.Format} (hN : cz_N t) (hY : yl_N t) (hA : cq_A bo bw b1 b2 t) : cq_A bo bw b1 b2 t ∧ cq_B bo bw b1 b2 t := by
  refine ⟨hA, ?_⟩
  intro m q hq hc
  obtain ⟨c1, c2, c3, c4, c5, c6⟩ := (hN bo bw b1 b2 m q).mp hc
  obtain ⟨a1, a2⟩ := hA (q + 1) (by omega) c4
  refine ⟨(hY.2.2.2.2 _ _ _ _ _ q).mpr ⟨xv_oe (by omega) c1 (by omega), yv_se c2 (by omega), by rw [yv_se c3 (by omega)]; omega, a1, xv_oe (by omega) c5 (by omega), by rw [yv_se c6 (by omega)]; omega⟩, ?_⟩
  intro j j1 j2
  by_cases e1 : j = q
  · subst e1; exact yv_1s (by omega) (by omega) (by omega) c1 c2 c3
  · by_cases e2 : j = q + 1 + tr_len t
    · subst e2; exact yv_1j (by omega) (by omega) c5 c6
    · exact a2 j (by omega) (by omega)
theorem cq_leaf {t : Std.Format} (hN : cz_N t) (hY : yl_N t) (h : ∀ q, tr_len t = 1 → q < 150 → cz_L bo bw b1 b2 t none q → cy_L (xv_o 200 bo) (yv_w bo bw) (yv_s b1) (yv_s b2) t none q ∧ yv_1 bo bw b1 b2 q) (hl : tr_len t = 1) : cq_A bo bw b1 b2 t ∧ cq_B bo bw b1 b2 t := by
  refine cq_N hN hY (fun q hq hc => ?_)
  obtain ⟨h1, h2⟩ := h q hl (by omega) hc
  refine ⟨h1, fun j j1 j2 => ?_⟩
  have : j = q := by omega
  subst this; exact h2
theorem cq_main : ∀ t, cq_A bo bw b1 b2 t ∧ cq_B bo bw b1 b2 t := by
  intro t
  induction t using tr_ind with
  | h0 => exact cq_N cz_N0 yl_N0 (fun q _ _ => ⟨trivial, fun j j1 j2 => absurd j2 (by show ¬ j < q + 0; omega)⟩)
  | h1 => exact cq_leaf cz_N1 yl_N1 (fun q _ hq hc => ⟨⟨xv_oe (by omega) hc.1 (by omega), yv_se hc.2 (by omega)⟩, 1, 0, q + 1, 0, by omega, hc.1, (fun z => by omega), (fun z => by omega), by rw [hc.2, nI_add], by omega, fun z => by omega⟩) rfl
  | h2 b => exact cq_leaf cz_N2 yl_N2 (fun q _ hq hc => ⟨⟨xv_oe (by omega) hc.1 (by omega), yv_se hc.2 (by omega)⟩, 2, 0, q + 1, 0, by omega, hc.1, (fun z => by omega), (fun z => by omega), by rw [hc.2, nI_add], by omega, fun z => by omega⟩) rfl
  | h3 s => exact cq_N cz_N3 yl_N3 (fun q _ _ => ⟨trivial, fun j j1 j2 => absurd j2 (by show ¬ j < q + 0; omega)⟩)
  | h4 i f =>
    refine cq_leaf cz_N4 yl_N4 (fun q _ hq hc => ?_) rfl
    obtain ⟨c1, c2, c3, c4⟩ := hc
    refine ⟨⟨xv_oe (by omega) c1 (by omega), ?_, yv_se c4 (by omega)⟩, 0, i.toNat, q + 1, 0, by omega, c1, (fun _ => ⟨c2, by omega⟩), (fun z => by omega), by rw [c4, nI_add], by omega, fun z => by omega⟩
    unfold yv_w
    rw [c1, if_neg (by decide), c2]; exact nI_clamp (by omega)
  | h5 a b ha hb =>
    refine cq_N cz_N5 yl_N5 (fun q hq hc => ?_)
    rw [tr_len_app] at hq ⊢
    obtain ⟨a1, a2⟩ := ha.1 q (by omega) hc.1
    obtain ⟨b1', b2'⟩ := hb.1 (q + tr_len a) (by omega) hc.2
    refine ⟨⟨a1, b1'⟩, fun j j1 j2 => ?_⟩
    by_cases e : j < q + tr_len a
    · exact a2 j j1 e
    · exact b2' j (by omega) (by omega)
  | h6 a b c ha hb =>
    refine ⟨fun q hq hc => ?_, fun m q hq hc => ?_⟩
    · rw [tr_len_alt] at hq ⊢
      obtain ⟨c1, c2⟩ := hc
      obtain ⟨a1, a2⟩ := ha.2 (tr_len b) q (by omega) c1
      obtain ⟨b1', b2'⟩ := hb.1 (q + tr_len a + 2) (by omega) c2
      refine ⟨⟨a1, b1'⟩, fun j j1 j2 => ?_⟩
      by_cases e : j < q + tr_len a + 2
      · exact a2 j j1 e
      · exact b2' j (by omega) (by omega)
    · rw [tr_len_alt] at hq ⊢
      obtain ⟨c1, c2, c3, c4, c5, c6, c7⟩ := hc
      obtain ⟨a1, a2⟩ := ha.2 (tr_len b + 2 + m) q (by omega) c1
      obtain ⟨b1', b2'⟩ := hb.1 (q + tr_len a + 3) (by omega) c5
      rw [show q + tr_len a + 2 + (tr_len b + 2 + m) = q + (tr_len a + tr_len b + 2) + 2 + m by omega] at a1
      refine ⟨⟨a1, xv_oe (by omega) c2 (by omega), by rw [yv_se c3 (by omega)], by rw [yv_se c4 (by omega)]; omega, b1', xv_oe (by omega) c6 (by omega), by rw [yv_se c7 (by omega)]; omega⟩, fun j j1 j2 => ?_⟩
      by_cases e : j < q + tr_len a + 2
      · exact a2 j j1 e
      · by_cases e2 : j = q + tr_len a + 2
        · subst e2; exact yv_1s (by omega) (by omega) (by omega) c2 c3 c4
        · by_cases e3 : j = q + tr_len a + 3 + tr_len b
          · subst e3; exact yv_1j (by omega) (by omega) c6 c7
          · exact b2' j (by omega) (by omega)
  | h7 f c hf =>
    refine cq_N (cz_N7 hf) (yl_N7 hf) (fun q _ _ => ?_)
    cases f <;> first | exact ⟨trivial, fun j j1 j2 => absurd j2 (by show ¬ j < q + 0; omega)⟩ | exact absurd rfl (hf _ _)
  | h8 t a ha =>
    refine cq_N cz_N8 yl_N8 (fun q hq hc => ?_)
    unfold cz_L cz_w at hc
    dsimp only at hc
    unfold cy_L cy_w
    dsimp only
    by_cases t1 : t ≤ 1
    · rw [if_pos t1] at hc ⊢
      rw [tr_len_st t1] at hq ⊢
      obtain ⟨c1, c2, c3, c4, c5, c6⟩ := hc
      obtain ⟨a1, a2⟩ := ha.1 (q + 1) (by omega) c4
      refine ⟨⟨xv_oe (by omega) c1 (by omega), ?_, ?_, a1, xv_oe (by omega) c5 (by omega), by rw [yv_sn c6 (by omega) (by omega)]; omega⟩, fun j j1 j2 => ?_⟩
      · rw [yv_se c2 (by split <;> omega)]; split <;> omega
      · rw [yv_se c3 (by split <;> omega)]; split <;> omega
      · by_cases e1 : j = q
        · subst e1; exact yv_1s (by omega) (by split <;> omega) (by split <;> omega) c1 c2 c3
        · by_cases e2 : j = q + 1 + tr_len a
          · subst e2; exact yv_1n (by omega) (by omega) c5 c6
          · exact a2 j (by omega) (by omega)
    · rw [if_neg t1] at hc ⊢
      by_cases t3 : t ≤ 3
      · rw [if_pos t3] at hc ⊢
        rw [tr_len_op t1 t3] at hq ⊢
        obtain ⟨c1, c2, c3, c4⟩ := hc
        obtain ⟨a1, a2⟩ := ha.1 (q + 1) (by omega) c4
        refine ⟨⟨xv_oe (by omega) c1 (by omega), ?_, ?_, a1⟩, fun j j1 j2 => ?_⟩
        · rw [yv_se c2 (by split <;> omega)]; split <;> omega
        · rw [yv_se c3 (by split <;> omega)]; split <;> omega
        · by_cases e1 : j = q
          · subst e1; exact yv_1s (by omega) (by split <;> omega) (by split <;> omega) c1 c2 c3
          · exact a2 j (by omega) (by omega)
      · rw [if_neg t3] at hc ⊢
        rw [tr_len_gr t1 t3] at hq ⊢
        obtain ⟨c0, c1, c2, c3, c4, c5, c6, c7⟩ := hc
        obtain ⟨a1, a2⟩ := ha.1 (q + 1) (by omega) c4
        have w1 : yv_w bo bw q = 2 * (t - 3) - 1 := by
          unfold yv_w; rw [c1, if_pos (by decide), c2, nI_clamp (by omega)]
        have w2 : yv_w bo bw (q + 1 + tr_len a) = 2 * (t - 3) := by
          unfold yv_w; rw [c5, if_pos (by decide), c6, nI_clamp (by omega)]; omega
        refine ⟨⟨xv_oe (by omega) c1 (by omega), w1, yv_se c3 (by omega), a1, xv_oe (by omega) c5 (by omega), w2, by rw [yv_se c7 (by omega)]; omega⟩, fun j j1 j2 => ?_⟩
        by_cases e1 : j = q
        · subst e1
          exact ⟨5, 2 * (t - 3) - 1, j + 1, 0, by omega, c1, (fun z => by omega), (fun _ => ⟨by rw [c2]; congr 1; omega, by omega, by omega⟩), by rw [c3, nI_add], by omega, fun z => by omega⟩
        · by_cases e2 : j = q + 1 + tr_len a
          · subst e2
            exact ⟨5, 2 * (t - 3), q + 1 + tr_len a + 1, 0, by omega, c5, (fun z => by omega), (fun _ => ⟨c6, by omega, by omega⟩), by rw [c7, nI_add], by omega, fun z => by omega⟩
          · exact a2 j (by omega) (by omega)
end YLZ
end
section
section YFR
/-! Y's levels: code of a level from where it was opened on -/
section OZ
variable (bo bw b1 b2 : Nat → Int32)
/-- alternatives that are not closed yet: each jump holds the place of the one before -/
def oz_L : Std.Format → Nat → Prop
  | .group (.append a b) _, q => oz_L a q ∧ bo (q + tr_len a + 2) = nI 3 ∧ b1 (q + tr_len a + 2) = nI 1 ∧ b2 (q + tr_len a + 2) = nI (tr_len b + 2) ∧ cz_L bo bw b1 b2 b none (q + tr_len a + 3) ∧ bo (q + tr_len a + 3 + tr_len b) = nI 4 ∧ b1 (q + tr_len a + 3 + tr_len b) = nI (q + tr_len a + 1)
  | t, q => bo q = nI 3 ∧ b1 q = nI 1 ∧ b2 q = nI (tr_len t + 2) ∧ cz_L bo bw b1 b2 t none (q + 1) ∧ bo (q + 1 + tr_len t) = nI 4 ∧ b1 (q + 1 + tr_len t) = -1
end OZ
def oz_N (t : Std.Format) : Prop := ∀ (bo bw b1 b2 : Nat → Int32) q, oz_L bo bw b1 b2 t q ↔ (bo q = nI 3 ∧ b1 q = nI 1 ∧ b2 q = nI (tr_len t + 2) ∧ cz_L bo bw b1 b2 t none (q + 1) ∧ bo (q + 1 + tr_len t) = nI 4 ∧ b1 (q + 1 + tr_len t) = -1)
/-- a tree is alternatives, or all about it is plain -/
theorem tr_cs (t : Std.Format) : (cz_N t ∧ oz_N t) ∨ ∃ a b c, t = .group (.append a b) c := by
  cases t with
  | nil => exact Or.inl ⟨cz_N0, fun _ _ _ _ _ => Iff.rfl⟩
  | line => exact Or.inl ⟨cz_N1, fun _ _ _ _ _ => Iff.rfl⟩
  | align b => exact Or.inl ⟨cz_N2, fun _ _ _ _ _ => Iff.rfl⟩
  | text s => exact Or.inl ⟨cz_N3, fun _ _ _ _ _ => Iff.rfl⟩
  | nest i f => exact Or.inl ⟨cz_N4, fun _ _ _ _ _ => Iff.rfl⟩
  | append a b => exact Or.inl ⟨cz_N5, fun _ _ _ _ _ => Iff.rfl⟩
  | tag k a => exact Or.inl ⟨cz_N8, fun _ _ _ _ _ => Iff.rfl⟩
  | group f c =>
    cases f with
    | append a b => exact Or.inr ⟨a, b, c, rfl⟩
    | nil => exact Or.inl ⟨cz_N7 (fun a b e => nomatch e), fun _ _ _ _ _ => Iff.rfl⟩
    | line => exact Or.inl ⟨cz_N7 (fun a b e => nomatch e), fun _ _ _ _ _ => Iff.rfl⟩
    | align _ => exact Or.inl ⟨cz_N7 (fun a b e => nomatch e), fun _ _ _ _ _ => Iff.rfl⟩
    | text _ => exact Or.inl ⟨cz_N7 (fun a b e => nomatch e), fun _ _ _ _ _ => Iff.rfl⟩
    | nest _ _ => exact Or.inl ⟨cz_N7 (fun a b e => nomatch e), fun _ _ _ _ _ => Iff.rfl⟩
    | group _ _ => exact Or.inl ⟨cz_N7 (fun a b e => nomatch e), fun _ _ _ _ _ => Iff.rfl⟩
    | tag _ _ => exact Or.inl ⟨cz_N7 (fun a b e => nomatch e), fun _ _ _ _ _ => Iff.rfl⟩
/-- the same, as an induction -/
theorem tr_in2 {P : Std.Format → Prop} (h1 : ∀ t, cz_N t → oz_N t → P t) (h2 : ∀ a b c, P a → P (.group (.append a b) c)) : ∀ t, P t := by
  intro t
  induction t using tr_ind with
  | h0 => exact h1 _ cz_N0 (fun _ _ _ _ _ => Iff.rfl)
  | h1 => exact h1 _ cz_N1 (fun _ _ _ _ _ => Iff.rfl)
  | h2 b => exact h1 _ cz_N2 (fun _ _ _ _ _ => Iff.rfl)
  | h3 s => exact h1 _ cz_N3 (fun _ _ _ _ _ => Iff.rfl)
  | h4 i f => exact h1 _ cz_N4 (fun _ _ _ _ _ => Iff.rfl)
  | h5 a b _ _ => exact h1 _ cz_N5 (fun _ _ _ _ _ => Iff.rfl)
  | h6 a b c ha _ => exact h2 a b c ha
  | h7 f c hf =>
    rcases tr_cs (.group f c) with ⟨a1, a2⟩ | ⟨a, b, c', e⟩
    · exact h1 _ a1 a2
    · cases e; exact absurd rfl (hf a b)
  | h8 k a _ => exact h1 _ cz_N8 (fun _ _ _ _ _ => Iff.rfl)
section OZX
variable {bo bw b1 b2 bo' bw' b1' b2' : Nat → Int32}
/-- what is not touched stays -/
theorem cz_fr {t : Std.Format} {q : Nat} (ht : tr_len t ≤ 100) (h : ∀ j, q ≤ j → j < q + tr_len t → bo' j = bo j ∧ bw' j = bw j ∧ b1' j = b1 j ∧ b2' j = b2 j) (hc : cz_L bo bw b1 b2 t none q) : cz_L bo' bw' b1' b2' t none q := by
  refine (cz_mv t ht).1 q q (fun i hi => ?_) hc
  obtain ⟨e1, e2, e3, e4⟩ := h (q + i) (by omega) (by omega)
  unfold vr_R
  rw [e1, e2, e3, e4]
  exact ⟨vr_br _, vr_br _, vr_sr _, vr_sr _⟩
theorem oz_fr : ∀ t, tr_len t ≤ 98 → ∀ q, (∀ j, q ≤ j → j < q + tr_len t + 2 → bo' j = bo j ∧ bw' j = bw j ∧ b1' j = b1 j ∧ b2' j = b2 j) → oz_L bo bw b1 b2 t q → oz_L bo' bw' b1' b2' t q := by
  intro t
  induction t using tr_in2 with
  | h1 t hN hO =>
    intro ht q h ho
    obtain ⟨c1, c2, c3, c4, c5, c6⟩ := (hO bo bw b1 b2 q).mp ho
    obtain ⟨e1, e2, e3, e4⟩ := h q (by omega) (by omega)
    obtain ⟨f1, f2, f3, f4⟩ := h (q + 1 + tr_len t) (by omega) (by omega)
    exact (hO bo' bw' b1' b2' q).mpr ⟨e1.trans c1, e3.trans c2, e4.trans c3, cz_fr (by omega) (fun j j1 j2 => h j (by omega) (by omega)) c4, f1.trans c5, f3.trans c6⟩
  | h2 a b c ha =>
    intro ht q h ho
    rw [tr_len_alt] at ht h
    obtain ⟨c0, c1, c2, c3, c4, c5, c6⟩ := ho
    obtain ⟨e1, e2, e3, e4⟩ := h (q + tr_len a + 2) (by omega) (by omega)
    obtain ⟨f1, f2, f3, f4⟩ := h (q + tr_len a + 3 + tr_len b) (by omega) (by omega)
    exact ⟨ha (by omega) q (fun j j1 j2 => h j j1 (by omega)) c0, e1.trans c1, e3.trans c2, e4.trans c3, cz_fr (by omega) (fun j j1 j2 => h j (by omega) (by omega)) c4, f1.trans c5, f3.trans c6⟩
end OZX
/-! frames -/
def pl_R (t : Std.Format) : Prop := cz_N t ∧ oz_N t
theorem pl_nil : pl_R .nil := ⟨cz_N0, fun _ _ _ _ _ => Iff.rfl⟩
theorem pl_lin : pl_R .line := ⟨cz_N1, fun _ _ _ _ _ => Iff.rfl⟩
theorem pl_ali {b : Bool} : pl_R (.align b) := ⟨cz_N2, fun _ _ _ _ _ => Iff.rfl⟩
theorem pl_nes {i : Int} {f : Std.Format} : pl_R (.nest i f) := ⟨cz_N4, fun _ _ _ _ _ => Iff.rfl⟩
theorem pl_app {a b : Std.Format} : pl_R (.append a b) := ⟨cz_N5, fun _ _ _ _ _ => Iff.rfl⟩
theorem pl_tag {k : Nat} {a : Std.Format} : pl_R (.tag k a) := ⟨cz_N8, fun _ _ _ _ _ => Iff.rfl⟩
def pf_g (g : Nat) : Nat := if g = 0 then 0 else 1
def pf_l (al : Option Std.Format) : Nat := match al with
  | none => 0
  | some l => tr_len l + 2
def pf_zl (al : Option Std.Format) : Nat := match al with
  | none => 0
  | some l => tr_sz l + 1
def pf_x (a : Option (Std.Format × Bool)) : Std.Format := match a with
  | none => .nil
  | some x => x.1
def tz_R : List pf_F → Nat
  | [] => 0
  | (g, al, sq, a) :: rest => tz_R rest + 2 * pf_g g + pf_zl al + tr_sz (pf_o sq) + tr_sz (pf_x a)
section PY
variable (bo bw b1 b2 od br sz jp gp : Nat → Int32)
def py_1 (g : Nat) (al sq : Option Std.Format) (a : Option (Std.Format × Bool)) (L z O e : Nat) : Prop :=
  od L = nI O ∧ br L = nI (O + pf_g g + pf_l al) ∧ sz L = nI z ∧ gp L = nI g ∧ g ≤ 3 ∧ e = O + pf_g g + pf_l al + tr_len (pf_o sq) + tr_len (pf_x a) ∧
  (g ≠ 0 → bo O = nI 5 ∧ bw O = nI (2 * g) ∧ b1 O = nI 1) ∧ (al = none → jp L = -1) ∧ (∀ l, al = some l → jp L = nI (O + pf_g g + tr_len l + 1) ∧ oz_L bo bw b1 b2 l (O + pf_g g)) ∧
  cz_L bo bw b1 b2 (pf_o sq) none (O + pf_g g + pf_l al) ∧ cz_L bo bw b1 b2 (pf_x a) none (O + pf_g g + pf_l al + tr_len (pf_o sq)) ∧ pl_R (pf_o sq) ∧ pl_R (pf_x a)
def py_F : List pf_F → Nat → Prop
  | [], e => e = 0
  | (g, al, sq, a) :: rest, e => ∃ O, py_1 bo bw b1 b2 od br sz jp gp g al sq a rest.length (tz_R rest) O e ∧ py_F rest O
end PY
section PYX
variable {bo bw b1 b2 od br sz jp gp bo' bw' b1' b2' od' br' sz' jp' gp' : Nat → Int32} {rest : List pf_F} {g e : Nat} {al sq : Option Std.Format} {a : Option (Std.Format × Bool)}
theorem py_e2 : ∀ fs e, py_F bo bw b1 b2 od br sz jp gp fs e → e ≤ 2 * tz_R fs := by
  intro fs
  induction fs with
  | nil => intro e h; have h : e = 0 := h; omega
  | cons fr rest ih =>
    intro e h
    obtain ⟨g, al, sq, a⟩ := fr
    obtain ⟨O, h1, h2⟩ := h
    have := ih O h2
    have h3 := h1.2.2.2.2.2.1
    have l1 := tr_len_sz (pf_o sq)
    have l2 := tr_len_sz (pf_x a)
    have l3 : pf_l al ≤ 2 * pf_zl al := by
      cases al with
      | none => exact Nat.le_refl 0
      | some l => have := tr_len_sz l; show tr_len l + 2 ≤ 2 * (tr_sz l + 1); omega
    show e ≤ 2 * (tz_R rest + 2 * pf_g g + pf_zl al + tr_sz (pf_o sq) + tr_sz (pf_x a))
    omega
theorem py_fr : ∀ fs e, e ≤ 98 → (∀ j, j < e → bo' j = bo j ∧ bw' j = bw j ∧ b1' j = b1 j ∧ b2' j = b2 j) → (∀ i, i < fs.length → od' i = od i ∧ br' i = br i ∧ sz' i = sz i ∧ jp' i = jp i ∧ gp' i = gp i) → py_F bo bw b1 b2 od br sz jp gp fs e → py_F bo' bw' b1' b2' od' br' sz' jp' gp' fs e := by
  intro fs
  induction fs with
  | nil => intro e _ _ _ h; exact h
  | cons fr rest ih =>
    intro e he hb hl h
    obtain ⟨g, al, sq, a⟩ := fr
    obtain ⟨O, ⟨p1, p2, p3, p4, p5, p6, p7, p8, p9, p10, p11, p12⟩, h2⟩ := h
    obtain ⟨e1, e2, e3, e4, e5⟩ := hl rest.length (Nat.lt_succ_self _)
    refine ⟨O, ⟨e1.trans p1, e2.trans p2, e3.trans p3, e5.trans p4, p5, p6, ?_, ?_, ?_, ?_, ?_, p12⟩, ih O (by omega) (fun j hj => hb j (by omega)) (fun i hi => hl i (Nat.lt_succ_of_lt hi)) h2⟩
    · intro hg
      have hO : O < e := by unfold pf_g at p6; rw [if_neg hg] at p6; omega
      obtain ⟨f1, f2, f3, f4⟩ := hb O hO
      rw [f1, f2, f3]; exact p7 hg
    · intro h; rw [e4]; exact p8 h
    · intro l hl'
      obtain ⟨q1, q2⟩ := p9 l hl'
      have hle : pf_l al = tr_len l + 2 := by rw [hl']; rfl
      refine ⟨e4.trans q1, oz_fr l (by omega) _ (fun j j1 j2 => hb j (by omega)) q2⟩
    · exact cz_fr (by omega) (fun j j1 j2 => hb j (by omega)) p10
    · exact cz_fr (by omega) (fun j j1 j2 => hb j (by omega)) p11
theorem pf_s_l : tr_len (pf_o (pf_s sq a)) = tr_len (pf_o sq) + tr_len (pf_x a) ∧ tr_sz (pf_o (pf_s sq a)) = tr_sz (pf_o sq) + tr_sz (pf_x a) := by
  cases a with
  | none => exact ⟨rfl, rfl⟩
  | some x =>
    cases sq with
    | none => exact ⟨(Nat.zero_add _).symm, (Nat.zero_add _).symm⟩
    | some s => exact ⟨rfl, rfl⟩
theorem cz_set {q : Nat} (h1 : cz_L bo bw b1 b2 (pf_o sq) none q) (h2 : cz_L bo bw b1 b2 (pf_x a) none (q + tr_len (pf_o sq))) : cz_L bo bw b1 b2 (pf_o (pf_s sq a)) none q := by
  cases a with
  | none => exact h1
  | some x =>
    cases sq with
    | none => exact h2
    | some s => exact ⟨h1, h2⟩
theorem pl_set (h1 : pl_R (pf_o sq)) (h2 : pl_R (pf_x a)) : pl_R (pf_o (pf_s sq a)) := by
  cases a with
  | none => exact h1
  | some x =>
    cases sq with
    | none => exact h2
    | some s => exact pl_app
theorem py_set (h : py_F bo bw b1 b2 od br sz jp gp ((g, al, sq, a) :: rest) e) : py_F bo bw b1 b2 od br sz jp gp ((g, al, pf_s sq a, none) :: rest) e ∧ tz_R ((g, al, pf_s sq a, none) :: rest) = tz_R ((g, al, sq, a) :: rest) := by
  obtain ⟨O, ⟨p1, p2, p3, p4, p5, p6, p7, p8, p9, p10, p11, p12, p13⟩, h2⟩ := h
  obtain ⟨l1, l2⟩ := pf_s_l (sq := sq) (a := a)
  refine ⟨⟨O, ⟨p1, p2, p3, p4, p5, ?_, p7, p8, p9, cz_set p10 p11, trivial, pl_set p12 p13, pl_nil⟩, h2⟩, ?_⟩
  · rw [l1]; show e = _ + 0; omega
  · show tz_R rest + 2 * pf_g g + pf_zl al + tr_sz (pf_o (pf_s sq a)) + 0 = tz_R rest + 2 * pf_g g + pf_zl al + tr_sz (pf_o sq) + tr_sz (pf_x a)
    omega
end PYX
end YFR
end
section
section YAC
/-! Y reads: small (written out) or large -/
def ya_R (a : Option (Std.Format × Bool)) (e : Nat) (ta az : Int32) : Prop := (∀ x, a = some (x, true) → ta = nI (e - tr_len x) ∧ az = nI (tr_sz x)) ∧ ((∀ x, a ≠ some (x, true)) → ta = -1)
def yb_R (a : Option (Std.Format × Bool)) (ta : Int32) : Prop := (∀ x, a = some (x, true) → ∃ o, ta = nI o ∧ o ≤ 100) ∧ ((∀ x, a ≠ some (x, true)) → ta = -1)
def yq_S (fs : List pf_F) (a : Option (Std.Format × Bool)) (en si la ta az : Int32) (bo bw b1 b2 od br sz jp gp : Nat → Int32) : Prop :=
  la = 0 ∧ ∃ e, en = nI e ∧ py_F bo bw b1 b2 od br sz jp gp fs e ∧ si = nI (tz_R fs) ∧ tz_R fs ≤ 36 ∧ ya_R a e ta az
def yq_B (fs : List pf_F) (a : Option (Std.Format × Bool)) (en la ta : Int32) (od : Nat → Int32) : Prop :=
  la = 1 ∧ 36 < tz_R fs ∧ (∃ e, en = nI e ∧ e ≤ 100) ∧ (∀ i, i < fs.length → ∃ o, od i = nI o ∧ o ≤ 100) ∧ yb_R a ta
def yq_R (fs : List pf_F) (a : Option (Std.Format × Bool)) (en si la ta az : Int32) (bo bw b1 b2 od br sz jp gp : Nat → Int32) : Prop :=
  yq_S fs a en si la ta az bo bw b1 b2 od br sz jp gp ∨ yq_B fs a en la ta od
theorem py_od {bo bw b1 b2 od br sz jp gp : Nat → Int32} : ∀ fs e, py_F bo bw b1 b2 od br sz jp gp fs e → ∀ i, i < fs.length → ∃ o, od i = nI o ∧ o ≤ e := by
  intro fs
  induction fs with
  | nil => intro e _ i hi; exact absurd hi (Nat.not_lt_zero _)
  | cons fr rest ih =>
    intro e h i hi
    obtain ⟨g, al, sq, a⟩ := fr
    obtain ⟨O, p, h2⟩ := h
    have hO : O ≤ e := by have := p.2.2.2.2.2.1; omega
    by_cases c : i = rest.length
    · rw [c]; exact ⟨O, p.1, hO⟩
    · obtain ⟨o, h3, h4⟩ := ih O h2 i (by rw [List.length_cons] at hi; omega)
      exact ⟨o, h3, by omega⟩
theorem ya_1 {x : Std.Format} {e : Nat} {ta az : Int32} (h1 : ta = nI (e - tr_len x)) (h2 : az = nI (tr_sz x)) : ya_R (some (x, true)) e ta az := ⟨fun y hy => by cases hy; exact ⟨h1, h2⟩, fun h => absurd rfl (h x)⟩
theorem ya_0 {a : Option (Std.Format × Bool)} {e : Nat} {az : Int32} (h : ∀ x, a ≠ some (x, true)) : ya_R a e (-1) az := ⟨fun x hx => absurd hx (h x), fun _ => rfl⟩
theorem yb_t {x : Std.Format} {o : Nat} {ta : Int32} (h1 : ta = nI o) (h2 : o ≤ 100) : yb_R (some (x, true)) ta := ⟨fun y hy => ⟨o, h1, h2⟩, fun h => absurd rfl (h x)⟩
theorem yb_f {a : Option (Std.Format × Bool)} (h : ∀ x, a ≠ some (x, true)) : yb_R a (-1) := ⟨fun x hx => absurd hx (h x), fun _ => rfl⟩
variable {g_count g_place g_end g_size g_large g_ready g_depth g_groups g_atom g_atomSize g_length g_found : Int32} {b_kind b_value b_op b_with b_one b_two b_copyOp b_copyWith b_copyOne b_copyTwo b_opened b_branch b_sizes b_jumps b_groupOf b_text b_todo b_notes : Nat → Int32} {b_met : Nat → Int64}
section YGE
variable {post : SY → Prop}
theorem yg_s {z d : Nat} (hz : z + d < 100000) (h1 : z + d ≤ 36 → post (g_count, g_place, g_end, nI (z + d), g_large, g_ready, g_depth, g_groups, g_atom, g_atomSize, g_length, g_found, b_kind, b_value, b_op, b_with, b_one, b_two, b_copyOp, b_copyWith, b_copyOne, b_copyTwo, b_opened, b_branch, b_sizes, b_jumps, b_groupOf, b_text, b_met, b_todo, b_notes)) (h2 : 36 < z + d → post (g_count, g_place, g_end, nI (z + d), 1, g_ready, g_depth, g_groups, g_atom, g_atomSize, g_length, g_found, b_kind, b_value, b_op, b_with, b_one, b_two, b_copyOp, b_copyWith, b_copyOne, b_copyTwo, b_opened, b_branch, b_sizes, b_jumps, b_groupOf, b_text, b_met, b_todo, b_notes)) : wpY_grow post (g_count, g_place, g_end, nI z, g_large, g_ready, g_depth, g_groups, g_atom, g_atomSize, g_length, g_found, b_kind, b_value, b_op, b_with, b_one, b_two, b_copyOp, b_copyWith, b_copyOne, b_copyTwo, b_opened, b_branch, b_sizes, b_jumps, b_groupOf, b_text, b_met, b_todo, b_notes) (nI d) := by
  refine nm_r (nI_add z d) ?_
  by_cases c : z + d ≤ 36
  · exact br_t (nI_le (b := 36) c (by omega)) (h1 c)
  · exact br_f (nI_ge (a := 36) (by omega) (by omega)) (h2 (by omega))
theorem yg_b {x : Int32} (hl : g_large = 1) (h : ∀ si, post (g_count, g_place, g_end, si, 1, g_ready, g_depth, g_groups, g_atom, g_atomSize, g_length, g_found, b_kind, b_value, b_op, b_with, b_one, b_two, b_copyOp, b_copyWith, b_copyOne, b_copyTwo, b_opened, b_branch, b_sizes, b_jumps, b_groupOf, b_text, b_met, b_todo, b_notes)) : wpY_grow post (g_count, g_place, g_end, g_size, g_large, g_ready, g_depth, g_groups, g_atom, g_atomSize, g_length, g_found, b_kind, b_value, b_op, b_with, b_one, b_two, b_copyOp, b_copyWith, b_copyOne, b_copyTwo, b_opened, b_branch, b_sizes, b_jumps, b_groupOf, b_text, b_met, b_todo, b_notes) x := by
  subst hl
  exact nm_e (br_c (fun _ => h _) (fun _ => h _))
theorem ye_s {e c u : Nat} {v w v' w' : Int32} (hl : g_large = 0) (he : e < 160) (hc : c < 128) (hu : u < 128) (ev : vp_nar .short v.toInt16.toInt32 = v') (ew : vp_nar .short w.toInt16.toInt32 = w') (h : post (g_count, g_place, nI (e + 1), g_size, g_large, g_ready, g_depth, g_groups, g_atom, g_atomSize, g_length, g_found, b_kind, b_value, upd b_op e (nI c), upd b_with e (nI u), upd b_one e v', upd b_two e w', b_copyOp, b_copyWith, b_copyOne, b_copyTwo, b_opened, b_branch, b_sizes, b_jumps, b_groupOf, b_text, b_met, b_todo, b_notes)) : wpY_emit post (g_count, g_place, nI e, g_size, g_large, g_ready, g_depth, g_groups, g_atom, g_atomSize, g_length, g_found, b_kind, b_value, b_op, b_with, b_one, b_two, b_copyOp, b_copyWith, b_copyOne, b_copyTwo, b_opened, b_branch, b_sizes, b_jumps, b_groupOf, b_text, b_met, b_todo, b_notes) (nI c) (nI u) v w := by
  refine br_t hl ?_
  rw [nI_clamp (by omega), mn_b1 hc, mn_b1 hu, ev, ew]
  exact ⟨vp_in_nI he (by omega), nm_e ⟨vp_in_nI he (by omega), nm_e ⟨vp_in_nI he (by omega), nm_e (nm_r (nI_1 e) ⟨vp_in_nI he (by omega), nm_e h⟩)⟩⟩⟩
theorem ye_b {a b c d : Int32} (hl : g_large = 1) (h : post (g_count, g_place, g_end, g_size, g_large, g_ready, g_depth, g_groups, g_atom, g_atomSize, g_length, g_found, b_kind, b_value, b_op, b_with, b_one, b_two, b_copyOp, b_copyWith, b_copyOne, b_copyTwo, b_opened, b_branch, b_sizes, b_jumps, b_groupOf, b_text, b_met, b_todo, b_notes)) : wpY_emit post (g_count, g_place, g_end, g_size, g_large, g_ready, g_depth, g_groups, g_atom, g_atomSize, g_length, g_found, b_kind, b_value, b_op, b_with, b_one, b_two, b_copyOp, b_copyWith, b_copyOne, b_copyTwo, b_opened, b_branch, b_sizes, b_jumps, b_groupOf, b_text, b_met, b_todo, b_notes) a b c d := br_f (by rw [hl]; decide) h
end YGE
section YOS
variable {en si la ta az : Int32} {bo bw b1 b2 od br sz jp gp : Nat → Int32} {rest : List pf_F} {g : Nat} {al sq : Option Std.Format} {a : Option (Std.Format × Bool)}
/-- a single piece -/
theorem yo_single {post : Int32 → SY → Prop} {c u : Nat} {t : Std.Format} (hc : c < 3) (hu : u < 128) (htp : pl_R t) (hts : tr_sz t = 1) (htl : tr_len t = 1) (htc : ∀ (bo bw b1 b2 : Nat → Int32) q, bo q = nI c → bw q = nI u → b1 q = nI 1 → cz_L bo bw b1 b2 t none q) (hR : yq_R ((g, al, sq, a) :: rest) a en si la ta az bo bw b1 b2 od br sz jp gp)
    (H : ∀ (en si la ta az : Int32) (bo bw b1 b2 od br sz jp gp : Nat → Int32), yq_R ((g, al, pf_s sq a, some (t, true)) :: rest) (some (t, true)) en si la ta az bo bw b1 b2 od br sz jp gp → post 1 (g_count, g_place, en, si, la, g_ready, g_depth, g_groups, ta, az, g_length, g_found, b_kind, b_value, bo, bw, b1, b2, b_copyOp, b_copyWith, b_copyOne, b_copyTwo, od, br, sz, jp, gp, b_text, b_met, b_todo, b_notes)) : wpY_single post (g_count, g_place, en, si, la, g_ready, g_depth, g_groups, ta, az, g_length, g_found, b_kind, b_value, bo, bw, b1, b2, b_copyOp, b_copyWith, b_copyOne, b_copyTwo, od, br, sz, jp, gp, b_text, b_met, b_todo, b_notes) (nI c) (nI u) := by
  have hz : tz_R ((g, al, pf_s sq a, some (t, true)) :: rest) = tz_R ((g, al, sq, a) :: rest) + 1 := by
    have := (pf_s_l (sq := sq) (a := a)).2
    show tz_R rest + 2 * pf_g g + pf_zl al + tr_sz (pf_o (pf_s sq a)) + tr_sz t = tz_R rest + 2 * pf_g g + pf_zl al + tr_sz (pf_o sq) + tr_sz (pf_x a) + 1
    omega
  unfold wpY_single
  dsimp only
  rcases hR with ⟨rfl, e, rfl, hF, rfl, hz36, hA⟩ | ⟨rfl, hz36, ⟨e, rfl, he⟩, hod, hA⟩
  · have he := py_e2 _ _ hF
    refine yg_s (d := 1) (by omega) (fun hs => ?_) (fun hs => ?_)
    · dsimp only
      refine ye_s (v' := nI 1) (w' := 0) rfl (by omega) (by omega) hu (mn_s1 (p := 1) (by omega)) (by decide) ?_
      dsimp only
      refine H _ _ _ _ _ _ _ _ _ _ _ _ _ _ (Or.inl ⟨rfl, e + 1, rfl, ?_, by rw [hz], by omega, ya_1 (by rw [htl]; rfl) (by rw [hts]; rfl)⟩)
      obtain ⟨h1, _⟩ := py_set hF
      have h2 := py_fr (bo' := upd bo e (nI c)) (bw' := upd bw e (nI u)) (b1' := upd b1 e (nI 1)) (b2' := upd b2 e 0) _ e (by omega) (fun j hj => ⟨pk_un (by omega), pk_un (by omega), pk_un (by omega), pk_un (by omega)⟩) (fun i _ => ⟨rfl, rfl, rfl, rfl, rfl⟩) h1
      obtain ⟨O, ⟨p1, p2, p3, p4, p5, p6, p7, p8, p9, p10, p11, p12, p13⟩, h3⟩ := h2
      refine ⟨O, ⟨p1, p2, p3, p4, p5, ?_, p7, p8, p9, p10, ?_, p12, htp⟩, h3⟩
      · show e + 1 = _ + tr_len t
        rw [htl, p6]; show _ + 0 + 1 = _; omega
      · have e0 : O + pf_g g + pf_l al + tr_len (pf_o (pf_s sq a)) = e := by rw [p6]; show _ = _ + 0; omega
        rw [e0]
        exact htc _ _ _ _ _ pk_us pk_us pk_us
    · dsimp only
      refine ye_b rfl ?_
      dsimp only
      refine H _ _ _ _ _ _ _ _ _ _ _ _ _ _ (Or.inr ⟨rfl, by omega, ⟨e, rfl, by omega⟩, fun i hi => ?_, yb_t (o := e) rfl (by omega)⟩)
      obtain ⟨o, o1, o2⟩ := py_od _ _ hF i hi
      exact ⟨o, o1, by omega⟩
  · refine yg_b rfl ?_
    intro si'
    dsimp only
    refine ye_b rfl ?_
    dsimp only
    exact H _ _ _ _ _ _ _ _ _ _ _ _ _ _ (Or.inr ⟨rfl, by omega, ⟨e, rfl, he⟩, hod, yb_t (o := e) rfl he⟩)
/-- a bracket opens -/
theorem yo_open {post : SY → Prop} {gn : Nat} (hgn : gn ≤ 3) (fs : List pf_F) (hL : fs.length < 25) (hR : (la = 0 ∧ ∃ e, en = nI e ∧ py_F bo bw b1 b2 od br sz jp gp fs e ∧ si = nI (tz_R fs) ∧ tz_R fs ≤ 36) ∨ (la = 1 ∧ 36 < tz_R fs ∧ (∃ e, en = nI e ∧ e ≤ 100) ∧ (∀ i, i < fs.length → ∃ o, od i = nI o ∧ o ≤ 100)))
    (H : ∀ (en si la ta az : Int32) (bo bw b1 b2 od br sz jp gp : Nat → Int32), yq_R ((gn, none, none, none) :: fs) none en si la ta az bo bw b1 b2 od br sz jp gp → post (g_count, g_place, en, si, la, g_ready, nI (fs.length + 1), g_groups, ta, az, g_length, g_found, b_kind, b_value, bo, bw, b1, b2, b_copyOp, b_copyWith, b_copyOne, b_copyTwo, od, br, sz, jp, gp, b_text, b_met, b_todo, b_notes)) : wpY_open post (g_count, g_place, en, si, la, g_ready, nI fs.length, g_groups, ta, az, g_length, g_found, b_kind, b_value, bo, bw, b1, b2, b_copyOp, b_copyWith, b_copyOne, b_copyTwo, od, br, sz, jp, gp, b_text, b_met, b_todo, b_notes) (nI gn) := by
  have hz : tz_R ((gn, none, none, none) :: fs) = tz_R fs + 2 * pf_g gn := by
    show tz_R fs + 2 * pf_g gn + 0 + 0 + 0 = _; omega
  unfold wpY_open
  dsimp only
  rw [nI_clamp (by omega), mn_b1 (by omega), mn_bm.2.2.1]
  rcases hR with ⟨rfl, e, rfl, hF, rfl, hz36⟩ | ⟨rfl, hz36, ⟨e, rfl, he⟩, hod⟩
  · have he := py_e2 _ _ hF
    rw [mn_s1 (p := e) (by omega), mn_s1 (p := tz_R fs) (by omega)]
    refine ⟨vp_in_nI hL (by omega), nm_e ⟨vp_in_nI hL (by omega), nm_e ⟨vp_in_nI hL (by omega), nm_e ⟨vp_in_nI hL (by omega), nm_e ?_⟩⟩⟩⟩
    have hF1 : ∀ (bo' bw' b1' b2' : Nat → Int32) (v : Int32), (∀ j, j < e → bo' j = bo j ∧ bw' j = bw j ∧ b1' j = b1 j ∧ b2' j = b2 j) → py_F bo' bw' b1' b2' (upd od fs.length (nI e)) (upd br fs.length v) (upd sz fs.length (nI (tz_R fs))) (upd jp fs.length (-1)) (upd gp fs.length (nI gn)) fs e := fun bo' bw' b1' b2' v h => py_fr fs e (by omega) h (fun i hi => ⟨pk_un (by omega), pk_un (by omega), pk_un (by omega), pk_un (by omega), pk_un (by omega)⟩) hF
    by_cases cg : gn = 0
    · subst cg
      refine br_t (by decide) ?_
      unfold wY_open_68
      rw [nI_clamp (by omega), mn_s1 (p := e) (by omega)]
      refine nm_r (nI_1 fs.length) ⟨vp_in_nI hL (by omega), nm_e ?_⟩
      refine H _ _ _ _ _ _ _ _ _ _ _ _ _ _ (Or.inl ⟨rfl, e, rfl, ⟨e, ⟨pk_us, pk_us, pk_us, pk_us, by omega, rfl, (fun h => absurd rfl h), fun _ => pk_us, (fun l h => nomatch h), trivial, trivial, pl_nil, pl_nil⟩, hF1 _ _ _ _ _ (fun j _ => ⟨rfl, rfl, rfl, rfl⟩)⟩, by rw [hz]; rfl, by rw [hz]; exact hz36, ya_0 (fun x h => nomatch h)⟩)
    · have hg1 : pf_g gn = 1 := if_neg cg
      refine br_f (nI_nle (by omega) (by omega)) ?_
      refine yg_s (d := 2) (by omega) (fun hs => ?_) (fun hs => ?_)
      · dsimp only
        rw [show (2 : Int32) * nI gn = nI (2 * gn) by rw [show (2 : Int32) = nI 2 from rfl, pk_mul]]
        refine ye_s (v' := nI 1) (w' := 0) (c := 5) rfl (by omega) (by omega) (by omega) (mn_s1 (p := 1) (by omega)) (by decide) ?_
        dsimp only
        unfold wY_open_68
        rw [nI_clamp (by omega), mn_s1 (p := e + 1) (by omega)]
        refine nm_r (nI_1 fs.length) ⟨vp_in_nI hL (by omega), nm_e ?_⟩
        refine H _ _ _ _ _ _ _ _ _ _ _ _ _ _ (Or.inl ⟨rfl, e + 1, rfl, ⟨e, ⟨pk_us, by rw [hg1]; exact pk_us, pk_us, pk_us, hgn, by rw [hg1]; rfl, fun _ => ⟨pk_us, pk_us, pk_us⟩, fun _ => pk_us, (fun l h => nomatch h), trivial, trivial, pl_nil, pl_nil⟩, hF1 _ _ _ _ _ (fun j hj => ⟨pk_un (by omega), pk_un (by omega), pk_un (by omega), pk_un (by omega)⟩)⟩, by rw [hz, hg1], by rw [hz, hg1]; exact hs, ya_0 (fun x h => nomatch h)⟩)
      · dsimp only
        refine ye_b rfl ?_
        dsimp only
        unfold wY_open_68
        rw [nI_clamp (by omega), mn_s1 (p := e) (by omega)]
        refine nm_r (nI_1 fs.length) ⟨vp_in_nI hL (by omega), nm_e ?_⟩
        refine H _ _ _ _ _ _ _ _ _ _ _ _ _ _ (Or.inr ⟨rfl, by rw [hz, hg1]; exact hs, ⟨e, rfl, by omega⟩, fun i hi => ?_, yb_f (fun x h => nomatch h)⟩)
        by_cases c : i = fs.length
        · rw [c, pk_us]; exact ⟨e, rfl, by omega⟩
        · rw [pk_un c]
          obtain ⟨o, o1, o2⟩ := py_od _ _ hF i (by rw [List.length_cons] at hi; omega)
          exact ⟨o, o1, by omega⟩
  · rw [mn_s1 (p := e) (by omega)]
    refine ⟨vp_in_nI hL (by omega), nm_e ⟨vp_in_nI hL (by omega), nm_e ⟨vp_in_nI hL (by omega), nm_e ⟨vp_in_nI hL (by omega), nm_e ?_⟩⟩⟩⟩
    have hod' : ∀ i, i < fs.length + 1 → ∃ o, upd od fs.length (nI e) i = nI o ∧ o ≤ 100 := by
      intro i hi
      by_cases c : i = fs.length
      · rw [c, pk_us]; exact ⟨e, rfl, he⟩
      · rw [pk_un c]; exact hod i (by omega)
    have h68 : ∀ (si' : Int32) (sz' : Nat → Int32), wY_open_68 post g_count g_place (nI e) si' 1 g_ready (nI fs.length) g_groups ta az g_length g_found b_kind b_value bo bw b1 b2 b_copyOp b_copyWith b_copyOne b_copyTwo (upd od fs.length (nI e)) br sz' (upd jp fs.length (-1)) (upd gp fs.length (nI gn)) b_text b_met b_todo b_notes := by
      intro si' sz'
      unfold wY_open_68
      rw [nI_clamp (by omega), mn_s1 (p := e) (by omega)]
      refine nm_r (nI_1 fs.length) ⟨vp_in_nI hL (by omega), nm_e ?_⟩
      exact H _ _ _ _ _ _ _ _ _ _ _ _ _ _ (Or.inr ⟨rfl, by omega, ⟨e, rfl, he⟩, hod', yb_f (fun x h => nomatch h)⟩)
    by_cases cg : gn = 0
    · subst cg
      exact br_t (by decide) (h68 _ _)
    · refine br_f (nI_nle (by omega) (by omega)) ?_
      refine yg_b rfl ?_
      intro si'
      dsimp only
      refine ye_b rfl ?_
      dsimp only
      exact h68 _ _
end YOS
end YAC
end
section
section YCL
theorem pl_w {g : Nat} {t : Std.Format} : pl_R (pf_w g t) := by
  unfold pf_w; split
  · exact pl_app
  · exact pl_tag
theorem pf_a_l {al : Option Std.Format} {s : Std.Format} : tr_len (pf_a al s) = pf_l al + tr_len s ∧ tr_sz (pf_a al s) = pf_zl al + tr_sz s := by
  cases al with
  | none => exact ⟨(Nat.zero_add _).symm, (Nat.zero_add _).symm⟩
  | some l => exact ⟨by show tr_len l + tr_len s + 2 = tr_len l + 2 + tr_len s; omega, by show tr_sz l + tr_sz s + 1 = tr_sz l + 1 + tr_sz s; omega⟩
theorem pf_w_l {g : Nat} {t : Std.Format} (hg : g ≤ 3) : tr_len (pf_w g t) = tr_len t + 2 * pf_g g ∧ tr_sz (pf_w g t) = tr_sz t + 2 * pf_g g := by
  unfold pf_w pf_g
  by_cases c : g = 0
  · rw [if_pos c, if_pos c]; exact ⟨rfl, rfl⟩
  · rw [if_neg c, if_neg c, tr_len_gr (by omega) (by omega)]
    refine ⟨rfl, ?_⟩
    show (if 3 + g ≤ 3 then _ else tr_sz t + 2) = _
    rw [if_neg (by omega)]
variable {g_count g_place g_end g_size g_large g_ready g_depth g_groups g_atom g_atomSize g_length g_found : Int32} {b_kind b_value b_op b_with b_one b_two b_copyOp b_copyWith b_copyOne b_copyTwo b_opened b_branch b_sizes b_jumps b_groupOf b_text b_todo b_notes : Nat → Int32} {b_met : Nat → Int64}
section YPT
variable {post : SY → Prop} {x1 : Int32} {bo bw b2 : Nat → Int32} {e : Nat}
theorem yk_step {fu j : Nat} {b1 : Nat → Int32} {v : Int32} (hj : j < e) (he : e ≤ 100) (hv : b1 j = v) (h : wY_close_26 post x1 g_count g_place (nI e) g_size g_large g_ready g_depth g_groups g_atom g_atomSize g_length g_found fu v b_kind b_value bo bw (upd b1 j (nI (e - j))) b2 b_copyOp b_copyWith b_copyOne b_copyTwo b_opened b_branch b_sizes b_jumps b_groupOf b_text b_met b_todo b_notes) : wY_close_26 post x1 g_count g_place (nI e) g_size g_large g_ready g_depth g_groups g_atom g_atomSize g_length g_found (fu + 1) (nI j) b_kind b_value bo bw b1 b2 b_copyOp b_copyWith b_copyOne b_copyTwo b_opened b_branch b_sizes b_jumps b_groupOf b_text b_met b_todo b_notes := by
  refine br_f (nI_pos (by omega)) ?_
  rw [nI_clamp (by omega), hv, pk_sub (by omega), mn_s1 (by omega)]
  exact ⟨vp_in_nI (by omega) (by omega), nm_e ⟨vp_in_nI (by omega) (by omega), nm_e h⟩⟩
theorem yk_patch : ∀ t, tr_len t ≤ 98 → ∀ q m, q + tr_len t + 2 + m = e → e ≤ 100 → ∃ k, ∀ fu b1, oz_L bo bw b1 b2 t q → (∀ b1', cz_L bo bw b1' b2 t (some m) q → (∀ j, (j < q ∨ q + tr_len t + 2 ≤ j) → b1' j = b1 j) → wY_close_26 post x1 g_count g_place (nI e) g_size g_large g_ready g_depth g_groups g_atom g_atomSize g_length g_found fu (-1) b_kind b_value bo bw b1' b2 b_copyOp b_copyWith b_copyOne b_copyTwo b_opened b_branch b_sizes b_jumps b_groupOf b_text b_met b_todo b_notes) → wY_close_26 post x1 g_count g_place (nI e) g_size g_large g_ready g_depth g_groups g_atom g_atomSize g_length g_found (fu + k) (nI (q + tr_len t + 1)) b_kind b_value bo bw b1 b2 b_copyOp b_copyWith b_copyOne b_copyTwo b_opened b_branch b_sizes b_jumps b_groupOf b_text b_met b_todo b_notes := by
  intro t
  induction t using tr_in2 with
  | h1 t hN hO =>
    intro ht q m hm he
    refine ⟨1, fun fu b1 ho H => ?_⟩
    obtain ⟨c1, c2, c3, c4, c5, c6⟩ := (hO bo bw b1 b2 q).mp ho
    rw [show q + tr_len t + 1 = q + 1 + tr_len t by omega]
    refine yk_step (by omega) he c6 (H _ ((hN _ _ _ _ m q).mpr ⟨c1, ?_, c3, ?_, c5, ?_⟩) (fun j hj => pk_un (by omega)))
    · rw [pk_un (by omega)]; exact c2
    · exact cz_fr (by omega) (fun j j1 j2 => ⟨rfl, rfl, pk_un (by omega), rfl⟩) c4
    · rw [pk_us]; congr 1; omega
  | h2 a b c ha =>
    intro ht q m hm he
    rw [tr_len_alt] at ht hm ⊢
    obtain ⟨k, hk⟩ := ha (by omega) q (tr_len b + 2 + m) (by omega) he
    refine ⟨k + 1, fun fu b1 ho H => ?_⟩
    obtain ⟨c0, c1, c2, c3, c4, c5, c6⟩ := ho
    rw [show q + (tr_len a + tr_len b + 2) + 1 = q + tr_len a + 3 + tr_len b by omega]
    refine yk_step (by omega) he c6 ?_
    refine hk fu _ (oz_fr a (by omega) q (fun j j1 j2 => ⟨rfl, rfl, pk_un (by omega), rfl⟩) c0) ?_
    intro b1' hc hb
    refine H b1' ⟨hc, c1, ?_, c3, ?_, c5, ?_⟩ (fun j hj => ?_)
    · rw [hb _ (by omega), pk_un (by omega)]; exact c2
    · exact cz_fr (by omega) (fun j j1 j2 => ⟨rfl, rfl, by rw [hb _ (by omega), pk_un (by omega)], rfl⟩) c4
    · rw [hb _ (by omega), pk_us]; congr 1; omega
    · rw [hb _ (by omega), pk_un (by omega)]
end YPT
section YCB
variable {en si la ta az : Int32} {bo bw b1 b2 od br sz jp gp : Nat → Int32} {rest : List pf_F} {g : Nat} {al sq : Option Std.Format} {a : Option (Std.Format × Bool)} {post : SY → Prop}
theorem yo_close (hL : rest.length < 25) (hR : yq_R ((g, al, sq, a) :: rest) a en si la ta az bo bw b1 b2 od br sz jp gp)
    (HS : ∀ O (bo bw b1 b2 : Nat → Int32), py_F bo bw b1 b2 od br sz jp gp rest O → cz_L bo bw b1 b2 (pf_w g (pf_a al (pf_o (pf_s sq a)))) none O → tz_R rest + tr_sz (pf_w g (pf_a al (pf_o (pf_s sq a)))) = tz_R ((g, al, sq, a) :: rest) → tz_R ((g, al, sq, a) :: rest) ≤ 36 → g ≤ 3 → O + tr_len (pf_w g (pf_a al (pf_o (pf_s sq a)))) ≤ 73 → la = 0 → post (g_count, g_place, nI (O + tr_len (pf_w g (pf_a al (pf_o (pf_s sq a))))), nI (tz_R ((g, al, sq, a) :: rest)), 0, g_ready, nI rest.length, g_groups, nI O, nI (tr_sz (pf_w g (pf_a al (pf_o (pf_s sq a))))), g_length, g_found, b_kind, b_value, bo, bw, b1, b2, b_copyOp, b_copyWith, b_copyOne, b_copyTwo, od, br, sz, jp, gp, b_text, b_met, b_todo, b_notes))
    (HB : ∀ e o (az' : Int32), e ≤ 100 → o ≤ 100 → 36 < tz_R ((g, al, sq, a) :: rest) → (∀ i, i < rest.length → ∃ o, od i = nI o ∧ o ≤ 100) → la = 1 → post (g_count, g_place, nI e, si, 1, g_ready, nI rest.length, g_groups, nI o, az', g_length, g_found, b_kind, b_value, bo, bw, b1, b2, b_copyOp, b_copyWith, b_copyOne, b_copyTwo, od, br, sz, jp, gp, b_text, b_met, b_todo, b_notes)) : wpY_close post (g_count, g_place, en, si, la, g_ready, nI (rest.length + 1), g_groups, ta, az, g_length, g_found, b_kind, b_value, bo, bw, b1, b2, b_copyOp, b_copyWith, b_copyOne, b_copyTwo, od, br, sz, jp, gp, b_text, b_met, b_todo, b_notes) := by
  refine nm_r (nI_pred rest.length) (nm_r (nI_pred rest.length) ?_)
  rcases hR with ⟨rfl, e, rfl, hF, rfl, hz36, hA⟩ | ⟨rfl, hz36, ⟨e, rfl, he⟩, hod, hA⟩
  · have he2 := py_e2 _ _ hF
    obtain ⟨h1, hz⟩ := py_set hF
    obtain ⟨O, ⟨p1, p2, p3, p4, p5, p6, p7, p8, p9, p10, p11, p12, p13⟩, h3⟩ := h1
    have p6 : e = O + pf_g g + pf_l al + tr_len (pf_o (pf_s sq a)) := by rw [p6]; show _ + 0 = _; omega
    obtain ⟨la1, la2⟩ := pf_a_l (al := al) (s := pf_o (pf_s sq a))
    obtain ⟨lw1, lw2⟩ := pf_w_l (t := pf_a al (pf_o (pf_s sq a))) p5
    have hsz : tz_R rest + tr_sz (pf_w g (pf_a al (pf_o (pf_s sq a)))) = tz_R ((g, al, sq, a) :: rest) := by
      rw [← hz, lw2, la2]
      show _ = tz_R rest + 2 * pf_g g + pf_zl al + tr_sz (pf_o (pf_s sq a)) + 0
      omega
    have hO : O ≤ e := by omega
    -- behind the jumps
    have tail : ∀ b1' : Nat → Int32, cz_L bo bw b1' b2 (pf_a al (pf_o (pf_s sq a))) none (O + pf_g g) → (∀ j, j < O + pf_g g → b1' j = b1 j) → wY_close_55 post (nI rest.length) g_count g_place (nI e) (nI (tz_R ((g, al, sq, a) :: rest))) 0 g_ready (nI rest.length) g_groups ta az g_length g_found b_kind b_value bo bw b1' b2 b_copyOp b_copyWith b_copyOne b_copyTwo od br sz jp gp b_text b_met b_todo b_notes := by
      intro b1' hc hb
      have h4 : ∀ (bo' bw' b1'' b2' : Nat → Int32), (∀ j, j < O → bo' j = bo j ∧ bw' j = bw j ∧ b1'' j = b1 j ∧ b2' j = b2 j) → py_F bo' bw' b1'' b2' od br sz jp gp rest O := fun bo' bw' b1'' b2' h => py_fr rest O (by omega) h (fun i _ => ⟨rfl, rfl, rfl, rfl, rfl⟩) h3
      unfold wY_close_55
      rw [nI_clamp (by omega), p4]
      refine ⟨vp_in_nI hL (by omega), ?_⟩
      by_cases cg : g = 0
      · subst cg
        refine br_t (by decide) ?_
        unfold wY_close_81
        rw [nI_clamp (by omega), p1, p3]
        refine ⟨vp_in_nI hL (by omega), nm_e ⟨vp_in_nI hL (by omega), nm_r (e' := nI (tr_sz (pf_w 0 (pf_a al (pf_o (pf_s sq a)))))) (by rw [pk_sub (by omega)]; congr 1; omega) ?_⟩⟩
        have hg0 : pf_g 0 = 0 := rfl
        rw [hg0] at hc lw1 p6
        have ee : e = O + tr_len (pf_w 0 (pf_a al (pf_o (pf_s sq a)))) := by rw [lw1, la1]; omega
        have := HS O bo bw b1' b2 (h4 _ _ _ _ (fun j hj => ⟨rfl, rfl, hb j (by omega), rfl⟩)) ⟨hc, trivial⟩ hsz hz36 p5 (by omega) rfl
        rw [← ee] at this
        exact this
      · have hg1 : pf_g g = 1 := if_neg cg
        rw [hg1] at hc hb p6 lw1
        refine br_f (nI_nle (by omega) (by omega)) ⟨vp_in_nI hL (by omega), ?_⟩
        rw [show (2 : Int32) * nI g + 1 = nI (2 * g + 1) by rw [show (2 : Int32) = nI 2 from rfl, pk_mul, nI_1]]
        refine ye_s (v' := nI 1) (w' := 0) (c := 5) rfl (by omega) (by omega) (by omega) (mn_s1 (p := 1) (by omega)) (by decide) ?_
        dsimp only
        unfold wY_close_81
        rw [nI_clamp (by omega), p1, p3]
        refine ⟨vp_in_nI hL (by omega), nm_e ⟨vp_in_nI hL (by omega), nm_r (e' := nI (tr_sz (pf_w g (pf_a al (pf_o (pf_s sq a)))))) (by rw [pk_sub (by omega)]; congr 1; omega) ?_⟩⟩
        have ee : e + 1 = O + tr_len (pf_w g (pf_a al (pf_o (pf_s sq a)))) := by rw [lw1, la1]; omega
        have el : O + 1 + tr_len (pf_a al (pf_o (pf_s sq a))) = e := by rw [la1]; omega
        obtain ⟨n1, n2, n3⟩ := p7 cg
        have hcz : cz_L (upd bo e (nI 5)) (upd bw e (nI (2 * g + 1))) (upd b1' e (nI 1)) (upd b2 e 0) (pf_w g (pf_a al (pf_o (pf_s sq a)))) none O := by
          unfold pf_w
          rw [if_neg cg]
          unfold cz_L cz_w
          dsimp only
          rw [if_neg (by omega), if_neg (by omega), el, show 3 + g - 3 = g by omega]
          refine ⟨by omega, by rw [pk_un (by omega)]; exact n1, by rw [pk_un (by omega)]; exact n2, by rw [pk_un (by omega), hb _ (by omega)]; exact n3, ?_, pk_us, pk_us, pk_us⟩
          exact cz_fr (by omega) (fun j j1 j2 => ⟨pk_un (by omega), pk_un (by omega), pk_un (by omega), pk_un (by omega)⟩) hc
        have := HS O _ _ _ _ (h4 _ _ _ _ (fun j hj => ⟨pk_un (by omega), pk_un (by omega), by rw [pk_un (by omega)]; exact hb j (by omega), pk_un (by omega)⟩)) hcz hsz hz36 p5 (by omega) rfl
        rw [← ee] at this
        exact this
    refine br_t rfl ⟨vp_in_nI hL (by omega), ?_⟩
    rw [nI_clamp (by omega)]
    cases al with
    | none =>
      rw [p8 rfl]
      refine nm_e ⟨1, br_t mn_neg1 ?_⟩
      exact tail b1 p10 (fun j _ => rfl)
    | some l =>
      obtain ⟨q1, q2⟩ := p9 l rfl
      have pl : pf_l (some l) = tr_len l + 2 := rfl
      rw [pl] at p6 p10
      rw [q1]
      obtain ⟨k, hk⟩ := yk_patch (post := post) (x1 := nI rest.length) (bo := bo) (bw := bw) (b2 := b2) (e := e) l (by omega) (O + pf_g g) (tr_len (pf_o (pf_s sq a))) (by omega) (by omega)
      refine nm_e ⟨1 + k, ?_⟩
      refine hk 1 b1 q2 ?_
      intro b1' hc hb
      refine br_t mn_neg1 (tail b1' ⟨hc, ?_⟩ (fun j hj => hb j (by omega)))
      refine cz_fr (by omega) (fun j j1 j2 => ⟨rfl, rfl, hb j (by omega), rfl⟩) ?_
      have : O + pf_g g + tr_len l + 2 = O + pf_g g + (tr_len l + 2) := by omega
      rw [this]; exact p10
  · refine br_f (by decide) ?_
    obtain ⟨o, o1, o2⟩ := hod rest.length (Nat.lt_succ_self _)
    have t81 : wY_close_81 post (nI rest.length) g_count g_place (nI e) si 1 g_ready (nI rest.length) g_groups ta az g_length g_found b_kind b_value bo bw b1 b2 b_copyOp b_copyWith b_copyOne b_copyTwo od br sz jp gp b_text b_met b_todo b_notes := by
      unfold wY_close_81
      rw [nI_clamp (by omega), o1]
      exact ⟨vp_in_nI hL (by omega), nm_e ⟨vp_in_nI hL (by omega), nm_e (HB e o _ he o2 hz36 (fun i hi => hod i (Nat.lt_succ_of_lt hi)) rfl)⟩⟩
    unfold wY_close_55
    rw [nI_clamp (by omega)]
    refine ⟨vp_in_nI hL (by omega), br_c (fun _ => t81) (fun _ => ⟨vp_in_nI hL (by omega), ?_⟩)⟩
    refine ye_b rfl ?_
    exact t81
end YCB
end YCL
end
section
section YAL
variable {g_count g_place g_end g_size g_large g_ready g_depth g_groups g_atom g_atomSize g_length g_found : Int32} {b_kind b_value b_op b_with b_one b_two b_copyOp b_copyWith b_copyOne b_copyTwo b_opened b_branch b_sizes b_jumps b_groupOf b_text b_todo b_notes : Nat → Int32} {b_met : Nat → Int64}
variable {post : SY → Prop}
/-- the pieces of the present alternative go one further, and the split comes before them, the jump behind -/
theorem yh_loop {bo bw b1 b2 br jp : Nat → Int32} {L B e : Nat} {jv : Int32} (hL : L < 25) (hB : B ≤ e) (he : e ≤ 100) (hbr : br L = nI B) (hl : g_large = 0) (hjv : vp_nar .short (jp L).toInt16.toInt32 = jv)
    (H : ∀ bo' bw' b1' b2', (∀ j, j < B → bo' j = bo j ∧ bw' j = bw j ∧ b1' j = b1 j ∧ b2' j = b2 j) → (∀ j, B < j → j ≤ e → vr_R bo bw b1 b2 bo' bw' b1' b2' (j - 1) j) → bo' B = nI 3 → b1' B = nI 1 → b2' B = nI (e + 2 - B) → bo' (e + 1) = nI 4 → b1' (e + 1) = jv → post (g_count, g_place, nI (e + 2), g_size, g_large, g_ready, g_depth, g_groups, g_atom, g_atomSize, g_length, g_found, b_kind, b_value, bo', bw', b1', b2', b_copyOp, b_copyWith, b_copyOne, b_copyTwo, b_opened, upd br L (nI (e + 2)), b_sizes, upd jp L (nI (e + 1)), b_groupOf, b_text, b_met, b_todo, b_notes)) :
    ∀ d fu i bo' bw' b1' b2', i = B + d → B + d ≤ e → d < fu → (∀ j, j ≤ B + d → bo' j = bo j ∧ bw' j = bw j ∧ b1' j = b1 j ∧ b2' j = b2 j) → (∀ j, B + d < j → j ≤ e → vr_R bo bw b1 b2 bo' bw' b1' b2' (j - 1) j) → wY_alternative_30 post (nI L) g_count g_place (nI e) g_size g_large g_ready g_depth g_groups g_atom g_atomSize g_length g_found fu (nI i) b_kind b_value bo' bw' b1' b2' b_copyOp b_copyWith b_copyOne b_copyTwo b_opened br b_sizes jp b_groupOf b_text b_met b_todo b_notes := by
  intro d
  induction d with
  | zero =>
    intro fu i bo' bw' b1' b2' hi hd hfu h1 h2
    rw [hi]
    obtain ⟨fu, rfl⟩ : ∃ m, fu = m + 1 := ⟨fu - 1, by omega⟩
    refine ⟨vp_in_nI hL (by omega), ?_⟩
    rw [nI_clamp (n := L) (by omega), hbr]
    refine br_t (nI_le (by omega) (by omega)) (nm_r (nI_1 e) ⟨vp_in_nI hL (by omega), nm_e ⟨vp_in_nI (by omega) (by omega), ?_⟩⟩)
    rw [nI_clamp (n := B) (by omega), nI_1 (e + 1), pk_sub (by omega), mn_s1 (by omega), show vp_nar .byte 3 = nI 3 from mn_b0 (p := 3) (by omega), show vp_nar .short 1 = nI 1 from (mn_s0 ⟨1, by omega⟩).1]
    refine nm_e ⟨vp_in_nI (by omega) (by omega), nm_e ⟨vp_in_nI (by omega) (by omega), nm_e ⟨vp_in_nI hL (by omega), ?_⟩⟩⟩
    refine ye_s (e := e + 1) (c := 4) (u := 0) (v' := jv) (w' := 0) hl (by omega) (by omega) (by omega) hjv (by decide) ?_
    dsimp only
    rw [mn_s1 (p := e + 1) (by omega), mn_s1 (p := e + 1 + 1) (by omega)]
    refine ⟨vp_in_nI hL (by omega), nm_e ⟨vp_in_nI hL (by omega), nm_e ?_⟩⟩
    refine H _ _ _ _ (fun j hj => ?_) (fun j j1 j2 => ?_) ?_ ?_ ?_ pk_us pk_us
    · rw [pk_un (by omega), pk_un (by omega), pk_un (by omega), pk_un (by omega), pk_un (by omega), pk_un (by omega), pk_un (by omega)]
      exact h1 j (by omega)
    · have := h2 j (by omega) j2
      unfold vr_R at this ⊢
      rw [pk_un (by omega), pk_un (by omega), pk_un (by omega), pk_un (by omega), pk_un (by omega), pk_un (by omega), pk_un (by omega)]
      exact this
    · rw [pk_un (by omega), pk_us]
    · rw [pk_un (by omega), pk_us]
    · rw [pk_un (by omega), pk_us]
  | succ d ih =>
    intro fu i bo' bw' b1' b2' hi hd hfu h1 h2
    rw [hi]
    obtain ⟨fu, rfl⟩ : ∃ m, fu = m + 1 := ⟨fu - 1, by omega⟩
    have e1 : nI (B + (d + 1)) - 1 = nI (B + d) := nI_pred (B + d)
    have e2 : nI (B + (d + 1)) + (-1) = nI (B + d) := pk_m1 (B + d)
    refine ⟨vp_in_nI hL (by omega), ?_⟩
    rw [nI_clamp (n := L) (by omega), hbr]
    refine br_f (nI_ge (by omega) (by omega)) ?_
    rw [e1, nI_clamp (n := B + d) (by omega), nI_clamp (n := B + (d + 1)) (by omega)]
    obtain ⟨g1, g2, g3, g4⟩ := h1 (B + d) (by omega)
    refine ⟨vp_in_nI (by omega) (by omega), vp_in_nI (by omega) (by omega), nm_e ⟨vp_in_nI (by omega) (by omega), vp_in_nI (by omega) (by omega), nm_e ⟨vp_in_nI (by omega) (by omega), vp_in_nI (by omega) (by omega), nm_e ⟨vp_in_nI (by omega) (by omega), vp_in_nI (by omega) (by omega), nm_e (nm_r e2 (ih fu (B + d) _ _ _ _ rfl (by omega) (by omega) (fun j hj => ?_) (fun j j1 j2 => ?_)))⟩⟩⟩⟩
    · rw [pk_un (by omega), pk_un (by omega), pk_un (by omega), pk_un (by omega)]
      exact h1 j (by omega)
    · by_cases c : j = B + (d + 1)
      · subst c
        unfold vr_R
        rw [pk_us, pk_us, pk_us, pk_us, g1, g2, g3, g4]
        exact ⟨vr_b0 _, vr_b0 _, vr_s0 _, vr_s0 _⟩
      · have := h2 j (by omega) j2
        unfold vr_R at this ⊢
        rw [pk_un (by omega), pk_un (by omega), pk_un (by omega), pk_un (by omega)]
        exact this
section YAM
variable {en si la ta az : Int32} {bo bw b1 b2 od br sz jp gp : Nat → Int32} {rest : List pf_F} {g : Nat} {al sq : Option Std.Format} {a : Option (Std.Format × Bool)}
theorem yo_alt (hL : rest.length < 25) (hR : yq_R ((g, al, sq, a) :: rest) a en si la ta az bo bw b1 b2 od br sz jp gp)
    (H : ∀ (en si la ta az : Int32) (bo bw b1 b2 od br sz jp gp : Nat → Int32), yq_R ((g, some (pf_a al (pf_o (pf_s sq a))), none, none) :: rest) none en si la ta az bo bw b1 b2 od br sz jp gp → post (g_count, g_place, en, si, la, g_ready, nI (rest.length + 1), g_groups, ta, az, g_length, g_found, b_kind, b_value, bo, bw, b1, b2, b_copyOp, b_copyWith, b_copyOne, b_copyTwo, od, br, sz, jp, gp, b_text, b_met, b_todo, b_notes)) : wpY_alternative post (g_count, g_place, en, si, la, g_ready, nI (rest.length + 1), g_groups, ta, az, g_length, g_found, b_kind, b_value, bo, bw, b1, b2, b_copyOp, b_copyWith, b_copyOne, b_copyTwo, od, br, sz, jp, gp, b_text, b_met, b_todo, b_notes) := by
  obtain ⟨la1, la2⟩ := pf_a_l (al := al) (s := pf_o (pf_s sq a))
  have hz' : tz_R ((g, some (pf_a al (pf_o (pf_s sq a))), none, none) :: rest) = tz_R ((g, al, sq, a) :: rest) + 1 := by
    have := (pf_s_l (sq := sq) (a := a)).2
    show tz_R rest + 2 * pf_g g + (tr_sz (pf_a al (pf_o (pf_s sq a))) + 1) + 0 + 0 = tz_R rest + 2 * pf_g g + pf_zl al + tr_sz (pf_o sq) + tr_sz (pf_x a) + 1
    omega
  refine nm_r (nI_pred rest.length) ?_
  rcases hR with ⟨rfl, e, rfl, hF, rfl, hz36, hA⟩ | ⟨rfl, hz36, ⟨e, rfl, he⟩, hod, hA⟩
  · have he2 := py_e2 _ _ hF
    refine yg_s (d := 1) (by omega) (fun hs => ?_) (fun hs => ?_)
    · dsimp only
      obtain ⟨h1, hz⟩ := py_set hF
      obtain ⟨O, ⟨p1, p2, p3, p4, p5, p6, p7, p8, p9, p10, p11, p12, p13⟩, h3⟩ := h1
      have p6 : e = O + pf_g g + pf_l al + tr_len (pf_o (pf_s sq a)) := by rw [p6]; show _ + 0 = _; omega
      have hjv : ∃ jv, vp_nar .short (jp rest.length).toInt16.toInt32 = jv ∧ jv = jp rest.length := by
        cases al with
        | none => rw [p8 rfl]; exact ⟨_, mn_bm.2.2.2, rfl⟩
        | some l =>
          have pl : pf_l (some l) = tr_len l + 2 := rfl
          rw [pl] at p6
          rw [(p9 l rfl).1]; exact ⟨_, mn_s1 (by omega), rfl⟩
      obtain ⟨jv, hj1, hj2⟩ := hjv
      have eB : e = O + pf_g g + pf_l al + (e - (O + pf_g g + pf_l al)) := by omega
      refine br_t rfl ⟨e + 1, ?_⟩
      refine yh_loop (bo := bo) (bw := bw) (b1 := b1) (b2 := b2) (B := O + pf_g g + pf_l al) (e := e) (jv := jv) hL (by omega) (by omega) p2 rfl hj1 ?_ (e - (O + pf_g g + pf_l al)) (e + 1) e bo bw b1 b2 eB (by omega) (by omega) (fun j _ => ⟨rfl, rfl, rfl, rfl⟩) (fun j j1 j2 => by omega)
      · intro bo' bw' b1' b2' k1 k2 k3 k4 k5 k6 k7
        refine H _ _ _ _ _ _ _ _ _ _ _ _ _ _ (Or.inl ⟨rfl, e + 2, rfl, ⟨O, ⟨p1, ?_, p3, p4, p5, ?_, ?_, (fun h => nomatch h), ?_, trivial, trivial, pl_nil, pl_nil⟩, ?_⟩, by rw [hz'], by omega, ya_0 (fun x h => nomatch h)⟩)
        · rw [pk_us]; congr 1
          show e + 2 = O + pf_g g + (tr_len (pf_a al (pf_o (pf_s sq a))) + 2)
          omega
        · show e + 2 = O + pf_g g + (tr_len (pf_a al (pf_o (pf_s sq a))) + 2) + 0 + 0
          omega
        · intro hg
          have : O < O + pf_g g := by unfold pf_g; rw [if_neg hg]; omega
          obtain ⟨f1, f2, f3, f4⟩ := k1 O (by omega)
          rw [f1, f2, f3]; exact p7 hg
        · intro l hl
          cases hl
          refine ⟨by rw [pk_us]; congr 1; omega, ?_⟩
          -- the present alternative, one further
          have hs1 : cz_L bo' bw' b1' b2' (pf_o (pf_s sq a)) none (O + pf_g g + pf_l al + 1) := by
            refine (cz_mv (pf_o (pf_s sq a)) (by omega)).1 _ _ (fun i hi => ?_) p10
            have := k2 (O + pf_g g + pf_l al + 1 + i) (by omega) (by omega)
            rw [show O + pf_g g + pf_l al + 1 + i - 1 = O + pf_g g + pf_l al + i by omega] at this
            exact this
          have k5' : b2' (O + pf_g g + pf_l al) = nI (tr_len (pf_o (pf_s sq a)) + 2) := by rw [k5]; congr 1; omega
          cases al with
          | none =>
            have p0 : pf_l none = 0 := rfl
            rw [p0, Nat.add_zero] at p6 k3 k4 k5' hs1
            refine (p12.2 _ _ _ _ _).mpr ⟨k3, k4, k5', hs1, ?_, ?_⟩
            · rw [show O + pf_g g + 1 + tr_len (pf_o (pf_s sq a)) = e + 1 by omega]; exact k6
            · rw [show O + pf_g g + 1 + tr_len (pf_o (pf_s sq a)) = e + 1 by omega, k7, hj2]; exact p8 rfl
          | some l =>
            have pl : pf_l (some l) = tr_len l + 2 := rfl
            obtain ⟨q1, q2⟩ := p9 l rfl
            rw [pl] at p6 k3 k4 k5' hs1 k1
            have eB2 : O + pf_g g + (tr_len l + 2) = O + pf_g g + tr_len l + 2 := by omega
            rw [eB2] at k3 k4 k5' hs1
            refine ⟨oz_fr l (by omega) _ (fun j j1 j2 => k1 j (by omega)) q2, k3, k4, k5', ?_, ?_, ?_⟩
            · rw [show O + pf_g g + tr_len l + 3 = O + pf_g g + tr_len l + 2 + 1 by omega]; exact hs1
            · rw [show O + pf_g g + tr_len l + 3 + tr_len (pf_o (pf_s sq a)) = e + 1 by omega]; exact k6
            · rw [show O + pf_g g + tr_len l + 3 + tr_len (pf_o (pf_s sq a)) = e + 1 by omega, k7, hj2]; exact q1
        · exact py_fr rest O (by omega) (fun j hj => k1 j (by omega)) (fun i hi => ⟨rfl, pk_un (by omega), rfl, pk_un (by omega), rfl⟩) h3
    · dsimp only
      refine br_f (by decide) ?_
      refine H _ _ _ _ _ _ _ _ _ _ _ _ _ _ (Or.inr ⟨rfl, by omega, ⟨e, rfl, by omega⟩, fun i hi => ?_, yb_f (fun x h => nomatch h)⟩)
      obtain ⟨o, o1, o2⟩ := py_od _ _ hF i hi
      exact ⟨o, o1, by omega⟩
  · refine yg_b rfl ?_
    intro si'
    dsimp only
    refine br_f (by decide) ?_
    exact H _ _ _ _ _ _ _ _ _ _ _ _ _ _ (Or.inr ⟨rfl, by omega, ⟨e, rfl, he⟩, hod, yb_f (fun x h => nomatch h)⟩)
end YAM
end YAL
end
section
section YQU
/-! Y's quantifiers -/
def op_z (z : Nat) : Nat → Std.Format → Std.Format
  | 0, _ => .nil
  | k + 1, a => .tag (2 + z) (if k = 0 then a else .append a (op_z z k a))
def pq_T (lm op st z : Nat) (x : Std.Format) : Std.Format := tr_it lm x (if st = 0 then op_z z op x else .tag z x)
theorem op_z0 (x : Std.Format) : ∀ k, op_z 0 k x = op_it k x := by
  intro k
  induction k with
  | zero => rfl
  | succ k ih =>
    show Std.Format.tag (2 + 0) _ = Std.Format.tag 2 _
    rw [ih]
theorem op_zl {z : Nat} {x : Std.Format} (hz : z < 2) : ∀ k, tr_len (op_z z k x) = k * (tr_len x + 1) := by
  intro k
  induction k with
  | zero => show 0 = _; omega
  | succ k ih =>
    show tr_len (.tag (2 + z) _) = _
    rw [tr_len_op (by omega) (by omega), Nat.add_mul]
    by_cases c : k = 0
    · subst c; rw [if_pos rfl]; omega
    · rw [if_neg c, tr_len_app, ih]; omega
theorem op_zs {z : Nat} {x : Std.Format} (hz : z < 2) : ∀ k, tr_sz (op_z z k x) = k * (tr_sz x + 1) := by
  intro k
  induction k with
  | zero => show 0 = _; omega
  | succ k ih =>
    show (if 2 + z ≤ 3 then tr_sz _ + 1 else _) = _
    rw [if_pos (by omega), Nat.add_mul]
    by_cases c : k = 0
    · subst c; rw [if_pos rfl]; omega
    · rw [if_neg c]
      show tr_sz x + tr_sz (op_z z k x) + 1 = _
      rw [ih]; omega
theorem pq_pl {lm op st z : Nat} {x : Std.Format} : pl_R (pq_T lm op st z x) := by
  unfold pq_T
  cases lm with
  | zero =>
    show pl_R (if st = 0 then op_z z op x else .tag z x)
    split
    · cases op with
      | zero => exact pl_nil
      | succ k => exact pl_tag
    · exact pl_tag
  | succ m => exact pl_app
section QZ
variable {bo bw b1 b2 : Nat → Int32} {x r : Std.Format}
theorem it_cz : ∀ m A, (∀ c, c < m → cz_L bo bw b1 b2 x none (A + c * tr_len x)) → cz_L bo bw b1 b2 r none (A + m * tr_len x) → cz_L bo bw b1 b2 (tr_it m x r) none A := by
  intro m
  induction m with
  | zero => intro A _ h; rw [Nat.zero_mul] at h; exact h
  | succ m ih =>
    intro A h1 h2
    refine ⟨?_, ih _ (fun c hc => ?_) ?_⟩
    · have := h1 0 (by omega)
      rw [Nat.zero_mul] at this; exact this
    · have := h1 (c + 1) (by omega)
      rw [Nat.add_mul, Nat.one_mul, show A + (c * tr_len x + tr_len x) = A + tr_len x + c * tr_len x by omega] at this
      exact this
    · rw [Nat.add_mul, Nat.one_mul, show A + (m * tr_len x + tr_len x) = A + tr_len x + m * tr_len x by omega] at h2
      exact h2
theorem op_cz {z : Nat} (hz : z < 2) : ∀ k E, (∀ c, c < k → bo (E + c * (tr_len x + 1)) = nI 3 ∧ b1 (E + c * (tr_len x + 1)) = nI (if z = 0 then 1 else (k - c) * (tr_len x + 1)) ∧ b2 (E + c * (tr_len x + 1)) = nI (if z = 0 then (k - c) * (tr_len x + 1) else 1) ∧ cz_L bo bw b1 b2 x none (E + c * (tr_len x + 1) + 1)) → cz_L bo bw b1 b2 (op_z z k x) none E := by
  intro k
  induction k with
  | zero => intro E _; trivial
  | succ k ih =>
    intro E h
    obtain ⟨h1, h2, h3, h4⟩ := h 0 (by omega)
    rw [Nat.zero_mul, Nat.add_zero] at h1 h2 h3 h4
    show cz_L bo bw b1 b2 (.tag (2 + z) (if k = 0 then x else .append x (op_z z k x))) none E
    have hlen : tr_len (if k = 0 then x else .append x (op_z z k x)) + 1 = (k + 1 - 0) * (tr_len x + 1) := by
      rw [Nat.sub_zero, Nat.add_mul]
      by_cases c : k = 0
      · subst c; rw [if_pos rfl]; omega
      · rw [if_neg c, tr_len_app, op_zl hz]; omega
    unfold cz_L cz_w
    dsimp only
    rw [if_neg (by omega), if_pos (by omega), hlen]
    refine ⟨h1, ?_, ?_, ?_⟩
    · rw [h2]
      by_cases c : z = 0
      · rw [if_pos c, if_pos (by omega)]
      · rw [if_neg c, if_neg (by omega)]
    · rw [h3]
      by_cases c : z = 0
      · rw [if_pos c, if_pos (by omega)]
      · rw [if_neg c, if_neg (by omega)]
    · by_cases c : k = 0
      · rw [if_pos c]; exact h4
      · rw [if_neg c]
        refine ⟨h4, ih (E + 1 + tr_len x) (fun c' hc' => ?_)⟩
        have := h (c' + 1) (by omega)
        rw [Nat.add_mul, Nat.one_mul, show E + (c' * (tr_len x + 1) + (tr_len x + 1)) = E + 1 + tr_len x + c' * (tr_len x + 1) by omega, show k + 1 - (c' + 1) = k - c' by omega] at this
        exact this
end QZ
variable {g_count g_place g_end g_size g_large g_ready g_depth g_groups g_atom g_atomSize g_length g_found : Int32} {b_kind b_value b_op b_with b_one b_two b_copyOp b_copyWith b_copyOne b_copyTwo b_opened b_branch b_sizes b_jumps b_groupOf b_text b_todo b_notes : Nat → Int32} {b_met : Nat → Int64}
variable {post : SY → Prop}
theorem ye_g {e : Nat} {p q v w : Int32} (hl : g_large = 0) (he : e < 160) (h : post (g_count, g_place, nI (e + 1), g_size, g_large, g_ready, g_depth, g_groups, g_atom, g_atomSize, g_length, g_found, b_kind, b_value, upd b_op e (vp_nar .byte p.toInt8.toInt32), upd b_with e (vp_nar .byte q.toInt8.toInt32), upd b_one e (vp_nar .short v.toInt16.toInt32), upd b_two e (vp_nar .short w.toInt16.toInt32), b_copyOp, b_copyWith, b_copyOne, b_copyTwo, b_opened, b_branch, b_sizes, b_jumps, b_groupOf, b_text, b_met, b_todo, b_notes)) : wpY_emit post (g_count, g_place, nI e, g_size, g_large, g_ready, g_depth, g_groups, g_atom, g_atomSize, g_length, g_found, b_kind, b_value, b_op, b_with, b_one, b_two, b_copyOp, b_copyWith, b_copyOne, b_copyTwo, b_opened, b_branch, b_sizes, b_jumps, b_groupOf, b_text, b_met, b_todo, b_notes) p q v w := by
  refine br_t hl ?_
  rw [nI_clamp (by omega)]
  exact ⟨vp_in_nI he (by omega), nm_e ⟨vp_in_nI he (by omega), nm_e ⟨vp_in_nI he (by omega), nm_e (nm_r (nI_1 e) ⟨vp_in_nI he (by omega), nm_e h⟩)⟩⟩⟩
/-- same code but for places E .. E + n - 1 -/
def eq_R (E n : Nat) (bo bw b1 b2 bo' bw' b1' b2' : Nat → Int32) : Prop := ∀ j, (j < E ∨ E + n ≤ j) → bo' j = bo j ∧ bw' j = bw j ∧ b1' j = b1 j ∧ b2' j = b2 j
theorem yp_2 {bo bw b1 b2 : Nat → Int32} {E n : Nat} (hl : g_large = 0) (hE : E + n ≤ 150)
    (H : ∀ bo' bw' b1' b2', eq_R E n bo bw b1 b2 bo' bw' b1' b2' → (∀ i, i < n → vr_R b_copyOp b_copyWith b_copyOne b_copyTwo bo' bw' b1' b2' i (E + i)) → post (g_count, g_place, nI (E + n), g_size, g_large, g_ready, g_depth, g_groups, g_atom, g_atomSize, g_length, g_found, b_kind, b_value, bo', bw', b1', b2', b_copyOp, b_copyWith, b_copyOne, b_copyTwo, b_opened, b_branch, b_sizes, b_jumps, b_groupOf, b_text, b_met, b_todo, b_notes)) :
    ∀ d i fu bo' bw' b1' b2', i + d = n → d < fu → (∀ j, (j < E ∨ E + i ≤ j) → bo' j = bo j ∧ bw' j = bw j ∧ b1' j = b1 j ∧ b2' j = b2 j) → (∀ i', i' < i → vr_R b_copyOp b_copyWith b_copyOne b_copyTwo bo' bw' b1' b2' i' (E + i')) → wY_paste_2 post (nI n) fu (nI i) g_count g_place (nI (E + i)) g_size g_large g_ready g_depth g_groups g_atom g_atomSize g_length g_found b_kind b_value bo' bw' b1' b2' b_copyOp b_copyWith b_copyOne b_copyTwo b_opened b_branch b_sizes b_jumps b_groupOf b_text b_met b_todo b_notes := by
  intro d
  induction d with
  | zero =>
    intro i fu bo' bw' b1' b2' hi hfu h1 h2
    obtain ⟨fu, rfl⟩ : ∃ m, fu = m + 1 := ⟨fu - 1, by omega⟩
    have hi : i = n := by omega
    subst hi
    exact br_t (nI_le (Nat.le_refl _) (by omega)) (H bo' bw' b1' b2' h1 h2)
  | succ d ih =>
    intro i fu bo' bw' b1' b2' hi hfu h1 h2
    obtain ⟨fu, rfl⟩ : ∃ m, fu = m + 1 := ⟨fu - 1, by omega⟩
    have hv : vp_in (nI i) 160 := vp_in_nI (by omega) (by omega)
    refine br_f (nI_ge (by omega) (by omega)) ⟨hv, hv, hv, hv, ?_⟩
    rw [nI_clamp (by omega)]
    refine ye_g hl (by omega) ?_
    dsimp only
    refine nm_r (nI_1 i) (ih (i + 1) fu _ _ _ _ (by omega) (by omega) (fun j hj => ?_) (fun i' hi' => ?_))
    · rw [pk_un (by omega), pk_un (by omega), pk_un (by omega), pk_un (by omega)]
      exact h1 j (by omega)
    · by_cases c : i' = i
      · subst c
        unfold vr_R
        rw [pk_us, pk_us, pk_us, pk_us]
        exact ⟨vr_b1 _, vr_b1 _, vr_s1 _, vr_s1 _⟩
      · have := h2 i' (by omega)
        unfold vr_R at this ⊢
        rw [pk_un (by omega), pk_un (by omega), pk_un (by omega), pk_un (by omega)]
        exact this
theorem yp_paste {bo bw b1 b2 : Nat → Int32} {E : Nat} {x : Std.Format} (hl : g_large = 0) (hx : tr_len x ≤ 100) (hE : E + tr_len x ≤ 150) (hc : cz_L b_copyOp b_copyWith b_copyOne b_copyTwo x none 0)
    (H : ∀ bo' bw' b1' b2', eq_R E (tr_len x) bo bw b1 b2 bo' bw' b1' b2' → cz_L bo' bw' b1' b2' x none E → post (g_count, g_place, nI (E + tr_len x), g_size, g_large, g_ready, g_depth, g_groups, g_atom, g_atomSize, g_length, g_found, b_kind, b_value, bo', bw', b1', b2', b_copyOp, b_copyWith, b_copyOne, b_copyTwo, b_opened, b_branch, b_sizes, b_jumps, b_groupOf, b_text, b_met, b_todo, b_notes)) : wpY_paste post (g_count, g_place, nI E, g_size, g_large, g_ready, g_depth, g_groups, g_atom, g_atomSize, g_length, g_found, b_kind, b_value, bo, bw, b1, b2, b_copyOp, b_copyWith, b_copyOne, b_copyTwo, b_opened, b_branch, b_sizes, b_jumps, b_groupOf, b_text, b_met, b_todo, b_notes) (nI (tr_len x)) := by
  refine ⟨tr_len x + 1, ?_⟩
  refine yp_2 hl hE ?_ (tr_len x) 0 _ bo bw b1 b2 (by omega) (by omega) (fun j _ => ⟨rfl, rfl, rfl, rfl⟩) (fun i h => by omega)
  intro bo' bw' b1' b2' h1 h2
  refine H bo' bw' b1' b2' h1 ((cz_mv x hx).1 0 E (fun i hi => ?_) hc)
  rw [Nat.zero_add]; exact h2 i hi
theorem eq_cz {E n q : Nat} {bo bw b1 b2 bo' bw' b1' b2' : Nat → Int32} {t : Std.Format} (h : eq_R E n bo bw b1 b2 bo' bw' b1' b2') (ht : tr_len t ≤ 100) (hq : q + tr_len t ≤ E ∨ E + n ≤ q) (hc : cz_L bo bw b1 b2 t none q) : cz_L bo' bw' b1' b2' t none q :=
  cz_fr ht (fun j j1 j2 => h j (by omega)) hc
/-- the star behind the copies -/
theorem yq_star {bo bw b1 b2 : Nat → Int32} {E z : Nat} {k : Nat} {x : Std.Format} (hl : g_large = 0) (hz : (k ≤ 9 ∧ z = 0) ∨ (10 ≤ k ∧ z = 1)) (hk : k < 100) (hE : E + tr_len x + 2 ≤ 100) (hc : cz_L b_copyOp b_copyWith b_copyOne b_copyTwo x none 0)
    (H : ∀ bo' bw' b1' b2', eq_R E (tr_len x + 2) bo bw b1 b2 bo' bw' b1' b2' → cz_L bo' bw' b1' b2' (.tag z x) none E → post (g_count, g_place, nI (E + tr_len x + 2), g_size, g_large, g_ready, g_depth, g_groups, g_atom, g_atomSize, g_length, g_found, b_kind, b_value, bo', bw', b1', b2', b_copyOp, b_copyWith, b_copyOne, b_copyTwo, b_opened, b_branch, b_sizes, b_jumps, b_groupOf, b_text, b_met, b_todo, b_notes)) :
    ((nI k ≤ 9 → wY_quantify_384 post (nI k) (nI (tr_len x)) 1 0 3 g_count g_place (nI E) g_size g_large g_ready g_depth g_groups g_atom g_atomSize g_length g_found b_kind b_value bo bw b1 b2 b_copyOp b_copyWith b_copyOne b_copyTwo b_opened b_branch b_sizes b_jumps b_groupOf b_text b_met b_todo b_notes) ∧ (¬ nI k ≤ 9 → wY_quantify_384 post (nI k) (nI (tr_len x)) (nI (tr_len x) + 2) 0 3 g_count g_place (nI E) g_size g_large g_ready g_depth g_groups g_atom g_atomSize g_length g_found b_kind b_value bo bw b1 b2 b_copyOp b_copyWith b_copyOne b_copyTwo b_opened b_branch b_sizes b_jumps b_groupOf b_text b_met b_todo b_notes)) := by
  have key : ∀ v w : Nat, v < 200 → w < 200 → v = (if z = 0 then 1 else tr_len x + 2) → w = (if z = 0 then tr_len x + 2 else 1) → wY_quantify_398 post (nI (tr_len x)) (nI w) (nI v) 0 3 g_count g_place (nI E) g_size g_large g_ready g_depth g_groups g_atom g_atomSize g_length g_found b_kind b_value bo bw b1 b2 b_copyOp b_copyWith b_copyOne b_copyTwo b_opened b_branch b_sizes b_jumps b_groupOf b_text b_met b_todo b_notes := by
    intro v w hv hw ev ew
    unfold wY_quantify_398
    refine ye_s (c := 3) (u := 0) (v' := nI v) (w' := nI w) hl (by omega) (by omega) (by omega) (mn_s1 (by omega)) (mn_s1 (by omega)) ?_
    dsimp only
    refine yp_paste (E := E + 1) (x := x) hl (by omega) (by omega) hc ?_
    intro bo' bw' b1' b2' h1 h2
    dsimp only
    have ej : (-(nI (tr_len x))) - 1 = -(nI (tr_len x + 1)) := by
      rw [← nI_1, Int32.neg_add, Int32.sub_eq_add_neg]
    rw [ej]
    refine ye_s (e := E + 1 + tr_len x) (c := 4) (u := 0) (v' := -(nI (tr_len x + 1))) (w' := 0) hl (by omega) (by omega) (by omega) (mn_s0 ⟨tr_len x + 1, by omega⟩).2.2 (by decide) ?_
    dsimp only
    rw [show E + 1 + tr_len x + 1 = E + tr_len x + 2 by omega]
    obtain ⟨g1, g2, g3, g4⟩ := h1 E (by omega)
    rw [pk_us] at g1 g2 g3 g4
    refine H _ _ _ _ (fun j hj => ?_) ?_
    · obtain ⟨f1, f2, f3, f4⟩ := h1 j (by omega)
      rw [pk_un (by omega)] at f1 f2 f3 f4
      rw [pk_un (by omega), pk_un (by omega), pk_un (by omega), pk_un (by omega)]
      exact ⟨f1, f2, f3, f4⟩
    · unfold cz_L cz_w
      dsimp only
      rw [if_pos (by omega)]
      refine ⟨by rw [pk_un (by omega)]; exact g1, by rw [pk_un (by omega), g3, ev], by rw [pk_un (by omega), g4, ew], cz_fr (by omega) (fun j j1 j2 => ⟨pk_un (by omega), pk_un (by omega), pk_un (by omega), pk_un (by omega)⟩) h2, pk_us, pk_us⟩
  have e2 : nI (tr_len x) + 2 = nI (tr_len x + 2) := nI_add _ 2
  rcases hz with ⟨hk9, rfl⟩ | ⟨hk10, rfl⟩
  · refine br_t (nI_le (b := 9) hk9 (by omega)) ?_
    unfold wY_quantify_384
    refine br_t (nI_le (b := 9) hk9 (by omega)) ?_
    rw [e2]
    exact key 1 (tr_len x + 2) (by omega) (by omega) rfl rfl
  · refine br_f (nI_ge (a := 9) (by omega) (by omega)) ?_
    unfold wY_quantify_384
    refine br_f (nI_ge (a := 9) (by omega) (by omega)) ?_
    rw [e2]
    exact key (tr_len x + 2) 1 (by omega) (by omega) rfl rfl
end YQU
end
section
section YQV
variable {g_count g_place g_end g_size g_large g_ready g_depth g_groups g_atom g_atomSize g_length g_found : Int32} {b_kind b_value b_op b_with b_one b_two b_copyOp b_copyWith b_copyOne b_copyTwo b_opened b_branch b_sizes b_jumps b_groupOf b_text b_todo b_notes : Nat → Int32} {b_met : Nat → Int64}
variable {post : SY → Prop}
theorem yq_347 {J : _} {x1 x4 x5 x9 x10 : Int32} {bo bw b1 b2 : Nat → Int32} {E v w : Nat} {x : Std.Format} (hl : g_large = 0) (hv : v < 200) (hw : w < 200) (hE : E + 1 + tr_len x ≤ 100) (hc : cz_L b_copyOp b_copyWith b_copyOne b_copyTwo x none 0)
    (H : ∀ bo' bw' b1' b2', eq_R E (tr_len x + 1) bo bw b1 b2 bo' bw' b1' b2' → bo' E = nI 3 → b1' E = nI v → b2' E = nI w → cz_L bo' bw' b1' b2' x none (E + 1) → J (x10 + 1) g_count g_place (nI (E + 1 + tr_len x)) g_size g_large g_ready g_depth g_groups g_atom g_atomSize g_length g_found b_kind b_value bo' bw' b1' b2' b_copyOp b_copyWith b_copyOne b_copyTwo b_opened b_branch b_sizes b_jumps b_groupOf b_text b_met b_todo b_notes) :
    wY_quantify_347 post J x1 x4 x5 (nI (tr_len x)) x9 x10 (nI w) (nI v) 0 3 g_count g_place (nI E) g_size g_large g_ready g_depth g_groups g_atom g_atomSize g_length g_found b_kind b_value bo bw b1 b2 b_copyOp b_copyWith b_copyOne b_copyTwo b_opened b_branch b_sizes b_jumps b_groupOf b_text b_met b_todo b_notes := by
  unfold wY_quantify_347
  refine ye_s (c := 3) (u := 0) (v' := nI v) (w' := nI w) hl (by omega) (by omega) (by omega) (mn_s1 (by omega)) (mn_s1 (by omega)) ?_
  dsimp only
  refine yp_paste (E := E + 1) (x := x) hl (by omega) (by omega) hc ?_
  intro bo' bw' b1' b2' h1 h2
  dsimp only
  obtain ⟨g1, g2, g3, g4⟩ := h1 E (by omega)
  rw [pk_us] at g1 g2 g3 g4
  refine nm_e (H bo' bw' b1' b2' (fun j hj => ?_) g1 g3 g4 h2)
  obtain ⟨f1, f2, f3, f4⟩ := h1 j (by omega)
  rw [pk_un (by omega)] at f1 f2 f3 f4
  exact ⟨f1, f2, f3, f4⟩
theorem yq_304 {k op st z E0 : Nat} {bo0 bw0 b10 b20 : Nat → Int32} {x : Std.Format} (hl : g_large = 0) (hzo : st = 0 → (k = 12 ↔ z = 1)) (hzs : st = 1 → op = 0 ∧ ((k ≤ 9 ∧ z = 0) ∨ (10 ≤ k ∧ z = 1))) (hst : st < 2) (hz : z < 2) (hk : k < 100) (hE : E0 + op * (tr_len x + 1) + (if st = 0 then 0 else tr_len x + 2) ≤ 100) (hc : cz_L b_copyOp b_copyWith b_copyOne b_copyTwo x none 0)
    (H : ∀ bo' bw' b1' b2', (∀ j, j < E0 → bo' j = bo0 j ∧ bw' j = bw0 j ∧ b1' j = b10 j ∧ b2' j = b20 j) → cz_L bo' bw' b1' b2' (if st = 0 then op_z z op x else .tag z x) none E0 → post (g_count, g_place, nI (E0 + tr_len (if st = 0 then op_z z op x else .tag z x)), g_size, g_large, g_ready, g_depth, g_groups, g_atom, g_atomSize, g_length, g_found, b_kind, b_value, bo', bw', b1', b2', b_copyOp, b_copyWith, b_copyOne, b_copyTwo, b_opened, b_branch, b_sizes, b_jumps, b_groupOf, b_text, b_met, b_todo, b_notes)) :
    ∀ d c fu E bo bw b1 b2, c + d = op → d < fu → E = E0 + c * (tr_len x + 1) → (∀ j, j < E0 → bo j = bo0 j ∧ bw j = bw0 j ∧ b1 j = b10 j ∧ b2 j = b20 j) → (∀ c', c' < c → bo (E0 + c' * (tr_len x + 1)) = nI 3 ∧ b1 (E0 + c' * (tr_len x + 1)) = nI (if z = 0 then 1 else (op - c') * (tr_len x + 1)) ∧ b2 (E0 + c' * (tr_len x + 1)) = nI (if z = 0 then (op - c') * (tr_len x + 1) else 1) ∧ cz_L bo bw b1 b2 x none (E0 + c' * (tr_len x + 1) + 1)) →
      wY_quantify_304 post (nI k) (nI op) (nI st) (nI (tr_len x)) (nI (E0 + op * (tr_len x + 1))) fu (nI c) g_count g_place (nI E) g_size g_large g_ready g_depth g_groups g_atom g_atomSize g_length g_found b_kind b_value bo bw b1 b2 b_copyOp b_copyWith b_copyOne b_copyTwo b_opened b_branch b_sizes b_jumps b_groupOf b_text b_met b_todo b_notes := by
  intro d
  induction d with
  | zero =>
    intro c fu E bo bw b1 b2 hcd hfu eE h0 hopt
    obtain ⟨fu, rfl⟩ : ∃ m, fu = m + 1 := ⟨fu - 1, by omega⟩
    have hcop : c = op := by omega
    subst hcop
    have hm : c * (tr_len x + 1) ≤ 100 := by omega
    have hc100 : c ≤ 100 := by
      have := Nat.le_mul_of_pos_right c (show 0 < tr_len x + 1 by omega)
      omega
    refine br_t (nI_le (Nat.le_refl _) (by omega)) ?_
    by_cases cs : st = 0
    · subst cs
      refine br_t rfl ?_
      rw [if_pos rfl] at H
      have := H bo bw b1 b2 h0 (op_cz hz c E0 hopt)
      rw [op_zl hz, ← eE] at this
      exact this
    · have hst1 : st = 1 := by omega
      subst hst1
      obtain ⟨hop0, hzk⟩ := hzs rfl
      subst hop0
      rw [Nat.zero_mul, Nat.add_zero] at eE
      subst eE
      rw [if_neg (by omega)] at hE H
      refine br_f (by decide) ?_
      refine yq_star hl hzk hk (by omega) hc ?_
      intro bo' bw' b1' b2' h1 h2
      have := H bo' bw' b1' b2' (fun j hj => ?_) h2
      · rw [tr_len_st (by omega)] at this
        exact this
      · obtain ⟨f1, f2, f3, f4⟩ := h1 j (by omega)
        obtain ⟨g1, g2, g3, g4⟩ := h0 j hj
        exact ⟨f1.trans g1, f2.trans g2, f3.trans g3, f4.trans g4⟩
  | succ d ih =>
    intro c fu E bo bw b1 b2 hcd hfu eE h0 hopt
    obtain ⟨fu, rfl⟩ : ∃ m, fu = m + 1 := ⟨fu - 1, by omega⟩
    have hst0 : st = 0 := by
      by_cases cs : st = 0
      · exact cs
      · have := (hzs (by omega)).1; omega
    have hco : (c + 1) * (tr_len x + 1) ≤ op * (tr_len x + 1) := Nat.mul_le_mul_right _ (by omega)
    have hc1 : (c + 1) * (tr_len x + 1) = c * (tr_len x + 1) + (tr_len x + 1) := by rw [Nat.add_mul, Nat.one_mul]
    have haw : E0 + op * (tr_len x + 1) - E = (op - c) * (tr_len x + 1) := by
      rw [Nat.sub_mul, eE]; omega
    have hop100 : op ≤ 100 := by
      have := Nat.le_mul_of_pos_right op (show 0 < tr_len x + 1 by omega)
      omega
    have haw2 : (op - c) * (tr_len x + 1) < 200 := by omega
    refine br_f (nI_ge (by omega) (by omega)) (nm_r (e' := nI ((op - c) * (tr_len x + 1))) (by rw [pk_sub (by omega), haw]) ?_)
    have next : ∀ v w : Nat, v < 200 → w < 200 → v = (if z = 0 then 1 else (op - c) * (tr_len x + 1)) → w = (if z = 0 then (op - c) * (tr_len x + 1) else 1) → wY_quantify_347 post (wY_quantify_304 post (nI k) (nI op) (nI st) (nI (tr_len x)) (nI (E0 + op * (tr_len x + 1))) fu) (nI k) (nI op) (nI st) (nI (tr_len x)) (nI (E0 + op * (tr_len x + 1))) (nI c) (nI w) (nI v) 0 3 g_count g_place (nI E) g_size g_large g_ready g_depth g_groups g_atom g_atomSize g_length g_found b_kind b_value bo bw b1 b2 b_copyOp b_copyWith b_copyOne b_copyTwo b_opened b_branch b_sizes b_jumps b_groupOf b_text b_met b_todo b_notes := by
      intro v w hv hw ev ew
      refine yq_347 hl hv hw (by omega) hc ?_
      intro bo' bw' b1' b2' h1 h2 h3 h4 h5
      rw [nI_1]
      refine ih (c + 1) fu (E + 1 + tr_len x) bo' bw' b1' b2' (by omega) (by omega) (by omega) (fun j hj => ?_) (fun c' hc' => ?_)
      · obtain ⟨f1, f2, f3, f4⟩ := h1 j (by omega)
        obtain ⟨g1, g2, g3, g4⟩ := h0 j hj
        exact ⟨f1.trans g1, f2.trans g2, f3.trans g3, f4.trans g4⟩
      · by_cases cc : c' = c
        · subst cc
          rw [← eE]
          exact ⟨h2, by rw [h3, ev], by rw [h4, ew], h5⟩
        · obtain ⟨g1, g2, g3, g4⟩ := hopt c' (by omega)
          have hc'1 : (c' + 1) * (tr_len x + 1) ≤ c * (tr_len x + 1) := Nat.mul_le_mul_right _ (by omega)
          have hc'2 : (c' + 1) * (tr_len x + 1) = c' * (tr_len x + 1) + (tr_len x + 1) := by rw [Nat.add_mul, Nat.one_mul]
          obtain ⟨f1, f2, f3, f4⟩ := h1 (E0 + c' * (tr_len x + 1)) (by omega)
          exact ⟨f1.trans g1, f3.trans g2, f4.trans g3, eq_cz h1 (by omega) (by omega) g4⟩
    by_cases c12 : k = 12
    · subst c12
      have hz1 := (hzo hst0).mp rfl
      subst hz1
      refine br_t rfl ?_
      unfold wY_quantify_335
      refine br_t rfl ?_
      exact next _ 1 haw2 (by omega) rfl rfl
    · have hz0 : z = 0 := by
        have : z ≠ 1 := fun h => c12 ((hzo hst0).mpr h)
        omega
      subst hz0
      have h12 : ¬ nI k = 12 := mn_ne (b := 12) rfl c12 (by omega) (by omega)
      refine br_f h12 ?_
      unfold wY_quantify_335
      refine br_f h12 ?_
      exact next 1 _ (by omega) haw2 rfl rfl
theorem yq_269 {k lm op st z A : Nat} {bo0 bw0 b10 b20 : Nat → Int32} {x : Std.Format} (hl : g_large = 0) (hzo : st = 0 → (k = 12 ↔ z = 1)) (hzs : st = 1 → op = 0 ∧ ((k ≤ 9 ∧ z = 0) ∨ (10 ≤ k ∧ z = 1))) (hst : st < 2) (hz : z < 2) (hk : k < 100) (hlm : lm ≤ 4) (hE : A + lm * tr_len x + op * (tr_len x + 1) + (if st = 0 then 0 else tr_len x + 2) ≤ 100) (hc : cz_L b_copyOp b_copyWith b_copyOne b_copyTwo x none 0)
    (H : ∀ bo' bw' b1' b2', (∀ j, j < A → bo' j = bo0 j ∧ bw' j = bw0 j ∧ b1' j = b10 j ∧ b2' j = b20 j) → cz_L bo' bw' b1' b2' (pq_T lm op st z x) none A → post (g_count, g_place, nI (A + tr_len (pq_T lm op st z x)), g_size, g_large, g_ready, g_depth, g_groups, g_atom, g_atomSize, g_length, g_found, b_kind, b_value, bo', bw', b1', b2', b_copyOp, b_copyWith, b_copyOne, b_copyTwo, b_opened, b_branch, b_sizes, b_jumps, b_groupOf, b_text, b_met, b_todo, b_notes)) :
    ∀ d c fu E bo bw b1 b2, c + d = lm → d < fu → E = A + c * tr_len x → (∀ j, j < A → bo j = bo0 j ∧ bw j = bw0 j ∧ b1 j = b10 j ∧ b2 j = b20 j) → (∀ c', c' < c → cz_L bo bw b1 b2 x none (A + c' * tr_len x)) → wY_quantify_269 post (nI k) (nI lm) (nI op) (nI st) (nI (tr_len x)) fu (nI c) g_count g_place (nI E) g_size g_large g_ready g_depth g_groups g_atom g_atomSize g_length g_found b_kind b_value bo bw b1 b2 b_copyOp b_copyWith b_copyOne b_copyTwo b_opened b_branch b_sizes b_jumps b_groupOf b_text b_met b_todo b_notes := by
  have hop100 : op ≤ 100 := by
    have := Nat.le_mul_of_pos_right op (show 0 < tr_len x + 1 by omega)
    omega
  intro d
  induction d with
  | zero =>
    intro c fu E bo bw b1 b2 hcd hfu eE h0 hcp
    obtain ⟨fu, rfl⟩ : ∃ m, fu = m + 1 := ⟨fu - 1, by omega⟩
    have hclm : c = lm := by omega
    subst hclm
    refine br_t (nI_le (Nat.le_refl _) (by omega)) (nm_r (e' := nI (E + op * (tr_len x + 1))) (by rw [nI_1, pk_mul, nI_add]) ⟨op + 1, ?_⟩)
    refine yq_304 (bo0 := bo) (bw0 := bw) (b10 := b1) (b20 := b2) (E0 := E) hl hzo hzs hst hz hk (by omega) hc ?_ op 0 _ E bo bw b1 b2 (by omega) (by omega) (by omega) (fun j _ => ⟨rfl, rfl, rfl, rfl⟩) (fun c' h => by omega)
    intro bo' bw' b1' b2' h1 h2
    have := H bo' bw' b1' b2' (fun j hj => ?_) (it_cz c A (fun c' hc' => ?_) (by rw [← eE]; exact h2))
    · have el : A + tr_len (pq_T c op st z x) = E + tr_len (if st = 0 then op_z z op x else .tag z x) := by
        unfold pq_T
        rw [tr_it_len]; omega
      rw [el] at this
      exact this
    · obtain ⟨f1, f2, f3, f4⟩ := h1 j (by omega)
      obtain ⟨g1, g2, g3, g4⟩ := h0 j hj
      exact ⟨f1.trans g1, f2.trans g2, f3.trans g3, f4.trans g4⟩
    · have hc'1 : (c' + 1) * tr_len x ≤ c * tr_len x := Nat.mul_le_mul_right _ (by omega)
      have hc'2 : (c' + 1) * tr_len x = c' * tr_len x + tr_len x := by rw [Nat.add_mul, Nat.one_mul]
      exact cz_fr (by omega) (fun j j1 j2 => h1 j (by omega)) (hcp c' hc')
  | succ d ih =>
    intro c fu E bo bw b1 b2 hcd hfu eE h0 hcp
    obtain ⟨fu, rfl⟩ : ∃ m, fu = m + 1 := ⟨fu - 1, by omega⟩
    have hc1 : (c + 1) * tr_len x ≤ lm * tr_len x := Nat.mul_le_mul_right _ (by omega)
    have hc2 : (c + 1) * tr_len x = c * tr_len x + tr_len x := by rw [Nat.add_mul, Nat.one_mul]
    refine br_f (nI_ge (by omega) (by omega)) ?_
    by_cases hx0 : tr_len x ≤ 100
    · refine yp_paste hl hx0 (by omega) hc ?_
      intro bo' bw' b1' b2' h1 h2
      dsimp only
      refine nm_r (nI_1 c) (ih (c + 1) fu (E + tr_len x) bo' bw' b1' b2' (by omega) (by omega) (by omega) (fun j hj => ?_) (fun c' hc' => ?_))
      · obtain ⟨f1, f2, f3, f4⟩ := h1 j (by omega)
        obtain ⟨g1, g2, g3, g4⟩ := h0 j hj
        exact ⟨f1.trans g1, f2.trans g2, f3.trans g3, f4.trans g4⟩
      · by_cases cc : c' = c
        · subst cc; rw [← eE]; exact h2
        · have hc'1 : (c' + 1) * tr_len x ≤ c * tr_len x := Nat.mul_le_mul_right _ (by omega)
          have hc'2 : (c' + 1) * tr_len x = c' * tr_len x + tr_len x := by rw [Nat.add_mul, Nat.one_mul]
          exact eq_cz h1 hx0 (by omega) (hcp c' (by omega))
    · omega
/-- the atom is copied away -/
theorem yq_169 {k lm op st A n : Nat} {bo bw b1 b2 : Nat → Int32} (hA : A + n ≤ 150) (hat : g_atom = nI A)
    (H : ∀ cO cW c1 c2 : Nat → Int32, (∀ i, i < n → vr_R bo bw b1 b2 cO cW c1 c2 (A + i) i) → ∃ n269, wY_quantify_269 post (nI k) (nI lm) (nI op) (nI st) (nI n) n269 0 g_count g_place (nI A) g_size g_large g_ready g_depth g_groups g_atom g_atomSize g_length g_found b_kind b_value bo bw b1 b2 cO cW c1 c2 b_opened b_branch b_sizes b_jumps b_groupOf b_text b_met b_todo b_notes) :
    ∀ d i fu cO cW c1 c2, i + d = n → d < fu → (∀ i', i' < i → vr_R bo bw b1 b2 cO cW c1 c2 (A + i') i') → wY_quantify_169 post (nI k) (nI lm) (nI op) (nI st) (nI n) g_count g_place g_end g_size g_large g_ready g_depth g_groups g_atom g_atomSize g_length g_found fu (nI i) b_kind b_value bo bw b1 b2 cO cW c1 c2 b_opened b_branch b_sizes b_jumps b_groupOf b_text b_met b_todo b_notes := by
  subst hat
  intro d
  induction d with
  | zero =>
    intro i fu cO cW c1 c2 hi hfu h
    obtain ⟨fu, rfl⟩ : ∃ m, fu = m + 1 := ⟨fu - 1, by omega⟩
    have hi : i = n := by omega
    subst hi
    exact br_t (nI_le (Nat.le_refl _) (by omega)) (H cO cW c1 c2 h)
  | succ d ih =>
    intro i fu cO cW c1 c2 hi hfu h
    obtain ⟨fu, rfl⟩ : ∃ m, fu = m + 1 := ⟨fu - 1, by omega⟩
    have v1 : vp_in (nI (A + i)) 160 := vp_in_nI (by omega) (by omega)
    have v2 : vp_in (nI i) 160 := vp_in_nI (by omega) (by omega)
    refine br_f (nI_ge (by omega) (by omega)) ?_
    rw [nI_add, nI_clamp (n := A + i) (by omega), nI_clamp (n := i) (by omega)]
    refine ⟨v1, v2, nm_e ⟨v1, v2, nm_e ⟨v1, v2, nm_e ⟨v1, v2, nm_e (nm_r (nI_1 i) (ih (i + 1) fu _ _ _ _ (by omega) (by omega) (fun i' hi' => ?_)))⟩⟩⟩⟩
    by_cases c : i' = i
    · subst c
      unfold vr_R
      rw [pk_us, pk_us, pk_us, pk_us]
      exact ⟨vr_b0 _, vr_b0 _, vr_s0 _, vr_s0 _⟩
    · have := h i' (by omega)
      unfold vr_R at this ⊢
      rw [pk_un c, pk_un c, pk_un c, pk_un c]
      exact this
end YQV
end
section
section YQW
variable {g_count g_place g_end g_size g_large g_ready g_depth g_groups g_atom g_atomSize g_length g_found : Int32} {b_kind b_value b_op b_with b_one b_two b_copyOp b_copyWith b_copyOne b_copyTwo b_opened b_branch b_sizes b_jumps b_groupOf b_text b_todo b_notes : Nat → Int32} {b_met : Nat → Int64}
variable {post : SY → Prop} {en si la ta az : Int32} {bo bw b1 b2 od br sz jp gp : Nat → Int32} {rest : List pf_F} {g : Nat} {al sq : Option Std.Format} {x : Std.Format}
theorem pq_sz {lm op st z : Nat} (hz : z < 2) (hst : st < 2) (hs1 : st = 1 → op = 0) : tr_sz (pq_T lm op st z x) = (lm + op + st) * tr_sz x + op + st := by
  unfold pq_T
  rw [tr_sz_it]
  by_cases c : st = 0
  · subst c
    rw [if_pos rfl, op_zs hz, Nat.mul_add, Nat.mul_one, show (lm + op + 0) * tr_sz x = lm * tr_sz x + op * tr_sz x by rw [Nat.add_zero, Nat.add_mul]]; omega
  · have hst1 : st = 1 := by omega
    have hop := hs1 hst1
    subst hst1 hop
    rw [if_neg (by omega)]
    show lm * tr_sz x + (if z ≤ 3 then tr_sz x + 1 else _) = _
    rw [if_pos (by omega), show (lm + 0 + 1) * tr_sz x = lm * tr_sz x + tr_sz x by rw [Nat.add_zero, Nat.add_mul, Nat.one_mul]]; omega
theorem yq_94 {k lm op st z : Nat} (hzo : st = 0 → (k = 12 ↔ z = 1)) (hzs : st = 1 → op = 0 ∧ ((k ≤ 9 ∧ z = 0) ∨ (10 ≤ k ∧ z = 1))) (hst : st < 2) (hz : z < 2) (hk : k < 100) (hlm : lm ≤ 4) (hop : op ≤ 4) (hc1 : 1 ≤ lm + op + st) (hR : yq_R ((g, al, sq, some (x, true)) :: rest) (some (x, true)) en si la ta az bo bw b1 b2 od br sz jp gp)
    (H : ∀ (en si la : Int32) (bo bw b1 b2 cO cW c1 c2 : Nat → Int32), ((la = 0 ∧ ∃ e, en = nI e ∧ py_F bo bw b1 b2 od br sz jp gp ((g, al, sq, some (pq_T lm op st z x, false)) :: rest) e ∧ si = nI (tz_R ((g, al, sq, some (pq_T lm op st z x, false)) :: rest)) ∧ tz_R ((g, al, sq, some (pq_T lm op st z x, false)) :: rest) ≤ 36) ∨ (la = 1 ∧ 36 < tz_R ((g, al, sq, some (pq_T lm op st z x, false)) :: rest) ∧ (∃ e, en = nI e ∧ e ≤ 100) ∧ (∀ i, i < rest.length + 1 → ∃ o, od i = nI o ∧ o ≤ 100))) → post (g_count, g_place, en, si, la, g_ready, g_depth, g_groups, ta, az, g_length, g_found, b_kind, b_value, bo, bw, b1, b2, cO, cW, c1, c2, od, br, sz, jp, gp, b_text, b_met, b_todo, b_notes)) :
    wY_quantify_94 post (nI k) (nI lm) (nI op) (nI st) g_count g_place en si la g_ready g_depth g_groups ta az g_length g_found b_kind b_value bo bw b1 b2 b_copyOp b_copyWith b_copyOne b_copyTwo od br sz jp gp b_text b_met b_todo b_notes := by
  have hsz := pq_sz (lm := lm) (x := x) hz hst (fun h => (hzs h).1)
  have hz' : tz_R ((g, al, sq, some (pq_T lm op st z x, false)) :: rest) + tr_sz x = tz_R ((g, al, sq, some (x, true)) :: rest) + ((lm + op + st) * tr_sz x + op + st) := by
    show tz_R rest + 2 * pf_g g + pf_zl al + tr_sz (pf_o sq) + tr_sz (pq_T lm op st z x) + tr_sz x = tz_R rest + 2 * pf_g g + pf_zl al + tr_sz (pf_o sq) + tr_sz x + _
    omega
  have hcs : tr_sz x ≤ (lm + op + st) * tr_sz x := Nat.le_mul_of_pos_left _ (by omega)
  rcases hR with ⟨rfl, e, rfl, hF, rfl, hz36, hA⟩ | ⟨rfl, hz36, ⟨e, rfl, he⟩, hod, hA⟩
  · obtain ⟨rfl, rfl⟩ := hA.1 x rfl
    have he2 := py_e2 _ _ hF
    have hs36 : tr_sz x ≤ 36 := by
      have : tz_R ((g, al, sq, some (x, true)) :: rest) = tz_R rest + 2 * pf_g g + pf_zl al + tr_sz (pf_o sq) + tr_sz x := rfl
      omega
    obtain ⟨O, ⟨p1, p2, p3, p4, p5, p6, p7, p8, p9, p10, p11, p12, p13⟩, h3⟩ := hF
    have p6 : e = O + pf_g g + pf_l al + tr_len (pf_o sq) + tr_len x := p6
    have p11 : cz_L bo bw b1 b2 x none (O + pf_g g + pf_l al + tr_len (pf_o sq)) := p11
    have eA : e - tr_len x = O + pf_g g + pf_l al + tr_len (pf_o sq) := by omega
    rw [eA] at H
    rw [eA]
    have hFA : py_F bo bw b1 b2 od br sz jp gp ((g, al, sq, none) :: rest) (O + pf_g g + pf_l al + tr_len (pf_o sq)) := ⟨O, ⟨p1, p2, p3, p4, p5, by show _ = _ + 0; omega, p7, p8, p9, p10, trivial, p12, pl_nil⟩, h3⟩
    have hA2 := py_e2 _ _ hFA
    have hA3 : tz_R ((g, al, sq, none) :: rest) + tr_sz x = tz_R ((g, al, sq, some (x, true)) :: rest) := rfl
    have hT2 := tr_len_sz (pq_T lm op st z x)
    -- behind the growth
    have main : wpY_grow (fun u => match u with | (g_count, g_place, g_end, g_size, g_large, g_ready, g_depth, g_groups, g_atom, g_atomSize, g_length, g_found, b_kind, b_value, b_op, b_with, b_one, b_two, b_copyOp, b_copyWith, b_copyOne, b_copyTwo, b_opened, b_branch, b_sizes, b_jumps, b_groupOf, b_text, b_met, b_todo, b_notes) => ((g_large = 0 → ∀ x8 : Int32, x8 = g_end - g_atom → ∃ n169, wY_quantify_169 post (nI k) (nI lm) (nI op) (nI st) x8 g_count g_place g_end g_size g_large g_ready g_depth g_groups g_atom g_atomSize g_length g_found n169 0 b_kind b_value b_op b_with b_one b_two b_copyOp b_copyWith b_copyOne b_copyTwo b_opened b_branch b_sizes b_jumps b_groupOf b_text b_met b_todo b_notes) ∧ (¬ g_large = 0 → post (g_count, g_place, g_end, g_size, g_large, g_ready, g_depth, g_groups, g_atom, g_atomSize, g_length, g_found, b_kind, b_value, b_op, b_with, b_one, b_two, b_copyOp, b_copyWith, b_copyOne, b_copyTwo, b_opened, b_branch, b_sizes, b_jumps, b_groupOf, b_text, b_met, b_todo, b_notes)))) (g_count, g_place, nI e, nI (tz_R ((g, al, sq, some (x, true)) :: rest)), 0, g_ready, g_depth, g_groups, nI (O + pf_g g + pf_l al + tr_len (pf_o sq)), nI (tr_sz x), g_length, g_found, b_kind, b_value, bo, bw, b1, b2, b_copyOp, b_copyWith, b_copyOne, b_copyTwo, od, br, sz, jp, gp, b_text, b_met, b_todo, b_notes) (nI ((lm + op + st) * tr_sz x + op + st - tr_sz x)) := by
      have hb1 : (lm + op + st) * tr_sz x ≤ 10 * 36 := Nat.mul_le_mul (by omega) hs36
      refine yg_s (by omega) (fun hs => ?_) (fun hs => ?_)
      · dsimp only
        refine br_t rfl (nm_r (e' := nI (tr_len x)) (by rw [pk_sub (by omega)]; congr 1; omega) ⟨tr_len x + 1, ?_⟩)
        refine yq_169 (A := O + pf_g g + pf_l al + tr_len (pf_o sq)) (by omega) rfl ?_ (tr_len x) 0 _ b_copyOp b_copyWith b_copyOne b_copyTwo (by omega) (by omega) (fun i h => by omega)
        intro cO cW c1 c2 hcp
        have hcz : cz_L cO cW c1 c2 x none 0 := (cz_mv x (by omega)).1 _ 0 (fun i hi => by rw [Nat.zero_add]; exact hcp i hi) p11
        have hlen : tr_len (pq_T lm op st z x) = lm * tr_len x + op * (tr_len x + 1) + (if st = 0 then 0 else tr_len x + 2) := by
          unfold pq_T
          rw [tr_it_len]
          by_cases c : st = 0
          · rw [if_pos c, if_pos c, op_zl hz]; exact (Nat.add_zero _).symm
          · rw [if_neg c, if_neg c, tr_len_st (by omega), (hzs (by omega)).1]; omega
        refine ⟨lm + 1, ?_⟩
        refine yq_269 (A := O + pf_g g + pf_l al + tr_len (pf_o sq)) (bo0 := bo) (bw0 := bw) (b10 := b1) (b20 := b2) rfl hzo hzs hst hz hk hlm (by omega) hcz ?_ lm 0 _ _ bo bw b1 b2 (by omega) (by omega) (by omega) (fun j _ => ⟨rfl, rfl, rfl, rfl⟩) (fun c' h => by omega)
        intro bo' bw' b1' b2' h1 h2
        refine H _ _ _ bo' bw' b1' b2' cO cW c1 c2 (Or.inl ⟨rfl, _, rfl, ?_, ?_, by omega⟩)
        · have hF2 := py_fr (bo' := bo') (bw' := bw') (b1' := b1') (b2' := b2') _ _ (by omega) h1 (fun i _ => ⟨rfl, rfl, rfl, rfl, rfl⟩) hFA
          obtain ⟨O', ⟨q1, q2, q3, q4, q5, q6, q7, q8, q9, q10, q11, q12, q13⟩, h4⟩ := hF2
          have q6 : O + pf_g g + pf_l al + tr_len (pf_o sq) = O' + pf_g g + pf_l al + tr_len (pf_o sq) := by rw [q6]; show _ + 0 = _; omega
          have eO : O' = O := by omega
          subst eO
          exact ⟨O', ⟨q1, q2, q3, q4, q5, rfl, q7, q8, q9, q10, h2, q12, pq_pl⟩, h4⟩
        · congr 1; omega
      · dsimp only
        refine br_f (by decide) ?_
        refine H _ _ _ bo bw b1 b2 b_copyOp b_copyWith b_copyOne b_copyTwo (Or.inr ⟨rfl, by omega, ⟨e, rfl, by omega⟩, fun i hi => ?_⟩)
        obtain ⟨o, o1, o2⟩ := py_od _ _ hFA i hi
        exact ⟨o, o1, by omega⟩
    unfold wY_quantify_94
    by_cases c : st = 0
    · subst c
      refine br_t rfl ?_
      unfold wY_quantify_110
      refine nm_e (br_t rfl ?_)
      unfold wY_quantify_133
      refine nm_r (e' := nI ((lm + op + 0) * tr_sz x + op + 0 - tr_sz x)) ?_ main
      rw [nI_add, show (0 : Int32) = nI 0 from rfl, nI_add, pk_mul, nI_add, nI_add, pk_sub (by omega)]
    · have hst1 : st = 1 := by omega
      subst hst1
      refine br_f (by decide) ?_
      unfold wY_quantify_110
      refine nm_e (br_f (by decide) ?_)
      unfold wY_quantify_133
      refine nm_r (e' := nI ((lm + op + 1) * tr_sz x + op + 1 - tr_sz x)) ?_ main
      rw [nI_add, nI_1, pk_mul, nI_add, nI_1, pk_sub (by omega)]
  · have fin : ∀ v : Int32, wpY_grow (fun u => match u with | (g_count, g_place, g_end, g_size, g_large, g_ready, g_depth, g_groups, g_atom, g_atomSize, g_length, g_found, b_kind, b_value, b_op, b_with, b_one, b_two, b_copyOp, b_copyWith, b_copyOne, b_copyTwo, b_opened, b_branch, b_sizes, b_jumps, b_groupOf, b_text, b_met, b_todo, b_notes) => ((g_large = 0 → ∀ x8 : Int32, x8 = g_end - g_atom → ∃ n169, wY_quantify_169 post (nI k) (nI lm) (nI op) (nI st) x8 g_count g_place g_end g_size g_large g_ready g_depth g_groups g_atom g_atomSize g_length g_found n169 0 b_kind b_value b_op b_with b_one b_two b_copyOp b_copyWith b_copyOne b_copyTwo b_opened b_branch b_sizes b_jumps b_groupOf b_text b_met b_todo b_notes) ∧ (¬ g_large = 0 → post (g_count, g_place, g_end, g_size, g_large, g_ready, g_depth, g_groups, g_atom, g_atomSize, g_length, g_found, b_kind, b_value, b_op, b_with, b_one, b_two, b_copyOp, b_copyWith, b_copyOne, b_copyTwo, b_opened, b_branch, b_sizes, b_jumps, b_groupOf, b_text, b_met, b_todo, b_notes)))) (g_count, g_place, nI e, si, 1, g_ready, g_depth, g_groups, ta, az, g_length, g_found, b_kind, b_value, bo, bw, b1, b2, b_copyOp, b_copyWith, b_copyOne, b_copyTwo, od, br, sz, jp, gp, b_text, b_met, b_todo, b_notes) v := by
      intro v
      refine yg_b rfl ?_
      intro si'
      dsimp only
      refine br_f (by decide) ?_
      exact H _ _ _ bo bw b1 b2 b_copyOp b_copyWith b_copyOne b_copyTwo (Or.inr ⟨rfl, by omega, ⟨e, rfl, he⟩, hod⟩)
    unfold wY_quantify_94
    by_cases c : st = 0
    · subst c
      refine br_t rfl ?_
      unfold wY_quantify_110
      refine nm_e (br_t rfl ?_)
      unfold wY_quantify_133
      exact nm_e (fin _)
    · have hst1 : st = 1 := by omega
      subst hst1
      refine br_f (by decide) ?_
      unfold wY_quantify_110
      refine nm_e (br_f (by decide) ?_)
      unfold wY_quantify_133
      exact nm_e (fin _)
theorem yo_q {k v : Nat} {vi : Int32} (hok : pt_ok k v) (hk : (7 ≤ k ∧ k ≤ 12) ∨ k = 14) (hv : k = 14 → vi = nI v) (hR : yq_R ((g, al, sq, some (x, true)) :: rest) (some (x, true)) en si la ta az bo bw b1 b2 od br sz jp gp)
    (H : ∀ (en si la : Int32) (bo bw b1 b2 cO cW c1 c2 : Nat → Int32), ((la = 0 ∧ ∃ e, en = nI e ∧ py_F bo bw b1 b2 od br sz jp gp ((g, al, sq, some (pf_q k v x, false)) :: rest) e ∧ si = nI (tz_R ((g, al, sq, some (pf_q k v x, false)) :: rest)) ∧ tz_R ((g, al, sq, some (pf_q k v x, false)) :: rest) ≤ 36) ∨ (la = 1 ∧ 36 < tz_R ((g, al, sq, some (pf_q k v x, false)) :: rest) ∧ (∃ e, en = nI e ∧ e ≤ 100) ∧ (∀ i, i < rest.length + 1 → ∃ o, od i = nI o ∧ o ≤ 100))) → post (g_count, g_place, en, si, la, g_ready, g_depth, g_groups, ta, az, g_length, g_found, b_kind, b_value, bo, bw, b1, b2, cO, cW, c1, c2, od, br, sz, jp, gp, b_text, b_met, b_todo, b_notes)) :
    wpY_quantify post (g_count, g_place, en, si, la, g_ready, g_depth, g_groups, ta, az, g_length, g_found, b_kind, b_value, bo, bw, b1, b2, b_copyOp, b_copyWith, b_copyOne, b_copyTwo, od, br, sz, jp, gp, b_text, b_met, b_todo, b_notes) (nI k) vi := by
  unfold wpY_quantify
  dsimp only
  have hcase : k = 7 ∨ k = 8 ∨ k = 9 ∨ k = 10 ∨ k = 11 ∨ k = 12 ∨ k = 14 := by omega
  rcases hcase with rfl | rfl | rfl | rfl | rfl | rfl | rfl
  · refine br_f (by decide) (br_f (by decide) (br_f (by decide) ?_))
    unfold wY_quantify_30
    refine br_f (by decide) (br_f (by decide) (br_f (by decide) ?_))
    unfold wY_quantify_63
    refine br_t rfl ?_
    exact yq_94 (k := 7) (lm := 0) (op := 0) (st := 1) (z := 0) (fun h => by omega) (fun _ => ⟨rfl, by omega⟩) (by omega) (by omega) (by omega) (by omega) (by omega) (by omega) hR H
  · refine br_t rfl ?_
    unfold wY_quantify_12 wY_quantify_30
    refine br_f (by decide) (br_f (by decide) (br_f (by decide) ?_))
    unfold wY_quantify_63
    refine br_f (by decide) (br_t rfl ?_)
    exact yq_94 (k := 8) (lm := 1) (op := 0) (st := 1) (z := 0) (fun h => by omega) (fun _ => ⟨rfl, by omega⟩) (by omega) (by omega) (by omega) (by omega) (by omega) (by omega) hR H
  · refine br_f (by decide) (br_f (by decide) (br_f (by decide) ?_))
    unfold wY_quantify_30
    refine br_t rfl ?_
    unfold wY_quantify_43 wY_quantify_63
    refine br_f (by decide) (br_f (by decide) (br_f (by decide) (br_f (by decide) ?_)))
    exact yq_94 (k := 9) (lm := 0) (op := 1) (st := 0) (z := 0) (fun _ => by omega) (fun h => by omega) (by omega) (by omega) (by omega) (by omega) (by omega) (by omega) hR H
  · refine br_f (by decide) (br_f (by decide) (br_f (by decide) ?_))
    unfold wY_quantify_30
    refine br_f (by decide) (br_f (by decide) (br_f (by decide) ?_))
    unfold wY_quantify_63
    refine br_f (by decide) (br_f (by decide) (br_t rfl ?_))
    exact yq_94 (k := 10) (lm := 0) (op := 0) (st := 1) (z := 1) (fun h => by omega) (fun _ => ⟨rfl, by omega⟩) (by omega) (by omega) (by omega) (by omega) (by omega) (by omega) hR H
  · refine br_f (by decide) (br_t rfl ?_)
    unfold wY_quantify_12 wY_quantify_30
    refine br_f (by decide) (br_f (by decide) (br_f (by decide) ?_))
    unfold wY_quantify_63
    refine br_f (by decide) (br_f (by decide) (br_f (by decide) (br_t rfl ?_)))
    exact yq_94 (k := 11) (lm := 1) (op := 0) (st := 1) (z := 1) (fun h => by omega) (fun _ => ⟨rfl, by omega⟩) (by omega) (by omega) (by omega) (by omega) (by omega) (by omega) hR H
  · refine br_f (by decide) (br_f (by decide) (br_f (by decide) ?_))
    unfold wY_quantify_30
    refine br_f (by decide) (br_t rfl ?_)
    unfold wY_quantify_43 wY_quantify_63
    refine br_f (by decide) (br_f (by decide) (br_f (by decide) (br_f (by decide) ?_)))
    exact yq_94 (k := 12) (lm := 0) (op := 1) (st := 0) (z := 1) (fun _ => by omega) (fun h => by omega) (by omega) (by omega) (by omega) (by omega) (by omega) (by omega) hR H
  · obtain ⟨v1, v2, v3, v4⟩ := hok.2.2.2 rfl
    rw [hv rfl]
    have e8 : nI v / 8 = nI (v / 8) := pk_div (d := 8) (by omega) (by omega) (by omega)
    have e9 : nI v - nI (v / 8) * 8 = nI (v % 8) := by rw [← e8]; exact pk_rem (d := 8) (by omega) (by omega) (by omega)
    refine br_f (by decide) (br_f (by decide) (br_t rfl ⟨by decide, ?_⟩))
    rw [e8]
    unfold wY_quantify_30
    rw [e8, e9, pk_sub v4]
    refine br_f (by decide) (br_f (by decide) (br_t rfl ⟨by decide, ?_⟩))
    unfold wY_quantify_63
    refine br_f (by decide) (br_f (by decide) (br_f (by decide) (br_f (by decide) ?_)))
    have eT : pf_q 14 v x = pq_T (v / 8) (v % 8 - v / 8) 0 0 x := by
      show tr_it (v / 8) x (op_it (v % 8 - v / 8) x) = tr_it (v / 8) x (op_z 0 (v % 8 - v / 8) x)
      rw [op_z0]
    rw [eT] at H
    exact yq_94 (k := 14) (lm := v / 8) (op := v % 8 - v / 8) (st := 0) (z := 0) (fun _ => by omega) (fun h => by omega) (by omega) (by omega) (by omega) (by omega) (by omega) (by omega) hR H
end YQW
end
section
section YCP
def pf_top (fs : List pf_F) : Option (Std.Format × Bool) := match fs with
  | [] => none
  | fr :: _ => fr.2.2.2
variable {g_count g_place g_end g_size g_large g_ready g_depth g_groups g_atom g_atomSize g_length g_found : Int32} {b_kind b_value b_op b_with b_one b_two b_copyOp b_copyWith b_copyOne b_copyTwo b_opened b_branch b_sizes b_jumps b_groupOf b_text b_todo b_notes : Nat → Int32} {b_met : Nat → Int64}
section YCA
variable {post : Int32 → SY → Prop} {en si la ta az : Int32} {bo bw b1 b2 od br sz jp gp : Nat → Int32} {rest : List pf_F} {g gc : Nat} {al sq : Option Std.Format} {a : Option (Std.Format × Bool)}
theorem cz_t {k v : Nat} (hok : pt_ok k v) (hk : k ≤ 2) (bo bw b1 b2 : Nat → Int32) (q : Nat) (h1 : bo q = nI 0) (h2 : bw q = nI (pf_m k v)) (h3 : b1 q = nI 1) : cz_L bo bw b1 b2 (.nest (pf_m k v : Nat) .nil) none q :=
  ⟨h1, h2, pf_m16 hok hk, h3⟩
theorem ya_acc {k v : Nat} {vi : Int32} (hok : pt_ok k v) (hv : k = 0 ∨ k = 2 ∨ k = 14 → vi = nI v) (hgc : gc ≤ 3) (hL : rest.length < 24) (hlow : ∀ fr, fr ∈ rest → fr.2.2.2 = none) (hR : yq_R ((g, al, sq, a) :: rest) a en si la ta az bo bw b1 b2 od br sz jp gp)
    (HN : pt_st k v (gc, (g, al, sq, a) :: rest) = none → post 0 (g_count, g_place, en, si, la, g_ready, nI (rest.length + 1), nI gc, ta, az, g_length, g_found, b_kind, b_value, bo, bw, b1, b2, b_copyOp, b_copyWith, b_copyOne, b_copyTwo, od, br, sz, jp, gp, b_text, b_met, b_todo, b_notes))
    (H : ∀ gc' fs', pt_st k v (gc, (g, al, sq, a) :: rest) = some (gc', fs') → ∀ (en si la ta az : Int32) (bo bw b1 b2 od br sz jp gp : Nat → Int32) (cO cW c1 c2 : Nat → Int32), yq_R fs' (pf_top fs') en si la ta az bo bw b1 b2 od br sz jp gp → post 1 (g_count, g_place, en, si, la, g_ready, nI fs'.length, nI gc', ta, az, g_length, g_found, b_kind, b_value, bo, bw, b1, b2, cO, cW, c1, c2, od, br, sz, jp, gp, b_text, b_met, b_todo, b_notes)) :
    wpY_accept post (g_count, g_place, en, si, la, g_ready, nI (rest.length + 1), nI gc, ta, az, g_length, g_found, b_kind, b_value, bo, bw, b1, b2, b_copyOp, b_copyWith, b_copyOne, b_copyTwo, od, br, sz, jp, gp, b_text, b_met, b_todo, b_notes) (nI k) vi := by
  have hk15 := hok.1
  unfold wpY_accept
  dsimp only
  refine br_f (nI_pos (by omega)) (br_f (nI_nlt (b := k) (a := 15) (by omega) (by omega)) ?_)
  -- atoms
  have atom : ∀ (c u : Nat) (t : Std.Format), (k ≤ 2 ∨ k = 13 ∨ k = 15) → c < 3 → u < 128 → t = pf_t k v → pl_R t → tr_sz t = 1 → tr_len t = 1 → (∀ (bo bw b1 b2 : Nat → Int32) q, bo q = nI c → bw q = nI u → b1 q = nI 1 → cz_L bo bw b1 b2 t none q) → wpY_single (fun r u => match u with | (g_count, g_place, g_end, g_size, g_large, g_ready, g_depth, g_groups, g_atom, g_atomSize, g_length, g_found, b_kind, b_value, b_op, b_with, b_one, b_two, b_copyOp, b_copyWith, b_copyOne, b_copyTwo, b_opened, b_branch, b_sizes, b_jumps, b_groupOf, b_text, b_met, b_todo, b_notes) => narrow .boolean (.int r) = .int r ∧ post r (g_count, g_place, g_end, g_size, g_large, g_ready, g_depth, g_groups, g_atom, g_atomSize, g_length, g_found, b_kind, b_value, b_op, b_with, b_one, b_two, b_copyOp, b_copyWith, b_copyOne, b_copyTwo, b_opened, b_branch, b_sizes, b_jumps, b_groupOf, b_text, b_met, b_todo, b_notes)) (g_count, g_place, en, si, la, g_ready, nI (rest.length + 1), nI gc, ta, az, g_length, g_found, b_kind, b_value, bo, bw, b1, b2, b_copyOp, b_copyWith, b_copyOne, b_copyTwo, od, br, sz, jp, gp, b_text, b_met, b_todo, b_notes) (nI c) (nI u) := by
    intro c u t hk hc hu ht hp hs hl hcz
    refine yo_single hc hu hp hs hl hcz hR ?_
    intro en si la ta az bo bw b1 b2 od br sz jp gp h
    dsimp only
    refine ⟨na_b1, ?_⟩
    subst ht
    exact H gc _ (pt_a hk) en si la ta az bo bw b1 b2 od br sz jp gp _ _ _ _ h
  -- quantifiers
  have quan : ((7 ≤ k ∧ k ≤ 12) ∨ k = 14) → wY_accept_181 post (nI k) vi g_count g_place en si la g_ready (nI (rest.length + 1)) (nI gc) ta az g_length g_found b_kind b_value bo bw b1 b2 b_copyOp b_copyWith b_copyOne b_copyTwo od br sz jp gp b_text b_met b_todo b_notes := by
    intro hk
    unfold wY_accept_181
    by_cases hax : ∃ x, a = some (x, true)
    · obtain ⟨x, rfl⟩ := hax
      have hta : 0 ≤ ta := by
        rcases hR with ⟨_, e, _, hF, _, hz36, hA⟩ | ⟨_, _, _, _, hA⟩
        · rw [(hA.1 x rfl).1]
          have := py_e2 _ _ hF
          exact nI_pos' (by omega)
        · obtain ⟨o, e, h⟩ := hA.1 x rfl
          rw [e]; exact nI_pos' (by omega)
      refine br_t hta ?_
      refine yo_q hok hk (fun h => hv (Or.inr (Or.inr h))) hR ?_
      intro en si la bo bw b1 b2 cO cW c1 c2 h
      dsimp only
      refine H gc _ (pt_q hk) en si la (-1) az bo bw b1 b2 od br sz jp gp cO cW c1 c2 ?_
      rcases h with ⟨h1, e, h2, h3, h4, h5⟩ | ⟨h1, h2, h3, h4⟩
      · exact Or.inl ⟨h1, e, h2, h3, h4, h5, ya_0 (fun x h => nomatch h)⟩
      · exact Or.inr ⟨h1, h2, h3, h4, yb_f (fun x h => nomatch h)⟩
    · have hao : ∀ x, a ≠ some (x, true) := fun x e => hax ⟨x, e⟩
      have hta : ta = -1 := by
        rcases hR with ⟨_, e, _, hF, _, hz36, hA⟩ | ⟨_, _, _, _, hA⟩
        · exact hA.2 hao
        · exact hA.2 hao
      exact br_f (by rw [hta]; decide) (HN (pt_qn hk hao))
  -- brackets
  have opn : ∀ (gn gc' : Nat), gn ≤ 3 → pt_st k v (gc, (g, al, sq, a) :: rest) = some (gc', (gn, none, none, none) :: (g, al, pf_s sq a, none) :: rest) → wY_accept_154 post (nI gn) g_count g_place en si la g_ready (nI (rest.length + 1)) (nI gc') ta az g_length g_found b_kind b_value bo bw b1 b2 b_copyOp b_copyWith b_copyOne b_copyTwo od br sz jp gp b_text b_met b_todo b_notes := by
    intro gn gc' hgn hp
    unfold wY_accept_154
    have hz := (pf_s_l (sq := sq) (a := a)).2
    have hz2 : tz_R ((g, al, pf_s sq a, none) :: rest) = tz_R ((g, al, sq, a) :: rest) := by
      show tz_R rest + 2 * pf_g g + pf_zl al + tr_sz (pf_o (pf_s sq a)) + 0 = tz_R rest + 2 * pf_g g + pf_zl al + tr_sz (pf_o sq) + tr_sz (pf_x a)
      omega
    refine yo_open hgn ((g, al, pf_s sq a, none) :: rest) (by rw [List.length_cons]; omega) ?_ ?_
    · rcases hR with ⟨h1, e, h2, hF, h3, hz36, hA⟩ | ⟨h1, h2, h3, h4, hA⟩
      · exact Or.inl ⟨h1, e, h2, (py_set hF).1, by rw [hz2]; exact h3, by rw [hz2]; exact hz36⟩
      · exact Or.inr ⟨h1, by rw [hz2]; exact h2, h3, h4⟩
    · intro en si la ta az bo bw b1 b2 od br sz jp gp h
      dsimp only
      exact H gc' _ hp en si la ta az bo bw b1 b2 od br sz jp gp _ _ _ _ h
  by_cases k0 : k = 0
  · subst k0
    refine br_t rfl ?_
    rw [hv (Or.inl rfl), mn_sh1 (by have := hok.2.1 rfl; omega)]
    have hm := pf_m16 hok (by omega)
    exact atom 0 _ _ (Or.inl (by omega)) (by omega) (show pf_m 0 v < 128 by omega) rfl pl_nes rfl rfl (cz_t hok (by omega))
  refine br_f (nI_ne0 (by omega) (by omega)) ?_
  by_cases k1 : k = 1
  · subst k1
    refine br_t rfl ?_
    exact atom 0 15 _ (Or.inl (by omega)) (by omega) (by omega) rfl pl_nes rfl rfl (cz_t hok (by omega))
  refine br_f (mn_ne (b := 1) rfl k1 (by omega) (by omega)) ?_
  by_cases k2 : k = 2
  · subst k2
    refine br_t rfl ?_
    rw [hv (Or.inr (Or.inl rfl))]
    have hm := hok.2.2.1 rfl
    exact atom 0 v _ (Or.inl (by omega)) (by omega) (by omega) rfl pl_nes rfl rfl (cz_t hok (by omega))
  refine br_f (mn_ne (b := 2) rfl k2 (by omega) (by omega)) ?_
  by_cases k3 : k = 3
  · subst k3
    refine br_t rfl ?_
    unfold wY_accept_118
    refine br_t rfl ?_
    by_cases hg3 : gc = 3
    · exact br_t (by rw [hg3]; rfl) (HN (pt_3n (by omega)))
    · refine br_f (mn_ne (b := 3) rfl hg3 (by omega) (by omega)) ?_
      unfold wY_accept_133
      refine br_t rfl ?_
      rw [nI_1]
      exact nm_e (opn (gc + 1) (gc + 1) (by omega) (pt_3 (by omega)))
  refine br_f (mn_ne (b := 3) rfl k3 (by omega) (by omega)) ?_
  by_cases k4 : k = 4
  · subst k4
    refine br_t rfl ?_
    unfold wY_accept_118
    refine br_f (by decide) ?_
    unfold wY_accept_133
    refine br_f (by decide) ?_
    exact opn 0 gc (by omega) pt_4
  refine br_f (mn_ne (b := 4) rfl k4 (by omega) (by omega)) ?_
  by_cases k5 : k = 5
  · subst k5
    refine br_t rfl ?_
    match rest, hL, hlow, hR, HN, H with
    | [], hL, hlow, hR, HN, H => exact br_t rfl (HN pt_5n)
    | (g', al', sq', a') :: rest, hL, hlow, hR, HN, H =>
      have ha' : a' = none := hlow _ List.mem_cons_self
      subst ha'
      rw [List.length_cons] at hL
      refine br_f (mn_ne (b := 1) rfl (by rw [List.length_cons]; omega) (by rw [List.length_cons]; omega) (by omega)) ?_
      refine yo_close (rest := (g', al', sq', none) :: rest) (by rw [List.length_cons]; omega) hR ?_ ?_
      · intro O bo bw b1 b2 h1 h2 h3 h4 h5 h6 h7
        dsimp only
        refine H gc _ pt_5 _ _ _ _ _ bo bw b1 b2 od br sz jp gp _ _ _ _ (Or.inl ⟨rfl, _, rfl, ?_, ?_, ?_, ya_1 (by congr 1; omega) rfl⟩)
        · obtain ⟨O', ⟨q1, q2, q3, q4, q5, q6, q7, q8, q9, q10, q11, q12, q13⟩, r1⟩ := h1
          have q6 : O = O' + pf_g g' + pf_l al' + tr_len (pf_o sq') := by rw [q6]; show _ + 0 = _; omega
          refine ⟨O', ⟨q1, q2, q3, q4, q5, by rw [← q6]; rfl, q7, q8, q9, q10, by rw [← q6]; exact h2, q12, pl_w⟩, r1⟩
        · congr 1
          rw [← h3]; show _ = _ + _; rfl
        · rw [← h3] at h4; exact h4
      · intro e o az' h1 h2 h3 h4 h5
        dsimp only
        refine H gc _ pt_5 _ _ _ _ _ bo bw b1 b2 od br sz jp gp _ _ _ _ (Or.inr ⟨rfl, ?_, ⟨e, rfl, h1⟩, h4, yb_t rfl h2⟩)
        obtain ⟨la1, la2⟩ := pf_a_l (al := al) (s := pf_o (pf_s sq a))
        have hs := (pf_s_l (sq := sq) (a := a)).2
        have h3 : 36 < tz_R rest + 2 * pf_g g' + pf_zl al' + tr_sz (pf_o sq') + 0 + 2 * pf_g g + pf_zl al + tr_sz (pf_o sq) + tr_sz (pf_x a) := h3
        show 36 < tz_R rest + 2 * pf_g g' + pf_zl al' + tr_sz (pf_o sq') + tr_sz (pf_w g (pf_a al (pf_o (pf_s sq a))))
        have hw : tr_sz (pf_w g (pf_a al (pf_o (pf_s sq a)))) = tr_sz (pf_a al (pf_o (pf_s sq a))) + 2 * pf_g g := by
          unfold pf_w pf_g
          by_cases c : g = 0
          · rw [if_pos c, if_pos c]; rfl
          · rw [if_neg c, if_neg c]
            show (if 3 + g ≤ 3 then _ else tr_sz _ + 2) = _
            rw [if_neg (by omega)]
        omega
  refine br_f (mn_ne (b := 5) rfl k5 (by omega) (by omega)) ?_
  by_cases k6 : k = 6
  · subst k6
    refine br_t rfl ?_
    refine yo_alt (by omega) hR ?_
    intro en si la ta az bo bw b1 b2 od br sz jp gp h
    dsimp only
    exact H gc _ pt_6 en si la ta az bo bw b1 b2 od br sz jp gp _ _ _ _ h
  refine br_f (mn_ne (b := 6) rfl k6 (by omega) (by omega)) ?_
  by_cases k7 : k = 7
  · exact br_t (by rw [k7]; rfl) (quan (by omega))
  refine br_f (mn_ne (b := 7) rfl k7 (by omega) (by omega)) ?_
  by_cases k8 : k = 8
  · exact br_t (by rw [k8]; rfl) (quan (by omega))
  refine br_f (mn_ne (b := 8) rfl k8 (by omega) (by omega)) ?_
  by_cases k9 : k = 9
  · exact br_t (by rw [k9]; rfl) (quan (by omega))
  refine br_f (mn_ne (b := 9) rfl k9 (by omega) (by omega)) ?_
  by_cases k10 : k = 10
  · exact br_t (by rw [k10]; rfl) (quan (by omega))
  refine br_f (mn_ne (b := 10) rfl k10 (by omega) (by omega)) ?_
  by_cases k11 : k = 11
  · exact br_t (by rw [k11]; rfl) (quan (by omega))
  refine br_f (mn_ne (b := 11) rfl k11 (by omega) (by omega)) ?_
  by_cases k12 : k = 12
  · exact br_t (by rw [k12]; rfl) (quan (by omega))
  refine br_f (mn_ne (b := 12) rfl k12 (by omega) (by omega)) ?_
  by_cases k13 : k = 13
  · subst k13
    refine br_t rfl ?_
    exact atom 1 0 .line (Or.inr (Or.inl rfl)) (by omega) (by omega) rfl pl_lin rfl rfl (fun bo bw b1 b2 q h1 h2 h3 => ⟨h1, h3⟩)
  refine br_f (mn_ne (b := 13) rfl k13 (by omega) (by omega)) ?_
  by_cases k14 : k = 14
  · exact br_t (by rw [k14]; rfl) (quan (by omega))
  refine br_f (mn_ne (b := 14) rfl k14 (by omega) (by omega)) ?_
  have k15 : k = 15 := by omega
  subst k15
  refine br_t rfl ?_
  exact atom 2 0 (.align true) (Or.inr (Or.inr rfl)) (by omega) (by omega) rfl pl_ali rfl rfl (fun bo bw b1 b2 q h1 h2 h3 => ⟨h1, h3⟩)
end YCA
end YCP
end
section
section CNT
/-! counts of tests, splits and notes; the whole program of Y -/
def gu_R (S : Nat → Bool) (p : Nat) : Nat → Nat
  | 0 => 0
  | n + 1 => gu_R S p n + (if S (p + n) = true then 0 else 1)
theorem gu_0 {S : Nat → Bool} : ∀ n, gu_R S 0 n = gr_u S n := by
  intro n
  induction n with
  | zero => rfl
  | succ n ih =>
    show gu_R S 0 n + (if S (0 + n) = true then 0 else 1) = gr_u S n + (if S n = true then 0 else 1)
    rw [ih, Nat.zero_add]
theorem gu_a {S : Nat → Bool} {p a : Nat} : ∀ b, gu_R S p (a + b) = gu_R S p a + gu_R S (p + a) b := by
  intro b
  induction b with
  | zero => rfl
  | succ b ih =>
    show gu_R S p (a + b) + (if S (p + (a + b)) = true then 0 else 1) = gu_R S p a + (gu_R S (p + a) b + (if S (p + a + b) = true then 0 else 1))
    rw [ih, show p + (a + b) = p + a + b by omega]; omega
theorem gu_1 {S : Nat → Bool} {p : Nat} : gu_R S p 1 ≤ 1 ∧ (S p = true → gu_R S p 1 = 0) := by
  show 0 + (if S (p + 0) = true then 0 else 1) ≤ 1 ∧ (S p = true → 0 + (if S (p + 0) = true then 0 else 1) = 0)
  rw [Nat.add_zero]
  refine ⟨by split <;> omega, fun h => by rw [if_pos h]⟩
theorem gu_c {S S' : Nat → Bool} {p : Nat} : ∀ n, (∀ j, p ≤ j → j < p + n → S j = S' j) → gu_R S p n = gu_R S' p n := by
  intro n
  induction n with
  | zero => intro _; rfl
  | succ n ih =>
    intro h
    show gu_R S p n + (if S (p + n) = true then 0 else 1) = gu_R S' p n + (if S' (p + n) = true then 0 else 1)
    rw [ih (fun j h1 h2 => h j h1 (by omega)), h (p + n) (by omega) (by omega)]
section CTX
variable {o w s1 s2 : Nat → Nat}
theorem ct_x : ∀ t p, cx_L o w s1 s2 t p → gu_R (fun j => decide (¬ o j = 0)) p (tr_len t) ≤ tr_sz t := by
  intro t
  induction t using tr_ind with
  | h0 => intro p _; exact Nat.le_refl 0
  | h1 => intro p _; exact gu_1.1
  | h2 b => intro p _; exact gu_1.1
  | h3 s => intro p _; exact Nat.le_refl 0
  | h4 i f => intro p _; exact gu_1.1
  | h5 a b ha hb =>
    intro p h
    rw [tr_len_app, gu_a]
    have := ha p h.1
    have := hb _ h.2
    show _ ≤ tr_sz a + tr_sz b
    omega
  | h6 a b c ha hb =>
    intro p h
    obtain ⟨c1, c2, c3, c4, c5, c6, c7⟩ := h
    rw [tr_len_alt, show tr_len a + tr_len b + 2 = 1 + tr_len a + 1 + tr_len b by omega, gu_a, gu_a, gu_a]
    have h1 := (gu_1 (S := fun j => decide (¬ o j = 0)) (p := p)).2 (by rw [c1]; decide)
    have h2 := ha _ c4
    have h3 := (gu_1 (S := fun j => decide (¬ o j = 0)) (p := p + 1 + tr_len a)).2 (by rw [c5]; decide)
    have h4 := hb _ c7
    rw [show p + (1 + tr_len a + 1) = p + tr_len a + 2 by omega, show p + (1 + tr_len a) = p + 1 + tr_len a by omega]
    show _ ≤ tr_sz a + tr_sz b + 1
    omega
  | h7 f c hf => intro p _; cases f <;> first | exact Nat.le_refl 0 | exact absurd rfl (hf _ _)
  | h8 k a ha =>
    intro p h
    unfold cx_L at h
    by_cases t1 : k ≤ 1
    · rw [if_pos t1] at h
      obtain ⟨c1, c2, c3, c4, c5, c6⟩ := h
      rw [tr_len_st t1, show tr_len a + 2 = 1 + tr_len a + 1 by omega, gu_a, gu_a]
      have h1 := (gu_1 (S := fun j => decide (¬ o j = 0)) (p := p)).1
      have h2 := ha _ c4
      have h3 := (gu_1 (S := fun j => decide (¬ o j = 0)) (p := p + 1 + tr_len a)).2 (by rw [c5]; decide)
      rw [show p + (1 + tr_len a) = p + 1 + tr_len a by omega]
      show _ ≤ (if k ≤ 3 then tr_sz a + 1 else _)
      rw [if_pos (by omega)]; omega
    · rw [if_neg t1] at h
      by_cases t3 : k ≤ 3
      · rw [if_pos t3] at h
        obtain ⟨c1, c2, c3, c4⟩ := h
        rw [tr_len_op t1 t3, show tr_len a + 1 = 1 + tr_len a by omega, gu_a]
        have h1 := (gu_1 (S := fun j => decide (¬ o j = 0)) (p := p)).1
        have h2 := ha _ c4
        show _ ≤ (if k ≤ 3 then tr_sz a + 1 else _)
        rw [if_pos t3]; omega
      · rw [if_neg t3] at h
        obtain ⟨c1, c2, c3, c4, c5, c6, c7⟩ := h
        rw [tr_len_gr t1 t3, show tr_len a + 2 = 1 + tr_len a + 1 by omega, gu_a, gu_a]
        have h1 := (gu_1 (S := fun j => decide (¬ o j = 0)) (p := p)).1
        have h2 := ha _ c4
        have h3 := (gu_1 (S := fun j => decide (¬ o j = 0)) (p := p + (1 + tr_len a))).1
        show _ ≤ (if k ≤ 3 then _ else tr_sz a + 2)
        rw [if_neg t3]; omega
def ct_S (o : Nat → Nat) : Nat → Bool := fun j => decide (¬ o j = 3 ∧ ¬ o j = 5)
theorem ct_y : ∀ t, (∀ q, cy_L o w s1 s2 t none q → gu_R (ct_S o) q (tr_len t) ≤ tr_sz t) ∧ (∀ e q, cy_L o w s1 s2 t (some e) q → gu_R (ct_S o) q (tr_len t + 2) ≤ tr_sz t + 1) := by
  have key : ∀ t, yl_N t → (∀ q, cy_L o w s1 s2 t none q → gu_R (ct_S o) q (tr_len t) ≤ tr_sz t) → (∀ q, cy_L o w s1 s2 t none q → gu_R (ct_S o) q (tr_len t) ≤ tr_sz t) ∧ (∀ e q, cy_L o w s1 s2 t (some e) q → gu_R (ct_S o) q (tr_len t + 2) ≤ tr_sz t + 1) := by
    intro t hN h
    refine ⟨h, fun e q hc => ?_⟩
    obtain ⟨c1, c2, c3, c4, c5, c6⟩ := (hN.2.2.2.2 o w s1 s2 e q).mp hc
    rw [show tr_len t + 2 = 1 + tr_len t + 1 by omega, gu_a, gu_a]
    have h1 := (gu_1 (S := ct_S o) (p := q)).1
    have h2 := h _ c4
    have h3 := (gu_1 (S := ct_S o) (p := q + 1 + tr_len t)).2 (by unfold ct_S; rw [c5]; decide)
    rw [show q + (1 + tr_len t) = q + 1 + tr_len t by omega]
    omega
  intro t
  induction t using tr_ind with
  | h0 => exact key _ yl_N0 (fun q _ => Nat.le_refl 0)
  | h1 => exact key _ yl_N1 (fun q _ => gu_1.1)
  | h2 b => exact key _ yl_N2 (fun q _ => gu_1.1)
  | h3 s => exact key _ yl_N3 (fun q _ => Nat.le_refl 0)
  | h4 i f => exact key _ yl_N4 (fun q _ => gu_1.1)
  | h5 a b ha hb =>
    refine key _ yl_N5 (fun q h => ?_)
    rw [tr_len_app, gu_a]
    have := ha.1 q h.1
    have := hb.1 _ h.2
    show _ ≤ tr_sz a + tr_sz b
    omega
  | h6 a b c ha hb =>
    refine ⟨fun q h => ?_, fun e q h => ?_⟩
    · obtain ⟨c1, c2⟩ := h
      rw [tr_len_alt, show tr_len a + tr_len b + 2 = tr_len a + 2 + tr_len b by omega, gu_a]
      have h1 := ha.2 _ q c1
      have h2 := hb.1 _ c2
      rw [show q + (tr_len a + 2) = q + tr_len a + 2 by omega]
      show _ ≤ tr_sz a + tr_sz b + 1
      omega
    · obtain ⟨c1, c2, c3, c4, c5, c6, c7⟩ := h
      rw [tr_len_alt, show tr_len a + tr_len b + 2 + 2 = tr_len a + 2 + 1 + tr_len b + 1 by omega, gu_a, gu_a, gu_a]
      have h1 := ha.2 _ q c1
      have h2 := (gu_1 (S := ct_S o) (p := q + (tr_len a + 2))).1
      have h3 := hb.1 _ c5
      have h4 := (gu_1 (S := ct_S o) (p := q + tr_len a + 3 + tr_len b)).2 (by unfold ct_S; rw [c6]; decide)
      rw [show q + (tr_len a + 2 + 1 + tr_len b) = q + tr_len a + 3 + tr_len b by omega, show q + (tr_len a + 2 + 1) = q + tr_len a + 3 by omega]
      show _ ≤ tr_sz a + tr_sz b + 1 + 1
      omega
  | h7 f c hf =>
    refine key _ (yl_N7 hf) (fun q _ => ?_)
    cases f <;> first | exact Nat.le_refl 0 | exact absurd rfl (hf _ _)
  | h8 k a ha =>
    refine key _ yl_N8 (fun p h => ?_)
    unfold cy_L cy_w at h
    dsimp only at h
    by_cases t1 : k ≤ 1
    · rw [if_pos t1] at h
      obtain ⟨c1, c2, c3, c4, c5, c6⟩ := h
      rw [tr_len_st t1, show tr_len a + 2 = 1 + tr_len a + 1 by omega, gu_a, gu_a]
      have h1 := (gu_1 (S := ct_S o) (p := p)).1
      have h2 := ha.1 _ c4
      have h3 := (gu_1 (S := ct_S o) (p := p + 1 + tr_len a)).2 (by unfold ct_S; rw [c5]; decide)
      rw [show p + (1 + tr_len a) = p + 1 + tr_len a by omega]
      show _ ≤ (if k ≤ 3 then tr_sz a + 1 else _)
      rw [if_pos (by omega)]; omega
    · rw [if_neg t1] at h
      by_cases t3 : k ≤ 3
      · rw [if_pos t3] at h
        obtain ⟨c1, c2, c3, c4⟩ := h
        rw [tr_len_op t1 t3, show tr_len a + 1 = 1 + tr_len a by omega, gu_a]
        have h1 := (gu_1 (S := ct_S o) (p := p)).1
        have h2 := ha.1 _ c4
        show _ ≤ (if k ≤ 3 then tr_sz a + 1 else _)
        rw [if_pos t3]; omega
      · rw [if_neg t3] at h
        obtain ⟨c1, c2, c3, c4, c5, c6, c7⟩ := h
        rw [tr_len_gr t1 t3, show tr_len a + 2 = 1 + tr_len a + 1 by omega, gu_a, gu_a]
        have h1 := (gu_1 (S := ct_S o) (p := p)).1
        have h2 := ha.1 _ c4
        have h3 := (gu_1 (S := ct_S o) (p := p + (1 + tr_len a))).1
        show _ ≤ (if k ≤ 3 then _ else tr_sz a + 2)
        rw [if_neg t3]; omega
end CTX
theorem ct_X {t : Std.Format} {ao ax ay app : Nat → Int32} (h : xp_R t ao ax ay app) (hs : tr_sz t ≤ 36) : gr_u (fun j => decide (¬ ao j = 0)) (tr_len t + 1) ≤ 36 := by
  have h1 := ct_x t 0 h.2.1
  rw [← gu_0, gu_a (a := tr_len t) (b := 1)]
  have h2 := (gu_1 (S := fun j => decide (¬ ao j = 0)) (p := 0 + tr_len t)).2 (by rw [Nat.zero_add, h.2.2.1]; decide)
  have h3 : gu_R (fun j => decide (¬ ao j = 0)) 0 (tr_len t) = gu_R (fun j => decide (¬ xv_o (tr_len t) ao j = 0)) 0 (tr_len t) := by
    refine gu_c _ (fun j _ hj => ?_)
    have := xp_oc h (p := j) (c := 0) (by omega) (by omega)
    have e : (nI 0 : Int32) = 0 := nI_0
    rw [e] at this
    exact decide_eq_decide.mpr (not_congr this.symm)
  omega
theorem ct_Y {t : Std.Format} {bo bw b1 b2 : Nat → Int32} (h : yp_R t bo bw b1 b2) (hs : tr_sz t ≤ 36) : gr_u (fun q => decide (¬ bo q = 3 ∧ ¬ bo q = 5)) (tr_len t + 1) ≤ 36 := by
  have h1 := (ct_y t).1 0 h.2.1
  rw [← gu_0, gu_a (a := tr_len t) (b := 1)]
  have h2 := (gu_1 (S := fun q => decide (¬ bo q = 3 ∧ ¬ bo q = 5)) (p := 0 + tr_len t)).2 (by rw [Nat.zero_add, h.2.2.1]; decide)
  have h3 : gu_R (fun q => decide (¬ bo q = 3 ∧ ¬ bo q = 5)) 0 (tr_len t) = gu_R (ct_S (xv_o (tr_len t) bo)) 0 (tr_len t) := by
    refine gu_c _ (fun j _ hj => ?_)
    have e3 := yp_oc h (p := j) (c := 3) (by omega) (by omega)
    have e5 := yp_oc h (p := j) (c := 5) (by omega) (by omega)
    exact decide_eq_decide.mpr (and_congr (not_congr e3.symm) (not_congr e5.symm))
  omega
/-! Y's layout does not look beyond -/
theorem cy_cong {o w s1 s2 o' : Nat → Nat} : ∀ t, (∀ q, (∀ j, q ≤ j → j < q + tr_len t → o' j = o j) → cy_L o w s1 s2 t none q → cy_L o' w s1 s2 t none q) ∧ (∀ e q, (∀ j, q ≤ j → j < q + tr_len t + 2 → o' j = o j) → cy_L o w s1 s2 t (some e) q → cy_L o' w s1 s2 t (some e) q) := by
  have key : ∀ t, yl_N t → (∀ q, (∀ j, q ≤ j → j < q + tr_len t → o' j = o j) → cy_L o w s1 s2 t none q → cy_L o' w s1 s2 t none q) → (∀ q, (∀ j, q ≤ j → j < q + tr_len t → o' j = o j) → cy_L o w s1 s2 t none q → cy_L o' w s1 s2 t none q) ∧ (∀ e q, (∀ j, q ≤ j → j < q + tr_len t + 2 → o' j = o j) → cy_L o w s1 s2 t (some e) q → cy_L o' w s1 s2 t (some e) q) := by
    intro t hN h
    refine ⟨h, fun e q ho hc => ?_⟩
    obtain ⟨c1, c2, c3, c4, c5, c6⟩ := (hN.2.2.2.2 o w s1 s2 e q).mp hc
    exact (hN.2.2.2.2 o' w s1 s2 e q).mpr ⟨(ho q (by omega) (by omega)).trans c1, c2, c3, h _ (fun j j1 j2 => ho j (by omega) (by omega)) c4, (ho _ (by omega) (by omega)).trans c5, c6⟩
  intro t
  induction t using tr_ind with
  | h0 => exact key _ yl_N0 (fun q _ _ => trivial)
  | h1 => exact key _ yl_N1 (fun q ho h => ⟨(ho q (Nat.le_refl _) (Nat.lt_succ_self q)).trans h.1, h.2⟩)
  | h2 b => exact key _ yl_N2 (fun q ho h => ⟨(ho q (Nat.le_refl _) (Nat.lt_succ_self q)).trans h.1, h.2⟩)
  | h3 s => exact key _ yl_N3 (fun q _ _ => trivial)
  | h4 i f => exact key _ yl_N4 (fun q ho h => ⟨(ho q (Nat.le_refl _) (Nat.lt_succ_self q)).trans h.1, h.2.1, h.2.2⟩)
  | h5 a b ha hb =>
    refine key _ yl_N5 (fun q ho h => ?_)
    rw [tr_len_app] at ho
    exact ⟨ha.1 q (fun j j1 j2 => ho j j1 (by omega)) h.1, hb.1 _ (fun j j1 j2 => ho j (by omega) (by omega)) h.2⟩
  | h6 a b c ha hb =>
    refine ⟨fun q ho h => ?_, fun e q ho h => ?_⟩
    · rw [tr_len_alt] at ho
      exact ⟨ha.2 _ q (fun j j1 j2 => ho j j1 (by omega)) h.1, hb.1 _ (fun j j1 j2 => ho j (by omega) (by omega)) h.2⟩
    · rw [tr_len_alt] at ho
      obtain ⟨c1, c2, c3, c4, c5, c6, c7⟩ := h
      exact ⟨ha.2 _ q (fun j j1 j2 => ho j j1 (by omega)) c1, (ho _ (by omega) (by omega)).trans c2, c3, c4, hb.1 _ (fun j j1 j2 => ho j (by omega) (by omega)) c5, (ho _ (by omega) (by omega)).trans c6, c7⟩
  | h7 f c hf =>
    refine key _ (yl_N7 hf) (fun q _ _ => ?_)
    cases f <;> first | trivial | exact absurd rfl (hf _ _)
  | h8 k a ha =>
    refine key _ yl_N8 (fun p ho h => ?_)
    have hl := tr_len_tg (t := k) (a := a)
    have ha' := ha.1 (p + 1) (fun j j1 j2 => ho j (by omega) (by omega))
    unfold cy_L cy_w at h ⊢
    dsimp only at h ⊢
    by_cases t1 : k ≤ 1
    · rw [if_pos t1] at h ⊢
      rw [tr_len_st t1] at ho
      obtain ⟨c1, c2, c3, c4, c5, c6⟩ := h
      exact ⟨(ho _ (by omega) (by omega)).trans c1, c2, c3, ha' c4, (ho _ (by omega) (by omega)).trans c5, c6⟩
    · rw [if_neg t1] at h ⊢
      by_cases t3 : k ≤ 3
      · rw [if_pos t3] at h ⊢
        obtain ⟨c1, c2, c3, c4⟩ := h
        exact ⟨(ho _ (by omega) (by omega)).trans c1, c2, c3, ha' c4⟩
      · rw [if_neg t3] at h ⊢
        rw [tr_len_gr t1 t3] at ho
        obtain ⟨c1, c2, c3, c4, c5, c6, c7⟩ := h
        exact ⟨(ho _ (by omega) (by omega)).trans c1, c2, c3, ha' c4, (ho _ (by omega) (by omega)).trans c5, c6, c7⟩
theorem cz_yp {t : Std.Format} {bo bw b1 b2 : Nat → Int32} (hm : tr_len t ≤ 72) (h : cz_L bo bw b1 b2 t none 0) (h6 : bo (tr_len t) = 6) : yp_R t bo bw b1 b2 := by
  obtain ⟨a1, a2⟩ := (cq_main t).1 0 (by omega) h
  refine ⟨hm, (cy_cong t).1 0 (fun j _ hj => ?_) a1, h6, fun q hq => a2 q (by omega) (by omega)⟩
  unfold xv_o
  rw [if_pos (by omega), if_pos (by omega)]
/-! levels: what a token keeps -/
def pf_bot : List pf_F → Nat
  | [] => 0
  | [fr] => fr.1
  | _ :: fr :: rest => pf_bot (fr :: rest)
def pf_inv (gc : Nat) (fs : List pf_F) : Prop := gc ≤ 3 ∧ ∃ fr rest, fs = fr :: rest ∧ (∀ x, x ∈ rest → x.2.2.2 = none) ∧ pf_bot fs = 0
theorem pf_bot_c {fr fr' : pf_F} {rest : List pf_F} (h : fr.1 = fr'.1) : pf_bot (fr :: rest) = pf_bot (fr' :: rest) := by
  cases rest with
  | nil => exact h
  | cons x rest => rfl
theorem pt_inv {k v gc gc' : Nat} {fs fs' : List pf_F} (hk : pt_ok k v) (h : pf_inv gc fs) (hs : pt_st k v (gc, fs) = some (gc', fs')) : pf_inv gc' fs' ∧ fs'.length ≤ fs.length + 1 := by
  obtain ⟨hgc, ⟨g, al, sq, a⟩, rest, rfl, hl, hb⟩ := h
  have hk15 := hk.1
  by_cases ka : k ≤ 2 ∨ k = 13 ∨ k = 15
  · rw [pt_a ka] at hs
    cases hs
    exact ⟨⟨hgc, _, rest, rfl, hl, by rw [← hb]; exact pf_bot_c rfl⟩, by simp⟩
  · by_cases k3 : k = 3
    · subst k3
      by_cases hg : gc < 3
      · rw [pt_3 hg] at hs
        cases hs
        refine ⟨⟨by omega, _, _, rfl, fun x hx => ?_, ?_⟩, by simp⟩
        · rcases List.mem_cons.mp hx with rfl | hx
          · rfl
          · exact hl x hx
        · show pf_bot ((g, al, pf_s sq a, none) :: rest) = 0
          rw [← hb]; exact pf_bot_c rfl
      · rw [pt_3n (by omega)] at hs; cases hs
    · by_cases k4 : k = 4
      · subst k4
        rw [pt_4] at hs
        cases hs
        refine ⟨⟨hgc, _, _, rfl, fun x hx => ?_, ?_⟩, by simp⟩
        · rcases List.mem_cons.mp hx with rfl | hx
          · rfl
          · exact hl x hx
        · show pf_bot ((g, al, pf_s sq a, none) :: rest) = 0
          rw [← hb]; exact pf_bot_c rfl
      · by_cases k5 : k = 5
        · subst k5
          cases rest with
          | nil => rw [pt_5n] at hs; cases hs
          | cons fr rest =>
            obtain ⟨g', al', sq', a'⟩ := fr
            rw [pt_5] at hs
            cases hs
            refine ⟨⟨hgc, _, rest, rfl, fun x hx => hl x (List.mem_cons_of_mem _ hx), ?_⟩, by simp⟩
            have hb : pf_bot ((g', al', sq', a') :: rest) = 0 := hb
            rw [← hb]; exact pf_bot_c rfl
        · by_cases k6 : k = 6
          · subst k6
            rw [pt_6] at hs
            cases hs
            exact ⟨⟨hgc, _, rest, rfl, hl, by rw [← hb]; exact pf_bot_c rfl⟩, by simp⟩
          · have hkq : (7 ≤ k ∧ k ≤ 12) ∨ k = 14 := by omega
            by_cases hax : ∃ x, a = some (x, true)
            · obtain ⟨x, rfl⟩ := hax
              rw [pt_q hkq] at hs
              cases hs
              exact ⟨⟨hgc, _, rest, rfl, hl, by rw [← hb]; exact pf_bot_c rfl⟩, by simp⟩
            · rw [pt_qn hkq (fun x e => hax ⟨x, e⟩)] at hs; cases hs
end CNT
end
section
section YCQ
variable {g_count g_place g_end g_size g_large g_ready g_depth g_groups g_atom g_atomSize g_length g_found : Int32} {b_kind b_value b_op b_with b_one b_two b_copyOp b_copyWith b_copyOne b_copyTwo b_opened b_branch b_sizes b_jumps b_groupOf b_text b_todo b_notes : Nat → Int32} {b_met : Nat → Int64}
variable {post : Int32 → SY → Prop} {cnt : Nat} {K V : Nat → Nat} {res : Sum Nat (Nat × List pf_F)}
theorem yc_loop (htk : tk_R cnt b_kind b_value K V) (hcnt : g_count = nI cnt) (H1 : ∀ j, res = .inl j → ∀ (en si la ta az dp gr : Int32) (bo bw b1 b2 od br sz jp gp cO cW c1 c2 : Nat → Int32), post 1 (g_count, nI j, en, si, la, g_ready, dp, gr, ta, az, g_length, g_found, b_kind, b_value, bo, bw, b1, b2, cO, cW, c1, c2, od, br, sz, jp, gp, b_text, b_met, b_todo, b_notes)) (H2 : ∀ gc fs, res = .inr (gc, fs) → fs.length ≠ 1 → ∀ (en si la ta az dp gr : Int32) (bo bw b1 b2 od br sz jp gp cO cW c1 c2 : Nat → Int32), post 1 (g_count, nI cnt, en, si, la, g_ready, dp, gr, ta, az, g_length, g_found, b_kind, b_value, bo, bw, b1, b2, cO, cW, c1, c2, od, br, sz, jp, gp, b_text, b_met, b_todo, b_notes)) (H3 : ∀ gc g al sq a, res = .inr (gc, [(g, al, sq, a)]) → tr_sz (pf_a al (pf_o (pf_s sq a))) ≤ 36 → ∀ (en si la ta az dp gr : Int32) (bo bw b1 b2 od br sz jp gp cO cW c1 c2 : Nat → Int32), yp_R (pf_a al (pf_o (pf_s sq a))) bo bw b1 b2 → en = nI (tr_len (pf_a al (pf_o (pf_s sq a))) + 1) → post 0 (g_count, -1, en, si, la, 1, dp, gr, ta, az, g_length, g_found, b_kind, b_value, bo, bw, b1, b2, cO, cW, c1, c2, od, br, sz, jp, gp, b_text, b_met, b_todo, b_notes)) (H4 : ∀ gc g al sq a, res = .inr (gc, [(g, al, sq, a)]) → 36 < tr_sz (pf_a al (pf_o (pf_s sq a))) → ∀ (en si la ta az dp gr : Int32) (bo bw b1 b2 od br sz jp gp cO cW c1 c2 : Nat → Int32), post 2 (g_count, nI cnt, en, si, la, g_ready, dp, gr, ta, az, g_length, g_found, b_kind, b_value, bo, bw, b1, b2, cO, cW, c1, c2, od, br, sz, jp, gp, b_text, b_met, b_todo, b_notes)) : ∀ r i fu gc fs (pl : Int32) (en si la ta az : Int32) (bo bw b1 b2 od br sz jp gp : Nat → Int32) (cO cW c1 c2 : Nat → Int32), i + r = cnt → r < fu → pf_inv gc fs → fs.length ≤ i + 1 → yq_R fs (pf_top fs) en si la ta az bo bw b1 b2 od br sz jp gp → pt_run K V r i (gc, fs) = res →
    wY_compile_47 post fu (nI i) g_count pl en si la g_ready (nI fs.length) (nI gc) ta az g_length g_found b_kind b_value bo bw b1 b2 cO cW c1 c2 od br sz jp gp b_text b_met b_todo b_notes := by
  have hc24 := htk.1
  intro r
  induction r with
  | zero =>
    intro i fu gc fs pl en si la ta az bo bw b1 b2 od br sz jp gp cO cW c1 c2 hi hfu hinv hlen hR hr
    obtain ⟨fu, rfl⟩ : ∃ m, fu = m + 1 := ⟨fu - 1, by omega⟩
    have hr : Sum.inr (gc, fs) = res := hr
    refine br_t (by rw [hcnt]; exact nI_le (by omega) (by omega)) ?_
    obtain ⟨hgc, ⟨g, al, sq, a⟩, rest, rfl, hlow, hbot⟩ := hinv
    cases rest with
    | nil =>
      have hg0 : g = 0 := hbot
      subst hg0
      refine br_t rfl ?_
      obtain ⟨la1, la2⟩ := pf_a_l (al := al) (s := pf_o (pf_s sq a))
      have hs := (pf_s_l (sq := sq) (a := a)).2
      have htz : tz_R [(0, al, sq, a)] = tr_sz (pf_a al (pf_o (pf_s sq a))) := by
        show 0 + 2 * 0 + pf_zl al + tr_sz (pf_o sq) + tr_sz (pf_x a) = _
        omega
      refine yo_close (rest := []) (by decide) hR ?_ ?_
      · intro O bo bw b1 b2 h1 h2 h3 h4 h5 h6 h7
        dsimp only
        have hO : O = 0 := h1
        subst hO
        have ew : pf_w 0 (pf_a al (pf_o (pf_s sq a))) = .append (pf_a al (pf_o (pf_s sq a))) .nil := rfl
        have el : 0 + tr_len (pf_w 0 (pf_a al (pf_o (pf_s sq a)))) = tr_len (pf_a al (pf_o (pf_s sq a))) := by
          rw [ew, tr_len_app]; show 0 + (_ + 0) = _; omega
        rw [htz] at h4
        have hl72 := tr_len_sz (pf_a al (pf_o (pf_s sq a)))
        rw [el]
        refine br_t rfl ?_
        refine ye_s (c := 6) (u := 0) (v' := 0) (w' := 0) rfl (by omega) (by omega) (by omega) (by decide) (by decide) ?_
        dsimp only
        refine H3 gc 0 al sq a hr.symm h4 _ _ _ _ _ _ _ _ _ _ _ _ _ _ _ _ _ _ _ _ ?_ rfl
        refine cz_yp (by omega) (cz_fr (by omega) (fun j j1 j2 => ⟨pk_un (by omega), pk_un (by omega), pk_un (by omega), pk_un (by omega)⟩) h2.1) pk_us
      · intro e o az' h1 h2 h3 h4 h5
        dsimp only
        refine br_f (by decide) ?_
        rw [htz] at h3
        have := H4 gc 0 al sq a hr.symm h3 (nI e) si 1 (nI o) az' (nI ([] : List pf_F).length) (nI gc) bo bw b1 b2 od br sz jp gp cO cW c1 c2
        rw [← hcnt] at this
        exact this
    | cons fr rest =>
      refine br_f (mn_ne (b := 1) rfl (by rw [List.length_cons, List.length_cons]; omega) (by rw [List.length_cons, List.length_cons] at hlen ⊢; omega) (by omega)) ?_
      have := H2 gc _ hr.symm (by rw [List.length_cons, List.length_cons]; omega) en si la ta az (nI ((0, al, sq, a) :: fr :: rest).length) (nI gc) bo bw b1 b2 od br sz jp gp cO cW c1 c2
      rw [← hcnt] at this
      exact this
  | succ r ih =>
    intro i fu gc fs pl en si la ta az bo bw b1 b2 od br sz jp gp cO cW c1 c2 hi hfu hinv hlen hR hr
    obtain ⟨fu, rfl⟩ : ∃ m, fu = m + 1 := ⟨fu - 1, by omega⟩
    obtain ⟨tk, tok, tv⟩ := htk.2 i (by omega)
    have hinv0 := hinv
    obtain ⟨hgc, ⟨g, al, sq, a⟩, rest, rfl, hlow, hbot⟩ := hinv
    rw [List.length_cons] at hlen
    refine br_f (by rw [hcnt]; exact nI_ge (by omega) (by omega)) ⟨vp_in_nI (by omega) (by omega), vp_in_nI (by omega) (by omega), ?_⟩
    rw [nI_clamp (by omega), tk]
    refine ya_acc tok tv hgc (by omega) hlow hR ?_ ?_
    · intro hn
      dsimp only
      refine br_t rfl ?_
      exact H1 i (by rw [← hr, pt_rn hn]) _ _ _ _ _ _ _ _ _ _ _ _ _ _ _ _ _ _ _ _
    · intro gc' fs' hs en si la ta az bo bw b1 b2 od br sz jp gp cO cW c1 c2 hR'
      dsimp only
      obtain ⟨hinv', hlen'⟩ := pt_inv tok hinv0 hs
      rw [List.length_cons] at hlen'
      refine br_f (by decide) (nm_r (nI_1 i) ?_)
      exact ih (i + 1) fu gc' fs' _ en si la ta az bo bw b1 b2 od br sz jp gp cO cW c1 c2 (by omega) (by omega) hinv' (by omega) hR' (by rw [← hr, pt_rs hs])
theorem yc_compile (htk : tk_R cnt b_kind b_value K V) (hcnt : g_count = nI cnt) (hres : pt_run K V cnt 0 (0, [(0, none, none, none)]) = res)
    (H1 : ∀ j, res = .inl j → ∀ (en si la ta az dp gr : Int32) (bo bw b1 b2 od br sz jp gp cO cW c1 c2 : Nat → Int32), post 1 (g_count, nI j, en, si, la, 0, dp, gr, ta, az, g_length, 0, b_kind, b_value, bo, bw, b1, b2, cO, cW, c1, c2, od, br, sz, jp, gp, b_text, b_met, b_todo, b_notes)) (H2 : ∀ gc fs, res = .inr (gc, fs) → fs.length ≠ 1 → ∀ (en si la ta az dp gr : Int32) (bo bw b1 b2 od br sz jp gp cO cW c1 c2 : Nat → Int32), post 1 (g_count, nI cnt, en, si, la, 0, dp, gr, ta, az, g_length, 0, b_kind, b_value, bo, bw, b1, b2, cO, cW, c1, c2, od, br, sz, jp, gp, b_text, b_met, b_todo, b_notes)) (H3 : ∀ gc g al sq a, res = .inr (gc, [(g, al, sq, a)]) → tr_sz (pf_a al (pf_o (pf_s sq a))) ≤ 36 → ∀ (en si la ta az dp gr : Int32) (bo bw b1 b2 od br sz jp gp cO cW c1 c2 : Nat → Int32), yp_R (pf_a al (pf_o (pf_s sq a))) bo bw b1 b2 → en = nI (tr_len (pf_a al (pf_o (pf_s sq a))) + 1) → post 0 (g_count, -1, en, si, la, 1, dp, gr, ta, az, g_length, 0, b_kind, b_value, bo, bw, b1, b2, cO, cW, c1, c2, od, br, sz, jp, gp, b_text, b_met, b_todo, b_notes)) (H4 : ∀ gc g al sq a, res = .inr (gc, [(g, al, sq, a)]) → 36 < tr_sz (pf_a al (pf_o (pf_s sq a))) → ∀ (en si la ta az dp gr : Int32) (bo bw b1 b2 od br sz jp gp cO cW c1 c2 : Nat → Int32), post 2 (g_count, nI cnt, en, si, la, 0, dp, gr, ta, az, g_length, 0, b_kind, b_value, bo, bw, b1, b2, cO, cW, c1, c2, od, br, sz, jp, gp, b_text, b_met, b_todo, b_notes)) : wpY_compile post (g_count, g_place, g_end, g_size, g_large, g_ready, g_depth, g_groups, g_atom, g_atomSize, g_length, g_found, b_kind, b_value, b_op, b_with, b_one, b_two, b_copyOp, b_copyWith, b_copyOne, b_copyTwo, b_opened, b_branch, b_sizes, b_jumps, b_groupOf, b_text, b_met, b_todo, b_notes) := by
  unfold wpY_compile
  dsimp only
  refine yo_open (gn := 0) (by omega) [] (by decide) (Or.inl ⟨rfl, 0, rfl, rfl, rfl, by decide⟩) ?_
  intro en si la ta az bo bw b1 b2 od br sz jp gp hR
  dsimp only
  refine ⟨cnt + 1, ?_⟩
  exact yc_loop (g_ready := 0) (g_found := 0) htk hcnt H1 H2 H3 H4 cnt 0 _ 0 [(0, none, none, none)] _ en si la ta az bo bw b1 b2 od br sz jp gp _ _ _ _ (by omega) (by omega) ⟨by omega, _, _, rfl, (fun x hx => nomatch hx), rfl⟩ (by decide) hR hres
end YCQ
end
section
section CTP
/-! where an answer begins and ends; counting and marking in plain Lean -/
theorem tr_w0 : ∀ t p k j, (tr_g t p k j).1 = 5 → ¬ (tr_g t p k j).2.1 = 0 := by
  intro t
  induction t using tr_ind with
  | h0 => intro p k j h; exact absurd (show (4 : Nat) = 5 from h) (by decide)
  | h1 => intro p k j h; exact absurd (show (1 : Nat) = 5 from h) (by decide)
  | h2 b => intro p k j h; exact absurd (show (2 : Nat) = 5 from h) (by decide)
  | h3 s => intro p k j h; exact absurd (show (4 : Nat) = 5 from h) (by decide)
  | h4 i f => intro p k j h; exact absurd (show (0 : Nat) = 5 from h) (by decide)
  | h5 a b ha hb =>
    intro p k j
    unfold tr_g
    split
    · exact ha _ _ _
    · exact hb _ _ _
  | h6 a b c ha hb =>
    intro p k j
    unfold tr_g
    split
    · intro h; exact absurd (show (3 : Nat) = 5 from h) (by decide)
    · split
      · exact ha _ _ _
      · split
        · intro h; exact absurd (show (4 : Nat) = 5 from h) (by decide)
        · exact hb _ _ _
  | h7 f c hf =>
    intro p k j h
    cases f with
    | append a b => exact absurd rfl (hf a b)
    | nil => exact absurd (show (4 : Nat) = 5 from h) (by decide)
    | line => exact absurd (show (4 : Nat) = 5 from h) (by decide)
    | align _ => exact absurd (show (4 : Nat) = 5 from h) (by decide)
    | text _ => exact absurd (show (4 : Nat) = 5 from h) (by decide)
    | nest _ _ => exact absurd (show (4 : Nat) = 5 from h) (by decide)
    | group _ _ => exact absurd (show (4 : Nat) = 5 from h) (by decide)
    | tag _ _ => exact absurd (show (4 : Nat) = 5 from h) (by decide)
  | h8 u a ha =>
    intro p k j
    unfold tr_g
    split
    · split
      · intro h; exact absurd (show (3 : Nat) = 5 from h) (by decide)
      · split
        · exact ha _ _ _
        · intro h; exact absurd (show (4 : Nat) = 5 from h) (by decide)
    · split
      · split
        · intro h; exact absurd (show (3 : Nat) = 5 from h) (by decide)
        · exact ha _ _ _
      · split
        · intro _; show ¬ 2 * (u - 3) - 1 = 0; omega
        · split
          · exact ha _ _ _
          · intro _; show ¬ 2 * (u - 3) = 0; omega
theorem tr_W0 (t : Std.Format) : ∀ l, (tr_G t).1 l = 5 → ¬ (tr_G t).2.1 l = 0 := by
  intro l
  show (if l < tr_len t then (tr_g t 0 (tr_len t) l).1 else 6) = 5 → ¬ (if l < tr_len t then (tr_g t 0 (tr_len t) l).2.1 else 0) = 0
  split
  · exact tr_w0 t _ _ _
  · intro h; exact absurd h (by decide)
theorem ly_pl {α : Type} {G : gr_T} {e : gr_E} {nt : Nat → α → α} {P : α → Prop} (hn : ∀ l a, G.1 l = 5 → P a → P (nt (G.2.1 l) a)) {S : Nat → Bool} {A : List (Nat × α)} {S1 : Nat → Bool} {T1 : List (Nat × α)} {ov1 : Option α} (h : ly_R G e nt S A (S1, T1, ov1)) : (∀ t, t ∈ A → P t.2) → (∀ t, t ∈ T1 → P t.2) ∧ ∀ a, ov1 = some a → P a := by
  refine ly_ind (P := fun S A S1 T1 ov1 => (∀ t, t ∈ A → P t.2) → (∀ t, t ∈ T1 → P t.2) ∧ ∀ a, ov1 = some a → P a) ?_ ?_ ?_ ?_ ?_ ?_ S A S1 T1 ov1 h
  · intro S _; exact ⟨(fun t ht => nomatch ht), fun a h => nomatch h⟩
  · intro S l a st k c hA; exact ⟨(fun t ht => nomatch ht), fun a' h => by cases h; exact hA _ List.mem_cons_self⟩
  · intro S l a st S' T ov k c ih hA; exact ih (fun t ht => hA t (List.mem_cons_of_mem _ ht))
  · intro S l a st S' T ov k c ih hA; exact ih (fun t ht => hA t (List.mem_cons_of_mem _ ht))
  · intro S l a st S' T ov k c ih hA
    have ih := ih (fun t ht => hA t (List.mem_cons_of_mem _ ht))
    refine ⟨fun t ht => ?_, ih.2⟩
    rcases List.mem_cons.mp ht with rfl | ht
    · exact hA _ List.mem_cons_self
    · exact ih.1 t ht
  · intro S l a st S' T ov k k0 c ih hA
    refine ih (fun t ht => ?_)
    rcases List.mem_append.mp ht with h1 | h1
    · unfold gr_sx at h1
      obtain ⟨q, hq, rfl⟩ := List.mem_map.mp h1
      show P (gr_pl G nt l a)
      have := hA _ List.mem_cons_self
      unfold gr_pl
      split
      · exact hn l a ‹_› this
      · exact this
    · exact hA t (List.mem_cons_of_mem _ h1)
def pl_O (i0 i : Nat) (N : gr_N) : Prop := ∃ s, i0 ≤ s ∧ s ≤ i ∧ N 0 = nI s
theorem pl_fin {i0 i n : Nat} {ov : Option gr_N} {N : gr_N} (h : ∀ a, ov = some a → pl_O i0 i a) (hi : i ≤ n) (e : some N = pk_fin i ov) : ∃ s k, i0 ≤ s ∧ s ≤ k ∧ k ≤ n ∧ N 0 = nI s ∧ N 7 = nI k := by
  cases ov with
  | none => cases e
  | some M =>
    obtain ⟨s, h1, h2, h3⟩ := h M rfl
    cases e
    exact ⟨s, i, h1, h2, hi, by show upd M 7 (nI i) 0 = nI s; rw [pk_un (by decide)]; exact h3, pk_us⟩
theorem pk_pl {G : gr_T} {e0 : Nat} {tx : Nat → Nat} {wh : Bool} {n i0 : Nat} (hw : ∀ l, G.1 l = 5 → ¬ G.2.1 l = 0) : ∀ r i L sk N, i + r = n → i0 ≤ i → (∀ t, t ∈ L → pl_O i0 i t.2) → pk_R G e0 tx wh n r i L sk (some N) → ∃ s k, i0 ≤ s ∧ s ≤ k ∧ k ≤ n ∧ N 0 = nI s ∧ N 7 = nI k := by
  have hnt : ∀ i l a, G.1 l = 5 → pl_O i0 i a → pl_O i0 i (nt_a i (G.2.1 l) a) := by
    intro i l a h5 ⟨s, h1, h2, h3⟩
    have := hw l h5
    exact ⟨s, h1, h2, by show upd a (G.2.1 l) (nI i) 0 = _; rw [pk_un (fun z => this z.symm)]; exact h3⟩
  intro r
  induction r with
  | zero =>
    intro i L sk N hr hi hL h
    obtain ⟨S, T, ov, h, e⟩ := h
    exact pl_fin (ly_pl (hnt i) h hL).2 (by omega) e
  | succ r ih =>
    intro i L sk N hr hi hL h
    obtain ⟨S, T, ov, h, a', h', e⟩ := h
    obtain ⟨p1, p2⟩ := ly_pl (hnt i) h hL
    cases a' with
    | none => exact pl_fin p2 (by omega) e
    | some x =>
      have e : some N = some x := e
      cases e
      refine ih (i + 1) _ _ N (by omega) (by omega) ?_ h'
      intro t ht
      rcases List.mem_append.mp ht with h1 | h1
      · obtain ⟨l, hl, _, _⟩ := pk_nx_mem h1
        obtain ⟨s, k1, k2, k3⟩ := p1 _ hl
        exact ⟨s, k1, by omega, k3⟩
      · unfold pk_ss at h1
        split at h1
        · rcases List.mem_cons.mp h1 with rfl | h1
          · exact ⟨i + 1, by omega, by omega, rfl⟩
          · cases h1
        · cases h1
theorem pk_ex (t : Std.Format) (tx : Nat → Nat) (wh : Bool) (n i : Nat) (sk : Bool) : ∃ a, pk_R (tr_G t) (tr_e0 t) tx wh n (n - i) i [pk_sd (tr_e0 t) i] sk a := by
  refine pk_tot (tr_ok t) (tr_e0m t) (n - i) i [pk_sd (tr_e0 t) i] sk ?_
  intro x hx
  rcases List.mem_cons.mp hx with rfl | hx
  · exact tr_e0m t
  · cases hx
theorem pk_se {t : Std.Format} {tx : Nat → Nat} {wh : Bool} {n i : Nat} {sk : Bool} {N : gr_N} (hi : i ≤ n) (h : pk_R (tr_G t) (tr_e0 t) tx wh n (n - i) i [pk_sd (tr_e0 t) i] sk (some N)) : ∃ s k, i ≤ s ∧ s ≤ k ∧ k ≤ n ∧ N 0 = nI s ∧ N 7 = nI k := by
  refine pk_pl (tr_W0 t) (n - i) i _ _ N (by omega) (Nat.le_refl _) ?_ h
  intro x hx
  rcases List.mem_cons.mp hx with rfl | hx
  · exact ⟨i, Nat.le_refl _, Nat.le_refl _, rfl⟩
  · cases hx
section CTR
variable (t : Std.Format) (tx : Nat → Nat) (n : Nat)
def ct_R : Nat → Nat → Nat → Prop
  | 0, i, m => i = n + 1 ∧ m = 0
  | r + 1, i, m => (i = n + 1 ∧ m = 0) ∨ (i ≤ n ∧ ∃ a, pk_R (tr_G t) (tr_e0 t) tx false n (n - i) i [pk_sd (tr_e0 t) i] true a ∧ ((a = none ∧ m = 0) ∨ ∃ N s k m', a = some N ∧ i ≤ s ∧ s ≤ k ∧ k ≤ n ∧ N 0 = nI s ∧ N 7 = nI k ∧ m = m' + 1 ∧ ct_R r (if k ≤ s then k + 1 else k) m'))
theorem ct_tot : ∀ r i, n + 1 ≤ i + r → i ≤ n + 1 → ∃ m, ct_R t tx n r i m := by
  intro r
  induction r with
  | zero => intro i h1 h2; exact ⟨0, by omega, rfl⟩
  | succ r ih =>
    intro i h1 h2
    by_cases c : i = n + 1
    · exact ⟨0, Or.inl ⟨c, rfl⟩⟩
    · obtain ⟨a, ha⟩ := pk_ex t tx false n i true
      cases a with
      | none => exact ⟨0, Or.inr ⟨by omega, none, ha, Or.inl ⟨rfl, rfl⟩⟩⟩
      | some N =>
        obtain ⟨s, k, k1, k2, k3, k4, k5⟩ := pk_se (by omega) ha
        obtain ⟨m, hm⟩ := ih (if k ≤ s then k + 1 else k) (by split <;> omega) (by split <;> omega)
        exact ⟨m + 1, Or.inr ⟨by omega, some N, ha, Or.inr ⟨N, s, k, m, rfl, k1, k2, k3, k4, k5, rfl, hm⟩⟩⟩
def st_R : Nat → Nat → Int32 → Int32 → Prop
  | 0, _, x, y => x = y
  | r + 1, i, x, y => ∃ a, pk_R (tr_G t) (tr_e0 t) tx false n (n - i) i [pk_sd (tr_e0 t) i] false a ∧ (a = none → st_R r (i + 1) x y) ∧ ∀ N, a = some N → st_R r (i + 1) (x ||| ((1 : Int32) <<< (nI i &&& 31))) y
theorem st_tot : ∀ r i x, ∃ y, st_R t tx n r i x y := by
  intro r
  induction r with
  | zero => intro i x; exact ⟨x, rfl⟩
  | succ r ih =>
    intro i x
    obtain ⟨a, ha⟩ := pk_ex t tx false n i false
    cases a with
    | none =>
      obtain ⟨y, hy⟩ := ih (i + 1) x
      exact ⟨y, none, ha, fun _ => hy, fun N h => nomatch h⟩
    | some N =>
      obtain ⟨y, hy⟩ := ih (i + 1) (x ||| ((1 : Int32) <<< (nI i &&& 31)))
      exact ⟨y, some N, ha, (fun h => nomatch h), fun _ _ => hy⟩
end CTR
theorem pt_jl {K V : Nat → Nat} : ∀ r i s j, pt_run K V r i s = .inl j → j < i + r := by
  intro r
  induction r with
  | zero => intro i s j h; cases h
  | succ r ih =>
    intro i s j h
    cases c : pt_st (K i) (V i) s with
    | none => rw [pt_rn c] at h; cases h; omega
    | some s' => rw [pt_rs c] at h; have := ih _ _ _ h; omega
end CTP
end
section
section XLP
variable {f_count f_place f_there f_length f_nodes f_level f_groups f_size f_tasks f_threads f_added f_bank f_matchFrom f_matchNotes f_found f_states f_flushed : Int32} {a_tok a_val a_text a_nKind a_nC a_nA a_nB a_nSize a_lAlt a_lSeq a_lAtom a_lGroup a_op a_x a_y a_prefersPast a_tNode a_tArg a_pc a_newPc a_from a_noted a_notes a_seen a_stack a_stackNotes a_best a_kPc a_kCount a_kFlags a_next a_kMatch a_kMatchNotes a_kFrom a_kNotes : Nat → Int32}
variable {t : Std.Format} {tx : Nat → Nat} {n : Nat}
def zz_C (t : Std.Format) (ao : Nat → Int32) (st : Int32) (kp kc kf nx km ko kfr kno : Nat → Int32) : Prop := ∃ ns Q F, ns ≤ 12 ∧ st = nI ns ∧ ck_S t ao ns kp kc kf Q F ∧ ck_V t ao ns nx km ko kfr kno Q F
theorem xz_go (hP : xp_R t a_op a_x a_y a_prefersPast) (hsz : f_size = nI (tr_len t + 1)) (hct : gr_u (fun j => decide (¬ a_op j = 0)) (tr_len t + 1) ≤ 36) (hn : n ≤ 32) (hlen : f_length = nI n) (htx : ∀ j, j < n → a_text j = nI (tx j) ∧ tx j < 4) {post : SX → Prop} {i fl : Nat} {a : Option gr_N} (H : ∀ (th ad bk mf mo fd st flu : Int32) (pc np fr no nt sn sk so be kp kc kf nx km ko kfr kno : Nat → Int32), zz_C t a_op st kp kc kf nx km ko kfr kno → bs_R a fd be → post (f_count, f_place, f_there, f_length, f_nodes, f_level, f_groups, f_size, f_tasks, th, ad, bk, mf, mo, fd, st, flu, a_tok, a_val, a_text, a_nKind, a_nC, a_nA, a_nB, a_nSize, a_lAlt, a_lSeq, a_lAtom, a_lGroup, a_op, a_x, a_y, a_prefersPast, a_tNode, a_tArg, pc, np, fr, no, nt, sn, sk, so, be, kp, kc, kf, nx, km, ko, kfr, kno)) (hi : i ≤ n) (hfl : fl < 3) (hC : zz_C t a_op f_states a_kPc a_kCount a_kFlags a_next a_kMatch a_kMatchNotes a_kFrom a_kNotes)
    (hpk : pk_R (tr_G t) (tr_e0 t) tx (decide (fl = 2)) n (n - i) i [pk_sd (tr_e0 t) i] (decide (fl = 1)) a) : wpX_go post (f_count, f_place, f_there, f_length, f_nodes, f_level, f_groups, f_size, f_tasks, f_threads, f_added, f_bank, f_matchFrom, f_matchNotes, f_found, f_states, f_flushed, a_tok, a_val, a_text, a_nKind, a_nC, a_nA, a_nB, a_nSize, a_lAlt, a_lSeq, a_lAtom, a_lGroup, a_op, a_x, a_y, a_prefersPast, a_tNode, a_tArg, a_pc, a_newPc, a_from, a_noted, a_notes, a_seen, a_stack, a_stackNotes, a_best, a_kPc, a_kCount, a_kFlags, a_next, a_kMatch, a_kMatchNotes, a_kFrom, a_kNotes) (nI i) (nI fl) := by
  obtain ⟨ns, Q, F, h1, h2, h3, h4⟩ := hC
  refine xg_go hP hsz hct hn hlen htx ?_ hi hfl h1 h2 h3 h4 hpk
  intro ns Q F th ad bk mf mo fd flu pc np fr no nt sn sk so be kp kc kf nx km ko kfr kno k1 k2 k3 k4
  exact H th ad bk mf mo fd (nI ns) flu pc np fr no nt sn sk so be kp kc kf nx km ko kfr kno ⟨ns, Q, F, k1, rfl, k2, k3⟩ k4
theorem xc_12 (hP : xp_R t a_op a_x a_y a_prefersPast) (hsz : f_size = nI (tr_len t + 1)) (hct : gr_u (fun j => decide (¬ a_op j = 0)) (tr_len t + 1) ≤ 36) (hn : n ≤ 32) (hlen : f_length = nI n) (htx : ∀ j, j < n → a_text j = nI (tx j) ∧ tx j < 4) {post : Int32 → SX → Prop} {res : Nat} (H : ∀ (th ad bk mf mo fd st flu : Int32) (pc np fr no nt sn sk so be kp kc kf nx km ko kfr kno : Nat → Int32), zz_C t a_op st kp kc kf nx km ko kfr kno → fd = 0 → post (nI res) (f_count, f_place, f_there, f_length, f_nodes, f_level, f_groups, f_size, f_tasks, th, ad, bk, mf, mo, fd, st, flu, a_tok, a_val, a_text, a_nKind, a_nC, a_nA, a_nB, a_nSize, a_lAlt, a_lSeq, a_lAtom, a_lGroup, a_op, a_x, a_y, a_prefersPast, a_tNode, a_tArg, pc, np, fr, no, nt, sn, sk, so, be, kp, kc, kf, nx, km, ko, kfr, kno)) :
    ∀ r i m c fu (th ad bk mf mo fd st flu : Int32) (pc np fr no nt sn sk so be kp kc kf nx km ko kfr kno : Nat → Int32), ct_R t tx n r i m → c + m = res → r < fu → ¬ fd = 0 → zz_C t a_op st kp kc kf nx km ko kfr kno → wX_count_12 post fu (nI c) (nI i) f_count f_place f_there f_length f_nodes f_level f_groups f_size f_tasks th ad bk mf mo fd st flu a_tok a_val a_text a_nKind a_nC a_nA a_nB a_nSize a_lAlt a_lSeq a_lAtom a_lGroup a_op a_x a_y a_prefersPast a_tNode a_tArg pc np fr no nt sn sk so be kp kc kf nx km ko kfr kno := by
  have stop : ∀ c fu (th ad bk mf mo fd st flu : Int32) (pc np fr no nt sn sk so be kp kc kf nx km ko kfr kno : Nat → Int32), c = res → ¬ fd = 0 → zz_C t a_op st kp kc kf nx km ko kfr kno → wX_count_12 post (fu + 1) (nI c) (nI (n + 1)) f_count f_place f_there f_length f_nodes f_level f_groups f_size f_tasks th ad bk mf mo fd st flu a_tok a_val a_text a_nKind a_nC a_nA a_nB a_nSize a_lAlt a_lSeq a_lAtom a_lGroup a_op a_x a_y a_prefersPast a_tNode a_tArg pc np fr no nt sn sk so be kp kc kf nx km ko kfr kno := by
    intro c fu th ad bk mf mo fd st flu pc np fr no nt sn sk so be kp kc kf nx km ko kfr kno hc hfd hC
    subst hc
    exact br_f hfd (br_t (by rw [hlen]; exact nI_lt (by omega) (by omega)) (H th ad bk mf mo 0 st flu pc np fr no nt sn sk so be kp kc kf nx km ko kfr kno hC rfl))
  intro r
  induction r with
  | zero =>
    intro i m c fu th ad bk mf mo fd st flu pc np fr no nt sn sk so be kp kc kf nx km ko kfr kno h hc hfu hfd hC
    obtain ⟨fu, rfl⟩ : ∃ m, fu = m + 1 := ⟨fu - 1, by omega⟩
    obtain ⟨rfl, rfl⟩ := h
    exact stop c fu th ad bk mf mo fd st flu pc np fr no nt sn sk so be kp kc kf nx km ko kfr kno hc hfd hC
  | succ r ih =>
    intro i m c fu th ad bk mf mo fd st flu pc np fr no nt sn sk so be kp kc kf nx km ko kfr kno h hc hfu hfd hC
    obtain ⟨fu, rfl⟩ : ∃ m, fu = m + 1 := ⟨fu - 1, by omega⟩
    rcases h with ⟨rfl, rfl⟩ | ⟨hi, a, ha, h⟩
    · exact stop c fu th ad bk mf mo fd st flu pc np fr no nt sn sk so be kp kc kf nx km ko kfr kno hc hfd hC
    · refine br_f hfd (br_f (by rw [hlen]; exact nI_nlt hi (by omega)) ?_)
      refine xz_go hP hsz hct hn hlen htx (fl := 1) (a := a) ?_ hi (by decide) hC ha
      intro th ad bk mf mo fd st flu pc np fr no nt sn sk so be kp kc kf nx km ko kfr kno hC hb
      dsimp only
      rcases h with ⟨h1, rfl⟩ | ⟨N, s, k, m', h1, h2, h3, h4, h5, h6, rfl, h7⟩
      · have hf := hb.1 h1
        refine br_t hf ?_
        have hc : c = res := hc
        rw [hc]
        exact H th ad bk mf mo 0 st flu pc np fr no nt sn sk so be kp kc kf nx km ko kfr kno hC rfl
      · obtain ⟨hf, hbe⟩ := hb.2 N h1
        have hf0 : ¬ fd = 0 := by rw [hf]; decide
        refine br_f hf0 (nm_r (nI_1 c) ?_)
        rw [hbe 7 (by decide), hbe 0 (by decide), h5, h6]
        by_cases e : k ≤ s
        · rw [if_pos e] at h7
          exact br_t (nI_le e (by omega)) (nm_r (nI_1 k) (ih (k + 1) m' (c + 1) fu th ad bk mf mo fd st flu pc np fr no nt sn sk so be kp kc kf nx km ko kfr kno h7 (by omega) (by omega) hf0 hC))
        · rw [if_neg e] at h7
          exact br_f (nI_ge (by omega) (by omega)) (nm_r rfl (ih k m' (c + 1) fu th ad bk mf mo fd st flu pc np fr no nt sn sk so be kp kc kf nx km ko kfr kno h7 (by omega) (by omega) hf0 hC))
theorem xs_4 (hP : xp_R t a_op a_x a_y a_prefersPast) (hsz : f_size = nI (tr_len t + 1)) (hct : gr_u (fun j => decide (¬ a_op j = 0)) (tr_len t + 1) ≤ 36) (hn : n ≤ 32) (hlen : f_length = nI n) (htx : ∀ j, j < n → a_text j = nI (tx j) ∧ tx j < 4) {post : Int32 → SX → Prop} {res : Int32} (hth : ¬ f_there = 0) (H : ∀ (th ad bk mf mo fd st flu : Int32) (pc np fr no nt sn sk so be kp kc kf nx km ko kfr kno : Nat → Int32), zz_C t a_op st kp kc kf nx km ko kfr kno → fd = 0 → post res (f_count, f_place, f_there, f_length, f_nodes, f_level, f_groups, f_size, f_tasks, th, ad, bk, mf, mo, fd, st, flu, a_tok, a_val, a_text, a_nKind, a_nC, a_nA, a_nB, a_nSize, a_lAlt, a_lSeq, a_lAtom, a_lGroup, a_op, a_x, a_y, a_prefersPast, a_tNode, a_tArg, pc, np, fr, no, nt, sn, sk, so, be, kp, kc, kf, nx, km, ko, kfr, kno)) :
    ∀ r i x fu (th ad bk mf mo fd st flu : Int32) (pc np fr no nt sn sk so be kp kc kf nx km ko kfr kno : Nat → Int32), st_R t tx n r i x res → i + r = min 32 (n + 1) → r < fu → zz_C t a_op st kp kc kf nx km ko kfr kno → wX_starts_4 post fu x (nI i) f_count f_place f_there f_length f_nodes f_level f_groups f_size f_tasks th ad bk mf mo fd st flu a_tok a_val a_text a_nKind a_nC a_nA a_nB a_nSize a_lAlt a_lSeq a_lAtom a_lGroup a_op a_x a_y a_prefersPast a_tNode a_tArg pc np fr no nt sn sk so be kp kc kf nx km ko kfr kno := by
  intro r
  induction r with
  | zero =>
    intro i x fu th ad bk mf mo fd st flu pc np fr no nt sn sk so be kp kc kf nx km ko kfr kno h hi hfu hC
    obtain ⟨fu, rfl⟩ : ∃ m, fu = m + 1 := ⟨fu - 1, by omega⟩
    have h : x = res := h
    subst h
    have := H th ad bk mf mo 0 st flu pc np fr no nt sn sk so be kp kc kf nx km ko kfr kno hC rfl
    by_cases c : 32 ≤ i
    · exact br_t (nI_le c (by omega)) this
    · exact br_f (nI_ge (b := 32) (by omega) (by omega)) (br_t (by rw [hlen]; exact nI_lt (by omega) (by omega)) this)
  | succ r ih =>
    intro i x fu th ad bk mf mo fd st flu pc np fr no nt sn sk so be kp kc kf nx km ko kfr kno h hi hfu hC
    obtain ⟨fu, rfl⟩ : ∃ m, fu = m + 1 := ⟨fu - 1, by omega⟩
    obtain ⟨a, ha, h0, h1⟩ := h
    refine br_f (nI_ge (b := 32) (by omega) (by omega)) (br_f (by rw [hlen]; exact nI_nlt (by omega) (by omega)) (br_f hth ?_))
    refine xz_go hP hsz hct hn hlen htx (fl := 0) (a := a) ?_ (by omega) (by decide) hC ha
    intro th ad bk mf mo fd st flu pc np fr no nt sn sk so be kp kc kf nx km ko kfr kno hC hb
    dsimp only
    cases a with
    | none => exact br_t (hb.1 rfl) (nm_r (nI_1 i) (ih (i + 1) x fu th ad bk mf mo fd st flu pc np fr no nt sn sk so be kp kc kf nx km ko kfr kno (h0 rfl) (by omega) (by omega) hC))
    | some N => exact br_f (by rw [(hb.2 N rfl).1]; decide) (nm_r rfl (nm_r (nI_1 i) (ih (i + 1) _ fu th ad bk mf mo fd st flu pc np fr no nt sn sk so be kp kc kf nx km ko kfr kno (h1 N rfl) (by omega) (by omega) hC)))
end XLP
section YLP
variable {g_count g_place g_end g_size g_large g_ready g_depth g_groups g_atom g_atomSize g_length g_found : Int32} {b_kind b_value b_op b_with b_one b_two b_copyOp b_copyWith b_copyOne b_copyTwo b_opened b_branch b_sizes b_jumps b_groupOf b_text b_todo b_notes : Nat → Int32} {b_met : Nat → Int64}
variable {t : Std.Format} {tx : Nat → Nat} {n : Nat}
theorem yc_4 (hP : yp_R t b_op b_with b_one b_two) (hend : g_end = nI (tr_len t + 1)) (hct : gr_u (fun q => decide (¬ b_op q = 3 ∧ ¬ b_op q = 5)) (tr_len t + 1) ≤ 36) (hn : n ≤ 32) (hlen : g_length = nI n) (htx : ∀ j, j < n → b_text j = nI (tx j) ∧ tx j < 4) {post : Int32 → SY → Prop} {res : Nat} (hrd : ¬ g_ready = 0) (H : ∀ me td bn, post (nI res) (g_count, g_place, g_end, g_size, g_large, g_ready, g_depth, g_groups, g_atom, g_atomSize, g_length, 0, b_kind, b_value, b_op, b_with, b_one, b_two, b_copyOp, b_copyWith, b_copyOne, b_copyTwo, b_opened, b_branch, b_sizes, b_jumps, b_groupOf, b_text, me, td, bn)) :
    ∀ r i m c fu fd me td bn, ct_R t tx n r i m → c + m = res → r < fu → wY_count_4 post fu (nI c) (nI i) g_count g_place g_end g_size g_large g_ready g_depth g_groups g_atom g_atomSize g_length fd b_kind b_value b_op b_with b_one b_two b_copyOp b_copyWith b_copyOne b_copyTwo b_opened b_branch b_sizes b_jumps b_groupOf b_text me td bn := by
  have stop : ∀ c fu fd me td bn, c = res → wY_count_4 post (fu + 1) (nI c) (nI (n + 1)) g_count g_place g_end g_size g_large g_ready g_depth g_groups g_atom g_atomSize g_length fd b_kind b_value b_op b_with b_one b_two b_copyOp b_copyWith b_copyOne b_copyTwo b_opened b_branch b_sizes b_jumps b_groupOf b_text me td bn := by
    intro c fu fd me td bn hc
    subst hc
    exact br_f hrd (br_f (nI_pos (by omega)) (br_f (by rw [hlen]; exact nI_ge (by omega) (by omega)) (br_t rfl (H me td bn))))
  intro r
  induction r with
  | zero =>
    intro i m c fu fd me td bn h hc hfu
    obtain ⟨fu, rfl⟩ : ∃ m, fu = m + 1 := ⟨fu - 1, by omega⟩
    obtain ⟨rfl, rfl⟩ := h
    exact stop c fu fd me td bn hc
  | succ r ih =>
    intro i m c fu fd me td bn h hc hfu
    obtain ⟨fu, rfl⟩ : ∃ m, fu = m + 1 := ⟨fu - 1, by omega⟩
    rcases h with ⟨rfl, rfl⟩ | ⟨hi, a, ha, h⟩
    · exact stop c fu fd me td bn hc
    · unfold wY_count_4
      refine yf_find hP hend hct hn hlen htx hi hrd ha ?_
      intro fd me td bn f0 f1 hN
      dsimp only
      rcases h with ⟨h1, rfl⟩ | ⟨N, s, k, m', h1, h2, h3, h4, h5, h6, rfl, h7⟩
      · refine br_t (f0 h1) ?_
        have hc : c = res := hc
        rw [hc]
        exact H me td bn
      · obtain ⟨n0, n1, _⟩ := hN N h1
        refine br_f (by rw [f1 N h1]; decide) (nm_r (nI_1 c) ?_)
        rw [n0, n1, h5, h6]
        by_cases e : k ≤ s
        · rw [if_pos e] at h7
          exact br_t (nI_le e (by omega)) (nm_r (nI_1 k) (ih (k + 1) m' (c + 1) fu fd me td bn h7 (by omega) (by omega)))
        · rw [if_neg e] at h7
          exact br_f (nI_ge (by omega) (by omega)) (nm_r rfl (ih k m' (c + 1) fu fd me td bn h7 (by omega) (by omega)))
theorem ys_4 (hP : yp_R t b_op b_with b_one b_two) (hend : g_end = nI (tr_len t + 1)) (hct : gr_u (fun q => decide (¬ b_op q = 3 ∧ ¬ b_op q = 5)) (tr_len t + 1) ≤ 36) (hn : n ≤ 32) (hlen : g_length = nI n) (htx : ∀ j, j < n → b_text j = nI (tx j) ∧ tx j < 4) {post : Int32 → SY → Prop} {res : Int32} (hrd : ¬ g_ready = 0) (H : ∀ me td bn, post res (g_count, g_place, g_end, g_size, g_large, g_ready, g_depth, g_groups, g_atom, g_atomSize, g_length, 0, b_kind, b_value, b_op, b_with, b_one, b_two, b_copyOp, b_copyWith, b_copyOne, b_copyTwo, b_opened, b_branch, b_sizes, b_jumps, b_groupOf, b_text, me, td, bn)) :
    ∀ r i x fu me td bn, st_R t tx n r i x res → i + r = min 32 (n + 1) → r < fu → wY_starts_4 post fu x (nI i) g_count g_place g_end g_size g_large g_ready g_depth g_groups g_atom g_atomSize g_length g_found b_kind b_value b_op b_with b_one b_two b_copyOp b_copyWith b_copyOne b_copyTwo b_opened b_branch b_sizes b_jumps b_groupOf b_text me td bn := by
  intro r
  induction r with
  | zero =>
    intro i x fu me td bn h hi hfu
    obtain ⟨fu, rfl⟩ : ∃ m, fu = m + 1 := ⟨fu - 1, by omega⟩
    have h : x = res := h
    subst h
    have := H me td bn
    by_cases c : n < i
    · exact br_t (by rw [hlen]; exact nI_lt (by omega) (by omega)) this
    · exact br_f (by rw [hlen]; exact nI_nlt (by omega) (by omega)) (br_t (nI_le (a := 32) (by omega) (by omega)) this)
  | succ r ih =>
    intro i x fu me td bn h hi hfu
    obtain ⟨fu, rfl⟩ : ∃ m, fu = m + 1 := ⟨fu - 1, by omega⟩
    obtain ⟨a, ha, h0, h1⟩ := h
    refine br_f (by rw [hlen]; exact nI_nlt (by omega) (by omega)) (br_f (nI_ge (b := 32) (by omega) (by omega)) (br_f hrd ?_))
    refine ys_search (wh := false) (a := a) hP hend hct hn hlen htx ⟨(fun z => nomatch z), fun z => absurd rfl z⟩ ?_ ?_ (by omega) ha
    · intro N hN me td bn _ _ _
      dsimp only
      exact br_f (by decide) (nm_r rfl (nm_r (nI_1 i) (ih (i + 1) _ fu me td bn (h1 N hN) (by omega) (by omega))))
    · intro hN me td bn
      dsimp only
      exact br_t rfl (nm_r (nI_1 i) (ih (i + 1) x fu me td bn (h0 hN) (by omega) (by omega)))
end YLP
end
section
section RELD
def zz_K (fc gc : Int32) (tok val kd vl : Nat → Int32) : Prop := fc = gc ∧ tok = kd ∧ val = vl ∧ ∃ (cnt : Nat) (K V : Nat → Nat), fc = nI cnt ∧ tk_R cnt tok val K V
def zz_T (fl gl : Int32) (xt yt : Nat → Int32) : Prop := fl = gl ∧ xt = yt ∧ ∃ (n : Nat) (tx : Nat → Nat), n ≤ 32 ∧ fl = nI n ∧ ∀ j, j < n → xt j = nI (tx j) ∧ tx j < 4
def zz_F (ff gf : Int32) (be bn : Nat → Int32) : Prop := ff = gf ∧ (ff = 0 ∨ ff = 1) ∧ (ff = 1 → bn 0 = be 0 ∧ bn 1 = be 7 ∧ ∀ k, 1 ≤ k → k ≤ 6 → bn (k + 1) = be k)
def zz_P (ft gr fsz ge fst : Int32) (ao ax ay ap bo bw b1 b2 kp kc kf nx km ko kfr kno : Nat → Int32) : Prop := ft = gr ∧ (ft = 0 ∨ ft = 1) ∧ (¬ ft = 0 → ∃ t, xp_R t ao ax ay ap ∧ fsz = nI (tr_len t + 1) ∧ yp_R t bo bw b1 b2 ∧ ge = nI (tr_len t + 1) ∧ tr_sz t ≤ 36 ∧ zz_C t ao fst kp kc kf nx km ko kfr kno)
/-- the relation at the head of a turn whose first cell is k -/
def i_Rel (k : Nat) (u : SX) (v : SY) : Prop := match u with
  | (f_count, f_place, f_there, f_length, f_nodes, f_level, f_groups, f_size, f_tasks, f_threads, f_added, f_bank, f_matchFrom, f_matchNotes, f_found, f_states, f_flushed, a_tok, a_val, a_text, a_nKind, a_nC, a_nA, a_nB, a_nSize, a_lAlt, a_lSeq, a_lAtom, a_lGroup, a_op, a_x, a_y, a_prefersPast, a_tNode, a_tArg, a_pc, a_newPc, a_from, a_noted, a_notes, a_seen, a_stack, a_stackNotes, a_best, a_kPc, a_kCount, a_kFlags, a_next, a_kMatch, a_kMatchNotes, a_kFrom, a_kNotes) => match v with
    | (g_count, g_place, g_end, g_size, g_large, g_ready, g_depth, g_groups, g_atom, g_atomSize, g_length, g_found, b_kind, b_value, b_op, b_with, b_one, b_two, b_copyOp, b_copyWith, b_copyOne, b_copyTwo, b_opened, b_branch, b_sizes, b_jumps, b_groupOf, b_text, b_met, b_todo, b_notes) => zz_K f_count g_count a_tok a_val b_kind b_value ∧ f_place = g_place ∧ zz_T f_length g_length a_text b_text ∧ zz_F f_found g_found a_best b_notes ∧ zz_P f_there g_ready f_size g_end f_states a_op a_x a_y a_prefersPast b_op b_with b_one b_two a_kPc a_kCount a_kFlags a_next a_kMatch a_kMatchNotes a_kFrom a_kNotes
theorem i_up {k : Nat} {u : SX} {v : SY} (h : i_Rel k u v) : i_Rel (k + 3) u v := h
theorem zz_F0 {be bn : Nat → Int32} : zz_F 0 0 be bn := ⟨rfl, Or.inl rfl, fun h => absurd h (by decide)⟩
theorem i_vc0 : wpX_init (fun u => wpY_init (fun v => i_Rel 0 u v)) := by
  refine ⟨⟨rfl, rfl, rfl, 0, fun _ => 0, fun _ => 0, rfl, by omega, fun i h => by omega⟩, rfl, ⟨rfl, rfl, 0, fun _ => 0, by omega, rfl, fun j h => by omega⟩, zz_F0, rfl, Or.inl rfl, fun h => absurd rfl h⟩
end RELD
section TOK
variable {f_count f_place f_there f_length f_nodes f_level f_groups f_size f_tasks f_threads f_added f_bank f_matchFrom f_matchNotes f_found f_states f_flushed : Int32} {a_tok a_val a_text a_nKind a_nC a_nA a_nB a_nSize a_lAlt a_lSeq a_lAtom a_lGroup a_op a_x a_y a_prefersPast a_tNode a_tArg a_pc a_newPc a_from a_noted a_notes a_seen a_stack a_stackNotes a_best a_kPc a_kCount a_kFlags a_next a_kMatch a_kMatchNotes a_kFrom a_kNotes : Nat → Int32}
variable {g_count g_place g_end g_size g_large g_ready g_depth g_groups g_atom g_atomSize g_length g_found : Int32} {b_kind b_value b_op b_with b_one b_two b_copyOp b_copyWith b_copyOne b_copyTwo b_opened b_branch b_sizes b_jumps b_groupOf b_text b_todo b_notes : Nat → Int32} {b_met : Nat → Int64}
def zt_ok (v1 v2 fc : Int32) : Prop := ¬ v1 < 0 ∧ ¬ 15 < v1 ∧ ¬ fc = 24 ∧ (v1 = 0 → ¬ v2 < 0 ∧ ¬ 3 < v2) ∧ (v1 = 2 → ¬ v2 < 1 ∧ v2 ≤ 15) ∧ (v1 = 14 → ¬ v2 < 0 ∧ ¬ 36 < v2 ∧ ¬ 4 < (v2 &&& 7) ∧ ¬ (v2 &&& 7) < 1 ∧ (v2 >>> ((3 : Int32) &&& 31)) ≤ (v2 &&& 7))
theorem zt_d : ∀ m : Fin 37, nI m.val &&& 7 = nI (m.val % 8) ∧ nI m.val >>> ((3 : Int32) &&& 31) = nI (m.val / 8) ∧ nI m.val - nI m.val / 8 * 8 = nI m.val &&& 7 ∧ nI m.val / 8 = nI m.val >>> ((3 : Int32) &&& 31) := by decide +kernel
theorem zt_le {x : Int32} {b : Nat} (hb : b < 2 ^ 31) (h0 : ¬ x < 0) (h : ¬ nI b < x) : ∃ m, m ≤ b ∧ x = nI m := by
  obtain ⟨m, hm, rfl⟩ := nI_of h0
  exact ⟨m, Nat.le_of_not_lt (fun z => h (nI_lt z hm)), rfl⟩
theorem zt_x {post : Int32 → SX → Prop} {v1 v2 : Int32} (H0 : ¬ zt_ok v1 v2 f_count → post 0 (f_count, f_place, f_there, f_length, f_nodes, f_level, f_groups, f_size, f_tasks, f_threads, f_added, f_bank, f_matchFrom, f_matchNotes, f_found, f_states, f_flushed, a_tok, a_val, a_text, a_nKind, a_nC, a_nA, a_nB, a_nSize, a_lAlt, a_lSeq, a_lAtom, a_lGroup, a_op, a_x, a_y, a_prefersPast, a_tNode, a_tArg, a_pc, a_newPc, a_from, a_noted, a_notes, a_seen, a_stack, a_stackNotes, a_best, a_kPc, a_kCount, a_kFlags, a_next, a_kMatch, a_kMatchNotes, a_kFrom, a_kNotes)) (H1 : zt_ok v1 v2 f_count → wX_token_96 post v1 v2 f_count f_place f_there f_length f_nodes f_level f_groups f_size f_tasks f_threads f_added f_bank f_matchFrom f_matchNotes f_found f_states f_flushed a_tok a_val a_text a_nKind a_nC a_nA a_nB a_nSize a_lAlt a_lSeq a_lAtom a_lGroup a_op a_x a_y a_prefersPast a_tNode a_tArg a_pc a_newPc a_from a_noted a_notes a_seen a_stack a_stackNotes a_best a_kPc a_kCount a_kFlags a_next a_kMatch a_kMatchNotes a_kFrom a_kNotes) : wpX_token post (f_count, f_place, f_there, f_length, f_nodes, f_level, f_groups, f_size, f_tasks, f_threads, f_added, f_bank, f_matchFrom, f_matchNotes, f_found, f_states, f_flushed, a_tok, a_val, a_text, a_nKind, a_nC, a_nA, a_nB, a_nSize, a_lAlt, a_lSeq, a_lAtom, a_lGroup, a_op, a_x, a_y, a_prefersPast, a_tNode, a_tArg, a_pc, a_newPc, a_from, a_noted, a_notes, a_seen, a_stack, a_stackNotes, a_best, a_kPc, a_kCount, a_kFlags, a_next, a_kMatch, a_kMatchNotes, a_kFrom, a_kNotes) v1 v2 := by
  refine br_c (fun h => H0 (fun z => z.1 h)) (fun h1 => br_c (fun h => H0 (fun z => z.2.1 h)) (fun h2 => br_c (fun h => H0 (fun z => z.2.2.1 h)) (fun h3 => ?_)))
  have s52 : (v1 = 0 → ¬ v2 < 0 ∧ ¬ 3 < v2) → (v1 = 2 → ¬ v2 < 1 ∧ v2 ≤ 15) → wX_token_52 post v1 v2 f_count f_place f_there f_length f_nodes f_level f_groups f_size f_tasks f_threads f_added f_bank f_matchFrom f_matchNotes f_found f_states f_flushed a_tok a_val a_text a_nKind a_nC a_nA a_nB a_nSize a_lAlt a_lSeq a_lAtom a_lGroup a_op a_x a_y a_prefersPast a_tNode a_tArg a_pc a_newPc a_from a_noted a_notes a_seen a_stack a_stackNotes a_best a_kPc a_kCount a_kFlags a_next a_kMatch a_kMatchNotes a_kFrom a_kNotes := by
    intro k0 k2
    refine br_c (fun e => ?_) (fun e => H1 ⟨h1, h2, h3, k0, k2, fun z => absurd z e⟩)
    refine br_c (fun h => H0 (fun z => (z.2.2.2.2.2 e).1 h)) (fun c1 => br_c (fun h => H0 (fun z => (z.2.2.2.2.2 e).2.1 h)) (fun c2 => br_c (fun h => H0 (fun z => (z.2.2.2.2.2 e).2.2.1 h)) (fun c3 => br_c (fun h => H0 (fun z => (z.2.2.2.2.2 e).2.2.2.1 h)) (fun c4 => br_c (fun c5 => H1 ⟨h1, h2, h3, k0, k2, fun _ => ⟨c1, c2, c3, c4, c5⟩⟩) (fun h => H0 (fun z => h (z.2.2.2.2.2 e).2.2.2.2))))))
  have s34 : (v1 = 0 → ¬ v2 < 0 ∧ ¬ 3 < v2) → wX_token_34 post v1 v2 f_count f_place f_there f_length f_nodes f_level f_groups f_size f_tasks f_threads f_added f_bank f_matchFrom f_matchNotes f_found f_states f_flushed a_tok a_val a_text a_nKind a_nC a_nA a_nB a_nSize a_lAlt a_lSeq a_lAtom a_lGroup a_op a_x a_y a_prefersPast a_tNode a_tArg a_pc a_newPc a_from a_noted a_notes a_seen a_stack a_stackNotes a_best a_kPc a_kCount a_kFlags a_next a_kMatch a_kMatchNotes a_kFrom a_kNotes := by
    intro k0
    exact br_c (fun e => br_c (fun h => H0 (fun z => (z.2.2.2.2.1 e).1 h)) (fun c1 => br_c (fun c2 => s52 k0 (fun _ => ⟨c1, c2⟩)) (fun h => H0 (fun z => h (z.2.2.2.2.1 e).2)))) (fun e => s52 k0 (fun z => absurd z e))
  exact br_c (fun e => br_c (fun h => H0 (fun z => (z.2.2.2.1 e).1 h)) (fun c1 => br_c (fun h => H0 (fun z => (z.2.2.2.1 e).2 h)) (fun c2 => s34 (fun _ => ⟨c1, c2⟩)))) (fun e => s34 (fun z => absurd z e))
theorem zt_y {post : Int32 → SY → Prop} {v1 v2 : Int32} (H0 : ¬ zt_ok v1 v2 g_count → post 0 (g_count, g_place, g_end, g_size, g_large, g_ready, g_depth, g_groups, g_atom, g_atomSize, g_length, g_found, b_kind, b_value, b_op, b_with, b_one, b_two, b_copyOp, b_copyWith, b_copyOne, b_copyTwo, b_opened, b_branch, b_sizes, b_jumps, b_groupOf, b_text, b_met, b_todo, b_notes)) (H1 : zt_ok v1 v2 g_count → wY_token_97 post v1 v2 g_count g_place g_end g_size g_large g_ready g_depth g_groups g_atom g_atomSize g_length g_found b_kind b_value b_op b_with b_one b_two b_copyOp b_copyWith b_copyOne b_copyTwo b_opened b_branch b_sizes b_jumps b_groupOf b_text b_met b_todo b_notes) : wpY_token post (g_count, g_place, g_end, g_size, g_large, g_ready, g_depth, g_groups, g_atom, g_atomSize, g_length, g_found, b_kind, b_value, b_op, b_with, b_one, b_two, b_copyOp, b_copyWith, b_copyOne, b_copyTwo, b_opened, b_branch, b_sizes, b_jumps, b_groupOf, b_text, b_met, b_todo, b_notes) v1 v2 := by
  refine br_c (fun h => H0 (fun z => z.1 h)) (fun h1 => br_c (fun h => H0 (fun z => z.2.1 h)) (fun h2 => br_c (fun h => H0 (fun z => z.2.2.1 h)) (fun h3 => ?_)))
  have n8 : ¬ (8 : Int32) = 0 := by decide
  have s52 : (v1 = 0 → ¬ v2 < 0 ∧ ¬ 3 < v2) → (v1 = 2 → ¬ v2 < 1 ∧ v2 ≤ 15) → wY_token_52 post v1 v2 g_count g_place g_end g_size g_large g_ready g_depth g_groups g_atom g_atomSize g_length g_found b_kind b_value b_op b_with b_one b_two b_copyOp b_copyWith b_copyOne b_copyTwo b_opened b_branch b_sizes b_jumps b_groupOf b_text b_met b_todo b_notes := by
    intro k0 k2
    refine br_c (fun e => ?_) (fun e => H1 ⟨h1, h2, h3, k0, k2, fun z => absurd z e⟩)
    refine br_c (fun h => H0 (fun z => (z.2.2.2.2.2 e).1 h)) (fun c1 => br_c (fun h => H0 (fun z => (z.2.2.2.2.2 e).2.1 h)) (fun c2 => ?_))
    obtain ⟨m, hm, e2⟩ := zt_le (b := 36) (by decide) c1 c2
    have hd := zt_d ⟨m, by omega⟩
    have e3 : v2 - v2 / 8 * 8 = v2 &&& 7 := by rw [e2]; exact hd.2.2.1
    have e4 : v2 / 8 = v2 >>> ((3 : Int32) &&& 31) := by rw [e2]; exact hd.2.2.2
    rw [e3, e4]
    refine ⟨n8, br_c (fun h => H0 (fun z => (z.2.2.2.2.2 e).2.2.1 h)) (fun c3 => ⟨n8, br_c (fun h => H0 (fun z => (z.2.2.2.2.2 e).2.2.2.1 h)) (fun c4 => ⟨n8, n8, br_c (fun c5 => H1 ⟨h1, h2, h3, k0, k2, fun _ => ⟨c1, c2, c3, c4, c5⟩⟩) (fun h => H0 (fun z => h (z.2.2.2.2.2 e).2.2.2.2))⟩)⟩)⟩
  have s34 : (v1 = 0 → ¬ v2 < 0 ∧ ¬ 3 < v2) → wY_token_34 post v1 v2 g_count g_place g_end g_size g_large g_ready g_depth g_groups g_atom g_atomSize g_length g_found b_kind b_value b_op b_with b_one b_two b_copyOp b_copyWith b_copyOne b_copyTwo b_opened b_branch b_sizes b_jumps b_groupOf b_text b_met b_todo b_notes := by
    intro k0
    exact br_c (fun e => br_c (fun h => H0 (fun z => (z.2.2.2.2.1 e).1 h)) (fun c1 => br_c (fun c2 => s52 k0 (fun _ => ⟨c1, c2⟩)) (fun h => H0 (fun z => h (z.2.2.2.2.1 e).2)))) (fun e => s52 k0 (fun z => absurd z e))
  exact br_c (fun e => br_c (fun h => H0 (fun z => (z.2.2.2.1 e).1 h)) (fun c1 => br_c (fun h => H0 (fun z => (z.2.2.2.1 e).2 h)) (fun c2 => s34 (fun _ => ⟨c1, c2⟩)))) (fun e => s34 (fun z => absurd z e))
theorem zt_n {v1 v2 : Int32} {cnt : Nat} (h : zt_ok v1 v2 (nI cnt)) (hc : cnt ≤ 24) : cnt < 24 ∧ ∃ m u, v1 = nI m ∧ pt_ok m u ∧ (m = 0 ∨ m = 2 ∨ m = 14 → v2 = nI u) := by
  obtain ⟨h1, h2, h3, h4, h5, h6⟩ := h
  refine ⟨Nat.lt_of_le_of_ne hc (fun z => h3 (by rw [z]; rfl)), ?_⟩
  obtain ⟨m, hm, rfl⟩ := zt_le (b := 15) (by decide) h1 h2
  by_cases c0 : m = 0
  · subst c0
    obtain ⟨a, b⟩ := h4 rfl
    obtain ⟨u, hu, rfl⟩ := zt_le (b := 3) (by decide) a b
    exact ⟨0, u, rfl, ⟨by omega, fun _ => hu, fun z => absurd z (by decide), fun z => absurd z (by decide)⟩, fun _ => rfl⟩
  · by_cases c2 : m = 2
    · subst c2
      obtain ⟨a, b⟩ := h5 rfl
      have a0 : ¬ v2 < 0 := fun z => a (Int32.lt_trans z (by decide))
      obtain ⟨u, hu, rfl⟩ := nI_of a0
      have u15 : u ≤ 15 := (nI_leI (b := 15) hu (by decide)).mp b
      have u1 : 1 ≤ u := Nat.le_of_not_lt (fun z => a (nI_lt (b := 1) z (by decide)))
      exact ⟨2, u, rfl, ⟨by omega, fun z => absurd z (by decide), fun _ => ⟨u1, u15⟩, fun z => absurd z (by decide)⟩, fun _ => rfl⟩
    · by_cases c14 : m = 14
      · subst c14
        obtain ⟨a, b, c, d, e⟩ := h6 rfl
        obtain ⟨u, hu, rfl⟩ := zt_le (b := 36) (by decide) a b
        obtain ⟨d1, d2, _, _⟩ := zt_d ⟨u, by omega⟩
        have d1 : nI u &&& 7 = nI (u % 8) := d1
        have d2 : nI u >>> ((3 : Int32) &&& 31) = nI (u / 8) := d2
        rw [d1] at c d e
        rw [d2] at e
        have e1 : u % 8 ≤ 4 := Nat.le_of_not_lt (fun z => c (nI_lt (a := 4) z (by omega)))
        have e2 : 1 ≤ u % 8 := Nat.le_of_not_lt (fun z => d (nI_lt (b := 1) z (by decide)))
        have e3 : u / 8 ≤ u % 8 := (nI_leI (by omega) (by omega)).mp e
        exact ⟨14, u, rfl, ⟨by omega, fun z => absurd z (by decide), fun z => absurd z (by decide), fun _ => ⟨hu, e2, e1, e3⟩⟩, fun _ => rfl⟩
      · exact ⟨m, 0, rfl, ⟨hm, fun z => absurd z c0, fun z => absurd z c2, fun z => absurd z c14⟩, fun z => by omega⟩
theorem zt_k {tok val : Nat → Int32} {K V : Nat → Nat} {v1 v2 : Int32} {cnt m u : Nat} (h : tk_R cnt tok val K V) (hc : cnt < 24) (e1 : v1 = nI m) (ho : pt_ok m u) (e2 : m = 0 ∨ m = 2 ∨ m = 14 → v2 = nI u) : tk_R (cnt + 1) (upd tok cnt (vp_nar .byte v1.toInt8.toInt32)) (upd val cnt (vp_nar .byte v2.toInt8.toInt32)) (fun i => if i = cnt then m else K i) (fun i => if i = cnt then u else V i) := by
  refine ⟨by omega, fun i hi => ?_⟩
  dsimp only
  by_cases c : i = cnt
  · subst c
    rw [pk_us, pk_us, if_pos rfl, if_pos rfl, e1, mn_b1 (by have := ho.1; omega)]
    refine ⟨rfl, ho, fun z => ?_⟩
    rw [e2 z, mn_b1]
    obtain ⟨_, k0, k2, k14⟩ := ho
    rcases z with z | z | z
    · have := k0 z; omega
    · have := k2 z; omega
    · have := k14 z; omega
  · rw [pk_un c, pk_un c, if_neg c, if_neg c]
    exact h.2 i (by omega)
end TOK
theorem i_vc_token {k : Nat} {u : SX} {v : SY} (I : i_Rel k u v) (hk : k + 3 ≤ 1536) (v1 : Int32) (v2 : Int32) : wpX_token (fun r u' => wpY_token (fun r' v' => r' = r ∧ i_Rel (k + 3) u' v') v v1 v2) u v1 v2 := by
  obtain ⟨f_count, f_place, f_there, f_length, f_nodes, f_level, f_groups, f_size, f_tasks, f_threads, f_added, f_bank, f_matchFrom, f_matchNotes, f_found, f_states, f_flushed, a_tok, a_val, a_text, a_nKind, a_nC, a_nA, a_nB, a_nSize, a_lAlt, a_lSeq, a_lAtom, a_lGroup, a_op, a_x, a_y, a_prefersPast, a_tNode, a_tArg, a_pc, a_newPc, a_from, a_noted, a_notes, a_seen, a_stack, a_stackNotes, a_best, a_kPc, a_kCount, a_kFlags, a_next, a_kMatch, a_kMatchNotes, a_kFrom, a_kNotes⟩ := u
  obtain ⟨g_count, g_place, g_end, g_size, g_large, g_ready, g_depth, g_groups, g_atom, g_atomSize, g_length, g_found, b_kind, b_value, b_op, b_with, b_one, b_two, b_copyOp, b_copyWith, b_copyOne, b_copyTwo, b_opened, b_branch, b_sizes, b_jumps, b_groupOf, b_text, b_met, b_todo, b_notes⟩ := v
  have I0 := I
  obtain ⟨⟨rfl, rfl, rfl, cnt, K, V, rfl, htk⟩, hpl, hT, hF, hP⟩ := I
  refine zt_x (fun h => ?_) (fun h => ?_)
  · exact zt_y (fun _ => ⟨rfl, I0⟩) (fun z => absurd z h)
  · obtain ⟨hc, m, u, e1, ho, e2⟩ := zt_n h htk.1
    have hvp := vp_in_nI hc (by decide)
    unfold wX_token_96
    rw [nI_clamp (by omega)]
    refine ⟨hvp, nm_e (nm_r (nI_1 cnt) ⟨hvp, nm_e ?_⟩)⟩
    refine zt_y (fun z => absurd h z) (fun _ => ?_)
    unfold wY_token_97
    rw [nI_clamp (by omega)]
    refine ⟨hvp, nm_e (nm_r (nI_1 cnt) ⟨hvp, nm_e ⟨rfl, ⟨rfl, rfl, rfl, cnt + 1, _, _, rfl, zt_k htk hc e1 ho e2⟩, hpl, hT, hF, hP⟩⟩)⟩
theorem i_vc_wipe {k : Nat} {u : SX} {v : SY} (I : i_Rel k u v) (hk : k + 3 ≤ 1536) : wpX_wipe (fun r u' => wpY_wipe (fun r' v' => r' = r ∧ i_Rel (k + 3) u' v') v) u := by
  obtain ⟨f_count, f_place, f_there, f_length, f_nodes, f_level, f_groups, f_size, f_tasks, f_threads, f_added, f_bank, f_matchFrom, f_matchNotes, f_found, f_states, f_flushed, a_tok, a_val, a_text, a_nKind, a_nC, a_nA, a_nB, a_nSize, a_lAlt, a_lSeq, a_lAtom, a_lGroup, a_op, a_x, a_y, a_prefersPast, a_tNode, a_tArg, a_pc, a_newPc, a_from, a_noted, a_notes, a_seen, a_stack, a_stackNotes, a_best, a_kPc, a_kCount, a_kFlags, a_next, a_kMatch, a_kMatchNotes, a_kFrom, a_kNotes⟩ := u
  obtain ⟨g_count, g_place, g_end, g_size, g_large, g_ready, g_depth, g_groups, g_atom, g_atomSize, g_length, g_found, b_kind, b_value, b_op, b_with, b_one, b_two, b_copyOp, b_copyWith, b_copyOne, b_copyTwo, b_opened, b_branch, b_sizes, b_jumps, b_groupOf, b_text, b_met, b_todo, b_notes⟩ := v
  obtain ⟨⟨e1, e2, e3, cnt, K, V, hc, htk⟩, hr⟩ := I
  exact ⟨e1.symm, ⟨rfl, e2, e3, 0, K, V, rfl, by omega, fun i h => by omega⟩, hr⟩
theorem i_vc_place {k : Nat} {u : SX} {v : SY} (I : i_Rel k u v) (hk : k + 3 ≤ 1536) : wpX_place (fun r => wpY_place (fun r' => r' = r ∧ i_Rel (k + 3) u v) v) u := by
  obtain ⟨f_count, f_place, f_there, f_length, f_nodes, f_level, f_groups, f_size, f_tasks, f_threads, f_added, f_bank, f_matchFrom, f_matchNotes, f_found, f_states, f_flushed, a_tok, a_val, a_text, a_nKind, a_nC, a_nA, a_nB, a_nSize, a_lAlt, a_lSeq, a_lAtom, a_lGroup, a_op, a_x, a_y, a_prefersPast, a_tNode, a_tArg, a_pc, a_newPc, a_from, a_noted, a_notes, a_seen, a_stack, a_stackNotes, a_best, a_kPc, a_kCount, a_kFlags, a_next, a_kMatch, a_kMatchNotes, a_kFrom, a_kNotes⟩ := u
  obtain ⟨g_count, g_place, g_end, g_size, g_large, g_ready, g_depth, g_groups, g_atom, g_atomSize, g_length, g_found, b_kind, b_value, b_op, b_with, b_one, b_two, b_copyOp, b_copyWith, b_copyOne, b_copyTwo, b_opened, b_branch, b_sizes, b_jumps, b_groupOf, b_text, b_met, b_todo, b_notes⟩ := v
  exact ⟨I.2.1.symm, I⟩
theorem i_vc_type {k : Nat} {u : SX} {v : SY} (I : i_Rel k u v) (hk : k + 3 ≤ 1536) (v1 : Int32) : wpX_type (fun r u' => wpY_type (fun r' v' => r' = r ∧ i_Rel (k + 3) u' v') v v1) u v1 := by
  obtain ⟨f_count, f_place, f_there, f_length, f_nodes, f_level, f_groups, f_size, f_tasks, f_threads, f_added, f_bank, f_matchFrom, f_matchNotes, f_found, f_states, f_flushed, a_tok, a_val, a_text, a_nKind, a_nC, a_nA, a_nB, a_nSize, a_lAlt, a_lSeq, a_lAtom, a_lGroup, a_op, a_x, a_y, a_prefersPast, a_tNode, a_tArg, a_pc, a_newPc, a_from, a_noted, a_notes, a_seen, a_stack, a_stackNotes, a_best, a_kPc, a_kCount, a_kFlags, a_next, a_kMatch, a_kMatchNotes, a_kFrom, a_kNotes⟩ := u
  obtain ⟨g_count, g_place, g_end, g_size, g_large, g_ready, g_depth, g_groups, g_atom, g_atomSize, g_length, g_found, b_kind, b_value, b_op, b_with, b_one, b_two, b_copyOp, b_copyWith, b_copyOne, b_copyTwo, b_opened, b_branch, b_sizes, b_jumps, b_groupOf, b_text, b_met, b_todo, b_notes⟩ := v
  have I0 := I
  obtain ⟨hK, hpl, ⟨rfl, rfl, n, tx, hn, rfl, htx⟩, hF, hP⟩ := I
  refine br_c (fun h => br_t h ⟨rfl, I0⟩) (fun h1 => br_c (fun h => br_f h1 (br_t h ⟨rfl, I0⟩)) (fun h2 => br_c (fun h => br_f h1 (br_f h2 (br_t h ⟨rfl, I0⟩))) (fun h3 => ?_)))
  have hc : n < 32 := Nat.lt_of_le_of_ne hn (fun z => h3 (by rw [z]; rfl))
  have hvp := vp_in_nI hc (by decide)
  obtain ⟨m, hm, rfl⟩ := zt_le (b := 3) (by decide) h1 h2
  rw [nI_clamp (by omega)]
  refine nm_r (nI_1 n) ⟨hvp, nm_e ?_⟩
  refine br_f h1 (br_f h2 (br_f h3 (nm_r (nI_1 n) ⟨hvp, ?_⟩)))
  rw [nI_clamp (by omega)]
  refine nm_e ⟨rfl, hK, hpl, ⟨rfl, rfl, n + 1, fun j => if j = n then m else tx j, by omega, rfl, fun j hj => ?_⟩, hF, hP⟩
  dsimp only
  by_cases c : j = n
  · subst c
    rw [pk_us, if_pos rfl, mn_b1 (by omega)]
    exact ⟨rfl, by omega⟩
  · rw [pk_un c, if_neg c]
    exact htx j (by omega)
theorem i_vc_cut {k : Nat} {u : SX} {v : SY} (I : i_Rel k u v) (hk : k + 3 ≤ 1536) (v1 : Int32) : wpX_cut (fun r u' => wpY_cut (fun r' v' => r' = r ∧ i_Rel (k + 3) u' v') v v1) u v1 := by
  obtain ⟨f_count, f_place, f_there, f_length, f_nodes, f_level, f_groups, f_size, f_tasks, f_threads, f_added, f_bank, f_matchFrom, f_matchNotes, f_found, f_states, f_flushed, a_tok, a_val, a_text, a_nKind, a_nC, a_nA, a_nB, a_nSize, a_lAlt, a_lSeq, a_lAtom, a_lGroup, a_op, a_x, a_y, a_prefersPast, a_tNode, a_tArg, a_pc, a_newPc, a_from, a_noted, a_notes, a_seen, a_stack, a_stackNotes, a_best, a_kPc, a_kCount, a_kFlags, a_next, a_kMatch, a_kMatchNotes, a_kFrom, a_kNotes⟩ := u
  obtain ⟨g_count, g_place, g_end, g_size, g_large, g_ready, g_depth, g_groups, g_atom, g_atomSize, g_length, g_found, b_kind, b_value, b_op, b_with, b_one, b_two, b_copyOp, b_copyWith, b_copyOne, b_copyTwo, b_opened, b_branch, b_sizes, b_jumps, b_groupOf, b_text, b_met, b_todo, b_notes⟩ := v
  obtain ⟨hK, hpl, ⟨rfl, rfl, n, tx, hn, rfl, htx⟩, hF, hP⟩ := I
  have done : ∀ m, m ≤ n → zz_T (nI n - nI m) (nI n - nI m) a_text a_text := by
    intro m hm
    rw [pk_sub hm]
    exact ⟨rfl, rfl, n - m, tx, by omega, rfl, fun j hj => htx j (by omega)⟩
  refine br_c (fun h1 => ?_) (fun h1 => ?_)
  · have h0 : ¬ v1 < 0 := fun z => by
      have := Int32.lt_of_le_of_lt h1 z
      exact absurd this (by decide)
    obtain ⟨m, hm, rfl⟩ := nI_of h0
    by_cases c : m ≤ n
    · refine br_t (nI_le c (by omega)) (nm_e ?_)
      refine br_t h1 ?_
      by_cases c2 : n ≤ m
      · have : m = n := by omega
        subst this
        exact br_t (nI_le c2 (by omega)) (nm_e ⟨rfl, hK, hpl, done m c, hF, hP⟩)
      · exact br_f (nI_ge (by omega) (by omega)) (nm_e ⟨rfl, hK, hpl, done m c, hF, hP⟩)
    · refine br_f (nI_ge (by omega) (by omega)) (nm_e ?_)
      exact br_t h1 (br_t (nI_le (by omega) (by omega)) (nm_e ⟨rfl, hK, hpl, done n (Nat.le_refl _), hF, hP⟩))
  · exact nm_e (br_f h1 (nm_e ⟨rfl, hK, hpl, done 0 (Nat.zero_le _), hF, hP⟩))
end
section
theorem zz_FF {a : Option gr_N} {ff gf : Int32} {be bn : Nat → Int32} (h : bs_R a ff be) (h0 : a = none → gf = 0) (h1 : ∀ N, a = some N → gf = 1) (hN : ∀ N, a = some N → bn 0 = N 0 ∧ bn 1 = N 7 ∧ ∀ k, 1 ≤ k → k ≤ 6 → bn (k + 1) = N k) : zz_F ff gf be bn := by
  cases a with
  | none =>
    rw [h.1 rfl, h0 rfl]; exact zz_F0
  | some N =>
    obtain ⟨e1, e2⟩ := h.2 N rfl
    obtain ⟨n0, n1, n2⟩ := hN N rfl
    refine ⟨by rw [e1, h1 N rfl], Or.inr e1, fun _ => ⟨by rw [n0, e2 0 (by decide)], by rw [n1, e2 7 (by decide)], fun k k1 k6 => by rw [n2 k k1 k6, e2 k (by omega)]⟩⟩
theorem zz_b {a : Option gr_N} {ff : Int32} {be : Nat → Int32} (h : bs_R a ff be) : narrow .boolean (.int ff) = .int ff := by
  cases a with
  | none => rw [h.1 rfl]; exact na_b0
  | some N => rw [(h.2 N rfl).1]; exact na_b1
theorem i_vc_find {k : Nat} {u : SX} {v : SY} (I : i_Rel k u v) (hk : k + 3 ≤ 1536) (v1 : Int32) : wpX_find (fun r u' => wpY_find (fun r' v' => r' = r ∧ i_Rel (k + 3) u' v') v v1) u v1 := by
  obtain ⟨f_count, f_place, f_there, f_length, f_nodes, f_level, f_groups, f_size, f_tasks, f_threads, f_added, f_bank, f_matchFrom, f_matchNotes, f_found, f_states, f_flushed, a_tok, a_val, a_text, a_nKind, a_nC, a_nA, a_nB, a_nSize, a_lAlt, a_lSeq, a_lAtom, a_lGroup, a_op, a_x, a_y, a_prefersPast, a_tNode, a_tArg, a_pc, a_newPc, a_from, a_noted, a_notes, a_seen, a_stack, a_stackNotes, a_best, a_kPc, a_kCount, a_kFlags, a_next, a_kMatch, a_kMatchNotes, a_kFrom, a_kNotes⟩ := u
  obtain ⟨g_count, g_place, g_end, g_size, g_large, g_ready, g_depth, g_groups, g_atom, g_atomSize, g_length, g_found, b_kind, b_value, b_op, b_with, b_one, b_two, b_copyOp, b_copyWith, b_copyOne, b_copyTwo, b_opened, b_branch, b_sizes, b_jumps, b_groupOf, b_text, b_met, b_todo, b_notes⟩ := v
  obtain ⟨hK, hpl, ⟨rfl, rfl, n, tx, hn, hln, htx⟩, hF, ⟨rfl, hb, hP⟩⟩ := I
  refine br_c (fun h => ?_) (fun h1 => ?_)
  · exact br_t h ⟨rfl, hK, hpl, ⟨rfl, rfl, n, tx, hn, hln, htx⟩, zz_F0, rfl, hb, hP⟩
  obtain ⟨t, p1, p2, p3, p4, p5, p6⟩ := hP h1
  refine br_c (fun h => ?_) (fun h2 => ?_)
  · exact br_f h1 (br_t h ⟨rfl, hK, hpl, ⟨rfl, rfl, n, tx, hn, hln, htx⟩, zz_F0, rfl, hb, hP⟩)
  obtain ⟨i, hi, rfl⟩ := nI_of h2
  by_cases c : n < i
  · refine br_t (by rw [hln]; exact nI_lt c hi) ?_
    exact br_f h1 (br_f h2 (br_f (by rw [hln]; exact nI_ge c hi) ⟨rfl, hK, hpl, ⟨rfl, rfl, n, tx, hn, hln, htx⟩, zz_F0, rfl, hb, hP⟩))
  · obtain ⟨a, ha⟩ := pk_ex t tx false n i true
    refine br_f (by rw [hln]; exact nI_nlt (by omega) (by omega)) ?_
    refine xz_go p1 p2 (ct_X p1 p5) hn hln htx (fl := 1) (a := a) ?_ (by omega) (by decide) p6 ha
    intro th ad bk mf mo fd st flu pc np fr no nt sn sk so be kp kc kf nx km ko kfr kno hC hbs
    dsimp only
    refine ⟨zz_b hbs, ?_⟩
    refine yf_find p3 p4 (ct_Y p3 p5) hn hln htx (by omega) h1 ha ?_
    intro gf me td bn k0 k1 k2
    have hf := zz_FF hbs k0 k1 k2
    exact ⟨hf.1.symm, hK, hpl, ⟨rfl, rfl, n, tx, hn, hln, htx⟩, hf, rfl, hb, fun _ => ⟨t, p1, p2, p3, p4, p5, hC⟩⟩
theorem i_vc_whole {k : Nat} {u : SX} {v : SY} (I : i_Rel k u v) (hk : k + 3 ≤ 1536) : wpX_whole (fun r u' => wpY_whole (fun r' v' => r' = r ∧ i_Rel (k + 3) u' v') v) u := by
  obtain ⟨f_count, f_place, f_there, f_length, f_nodes, f_level, f_groups, f_size, f_tasks, f_threads, f_added, f_bank, f_matchFrom, f_matchNotes, f_found, f_states, f_flushed, a_tok, a_val, a_text, a_nKind, a_nC, a_nA, a_nB, a_nSize, a_lAlt, a_lSeq, a_lAtom, a_lGroup, a_op, a_x, a_y, a_prefersPast, a_tNode, a_tArg, a_pc, a_newPc, a_from, a_noted, a_notes, a_seen, a_stack, a_stackNotes, a_best, a_kPc, a_kCount, a_kFlags, a_next, a_kMatch, a_kMatchNotes, a_kFrom, a_kNotes⟩ := u
  obtain ⟨g_count, g_place, g_end, g_size, g_large, g_ready, g_depth, g_groups, g_atom, g_atomSize, g_length, g_found, b_kind, b_value, b_op, b_with, b_one, b_two, b_copyOp, b_copyWith, b_copyOne, b_copyTwo, b_opened, b_branch, b_sizes, b_jumps, b_groupOf, b_text, b_met, b_todo, b_notes⟩ := v
  obtain ⟨hK, hpl, ⟨rfl, rfl, n, tx, hn, hln, htx⟩, hF, ⟨rfl, hb, hP⟩⟩ := I
  refine br_c (fun h => ?_) (fun h1 => ?_)
  · exact br_t h ⟨rfl, hK, hpl, ⟨rfl, rfl, n, tx, hn, hln, htx⟩, zz_F0, rfl, hb, hP⟩
  obtain ⟨t, p1, p2, p3, p4, p5, p6⟩ := hP h1
  obtain ⟨a, ha⟩ := pk_ex t tx true n 0 false
  refine xz_go p1 p2 (ct_X p1 p5) hn hln htx (i := 0) (fl := 2) (a := a) ?_ (by omega) (by decide) p6 ha
  intro th ad bk mf mo fd st flu pc np fr no nt sn sk so be kp kc kf nx km ko kfr kno hC hbs
  dsimp only
  refine ⟨zz_b hbs, br_f h1 ?_⟩
  refine ys_search (wh := true) (s := 0) (x2 := 1) (a := a) p3 p4 (ct_Y p3 p5) hn hln htx ⟨fun _ => by decide, fun _ => rfl⟩ ?_ ?_ (by omega) ha
  · intro N hN me td bn n0 n1 n2
    have hf := zz_FF (gf := 1) (bn := bn) hbs (fun z => by rw [hN] at z; cases z) (fun _ _ => rfl) (fun N' h => by rw [hN] at h; cases h; exact ⟨n0, n1, n2⟩)
    exact br_f (by decide) ⟨hf.1.symm, hK, hpl, ⟨rfl, rfl, n, tx, hn, hln, htx⟩, hf, rfl, hb, fun _ => ⟨t, p1, p2, p3, p4, p5, hC⟩⟩
  · intro hN me td bn
    have hf := zz_FF (gf := 0) (bn := bn) hbs (fun _ => rfl) (fun N' h => by rw [hN] at h; cases h) (fun N' h => by rw [hN] at h; cases h)
    exact br_t rfl ⟨hf.1.symm, hK, hpl, ⟨rfl, rfl, n, tx, hn, hln, htx⟩, hf, rfl, hb, fun _ => ⟨t, p1, p2, p3, p4, p5, hC⟩⟩
theorem zz_2 : ∀ g : Fin 4, 2 * nI g.val = nI (2 * g.val) ∧ 2 * nI g.val + 1 = nI (2 * g.val + 1) ∧ (1 ≤ g.val → 2 * nI g.val - 1 = nI (2 * g.val - 1)) := by decide +kernel
theorem i_vc_group {k : Nat} {u : SX} {v : SY} (I : i_Rel k u v) (hk : k + 3 ≤ 1536) (v1 : Int32) (v2 : Int32) : wpX_group (fun r => wpY_group (fun r' => r' = r ∧ i_Rel (k + 3) u v) v v1 (lw_bz v2)) u v1 (lw_bz v2) := by
  obtain ⟨f_count, f_place, f_there, f_length, f_nodes, f_level, f_groups, f_size, f_tasks, f_threads, f_added, f_bank, f_matchFrom, f_matchNotes, f_found, f_states, f_flushed, a_tok, a_val, a_text, a_nKind, a_nC, a_nA, a_nB, a_nSize, a_lAlt, a_lSeq, a_lAtom, a_lGroup, a_op, a_x, a_y, a_prefersPast, a_tNode, a_tArg, a_pc, a_newPc, a_from, a_noted, a_notes, a_seen, a_stack, a_stackNotes, a_best, a_kPc, a_kCount, a_kFlags, a_next, a_kMatch, a_kMatchNotes, a_kFrom, a_kNotes⟩ := u
  obtain ⟨g_count, g_place, g_end, g_size, g_large, g_ready, g_depth, g_groups, g_atom, g_atomSize, g_length, g_found, b_kind, b_value, b_op, b_with, b_one, b_two, b_copyOp, b_copyWith, b_copyOne, b_copyTwo, b_opened, b_branch, b_sizes, b_jumps, b_groupOf, b_text, b_met, b_todo, b_notes⟩ := v
  have I0 := I
  obtain ⟨hK, hpl, hT, ⟨rfl, hb, hN⟩, hP⟩ := I
  refine br_c (fun h => br_t h ⟨rfl, I0⟩) (fun h1 => br_c (fun h => br_f h1 (br_t h ⟨rfl, I0⟩)) (fun h2 => ?_))
  obtain ⟨n0, n1, n2⟩ := hN (hb.resolve_left h1)
  obtain ⟨g, hg, rfl⟩ := nI_of h2
  refine br_c (fun h3 => ?_) (fun h3 => br_f h1 (br_f h2 (br_f h3 ⟨rfl, I0⟩)))
  have g3 : g ≤ 3 := (nI_leI (b := 3) hg (by decide)).mp h3
  obtain ⟨z1, z2, z3⟩ := zz_2 ⟨g, by omega⟩
  have z1 : 2 * nI g = nI (2 * g) := z1
  have z2 : 2 * nI g + 1 = nI (2 * g + 1) := z2
  by_cases c : g = 0
  · subst c
    refine br_t rfl (br_c (fun h => ?_) (fun h => ?_))
    · exact br_f h1 (br_f h2 (br_t h3 (br_t h ⟨vp_in_nI (n := 0) (N := 8) (by decide) (by decide), n0, I0⟩)))
    · exact br_f h1 (br_f h2 (br_t h3 (br_f h ⟨vp_in_nI (n := 1) (N := 8) (by decide) (by decide), n1, I0⟩)))
  · have z3 : 2 * nI g - 1 = nI (2 * g - 1) := z3 (by show 1 ≤ g; omega)
    refine br_f (mn_ne (b := 0) rfl c hg (by decide)) (br_c (fun h => ?_) (fun h => ?_))
    · rw [z3, nI_clamp (by omega)]
      refine ⟨vp_in_nI (by omega) (by omega), br_f h1 (br_f h2 (br_t h3 (br_t h ?_)))⟩
      rw [z1, nI_clamp (by omega)]
      refine ⟨vp_in_nI (by omega) (by omega), ?_, I0⟩
      have := n2 (2 * g - 1) (by omega) (by omega)
      rw [show 2 * g - 1 + 1 = 2 * g by omega] at this
      exact this
    · rw [z1, nI_clamp (by omega)]
      refine ⟨vp_in_nI (by omega) (by omega), br_f h1 (br_f h2 (br_t h3 (br_f h ?_)))⟩
      rw [z2, nI_clamp (by omega)]
      exact ⟨vp_in_nI (by omega) (by omega), n2 (2 * g) (by omega) (by omega), I0⟩
theorem i_vc_count {k : Nat} {u : SX} {v : SY} (I : i_Rel k u v) (hk : k + 3 ≤ 1536) : wpX_count (fun r u' => wpY_count (fun r' v' => r' = r ∧ i_Rel (k + 3) u' v') v) u := by
  obtain ⟨f_count, f_place, f_there, f_length, f_nodes, f_level, f_groups, f_size, f_tasks, f_threads, f_added, f_bank, f_matchFrom, f_matchNotes, f_found, f_states, f_flushed, a_tok, a_val, a_text, a_nKind, a_nC, a_nA, a_nB, a_nSize, a_lAlt, a_lSeq, a_lAtom, a_lGroup, a_op, a_x, a_y, a_prefersPast, a_tNode, a_tArg, a_pc, a_newPc, a_from, a_noted, a_notes, a_seen, a_stack, a_stackNotes, a_best, a_kPc, a_kCount, a_kFlags, a_next, a_kMatch, a_kMatchNotes, a_kFrom, a_kNotes⟩ := u
  obtain ⟨g_count, g_place, g_end, g_size, g_large, g_ready, g_depth, g_groups, g_atom, g_atomSize, g_length, g_found, b_kind, b_value, b_op, b_with, b_one, b_two, b_copyOp, b_copyWith, b_copyOne, b_copyTwo, b_opened, b_branch, b_sizes, b_jumps, b_groupOf, b_text, b_met, b_todo, b_notes⟩ := v
  obtain ⟨hK, hpl, ⟨rfl, rfl, n, tx, hn, hln, htx⟩, hF, ⟨rfl, hb, hP⟩⟩ := I
  refine ⟨by rcases hb with h | h <;> rw [h] <;> decide, by rcases hb with h | h <;> rw [h] <;> decide, ?_⟩
  by_cases h1 : f_there = 0
  · refine ⟨1, br_t h1 ⟨1, ?_⟩⟩
    exact br_t h1 (br_t rfl ⟨rfl, hK, hpl, ⟨rfl, rfl, n, tx, hn, hln, htx⟩, zz_F0, rfl, hb, hP⟩)
  · obtain ⟨t, p1, p2, p3, p4, p5, p6⟩ := hP h1
    obtain ⟨m, hm⟩ := ct_tot t tx n (n + 1) 0 (by omega) (by omega)
    refine ⟨n + 2, xc_12 p1 p2 (ct_X p1 p5) hn hln htx (res := m) ?_ (n + 1) 0 m 0 (n + 2) _ _ _ _ _ _ _ _ _ _ _ _ _ _ _ _ _ _ _ _ _ _ _ _ _ hm (by omega) (by omega) h1 p6⟩
    intro th ad bk mf mo fd st flu pc np fr no nt sn sk so be kp kc kf nx km ko kfr kno hC hf
    subst hf
    refine ⟨n + 2, yc_4 p3 p4 (ct_Y p3 p5) hn hln htx (res := m) h1 ?_ (n + 1) 0 m 0 (n + 2) _ _ _ _ hm (by omega) (by omega)⟩
    intro me td bn
    exact ⟨rfl, hK, hpl, ⟨rfl, rfl, n, tx, hn, hln, htx⟩, zz_F0, rfl, hb, fun _ => ⟨t, p1, p2, p3, p4, p5, hC⟩⟩
theorem i_vc_starts {k : Nat} {u : SX} {v : SY} (I : i_Rel k u v) (hk : k + 3 ≤ 1536) : wpX_starts (fun r u' => wpY_starts (fun r' v' => r' = r ∧ i_Rel (k + 3) u' v') v) u := by
  obtain ⟨f_count, f_place, f_there, f_length, f_nodes, f_level, f_groups, f_size, f_tasks, f_threads, f_added, f_bank, f_matchFrom, f_matchNotes, f_found, f_states, f_flushed, a_tok, a_val, a_text, a_nKind, a_nC, a_nA, a_nB, a_nSize, a_lAlt, a_lSeq, a_lAtom, a_lGroup, a_op, a_x, a_y, a_prefersPast, a_tNode, a_tArg, a_pc, a_newPc, a_from, a_noted, a_notes, a_seen, a_stack, a_stackNotes, a_best, a_kPc, a_kCount, a_kFlags, a_next, a_kMatch, a_kMatchNotes, a_kFrom, a_kNotes⟩ := u
  obtain ⟨g_count, g_place, g_end, g_size, g_large, g_ready, g_depth, g_groups, g_atom, g_atomSize, g_length, g_found, b_kind, b_value, b_op, b_with, b_one, b_two, b_copyOp, b_copyWith, b_copyOne, b_copyTwo, b_opened, b_branch, b_sizes, b_jumps, b_groupOf, b_text, b_met, b_todo, b_notes⟩ := v
  obtain ⟨hK, hpl, ⟨rfl, rfl, n, tx, hn, hln, htx⟩, hF, ⟨rfl, hb, hP⟩⟩ := I
  by_cases h1 : f_there = 0
  · have e1 : ¬ (32 : Int32) ≤ 0 := by decide
    have e2 : ¬ f_length < 0 := by rw [hln]; exact nI_pos (by omega)
    refine ⟨1, br_f e1 (br_f e2 (br_t h1 ⟨1, ?_⟩))⟩
    exact br_f e2 (br_f e1 (br_t h1 ⟨rfl, hK, hpl, ⟨rfl, rfl, n, tx, hn, hln, htx⟩, zz_F0, rfl, hb, hP⟩))
  · obtain ⟨t, p1, p2, p3, p4, p5, p6⟩ := hP h1
    obtain ⟨m, hm⟩ := st_tot t tx n (min 32 (n + 1)) 0 0
    refine ⟨n + 2, xs_4 p1 p2 (ct_X p1 p5) hn hln htx (res := m) h1 ?_ (min 32 (n + 1)) 0 0 (n + 2) _ _ _ _ _ _ _ _ _ _ _ _ _ _ _ _ _ _ _ _ _ _ _ _ _ hm (by omega) (by omega) p6⟩
    intro th ad bk mf mo fd st flu pc np fr no nt sn sk so be kp kc kf nx km ko kfr kno hC hf
    subst hf
    refine ⟨n + 2, ys_4 p3 p4 (ct_Y p3 p5) hn hln htx (res := m) h1 ?_ (min 32 (n + 1)) 0 0 (n + 2) _ _ _ hm (by omega) (by omega)⟩
    intro me td bn
    exact ⟨rfl, hK, hpl, ⟨rfl, rfl, n, tx, hn, hln, htx⟩, zz_F0, rfl, hb, fun _ => ⟨t, p1, p2, p3, p4, p5, hC⟩⟩
theorem i_vc_compile {k : Nat} {u : SX} {v : SY} (I : i_Rel k u v) (hk : k + 3 ≤ 1536) : wpX_compile (fun r u' => wpY_compile (fun r' v' => r' = r ∧ i_Rel (k + 3) u' v') v) u := by
  obtain ⟨f_count, f_place, f_there, f_length, f_nodes, f_level, f_groups, f_size, f_tasks, f_threads, f_added, f_bank, f_matchFrom, f_matchNotes, f_found, f_states, f_flushed, a_tok, a_val, a_text, a_nKind, a_nC, a_nA, a_nB, a_nSize, a_lAlt, a_lSeq, a_lAtom, a_lGroup, a_op, a_x, a_y, a_prefersPast, a_tNode, a_tArg, a_pc, a_newPc, a_from, a_noted, a_notes, a_seen, a_stack, a_stackNotes, a_best, a_kPc, a_kCount, a_kFlags, a_next, a_kMatch, a_kMatchNotes, a_kFrom, a_kNotes⟩ := u
  obtain ⟨g_count, g_place, g_end, g_size, g_large, g_ready, g_depth, g_groups, g_atom, g_atomSize, g_length, g_found, b_kind, b_value, b_op, b_with, b_one, b_two, b_copyOp, b_copyWith, b_copyOne, b_copyTwo, b_opened, b_branch, b_sizes, b_jumps, b_groupOf, b_text, b_met, b_todo, b_notes⟩ := v
  obtain ⟨⟨rfl, rfl, rfl, cnt, K, V, hcn, htk⟩, hpl, hT, hF, hP⟩ := I
  have hc24 := htk.1
  have hKK : zz_K f_count f_count a_tok a_val a_tok a_val := ⟨rfl, rfl, rfl, cnt, K, V, hcn, htk⟩
  have hP0 : ∀ (fsz ge fst : Int32) (ao ax ay ap bo bw b1 b2 kp kc kf nx km ko kfr kno : Nat → Int32), zz_P 0 0 fsz ge fst ao ax ay ap bo bw b1 b2 kp kc kf nx km ko kfr kno := by
    intros; exact ⟨rfl, Or.inl rfl, fun z => absurd rfl z⟩
  generalize hres : pt_run K V cnt 0 (0, [(0, none, none, none)]) = res
  unfold wpX_compile
  dsimp only
  refine xr_read (f_nodes := f_nodes) (f_level := f_level) (f_groups := f_groups) htk hcn hres ?_ ?_ ?_
  · intro j hj nd lv gr nk na nb nc ns lA lS lT lG
    have hj2 := pt_jl _ _ _ _ (hres.trans hj)
    refine br_f (nI_pos (by omega)) ?_
    refine yc_compile htk hcn hres ?_ ?_ ?_ ?_
    · intro j' h'
      intros
      rw [hj] at h'
      cases h'
      exact ⟨rfl, hKK, rfl, hT, zz_F0, hP0 ..⟩
    · intro gc fs h'
      rw [hj] at h'; cases h'
    · intro gc g al sq a h'
      rw [hj] at h'; cases h'
    · intro gc g al sq a h'
      rw [hj] at h'; cases h'
  · intro gc fs hj hl nd lv gr nk na nb nc ns lA lS lT lG
    refine br_f (nI_pos (by omega)) ?_
    refine yc_compile htk hcn hres ?_ ?_ ?_ ?_
    · intro j' h'
      rw [hj] at h'; cases h'
    · intro gc fs h'
      intros
      exact ⟨rfl, hKK, rfl, hT, zz_F0, hP0 ..⟩
    · intro gc g al sq a h'
      rw [hj] at h'; cases h'
      exact absurd rfl hl
    · intro gc g al sq a h'
      rw [hj] at h'; cases h'
      exact absurd rfl hl
  · intro gc g al sq a hj N nn d lv gr nk na nb nc ns lA lS lT lG hN hd hl0 htn hsz
    have hnn : nn < N := by obtain ⟨fn, h⟩ := htn; exact (tn_lt h).1
    refine br_t (by decide) ?_
    dsimp only
    rw [hl0, nI_clamp (by omega), hsz]
    refine ⟨vp_in_nI (by omega) (by omega), ?_⟩
    by_cases c : tr_sz (pf_a al (pf_o (pf_s sq a))) ≤ 36
    · refine br_t (nI_le (b := 36) (by omega) (by decide)) ?_
      have hlen := tr_len_sz (pf_a al (pf_o (pf_s sq a)))
      refine em_all hN htn hd (by omega) ?_
      intro op x y pp tN tA hxp
      refine yc_compile htk hcn hres ?_ ?_ ?_ ?_
      · intro j' h'
        rw [hj] at h'; cases h'
      · intro gc fs h' hne
        rw [hj] at h'; cases h'
        exact absurd rfl hne
      · intro gc g al sq a h' hs36 en si la ta az dp gr bo bw b1 b2 od br sz jp gp cO cW c1 c2 hyp hen
        rw [hj] at h'; cases h'
        exact ⟨rfl, hKK, rfl, hT, zz_F0, rfl, Or.inr rfl, fun _ => ⟨_, hxp, rfl, hyp, hen, c, 0, fun _ => [], fun _ => 0, by omega, rfl, fun s h => by omega, fun s c h => by omega⟩⟩
      · intro gc g al sq a h' hs36
        rw [hj] at h'; cases h'
        omega
    · refine br_f (nI_ge (a := 36) (by omega) (by omega)) ?_
      refine yc_compile htk hcn hres ?_ ?_ ?_ ?_
      · intro j' h'
        rw [hj] at h'; cases h'
      · intro gc fs h' hne
        rw [hj] at h'; cases h'
        exact absurd rfl hne
      · intro gc g al sq a h' hs36
        rw [hj] at h'; cases h'
        omega
      · intro gc g al sq a h' hs36
        intros
        exact ⟨rfl, hKK, hcn, hT, zz_F0, hP0 ..⟩
end
