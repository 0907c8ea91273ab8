section
/-! pure rows to paste: stores, nI and lN arithmetic, masks, shifts, narrowing, branches by naturals (pk_le, pk_lt, pk_eq), loops (lp1 .. lp16: the measure of the state; rp1 ..: recursion), negatives. Take what you need -/
theorem pk_us {f : Nat → Int32} {k : Nat} {x : Int32} : upd f k x k = x := if_pos rfl
theorem pk_un {f : Nat → Int32} {k j : Nat} {x : Int32} (h : j ≠ k) : upd f k x j = f j := if_neg h
theorem pk_uLs {f : Nat → Int64} {k : Nat} {x : Int64} : vp_updL f k x k = x := if_pos rfl
theorem pk_uLn {f : Nat → Int64} {k j : Nat} {x : Int64} (h : j ≠ k) : vp_updL f k x j = f j := if_neg h
theorem pk_sub {a b : Nat} (h : b ≤ a) : nI a - nI b = nI (a - b) := by
  obtain ⟨c, rfl⟩ : ∃ c, a = c + b := ⟨a - b, by omega⟩
  rw [← nI_add, Int32.add_sub_cancel, Nat.add_sub_cancel]
theorem pk_m1 (n : Nat) : nI (n + 1) + (-1) = nI n := by
  rw [← nI_1, Int32.add_assoc, show (1 : Int32) + (-1) = 0 from rfl, Int32.add_zero]
theorem pk_mul (a b : Nat) : nI a * nI b = nI (a * b) := (Int32.ofNat_mul a b).symm
theorem pk_div {a d : Nat} (ha : a < 2 ^ 31) (h0 : 0 < d) (hd : d < 2 ^ 31) : nI a / nI d = nI (a / d) := by
  apply Int32.toInt_inj.mp
  rw [lg_idiv_nonneg (by rw [nI_toInt ha]; omega) (by rw [nI_toInt hd]; omega), nI_toInt ha, nI_toInt hd, nI_toInt (Nat.lt_of_le_of_lt (Nat.div_le_self a d) ha)]
  first | rfl | exact (Int.natCast_ediv _ _).symm
theorem pk_rem {a d : Nat} (ha : a < 2 ^ 31) (h0 : 0 < d) (hd : d < 2 ^ 31) : nI a - nI a / nI d * nI d = nI (a % d) := by
  rw [pk_div ha h0 hd, pk_mul, pk_sub (Nat.div_mul_le_self a d)]
  exact congrArg nI (by have := Nat.div_add_mod' a d; omega)
theorem pk_sub_toInt {a b : Nat} (ha : a < 2 ^ 30) (hb : b < 2 ^ 30) : (nI a - nI b).toInt = (a : Int) - b := by
  rw [Int32.toInt_sub, nI_toInt (by omega), nI_toInt (by omega)]
  exact Int.bmod_eq_of_le (by omega) (by omega)
theorem pk_sneg {a b : Nat} (hb : b < 2 ^ 30) (h : a < b) : nI a - nI b < 0 := by
  rw [Int32.lt_iff_toInt_lt, pk_sub_toInt (by omega) hb, show (0 : Int32).toInt = 0 from by decide]
  omega
theorem pk_ix (x : Int32) {n : Nat} (hn : n < 2 ^ 31) : x < 0 ∨ nI n ≤ x ∨ ∃ j : Nat, j < n ∧ x = nI j := by
  by_cases h : x < 0
  · exact Or.inl h
  · obtain ⟨j, hj, rfl⟩ := nI_of h
    by_cases h2 : j < n
    · exact Or.inr (Or.inr ⟨j, h2, rfl⟩)
    · exact Or.inr (Or.inl (nI_le (by omega) hj))
theorem pk_le {x y : Int32} {A B : Prop} (a b : Nat) (f : a ≤ b → A) (g : b < a → B) (hx : x = nI a := by rfl) (hy : y = nI b := by rfl) (ha : a < 2 ^ 31 := by omega) (hb : b < 2 ^ 31 := by omega) : (x ≤ y → A) ∧ (¬ x ≤ y → B) := by
  subst hx hy
  rw [nI_leI ha hb]
  exact ⟨f, fun z => g (by omega)⟩
theorem pk_lt {x y : Int32} {A B : Prop} (a b : Nat) (f : a < b → A) (g : b ≤ a → B) (hx : x = nI a := by rfl) (hy : y = nI b := by rfl) (ha : a < 2 ^ 31 := by omega) (hb : b < 2 ^ 31 := by omega) : (x < y → A) ∧ (¬ x < y → B) := by
  subst hx hy
  rw [nI_ltI ha hb]
  exact ⟨f, fun z => g (by omega)⟩
theorem pk_eq {x y : Int32} {A B : Prop} (a b : Nat) (f : a = b → A) (g : a ≠ b → B) (hx : x = nI a := by rfl) (hy : y = nI b := by rfl) (ha : a < 2 ^ 31 := by omega) (hb : b < 2 ^ 31 := by omega) : (x = y → A) ∧ (¬ x = y → B) := by
  subst hx hy
  rw [nI_eq ha hb]
  exact ⟨f, g⟩
theorem pk_in {x : Int32} (n N : Nat) (h : n < N) (hx : x = nI n := by rfl) (hN : N < 2 ^ 31 := by omega) : vp_in x N := by
  subst hx
  exact vp_in_nI h hN
theorem pk_cl {x : Int32} (n : Nat) (hx : x = nI n := by rfl) (h : n < 2 ^ 31 := by omega) : x.toNatClampNeg = n := by
  subst hx
  exact nI_clamp h
theorem pk_tn {n : Nat} (h : n < 2 ^ 32) : (nI n).toBitVec.toNat = n := Nat.mod_eq_of_lt h
theorem pk_and (x : Int32) {m : Int32} (k : Nat) (hm : m.toBitVec.toNat = 2 ^ k - 1) : x &&& m = nI (x.toBitVec.toNat % 2 ^ k) := by
  apply Int32.toBitVec_inj.mp
  apply BitVec.eq_of_toNat_eq
  rw [Int32.toBitVec_and, BitVec.toNat_and, hm, Nat.and_two_pow_sub_one_eq_mod]
  show _ = (BitVec.ofNat 32 _).toNat
  rw [BitVec.toNat_ofNat]
  exact (Nat.mod_eq_of_lt (Nat.lt_of_le_of_lt (Nat.mod_le _ _) x.toBitVec.isLt)).symm
theorem pk_andN {n : Nat} (h : n < 2 ^ 32) {m : Int32} (k : Nat) (hm : m.toBitVec.toNat = 2 ^ k - 1) : nI n &&& m = nI (n % 2 ^ k) := by
  rw [pk_and _ k hm, pk_tn h]
theorem pk_andE (x : Int32) {m : Int32} (k : Nat) (hm : m.toBitVec.toNat = 2 ^ k - 1) : ∃ j : Nat, j < 2 ^ k ∧ x &&& m = nI j := ⟨_, Nat.mod_lt _ (Nat.two_pow_pos k), pk_and x k hm⟩
theorem pk_andIn (x : Int32) {m : Int32} (k : Nat) (hm : m.toBitVec.toNat = 2 ^ k - 1) (hk : k ≤ 30) : vp_in (x &&& m) (2 ^ k) := by
  obtain ⟨j, hj, e⟩ := pk_andE x k hm
  rw [e]
  exact vp_in_nI hj (Nat.lt_of_le_of_lt (Nat.pow_le_pow_right (by decide) hk) (by decide))
theorem pk_shl (a s : Int32) (k : Nat) (hs : (s.toBitVec.smod 32).toNat = k) : (a <<< s).toBitVec.toNat = a.toBitVec.toNat * 2 ^ k % 2 ^ 32 := by
  show (a.toBitVec <<< (s.toBitVec.smod 32).toNat).toNat = _
  rw [hs, BitVec.toNat_shiftLeft, Nat.shiftLeft_eq]
theorem pk_shlN {n : Nat} (s : Int32) (k : Nat) (hs : (s.toBitVec.smod 32).toNat = k) (h : n * 2 ^ k < 2 ^ 32) : nI n <<< s = nI (n * 2 ^ k) := by
  apply Int32.toBitVec_inj.mp
  apply BitVec.eq_of_toNat_eq
  have hn : n < 2 ^ 32 := Nat.lt_of_le_of_lt (Nat.le_mul_of_pos_right n (Nat.two_pow_pos k)) h
  rw [pk_shl _ _ k hs, pk_tn hn, pk_tn h, Nat.mod_eq_of_lt h]
theorem pk_shr (a s : Int32) (k : Nat) (hs : (s.toBitVec.smod 32).toNat = k) : (a >>> s).toInt = a.toInt >>> k := by
  show (a.toBitVec.sshiftRight (s.toBitVec.smod 32).toNat).toInt = _
  rw [hs, BitVec.toInt_sshiftRight]
  rfl
theorem pk_shrN {n : Nat} (h : n < 2 ^ 31) (s : Int32) (k : Nat) (hs : (s.toBitVec.smod 32).toNat = k) : nI n >>> s = nI (n / 2 ^ k) := by
  apply Int32.toInt_inj.mp
  have h2 : n / 2 ^ k ≤ n := Nat.div_le_self _ _
  rw [pk_shr _ _ k hs, nI_toInt h, nI_toInt (by omega), Int.shiftRight_eq_div_pow]
  rfl
theorem pk_ushr (x s : Int32) (k : Nat) (hs : ((s.toUInt32 &&& Int32.toUInt32 31).toBitVec % 32).toNat = k) : (x.toUInt32 >>> (s.toUInt32 &&& Int32.toUInt32 31)).toInt32.toBitVec.toNat = x.toBitVec.toNat / 2 ^ k := by
  have e : (x.toUInt32 >>> (s.toUInt32 &&& Int32.toUInt32 31)).toInt32.toBitVec = x.toBitVec >>> k := by
    rw [← hs]
    exact UInt32.toBitVec_shiftRight _ _
  rw [e, BitVec.toNat_ushiftRight, Nat.shiftRight_eq_div_pow]
theorem pk_ushrN {n : Nat} (hn : n < 2 ^ 32) (s : Int32) (k : Nat) (hs : ((s.toUInt32 &&& Int32.toUInt32 31).toBitVec % 32).toNat = k) : ((nI n).toUInt32 >>> (s.toUInt32 &&& Int32.toUInt32 31)).toInt32 = nI (n / 2 ^ k) := by
  apply Int32.toBitVec_inj.mp
  apply BitVec.eq_of_toNat_eq
  rw [pk_ushr _ s k hs, pk_tn hn, pk_tn (Nat.lt_of_le_of_lt (Nat.div_le_self _ _) hn)]
theorem pk_nb (z : Int32) : narrow .byte (.int z.toInt8.toInt32) = .int z.toInt8.toInt32 := congrArg Value.int (by simp)
theorem pk_ns (z : Int32) : narrow .short (.int z.toInt16.toInt32) = .int z.toInt16.toInt32 := congrArg Value.int (by simp)
theorem pk_fb (r : Int32) : fits .byte (.int r.toInt8.toInt32) = true := by
  have ⟨a, b⟩ := lg_i2b_range r
  have h1 : (-128 : Int32).toInt = -128 := by decide
  have h2 : (127 : Int32).toInt = 127 := by decide
  simp only [fits, Bool.and_eq_true, decide_eq_true_eq, Int32.le_iff_toInt_le, h1, h2]
  omega
theorem pk_fs (r : Int32) : fits .short (.int r.toInt16.toInt32) = true := by
  have ⟨a, b⟩ := lg_i2s_range r
  have h1 : (-32768 : Int32).toInt = -32768 := by decide
  have h2 : (32767 : Int32).toInt = 32767 := by decide
  simp only [fits, Bool.and_eq_true, decide_eq_true_eq, Int32.le_iff_toInt_le, h1, h2]
  omega
theorem pk_charN {q : Nat} (hq : q < 65536) : narrow .char (.int (nI q)) = .int (nI q) ∧ fits .char (.int (nI q)) = true := by
  constructor
  · have e : (nI q).toUInt32.toUInt16.toUInt32.toInt32 = nI q := by
      apply Int32.toBitVec_inj.mp
      apply BitVec.eq_of_toNat_eq
      show (nI q).toUInt32.toUInt16.toUInt32.toNat = q % 2 ^ 32
      rw [UInt16.toNat_toUInt32, UInt32.toNat_toUInt16, show (nI q).toUInt32.toNat = q % 2 ^ 32 from rfl]
      omega
    exact congrArg Value.int e
  · have a : (0 : Int32) ≤ nI q := nI_pos' (by omega)
    have b : nI q ≤ 65535 := nI_le (b := 65535) (by omega) (by decide)
    show (decide ((0 : Int32) ≤ nI q) && decide (nI q ≤ 65535)) = true
    rw [decide_eq_true a, decide_eq_true b]
    rfl
theorem pk_char (x : Int32) : (x.toUInt32 % 65536).toInt32 = nI (x.toBitVec.toNat % 65536) := by
  apply Int32.toBitVec_inj.mp
  apply BitVec.eq_of_toNat_eq
  rw [pk_tn (by omega)]
  show (x.toUInt32 % 65536).toNat = _
  rw [UInt32.toNat_mod]
  rfl
theorem pk_nc (x : Int32) : narrow .char (.int (x.toUInt32 % 65536).toInt32) = .int (x.toUInt32 % 65536).toInt32 := by
  rw [pk_char]
  exact (pk_charN (Nat.mod_lt _ (by decide))).1
theorem pk_fc (x : Int32) : fits .char (.int (x.toUInt32 % 65536).toInt32) = true := by
  rw [pk_char]
  exact (pk_charN (Nat.mod_lt _ (by decide))).2
theorem pk_vb (z : Int32) : vp_nar .byte z.toInt8.toInt32 = z.toInt8.toInt32 := by rw [vp_nar_byte]; simp
theorem pk_vs (z : Int32) : vp_nar .short z.toInt16.toInt32 = z.toInt16.toInt32 := by rw [vp_nar_short]; simp
theorem pk_vc (z : Int32) : vp_nar .char (z.toUInt32 % 65536).toInt32 = (z.toUInt32 % 65536).toInt32 := Value.int.inj (pk_nc z)
theorem pk_lT {n : Nat} (h : n < 2 ^ 63) : (lN n).toInt = (n : Int) := lg_ofNat_toInt h
theorem pk_lLT {a b : Nat} (ha : a < 2 ^ 63) (hb : b < 2 ^ 63) : lN a < lN b ↔ a < b := by
  rw [Int64.lt_iff_toInt_lt, pk_lT ha, pk_lT hb]; omega
theorem pk_lLE {a b : Nat} (ha : a < 2 ^ 63) (hb : b < 2 ^ 63) : lN a ≤ lN b ↔ a ≤ b := by
  rw [Int64.le_iff_toInt_le, pk_lT ha, pk_lT hb]; omega
theorem pk_lEQ {a b : Nat} (ha : a < 2 ^ 63) (hb : b < 2 ^ 63) : lN a = lN b ↔ a = b := by
  rw [← Int64.toInt_inj, pk_lT ha, pk_lT hb]; omega
theorem pk_lOf {x : Int64} (h : ¬ x < 0) : ∃ k : Nat, k < 2 ^ 63 ∧ x = lN k := by
  rw [Int64.lt_iff_toInt_lt] at h
  have h0 : (0 : Int64).toInt = 0 := by decide
  have hx := Int64.toInt_lt x
  refine ⟨x.toInt.toNat, by omega, Int64.toInt_inj.mp ?_⟩
  rw [pk_lT (by omega)]
  omega
theorem pk_lDiv {a b : Nat} (ha : a < 2 ^ 63) (h0 : 0 < b) (hb : b < 2 ^ 63) : lN a / lN b = lN (a / b) := by
  apply Int64.toInt_inj.mp
  rw [lg_ldiv_nonneg (by rw [pk_lT ha]; omega) (by rw [pk_lT hb]; omega), pk_lT ha, pk_lT hb, pk_lT (Nat.lt_of_le_of_lt (Nat.div_le_self a b) ha)]
  rfl
theorem pk_lRem {a b : Nat} (ha : a < 2 ^ 63) (h0 : 0 < b) (hb : b < 2 ^ 63) : lN a - lN a / lN b * lN b = lN (a % b) := by
  rw [pk_lDiv ha h0 hb, lN_mul, lN_sub (Nat.div_mul_le_self a b)]
  exact congrArg lN (by have := Nat.div_add_mod' a b; omega)
theorem pk_loop {σ : Type} (W : Nat → Nat → σ → Prop) (I : Nat → σ → Prop) (e i0 : Nat) (s : σ) (hi : i0 ≤ e) (h0 : I i0 s) (hx : ∀ n s, I e s → W (n + 1) e s)
    (hs : ∀ n i s, i < e → I i s → (∀ s', I (i + 1) s' → W n (i + 1) s') → W (n + 1) i s) : ∃ n, W n i0 s :=
  ⟨e + 1, loop_i W I e hx hs (e + 1) i0 s hi (by omega) h0⟩
theorem pk_loopD {σ : Type} (W : Nat → Nat → σ → Prop) (I : Nat → σ → Prop) (hx : ∀ n s, I 0 s → W (n + 1) 0 s)
    (hs : ∀ n i s, I (i + 1) s → (∀ s', I i s' → W n i s') → W (n + 1) (i + 1) s) : ∀ (e : Nat) (s : σ), I e s → W (e + 1) e s := by
  intro e
  induction e with
  | zero => exact fun s h => hx 0 s h
  | succ e ih => exact fun s h => hs (e + 1) e s h (fun s' h' => ih s' h')
theorem lp1 {A1 : Type} (W : Nat → A1 → Prop) (I : A1 → Prop) (μ : A1 → Nat) (hs : ∀ (n : Nat) (a1 : A1), I a1 → (∀ (b1 : A1), I b1 → μ b1 < μ a1 → W n b1) → W (n + 1) a1) (a1 : A1) (h : I a1) : ∃ n, W n a1 :=
  loop_m (σ := A1) (fun n s => W n s) (fun s => I s) (fun s => μ s) (fun n s hI hk => hs n s hI (fun b1 h9 hm => hk b1 h9 hm)) a1 h
theorem lp2 {A1 A2 : Type} (W : Nat → A1 → A2 → Prop) (I : A1 → A2 → Prop) (μ : A1 → A2 → Nat) (hs : ∀ (n : Nat) (a1 : A1) (a2 : A2), I a1 a2 → (∀ (b1 : A1) (b2 : A2), I b1 b2 → μ b1 b2 < μ a1 a2 → W n b1 b2) → W (n + 1) a1 a2) (a1 : A1) (a2 : A2) (h : I a1 a2) : ∃ n, W n a1 a2 :=
  loop_m (σ := A1 × A2) (fun n s => W n s.1 s.2) (fun s => I s.1 s.2) (fun s => μ s.1 s.2) (fun n s hI hk => hs n s.1 s.2 hI (fun b1 b2 h9 hm => hk (b1, b2) h9 hm)) (a1, a2) h
theorem lp3 {A1 A2 A3 : Type} (W : Nat → A1 → A2 → A3 → Prop) (I : A1 → A2 → A3 → Prop) (μ : A1 → A2 → A3 → Nat) (hs : ∀ (n : Nat) (a1 : A1) (a2 : A2) (a3 : A3), I a1 a2 a3 → (∀ (b1 : A1) (b2 : A2) (b3 : A3), I b1 b2 b3 → μ b1 b2 b3 < μ a1 a2 a3 → W n b1 b2 b3) → W (n + 1) a1 a2 a3) (a1 : A1) (a2 : A2) (a3 : A3) (h : I a1 a2 a3) : ∃ n, W n a1 a2 a3 :=
  loop_m (σ := A1 × A2 × A3) (fun n s => W n s.1 s.2.1 s.2.2) (fun s => I s.1 s.2.1 s.2.2) (fun s => μ s.1 s.2.1 s.2.2) (fun n s hI hk => hs n s.1 s.2.1 s.2.2 hI (fun b1 b2 b3 h9 hm => hk (b1, b2, b3) h9 hm)) (a1, a2, a3) h
theorem lp4 {A1 A2 A3 A4 : Type} (W : Nat → A1 → A2 → A3 → A4 → Prop) (I : A1 → A2 → A3 → A4 → Prop) (μ : A1 → A2 → A3 → A4 → Nat) (hs : ∀ (n : Nat) (a1 : A1) (a2 : A2) (a3 : A3) (a4 : A4), I a1 a2 a3 a4 → (∀ (b1 : A1) (b2 : A2) (b3 : A3) (b4 : A4), I b1 b2 b3 b4 → μ b1 b2 b3 b4 < μ a1 a2 a3 a4 → W n b1 b2 b3 b4) → W (n + 1) a1 a2 a3 a4) (a1 : A1) (a2 : A2) (a3 : A3) (a4 : A4) (h : I a1 a2 a3 a4) : ∃ n, W n a1 a2 a3 a4 :=
  loop_m (σ := A1 × A2 × A3 × A4) (fun n s => W n s.1 s.2.1 s.2.2.1 s.2.2.2) (fun s => I s.1 s.2.1 s.2.2.1 s.2.2.2) (fun s => μ s.1 s.2.1 s.2.2.1 s.2.2.2) (fun n s hI hk => hs n s.1 s.2.1 s.2.2.1 s.2.2.2 hI (fun b1 b2 b3 b4 h9 hm => hk (b1, b2, b3, b4) h9 hm)) (a1, a2, a3, a4) h
theorem lp5 {A1 A2 A3 A4 A5 : Type} (W : Nat → A1 → A2 → A3 → A4 → A5 → Prop) (I : A1 → A2 → A3 → A4 → A5 → Prop) (μ : A1 → A2 → A3 → A4 → A5 → Nat) (hs : ∀ (n : Nat) (a1 : A1) (a2 : A2) (a3 : A3) (a4 : A4) (a5 : A5), I a1 a2 a3 a4 a5 → (∀ (b1 : A1) (b2 : A2) (b3 : A3) (b4 : A4) (b5 : A5), I b1 b2 b3 b4 b5 → μ b1 b2 b3 b4 b5 < μ a1 a2 a3 a4 a5 → W n b1 b2 b3 b4 b5) → W (n + 1) a1 a2 a3 a4 a5) (a1 : A1) (a2 : A2) (a3 : A3) (a4 : A4) (a5 : A5) (h : I a1 a2 a3 a4 a5) : ∃ n, W n a1 a2 a3 a4 a5 :=
  loop_m (σ := A1 × A2 × A3 × A4 × A5) (fun n s => W n s.1 s.2.1 s.2.2.1 s.2.2.2.1 s.2.2.2.2) (fun s => I s.1 s.2.1 s.2.2.1 s.2.2.2.1 s.2.2.2.2) (fun s => μ s.1 s.2.1 s.2.2.1 s.2.2.2.1 s.2.2.2.2) (fun n s hI hk => hs n s.1 s.2.1 s.2.2.1 s.2.2.2.1 s.2.2.2.2 hI (fun b1 b2 b3 b4 b5 h9 hm => hk (b1, b2, b3, b4, b5) h9 hm)) (a1, a2, a3, a4, a5) h
theorem lp6 {A1 A2 A3 A4 A5 A6 : Type} (W : Nat → A1 → A2 → A3 → A4 → A5 → A6 → Prop) (I : A1 → A2 → A3 → A4 → A5 → A6 → Prop) (μ : A1 → A2 → A3 → A4 → A5 → A6 → Nat) (hs : ∀ (n : Nat) (a1 : A1) (a2 : A2) (a3 : A3) (a4 : A4) (a5 : A5) (a6 : A6), I a1 a2 a3 a4 a5 a6 → (∀ (b1 : A1) (b2 : A2) (b3 : A3) (b4 : A4) (b5 : A5) (b6 : A6), I b1 b2 b3 b4 b5 b6 → μ b1 b2 b3 b4 b5 b6 < μ a1 a2 a3 a4 a5 a6 → W n b1 b2 b3 b4 b5 b6) → W (n + 1) a1 a2 a3 a4 a5 a6) (a1 : A1) (a2 : A2) (a3 : A3) (a4 : A4) (a5 : A5) (a6 : A6) (h : I a1 a2 a3 a4 a5 a6) : ∃ n, W n a1 a2 a3 a4 a5 a6 :=
  loop_m (σ := A1 × A2 × A3 × A4 × A5 × A6) (fun n s => W n s.1 s.2.1 s.2.2.1 s.2.2.2.1 s.2.2.2.2.1 s.2.2.2.2.2) (fun s => I s.1 s.2.1 s.2.2.1 s.2.2.2.1 s.2.2.2.2.1 s.2.2.2.2.2) (fun s => μ s.1 s.2.1 s.2.2.1 s.2.2.2.1 s.2.2.2.2.1 s.2.2.2.2.2) (fun n s hI hk => hs n s.1 s.2.1 s.2.2.1 s.2.2.2.1 s.2.2.2.2.1 s.2.2.2.2.2 hI (fun b1 b2 b3 b4 b5 b6 h9 hm => hk (b1, b2, b3, b4, b5, b6) h9 hm)) (a1, a2, a3, a4, a5, a6) h
theorem lp7 {A1 A2 A3 A4 A5 A6 A7 : Type} (W : Nat → A1 → A2 → A3 → A4 → A5 → A6 → A7 → Prop) (I : A1 → A2 → A3 → A4 → A5 → A6 → A7 → Prop) (μ : A1 → A2 → A3 → A4 → A5 → A6 → A7 → Nat) (hs : ∀ (n : Nat) (a1 : A1) (a2 : A2) (a3 : A3) (a4 : A4) (a5 : A5) (a6 : A6) (a7 : A7), I a1 a2 a3 a4 a5 a6 a7 → (∀ (b1 : A1) (b2 : A2) (b3 : A3) (b4 : A4) (b5 : A5) (b6 : A6) (b7 : A7), I b1 b2 b3 b4 b5 b6 b7 → μ b1 b2 b3 b4 b5 b6 b7 < μ a1 a2 a3 a4 a5 a6 a7 → W n b1 b2 b3 b4 b5 b6 b7) → W (n + 1) a1 a2 a3 a4 a5 a6 a7) (a1 : A1) (a2 : A2) (a3 : A3) (a4 : A4) (a5 : A5) (a6 : A6) (a7 : A7) (h : I a1 a2 a3 a4 a5 a6 a7) : ∃ n, W n a1 a2 a3 a4 a5 a6 a7 :=
  loop_m (σ := A1 × A2 × A3 × A4 × A5 × A6 × A7) (fun n s => W n s.1 s.2.1 s.2.2.1 s.2.2.2.1 s.2.2.2.2.1 s.2.2.2.2.2.1 s.2.2.2.2.2.2) (fun s => I s.1 s.2.1 s.2.2.1 s.2.2.2.1 s.2.2.2.2.1 s.2.2.2.2.2.1 s.2.2.2.2.2.2) (fun s => μ s.1 s.2.1 s.2.2.1 s.2.2.2.1 s.2.2.2.2.1 s.2.2.2.2.2.1 s.2.2.2.2.2.2) (fun n s hI hk => hs n s.1 s.2.1 s.2.2.1 s.2.2.2.1 s.2.2.2.2.1 s.2.2.2.2.2.1 s.2.2.2.2.2.2 hI (fun b1 b2 b3 b4 b5 b6 b7 h9 hm => hk (b1, b2, b3, b4, b5, b6, b7) h9 hm)) (a1, a2, a3, a4, a5, a6, a7) h
theorem lp8 {A1 A2 A3 A4 A5 A6 A7 A8 : Type} (W : Nat → A1 → A2 → A3 → A4 → A5 → A6 → A7 → A8 → Prop) (I : A1 → A2 → A3 → A4 → A5 → A6 → A7 → A8 → Prop) (μ : A1 → A2 → A3 → A4 → A5 → A6 → A7 → A8 → Nat) (hs : ∀ (n : Nat) (a1 : A1) (a2 : A2) (a3 : A3) (a4 : A4) (a5 : A5) (a6 : A6) (a7 : A7) (a8 : A8), I a1 a2 a3 a4 a5 a6 a7 a8 → (∀ (b1 : A1) (b2 : A2) (b3 : A3) (b4 : A4) (b5 : A5) (b6 : A6) (b7 : A7) (b8 : A8), I b1 b2 b3 b4 b5 b6 b7 b8 → μ b1 b2 b3 b4 b5 b6 b7 b8 < μ a1 a2 a3 a4 a5 a6 a7 a8 → W n b1 b2 b3 b4 b5 b6 b7 b8) → W (n + 1) a1 a2 a3 a4 a5 a6 a7 a8) (a1 : A1) (a2 : A2) (a3 : A3) (a4 : A4) (a5 : A5) (a6 : A6) (a7 : A7) (a8 : A8) (h : I a1 a2 a3 a4 a5 a6 a7 a8) : ∃ n, W n a1 a2 a3 a4 a5 a6 a7 a8 :=
  loop_m (σ := A1 × A2 × A3 × A4 × A5 × A6 × A7 × A8) (fun n s => W n s.1 s.2.1 s.2.2.1 s.2.2.2.1 s.2.2.2.2.1 s.2.2.2.2.2.1 s.2.2.2.2.2.2.1 s.2.2.2.2.2.2.2) (fun s => I s.1 s.2.1 s.2.2.1 s.2.2.2.1 s.2.2.2.2.1 s.2.2.2.2.2.1 s.2.2.2.2.2.2.1 s.2.2.2.2.2.2.2) (fun s => μ s.1 s.2.1 s.2.2.1 s.2.2.2.1 s.2.2.2.2.1 s.2.2.2.2.2.1 s.2.2.2.2.2.2.1 s.2.2.2.2.2.2.2) (fun n s hI hk => hs n s.1 s.2.1 s.2.2.1 s.2.2.2.1 s.2.2.2.2.1 s.2.2.2.2.2.1 s.2.2.2.2.2.2.1 s.2.2.2.2.2.2.2 hI (fun b1 b2 b3 b4 b5 b6 b7 b8 h9 hm => hk (b1, b2, b3, b4, b5, b6, b7, b8) h9 hm)) (a1, a2, a3, a4, a5, a6, a7, a8) h
theorem lp9 {A1 A2 A3 A4 A5 A6 A7 A8 A9 : Type} (W : Nat → A1 → A2 → A3 → A4 → A5 → A6 → A7 → A8 → A9 → Prop) (I : A1 → A2 → A3 → A4 → A5 → A6 → A7 → A8 → A9 → Prop) (μ : A1 → A2 → A3 → A4 → A5 → A6 → A7 → A8 → A9 → Nat) (hs : ∀ (n : Nat) (a1 : A1) (a2 : A2) (a3 : A3) (a4 : A4) (a5 : A5) (a6 : A6) (a7 : A7) (a8 : A8) (a9 : A9), I a1 a2 a3 a4 a5 a6 a7 a8 a9 → (∀ (b1 : A1) (b2 : A2) (b3 : A3) (b4 : A4) (b5 : A5) (b6 : A6) (b7 : A7) (b8 : A8) (b9 : A9), I b1 b2 b3 b4 b5 b6 b7 b8 b9 → μ b1 b2 b3 b4 b5 b6 b7 b8 b9 < μ a1 a2 a3 a4 a5 a6 a7 a8 a9 → W n b1 b2 b3 b4 b5 b6 b7 b8 b9) → W (n + 1) a1 a2 a3 a4 a5 a6 a7 a8 a9) (a1 : A1) (a2 : A2) (a3 : A3) (a4 : A4) (a5 : A5) (a6 : A6) (a7 : A7) (a8 : A8) (a9 : A9) (h : I a1 a2 a3 a4 a5 a6 a7 a8 a9) : ∃ n, W n a1 a2 a3 a4 a5 a6 a7 a8 a9 :=
  loop_m (σ := A1 × A2 × A3 × A4 × A5 × A6 × A7 × A8 × A9) (fun n s => W n s.1 s.2.1 s.2.2.1 s.2.2.2.1 s.2.2.2.2.1 s.2.2.2.2.2.1 s.2.2.2.2.2.2.1 s.2.2.2.2.2.2.2.1 s.2.2.2.2.2.2.2.2) (fun s => I s.1 s.2.1 s.2.2.1 s.2.2.2.1 s.2.2.2.2.1 s.2.2.2.2.2.1 s.2.2.2.2.2.2.1 s.2.2.2.2.2.2.2.1 s.2.2.2.2.2.2.2.2) (fun s => μ s.1 s.2.1 s.2.2.1 s.2.2.2.1 s.2.2.2.2.1 s.2.2.2.2.2.1 s.2.2.2.2.2.2.1 s.2.2.2.2.2.2.2.1 s.2.2.2.2.2.2.2.2) (fun n s hI hk => hs n s.1 s.2.1 s.2.2.1 s.2.2.2.1 s.2.2.2.2.1 s.2.2.2.2.2.1 s.2.2.2.2.2.2.1 s.2.2.2.2.2.2.2.1 s.2.2.2.2.2.2.2.2 hI (fun b1 b2 b3 b4 b5 b6 b7 b8 b9 h9 hm => hk (b1, b2, b3, b4, b5, b6, b7, b8, b9) h9 hm)) (a1, a2, a3, a4, a5, a6, a7, a8, a9) h
theorem lp10 {A1 A2 A3 A4 A5 A6 A7 A8 A9 A10 : Type} (W : Nat → A1 → A2 → A3 → A4 → A5 → A6 → A7 → A8 → A9 → A10 → Prop) (I : A1 → A2 → A3 → A4 → A5 → A6 → A7 → A8 → A9 → A10 → Prop) (μ : A1 → A2 → A3 → A4 → A5 → A6 → A7 → A8 → A9 → A10 → Nat) (hs : ∀ (n : Nat) (a1 : A1) (a2 : A2) (a3 : A3) (a4 : A4) (a5 : A5) (a6 : A6) (a7 : A7) (a8 : A8) (a9 : A9) (a10 : A10), I a1 a2 a3 a4 a5 a6 a7 a8 a9 a10 → (∀ (b1 : A1) (b2 : A2) (b3 : A3) (b4 : A4) (b5 : A5) (b6 : A6) (b7 : A7) (b8 : A8) (b9 : A9) (b10 : A10), I b1 b2 b3 b4 b5 b6 b7 b8 b9 b10 → μ b1 b2 b3 b4 b5 b6 b7 b8 b9 b10 < μ a1 a2 a3 a4 a5 a6 a7 a8 a9 a10 → W n b1 b2 b3 b4 b5 b6 b7 b8 b9 b10) → W (n + 1) a1 a2 a3 a4 a5 a6 a7 a8 a9 a10) (a1 : A1) (a2 : A2) (a3 : A3) (a4 : A4) (a5 : A5) (a6 : A6) (a7 : A7) (a8 : A8) (a9 : A9) (a10 : A10) (h : I a1 a2 a3 a4 a5 a6 a7 a8 a9 a10) : ∃ n, W n a1 a2 a3 a4 a5 a6 a7 a8 a9 a10 :=
  loop_m (σ := A1 × A2 × A3 × A4 × A5 × A6 × A7 × A8 × A9 × A10) (fun n s => W n s.1 s.2.1 s.2.2.1 s.2.2.2.1 s.2.2.2.2.1 s.2.2.2.2.2.1 s.2.2.2.2.2.2.1 s.2.2.2.2.2.2.2.1 s.2.2.2.2.2.2.2.2.1 s.2.2.2.2.2.2.2.2.2) (fun s => I s.1 s.2.1 s.2.2.1 s.2.2.2.1 s.2.2.2.2.1 s.2.2.2.2.2.1 s.2.2.2.2.2.2.1 s.2.2.2.2.2.2.2.1 s.2.2.2.2.2.2.2.2.1 s.2.2.2.2.2.2.2.2.2) (fun s => μ s.1 s.2.1 s.2.2.1 s.2.2.2.1 s.2.2.2.2.1 s.2.2.2.2.2.1 s.2.2.2.2.2.2.1 s.2.2.2.2.2.2.2.1 s.2.2.2.2.2.2.2.2.1 s.2.2.2.2.2.2.2.2.2) (fun n s hI hk => hs n s.1 s.2.1 s.2.2.1 s.2.2.2.1 s.2.2.2.2.1 s.2.2.2.2.2.1 s.2.2.2.2.2.2.1 s.2.2.2.2.2.2.2.1 s.2.2.2.2.2.2.2.2.1 s.2.2.2.2.2.2.2.2.2 hI (fun b1 b2 b3 b4 b5 b6 b7 b8 b9 b10 h9 hm => hk (b1, b2, b3, b4, b5, b6, b7, b8, b9, b10) h9 hm)) (a1, a2, a3, a4, a5, a6, a7, a8, a9, a10) h
theorem lp11 {A1 A2 A3 A4 A5 A6 A7 A8 A9 A10 A11 : Type} (W : Nat → A1 → A2 → A3 → A4 → A5 → A6 → A7 → A8 → A9 → A10 → A11 → Prop) (I : A1 → A2 → A3 → A4 → A5 → A6 → A7 → A8 → A9 → A10 → A11 → Prop) (μ : A1 → A2 → A3 → A4 → A5 → A6 → A7 → A8 → A9 → A10 → A11 → Nat) (hs : ∀ (n : Nat) (a1 : A1) (a2 : A2) (a3 : A3) (a4 : A4) (a5 : A5) (a6 : A6) (a7 : A7) (a8 : A8) (a9 : A9) (a10 : A10) (a11 : A11), I a1 a2 a3 a4 a5 a6 a7 a8 a9 a10 a11 → (∀ (b1 : A1) (b2 : A2) (b3 : A3) (b4 : A4) (b5 : A5) (b6 : A6) (b7 : A7) (b8 : A8) (b9 : A9) (b10 : A10) (b11 : A11), I b1 b2 b3 b4 b5 b6 b7 b8 b9 b10 b11 → μ b1 b2 b3 b4 b5 b6 b7 b8 b9 b10 b11 < μ a1 a2 a3 a4 a5 a6 a7 a8 a9 a10 a11 → W n b1 b2 b3 b4 b5 b6 b7 b8 b9 b10 b11) → W (n + 1) a1 a2 a3 a4 a5 a6 a7 a8 a9 a10 a11) (a1 : A1) (a2 : A2) (a3 : A3) (a4 : A4) (a5 : A5) (a6 : A6) (a7 : A7) (a8 : A8) (a9 : A9) (a10 : A10) (a11 : A11) (h : I a1 a2 a3 a4 a5 a6 a7 a8 a9 a10 a11) : ∃ n, W n a1 a2 a3 a4 a5 a6 a7 a8 a9 a10 a11 :=
  loop_m (σ := A1 × A2 × A3 × A4 × A5 × A6 × A7 × A8 × A9 × A10 × A11) (fun n s => W n s.1 s.2.1 s.2.2.1 s.2.2.2.1 s.2.2.2.2.1 s.2.2.2.2.2.1 s.2.2.2.2.2.2.1 s.2.2.2.2.2.2.2.1 s.2.2.2.2.2.2.2.2.1 s.2.2.2.2.2.2.2.2.2.1 s.2.2.2.2.2.2.2.2.2.2) (fun s => I s.1 s.2.1 s.2.2.1 s.2.2.2.1 s.2.2.2.2.1 s.2.2.2.2.2.1 s.2.2.2.2.2.2.1 s.2.2.2.2.2.2.2.1 s.2.2.2.2.2.2.2.2.1 s.2.2.2.2.2.2.2.2.2.1 s.2.2.2.2.2.2.2.2.2.2) (fun s => μ s.1 s.2.1 s.2.2.1 s.2.2.2.1 s.2.2.2.2.1 s.2.2.2.2.2.1 s.2.2.2.2.2.2.1 s.2.2.2.2.2.2.2.1 s.2.2.2.2.2.2.2.2.1 s.2.2.2.2.2.2.2.2.2.1 s.2.2.2.2.2.2.2.2.2.2) (fun n s hI hk => hs n s.1 s.2.1 s.2.2.1 s.2.2.2.1 s.2.2.2.2.1 s.2.2.2.2.2.1 s.2.2.2.2.2.2.1 s.2.2.2.2.2.2.2.1 s.2.2.2.2.2.2.2.2.1 s.2.2.2.2.2.2.2.2.2.1 s.2.2.2.2.2.2.2.2.2.2 hI (fun b1 b2 b3 b4 b5 b6 b7 b8 b9 b10 b11 h9 hm => hk (b1, b2, b3, b4, b5, b6, b7, b8, b9, b10, b11) h9 hm)) (a1, a2, a3, a4, a5, a6, a7, a8, a9, a10, a11) h
theorem lp12 {A1 A2 A3 A4 A5 A6 A7 A8 A9 A10 A11 A12 : Type} (W : Nat → A1 → A2 → A3 → A4 → A5 → A6 → A7 → A8 → A9 → A10 → A11 → A12 → Prop) (I : A1 → A2 → A3 → A4 → A5 → A6 → A7 → A8 → A9 → A10 → A11 → A12 → Prop) (μ : A1 → A2 → A3 → A4 → A5 → A6 → A7 → A8 → A9 → A10 → A11 → A12 → Nat) (hs : ∀ (n : Nat) (a1 : A1) (a2 : A2) (a3 : A3) (a4 : A4) (a5 : A5) (a6 : A6) (a7 : A7) (a8 : A8) (a9 : A9) (a10 : A10) (a11 : A11) (a12 : A12), I a1 a2 a3 a4 a5 a6 a7 a8 a9 a10 a11 a12 → (∀ (b1 : A1) (b2 : A2) (b3 : A3) (b4 : A4) (b5 : A5) (b6 : A6) (b7 : A7) (b8 : A8) (b9 : A9) (b10 : A10) (b11 : A11) (b12 : A12), I b1 b2 b3 b4 b5 b6 b7 b8 b9 b10 b11 b12 → μ b1 b2 b3 b4 b5 b6 b7 b8 b9 b10 b11 b12 < μ a1 a2 a3 a4 a5 a6 a7 a8 a9 a10 a11 a12 → W n b1 b2 b3 b4 b5 b6 b7 b8 b9 b10 b11 b12) → W (n + 1) a1 a2 a3 a4 a5 a6 a7 a8 a9 a10 a11 a12) (a1 : A1) (a2 : A2) (a3 : A3) (a4 : A4) (a5 : A5) (a6 : A6) (a7 : A7) (a8 : A8) (a9 : A9) (a10 : A10) (a11 : A11) (a12 : A12) (h : I a1 a2 a3 a4 a5 a6 a7 a8 a9 a10 a11 a12) : ∃ n, W n a1 a2 a3 a4 a5 a6 a7 a8 a9 a10 a11 a12 :=
  loop_m (σ := A1 × A2 × A3 × A4 × A5 × A6 × A7 × A8 × A9 × A10 × A11 × A12) (fun n s => W n s.1 s.2.1 s.2.2.1 s.2.2.2.1 s.2.2.2.2.1 s.2.2.2.2.2.1 s.2.2.2.2.2.2.1 s.2.2.2.2.2.2.2.1 s.2.2.2.2.2.2.2.2.1 s.2.2.2.2.2.2.2.2.2.1 s.2.2.2.2.2.2.2.2.2.2.1 s.2.2.2.2.2.2.2.2.2.2.2) (fun s => I s.1 s.2.1 s.2.2.1 s.2.2.2.1 s.2.2.2.2.1 s.2.2.2.2.2.1 s.2.2.2.2.2.2.1 s.2.2.2.2.2.2.2.1 s.2.2.2.2.2.2.2.2.1 s.2.2.2.2.2.2.2.2.2.1 s.2.2.2.2.2.2.2.2.2.2.1 s.2.2.2.2.2.2.2.2.2.2.2) (fun s => μ s.1 s.2.1 s.2.2.1 s.2.2.2.1 s.2.2.2.2.1 s.2.2.2.2.2.1 s.2.2.2.2.2.2.1 s.2.2.2.2.2.2.2.1 s.2.2.2.2.2.2.2.2.1 s.2.2.2.2.2.2.2.2.2.1 s.2.2.2.2.2.2.2.2.2.2.1 s.2.2.2.2.2.2.2.2.2.2.2) (fun n s hI hk => hs n s.1 s.2.1 s.2.2.1 s.2.2.2.1 s.2.2.2.2.1 s.2.2.2.2.2.1 s.2.2.2.2.2.2.1 s.2.2.2.2.2.2.2.1 s.2.2.2.2.2.2.2.2.1 s.2.2.2.2.2.2.2.2.2.1 s.2.2.2.2.2.2.2.2.2.2.1 s.2.2.2.2.2.2.2.2.2.2.2 hI (fun b1 b2 b3 b4 b5 b6 b7 b8 b9 b10 b11 b12 h9 hm => hk (b1, b2, b3, b4, b5, b6, b7, b8, b9, b10, b11, b12) h9 hm)) (a1, a2, a3, a4, a5, a6, a7, a8, a9, a10, a11, a12) h
theorem lp13 {A1 A2 A3 A4 A5 A6 A7 A8 A9 A10 A11 A12 A13 : Type} (W : Nat → A1 → A2 → A3 → A4 → A5 → A6 → A7 → A8 → A9 → A10 → A11 → A12 → A13 → Prop) (I : A1 → A2 → A3 → A4 → A5 → A6 → A7 → A8 → A9 → A10 → A11 → A12 → A13 → Prop) (μ : A1 → A2 → A3 → A4 → A5 → A6 → A7 → A8 → A9 → A10 → A11 → A12 → A13 → Nat) (hs : ∀ (n : Nat) (a1 : A1) (a2 : A2) (a3 : A3) (a4 : A4) (a5 : A5) (a6 : A6) (a7 : A7) (a8 : A8) (a9 : A9) (a10 : A10) (a11 : A11) (a12 : A12) (a13 : A13), I a1 a2 a3 a4 a5 a6 a7 a8 a9 a10 a11 a12 a13 → (∀ (b1 : A1) (b2 : A2) (b3 : A3) (b4 : A4) (b5 : A5) (b6 : A6) (b7 : A7) (b8 : A8) (b9 : A9) (b10 : A10) (b11 : A11) (b12 : A12) (b13 : A13), I b1 b2 b3 b4 b5 b6 b7 b8 b9 b10 b11 b12 b13 → μ b1 b2 b3 b4 b5 b6 b7 b8 b9 b10 b11 b12 b13 < μ a1 a2 a3 a4 a5 a6 a7 a8 a9 a10 a11 a12 a13 → W n b1 b2 b3 b4 b5 b6 b7 b8 b9 b10 b11 b12 b13) → W (n + 1) a1 a2 a3 a4 a5 a6 a7 a8 a9 a10 a11 a12 a13) (a1 : A1) (a2 : A2) (a3 : A3) (a4 : A4) (a5 : A5) (a6 : A6) (a7 : A7) (a8 : A8) (a9 : A9) (a10 : A10) (a11 : A11) (a12 : A12) (a13 : A13) (h : I a1 a2 a3 a4 a5 a6 a7 a8 a9 a10 a11 a12 a13) : ∃ n, W n a1 a2 a3 a4 a5 a6 a7 a8 a9 a10 a11 a12 a13 :=
  loop_m (σ := A1 × A2 × A3 × A4 × A5 × A6 × A7 × A8 × A9 × A10 × A11 × A12 × A13) (fun n s => W n s.1 s.2.1 s.2.2.1 s.2.2.2.1 s.2.2.2.2.1 s.2.2.2.2.2.1 s.2.2.2.2.2.2.1 s.2.2.2.2.2.2.2.1 s.2.2.2.2.2.2.2.2.1 s.2.2.2.2.2.2.2.2.2.1 s.2.2.2.2.2.2.2.2.2.2.1 s.2.2.2.2.2.2.2.2.2.2.2.1 s.2.2.2.2.2.2.2.2.2.2.2.2) (fun s => I s.1 s.2.1 s.2.2.1 s.2.2.2.1 s.2.2.2.2.1 s.2.2.2.2.2.1 s.2.2.2.2.2.2.1 s.2.2.2.2.2.2.2.1 s.2.2.2.2.2.2.2.2.1 s.2.2.2.2.2.2.2.2.2.1 s.2.2.2.2.2.2.2.2.2.2.1 s.2.2.2.2.2.2.2.2.2.2.2.1 s.2.2.2.2.2.2.2.2.2.2.2.2) (fun s => μ s.1 s.2.1 s.2.2.1 s.2.2.2.1 s.2.2.2.2.1 s.2.2.2.2.2.1 s.2.2.2.2.2.2.1 s.2.2.2.2.2.2.2.1 s.2.2.2.2.2.2.2.2.1 s.2.2.2.2.2.2.2.2.2.1 s.2.2.2.2.2.2.2.2.2.2.1 s.2.2.2.2.2.2.2.2.2.2.2.1 s.2.2.2.2.2.2.2.2.2.2.2.2) (fun n s hI hk => hs n s.1 s.2.1 s.2.2.1 s.2.2.2.1 s.2.2.2.2.1 s.2.2.2.2.2.1 s.2.2.2.2.2.2.1 s.2.2.2.2.2.2.2.1 s.2.2.2.2.2.2.2.2.1 s.2.2.2.2.2.2.2.2.2.1 s.2.2.2.2.2.2.2.2.2.2.1 s.2.2.2.2.2.2.2.2.2.2.2.1 s.2.2.2.2.2.2.2.2.2.2.2.2 hI (fun b1 b2 b3 b4 b5 b6 b7 b8 b9 b10 b11 b12 b13 h9 hm => hk (b1, b2, b3, b4, b5, b6, b7, b8, b9, b10, b11, b12, b13) h9 hm)) (a1, a2, a3, a4, a5, a6, a7, a8, a9, a10, a11, a12, a13) h
theorem lp14 {A1 A2 A3 A4 A5 A6 A7 A8 A9 A10 A11 A12 A13 A14 : Type} (W : Nat → A1 → A2 → A3 → A4 → A5 → A6 → A7 → A8 → A9 → A10 → A11 → A12 → A13 → A14 → Prop) (I : A1 → A2 → A3 → A4 → A5 → A6 → A7 → A8 → A9 → A10 → A11 → A12 → A13 → A14 → Prop) (μ : A1 → A2 → A3 → A4 → A5 → A6 → A7 → A8 → A9 → A10 → A11 → A12 → A13 → A14 → Nat) (hs : ∀ (n : Nat) (a1 : A1) (a2 : A2) (a3 : A3) (a4 : A4) (a5 : A5) (a6 : A6) (a7 : A7) (a8 : A8) (a9 : A9) (a10 : A10) (a11 : A11) (a12 : A12) (a13 : A13) (a14 : A14), I a1 a2 a3 a4 a5 a6 a7 a8 a9 a10 a11 a12 a13 a14 → (∀ (b1 : A1) (b2 : A2) (b3 : A3) (b4 : A4) (b5 : A5) (b6 : A6) (b7 : A7) (b8 : A8) (b9 : A9) (b10 : A10) (b11 : A11) (b12 : A12) (b13 : A13) (b14 : A14), I b1 b2 b3 b4 b5 b6 b7 b8 b9 b10 b11 b12 b13 b14 → μ b1 b2 b3 b4 b5 b6 b7 b8 b9 b10 b11 b12 b13 b14 < μ a1 a2 a3 a4 a5 a6 a7 a8 a9 a10 a11 a12 a13 a14 → W n b1 b2 b3 b4 b5 b6 b7 b8 b9 b10 b11 b12 b13 b14) → W (n + 1) a1 a2 a3 a4 a5 a6 a7 a8 a9 a10 a11 a12 a13 a14) (a1 : A1) (a2 : A2) (a3 : A3) (a4 : A4) (a5 : A5) (a6 : A6) (a7 : A7) (a8 : A8) (a9 : A9) (a10 : A10) (a11 : A11) (a12 : A12) (a13 : A13) (a14 : A14) (h : I a1 a2 a3 a4 a5 a6 a7 a8 a9 a10 a11 a12 a13 a14) : ∃ n, W n a1 a2 a3 a4 a5 a6 a7 a8 a9 a10 a11 a12 a13 a14 :=
  loop_m (σ := A1 × A2 × A3 × A4 × A5 × A6 × A7 × A8 × A9 × A10 × A11 × A12 × A13 × A14) (fun n s => W n s.1 s.2.1 s.2.2.1 s.2.2.2.1 s.2.2.2.2.1 s.2.2.2.2.2.1 s.2.2.2.2.2.2.1 s.2.2.2.2.2.2.2.1 s.2.2.2.2.2.2.2.2.1 s.2.2.2.2.2.2.2.2.2.1 s.2.2.2.2.2.2.2.2.2.2.1 s.2.2.2.2.2.2.2.2.2.2.2.1 s.2.2.2.2.2.2.2.2.2.2.2.2.1 s.2.2.2.2.2.2.2.2.2.2.2.2.2) (fun s => I s.1 s.2.1 s.2.2.1 s.2.2.2.1 s.2.2.2.2.1 s.2.2.2.2.2.1 s.2.2.2.2.2.2.1 s.2.2.2.2.2.2.2.1 s.2.2.2.2.2.2.2.2.1 s.2.2.2.2.2.2.2.2.2.1 s.2.2.2.2.2.2.2.2.2.2.1 s.2.2.2.2.2.2.2.2.2.2.2.1 s.2.2.2.2.2.2.2.2.2.2.2.2.1 s.2.2.2.2.2.2.2.2.2.2.2.2.2) (fun s => μ s.1 s.2.1 s.2.2.1 s.2.2.2.1 s.2.2.2.2.1 s.2.2.2.2.2.1 s.2.2.2.2.2.2.1 s.2.2.2.2.2.2.2.1 s.2.2.2.2.2.2.2.2.1 s.2.2.2.2.2.2.2.2.2.1 s.2.2.2.2.2.2.2.2.2.2.1 s.2.2.2.2.2.2.2.2.2.2.2.1 s.2.2.2.2.2.2.2.2.2.2.2.2.1 s.2.2.2.2.2.2.2.2.2.2.2.2.2) (fun n s hI hk => hs n s.1 s.2.1 s.2.2.1 s.2.2.2.1 s.2.2.2.2.1 s.2.2.2.2.2.1 s.2.2.2.2.2.2.1 s.2.2.2.2.2.2.2.1 s.2.2.2.2.2.2.2.2.1 s.2.2.2.2.2.2.2.2.2.1 s.2.2.2.2.2.2.2.2.2.2.1 s.2.2.2.2.2.2.2.2.2.2.2.1 s.2.2.2.2.2.2.2.2.2.2.2.2.1 s.2.2.2.2.2.2.2.2.2.2.2.2.2 hI (fun b1 b2 b3 b4 b5 b6 b7 b8 b9 b10 b11 b12 b13 b14 h9 hm => hk (b1, b2, b3, b4, b5, b6, b7, b8, b9, b10, b11, b12, b13, b14) h9 hm)) (a1, a2, a3, a4, a5, a6, a7, a8, a9, a10, a11, a12, a13, a14) h
theorem lp15 {A1 A2 A3 A4 A5 A6 A7 A8 A9 A10 A11 A12 A13 A14 A15 : Type} (W : Nat → A1 → A2 → A3 → A4 → A5 → A6 → A7 → A8 → A9 → A10 → A11 → A12 → A13 → A14 → A15 → Prop) (I : A1 → A2 → A3 → A4 → A5 → A6 → A7 → A8 → A9 → A10 → A11 → A12 → A13 → A14 → A15 → Prop) (μ : A1 → A2 → A3 → A4 → A5 → A6 → A7 → A8 → A9 → A10 → A11 → A12 → A13 → A14 → A15 → Nat) (hs : ∀ (n : Nat) (a1 : A1) (a2 : A2) (a3 : A3) (a4 : A4) (a5 : A5) (a6 : A6) (a7 : A7) (a8 : A8) (a9 : A9) (a10 : A10) (a11 : A11) (a12 : A12) (a13 : A13) (a14 : A14) (a15 : A15), I a1 a2 a3 a4 a5 a6 a7 a8 a9 a10 a11 a12 a13 a14 a15 → (∀ (b1 : A1) (b2 : A2) (b3 : A3) (b4 : A4) (b5 : A5) (b6 : A6) (b7 : A7) (b8 : A8) (b9 : A9) (b10 : A10) (b11 : A11) (b12 : A12) (b13 : A13) (b14 : A14) (b15 : A15), I b1 b2 b3 b4 b5 b6 b7 b8 b9 b10 b11 b12 b13 b14 b15 → μ b1 b2 b3 b4 b5 b6 b7 b8 b9 b10 b11 b12 b13 b14 b15 < μ a1 a2 a3 a4 a5 a6 a7 a8 a9 a10 a11 a12 a13 a14 a15 → W n b1 b2 b3 b4 b5 b6 b7 b8 b9 b10 b11 b12 b13 b14 b15) → W (n + 1) a1 a2 a3 a4 a5 a6 a7 a8 a9 a10 a11 a12 a13 a14 a15) (a1 : A1) (a2 : A2) (a3 : A3) (a4 : A4) (a5 : A5) (a6 : A6) (a7 : A7) (a8 : A8) (a9 : A9) (a10 : A10) (a11 : A11) (a12 : A12) (a13 : A13) (a14 : A14) (a15 : A15) (h : I a1 a2 a3 a4 a5 a6 a7 a8 a9 a10 a11 a12 a13 a14 a15) : ∃ n, W n a1 a2 a3 a4 a5 a6 a7 a8 a9 a10 a11 a12 a13 a14 a15 :=
  loop_m (σ := A1 × A2 × A3 × A4 × A5 × A6 × A7 × A8 × A9 × A10 × A11 × A12 × A13 × A14 × A15) (fun n s => W n s.1 s.2.1 s.2.2.1 s.2.2.2.1 s.2.2.2.2.1 s.2.2.2.2.2.1 s.2.2.2.2.2.2.1 s.2.2.2.2.2.2.2.1 s.2.2.2.2.2.2.2.2.1 s.2.2.2.2.2.2.2.2.2.1 s.2.2.2.2.2.2.2.2.2.2.1 s.2.2.2.2.2.2.2.2.2.2.2.1 s.2.2.2.2.2.2.2.2.2.2.2.2.1 s.2.2.2.2.2.2.2.2.2.2.2.2.2.1 s.2.2.2.2.2.2.2.2.2.2.2.2.2.2) (fun s => I s.1 s.2.1 s.2.2.1 s.2.2.2.1 s.2.2.2.2.1 s.2.2.2.2.2.1 s.2.2.2.2.2.2.1 s.2.2.2.2.2.2.2.1 s.2.2.2.2.2.2.2.2.1 s.2.2.2.2.2.2.2.2.2.1 s.2.2.2.2.2.2.2.2.2.2.1 s.2.2.2.2.2.2.2.2.2.2.2.1 s.2.2.2.2.2.2.2.2.2.2.2.2.1 s.2.2.2.2.2.2.2.2.2.2.2.2.2.1 s.2.2.2.2.2.2.2.2.2.2.2.2.2.2) (fun s => μ s.1 s.2.1 s.2.2.1 s.2.2.2.1 s.2.2.2.2.1 s.2.2.2.2.2.1 s.2.2.2.2.2.2.1 s.2.2.2.2.2.2.2.1 s.2.2.2.2.2.2.2.2.1 s.2.2.2.2.2.2.2.2.2.1 s.2.2.2.2.2.2.2.2.2.2.1 s.2.2.2.2.2.2.2.2.2.2.2.1 s.2.2.2.2.2.2.2.2.2.2.2.2.1 s.2.2.2.2.2.2.2.2.2.2.2.2.2.1 s.2.2.2.2.2.2.2.2.2.2.2.2.2.2) (fun n s hI hk => hs n s.1 s.2.1 s.2.2.1 s.2.2.2.1 s.2.2.2.2.1 s.2.2.2.2.2.1 s.2.2.2.2.2.2.1 s.2.2.2.2.2.2.2.1 s.2.2.2.2.2.2.2.2.1 s.2.2.2.2.2.2.2.2.2.1 s.2.2.2.2.2.2.2.2.2.2.1 s.2.2.2.2.2.2.2.2.2.2.2.1 s.2.2.2.2.2.2.2.2.2.2.2.2.1 s.2.2.2.2.2.2.2.2.2.2.2.2.2.1 s.2.2.2.2.2.2.2.2.2.2.2.2.2.2 hI (fun b1 b2 b3 b4 b5 b6 b7 b8 b9 b10 b11 b12 b13 b14 b15 h9 hm => hk (b1, b2, b3, b4, b5, b6, b7, b8, b9, b10, b11, b12, b13, b14, b15) h9 hm)) (a1, a2, a3, a4, a5, a6, a7, a8, a9, a10, a11, a12, a13, a14, a15) h
theorem lp16 {A1 A2 A3 A4 A5 A6 A7 A8 A9 A10 A11 A12 A13 A14 A15 A16 : Type} (W : Nat → A1 → A2 → A3 → A4 → A5 → A6 → A7 → A8 → A9 → A10 → A11 → A12 → A13 → A14 → A15 → A16 → Prop) (I : A1 → A2 → A3 → A4 → A5 → A6 → A7 → A8 → A9 → A10 → A11 → A12 → A13 → A14 → A15 → A16 → Prop) (μ : A1 → A2 → A3 → A4 → A5 → A6 → A7 → A8 → A9 → A10 → A11 → A12 → A13 → A14 → A15 → A16 → Nat) (hs : ∀ (n : Nat) (a1 : A1) (a2 : A2) (a3 : A3) (a4 : A4) (a5 : A5) (a6 : A6) (a7 : A7) (a8 : A8) (a9 : A9) (a10 : A10) (a11 : A11) (a12 : A12) (a13 : A13) (a14 : A14) (a15 : A15) (a16 : A16), I a1 a2 a3 a4 a5 a6 a7 a8 a9 a10 a11 a12 a13 a14 a15 a16 → (∀ (b1 : A1) (b2 : A2) (b3 : A3) (b4 : A4) (b5 : A5) (b6 : A6) (b7 : A7) (b8 : A8) (b9 : A9) (b10 : A10) (b11 : A11) (b12 : A12) (b13 : A13) (b14 : A14) (b15 : A15) (b16 : A16), I b1 b2 b3 b4 b5 b6 b7 b8 b9 b10 b11 b12 b13 b14 b15 b16 → μ b1 b2 b3 b4 b5 b6 b7 b8 b9 b10 b11 b12 b13 b14 b15 b16 < μ a1 a2 a3 a4 a5 a6 a7 a8 a9 a10 a11 a12 a13 a14 a15 a16 → W n b1 b2 b3 b4 b5 b6 b7 b8 b9 b10 b11 b12 b13 b14 b15 b16) → W (n + 1) a1 a2 a3 a4 a5 a6 a7 a8 a9 a10 a11 a12 a13 a14 a15 a16) (a1 : A1) (a2 : A2) (a3 : A3) (a4 : A4) (a5 : A5) (a6 : A6) (a7 : A7) (a8 : A8) (a9 : A9) (a10 : A10) (a11 : A11) (a12 : A12) (a13 : A13) (a14 : A14) (a15 : A15) (a16 : A16) (h : I a1 a2 a3 a4 a5 a6 a7 a8 a9 a10 a11 a12 a13 a14 a15 a16) : ∃ n, W n a1 a2 a3 a4 a5 a6 a7 a8 a9 a10 a11 a12 a13 a14 a15 a16 :=
  loop_m (σ := A1 × A2 × A3 × A4 × A5 × A6 × A7 × A8 × A9 × A10 × A11 × A12 × A13 × A14 × A15 × A16) (fun n s => W n s.1 s.2.1 s.2.2.1 s.2.2.2.1 s.2.2.2.2.1 s.2.2.2.2.2.1 s.2.2.2.2.2.2.1 s.2.2.2.2.2.2.2.1 s.2.2.2.2.2.2.2.2.1 s.2.2.2.2.2.2.2.2.2.1 s.2.2.2.2.2.2.2.2.2.2.1 s.2.2.2.2.2.2.2.2.2.2.2.1 s.2.2.2.2.2.2.2.2.2.2.2.2.1 s.2.2.2.2.2.2.2.2.2.2.2.2.2.1 s.2.2.2.2.2.2.2.2.2.2.2.2.2.2.1 s.2.2.2.2.2.2.2.2.2.2.2.2.2.2.2) (fun s => I s.1 s.2.1 s.2.2.1 s.2.2.2.1 s.2.2.2.2.1 s.2.2.2.2.2.1 s.2.2.2.2.2.2.1 s.2.2.2.2.2.2.2.1 s.2.2.2.2.2.2.2.2.1 s.2.2.2.2.2.2.2.2.2.1 s.2.2.2.2.2.2.2.2.2.2.1 s.2.2.2.2.2.2.2.2.2.2.2.1 s.2.2.2.2.2.2.2.2.2.2.2.2.1 s.2.2.2.2.2.2.2.2.2.2.2.2.2.1 s.2.2.2.2.2.2.2.2.2.2.2.2.2.2.1 s.2.2.2.2.2.2.2.2.2.2.2.2.2.2.2) (fun s => μ s.1 s.2.1 s.2.2.1 s.2.2.2.1 s.2.2.2.2.1 s.2.2.2.2.2.1 s.2.2.2.2.2.2.1 s.2.2.2.2.2.2.2.1 s.2.2.2.2.2.2.2.2.1 s.2.2.2.2.2.2.2.2.2.1 s.2.2.2.2.2.2.2.2.2.2.1 s.2.2.2.2.2.2.2.2.2.2.2.1 s.2.2.2.2.2.2.2.2.2.2.2.2.1 s.2.2.2.2.2.2.2.2.2.2.2.2.2.1 s.2.2.2.2.2.2.2.2.2.2.2.2.2.2.1 s.2.2.2.2.2.2.2.2.2.2.2.2.2.2.2) (fun n s hI hk => hs n s.1 s.2.1 s.2.2.1 s.2.2.2.1 s.2.2.2.2.1 s.2.2.2.2.2.1 s.2.2.2.2.2.2.1 s.2.2.2.2.2.2.2.1 s.2.2.2.2.2.2.2.2.1 s.2.2.2.2.2.2.2.2.2.1 s.2.2.2.2.2.2.2.2.2.2.1 s.2.2.2.2.2.2.2.2.2.2.2.1 s.2.2.2.2.2.2.2.2.2.2.2.2.1 s.2.2.2.2.2.2.2.2.2.2.2.2.2.1 s.2.2.2.2.2.2.2.2.2.2.2.2.2.2.1 s.2.2.2.2.2.2.2.2.2.2.2.2.2.2.2 hI (fun b1 b2 b3 b4 b5 b6 b7 b8 b9 b10 b11 b12 b13 b14 b15 b16 h9 hm => hk (b1, b2, b3, b4, b5, b6, b7, b8, b9, b10, b11, b12, b13, b14, b15, b16) h9 hm)) (a1, a2, a3, a4, a5, a6, a7, a8, a9, a10, a11, a12, a13, a14, a15, a16) h
theorem pk_least (P : Nat → Prop) (h : ∃ k, P k) : ∃ k, P k ∧ ∀ j, j < k → ¬ P j := by
  obtain ⟨k, hk⟩ := h
  induction k using Nat.strongRecOn with
  | ind k ih =>
    by_cases e : ∃ j, j < k ∧ P j
    · obtain ⟨j, hj, pj⟩ := e
      exact ih j hj pj
    · exact ⟨k, hk, fun j hj pj => e ⟨j, hj, pj⟩⟩
theorem rp1 {ρ A1 : Type} (W : Nat → (ρ → Prop) → A1 → Prop) (ok : A1 → Prop) (μ : A1 → Nat) (val : A1 → ρ)
    (hs : ∀ (d : Nat) (post : ρ → Prop) (a1 : A1), ok a1 → post (val a1) → (∀ (post' : ρ → Prop) (b1 : A1), ok b1 → μ b1 < μ a1 → post' (val b1) → W d post' b1) → W (d + 1) post a1) :
    ∀ (d : Nat) (post : ρ → Prop) (a1 : A1), ok a1 → μ a1 < d → post (val a1) → W d post a1 := by
  intro d
  induction d with
  | zero => intro post a1 _ h; omega
  | succ d ih =>
    intro post a1 ho hm hp
    exact hs d post a1 ho hp (fun post' b1 ho' hm' hp' => ih post' b1 ho' (by omega) hp')
theorem rp2 {ρ A1 A2 : Type} (W : Nat → (ρ → Prop) → A1 → A2 → Prop) (ok : A1 → A2 → Prop) (μ : A1 → A2 → Nat) (val : A1 → A2 → ρ)
    (hs : ∀ (d : Nat) (post : ρ → Prop) (a1 : A1) (a2 : A2), ok a1 a2 → post (val a1 a2) → (∀ (post' : ρ → Prop) (b1 : A1) (b2 : A2), ok b1 b2 → μ b1 b2 < μ a1 a2 → post' (val b1 b2) → W d post' b1 b2) → W (d + 1) post a1 a2) :
    ∀ (d : Nat) (post : ρ → Prop) (a1 : A1) (a2 : A2), ok a1 a2 → μ a1 a2 < d → post (val a1 a2) → W d post a1 a2 := by
  intro d
  induction d with
  | zero => intro post a1 a2 _ h; omega
  | succ d ih =>
    intro post a1 a2 ho hm hp
    exact hs d post a1 a2 ho hp (fun post' b1 b2 ho' hm' hp' => ih post' b1 b2 ho' (by omega) hp')
theorem rp3 {ρ A1 A2 A3 : Type} (W : Nat → (ρ → Prop) → A1 → A2 → A3 → Prop) (ok : A1 → A2 → A3 → Prop) (μ : A1 → A2 → A3 → Nat) (val : A1 → A2 → A3 → ρ)
    (hs : ∀ (d : Nat) (post : ρ → Prop) (a1 : A1) (a2 : A2) (a3 : A3), ok a1 a2 a3 → post (val a1 a2 a3) → (∀ (post' : ρ → Prop) (b1 : A1) (b2 : A2) (b3 : A3), ok b1 b2 b3 → μ b1 b2 b3 < μ a1 a2 a3 → post' (val b1 b2 b3) → W d post' b1 b2 b3) → W (d + 1) post a1 a2 a3) :
    ∀ (d : Nat) (post : ρ → Prop) (a1 : A1) (a2 : A2) (a3 : A3), ok a1 a2 a3 → μ a1 a2 a3 < d → post (val a1 a2 a3) → W d post a1 a2 a3 := by
  intro d
  induction d with
  | zero => intro post a1 a2 a3 _ h; omega
  | succ d ih =>
    intro post a1 a2 a3 ho hm hp
    exact hs d post a1 a2 a3 ho hp (fun post' b1 b2 b3 ho' hm' hp' => ih post' b1 b2 b3 ho' (by omega) hp')
theorem rp4 {ρ A1 A2 A3 A4 : Type} (W : Nat → (ρ → Prop) → A1 → A2 → A3 → A4 → Prop) (ok : A1 → A2 → A3 → A4 → Prop) (μ : A1 → A2 → A3 → A4 → Nat) (val : A1 → A2 → A3 → A4 → ρ)
    (hs : ∀ (d : Nat) (post : ρ → Prop) (a1 : A1) (a2 : A2) (a3 : A3) (a4 : A4), ok a1 a2 a3 a4 → post (val a1 a2 a3 a4) → (∀ (post' : ρ → Prop) (b1 : A1) (b2 : A2) (b3 : A3) (b4 : A4), ok b1 b2 b3 b4 → μ b1 b2 b3 b4 < μ a1 a2 a3 a4 → post' (val b1 b2 b3 b4) → W d post' b1 b2 b3 b4) → W (d + 1) post a1 a2 a3 a4) :
    ∀ (d : Nat) (post : ρ → Prop) (a1 : A1) (a2 : A2) (a3 : A3) (a4 : A4), ok a1 a2 a3 a4 → μ a1 a2 a3 a4 < d → post (val a1 a2 a3 a4) → W d post a1 a2 a3 a4 := by
  intro d
  induction d with
  | zero => intro post a1 a2 a3 a4 _ h; omega
  | succ d ih =>
    intro post a1 a2 a3 a4 ho hm hp
    exact hs d post a1 a2 a3 a4 ho hp (fun post' b1 b2 b3 b4 ho' hm' hp' => ih post' b1 b2 b3 b4 ho' (by omega) hp')
theorem rp5 {ρ A1 A2 A3 A4 A5 : Type} (W : Nat → (ρ → Prop) → A1 → A2 → A3 → A4 → A5 → Prop) (ok : A1 → A2 → A3 → A4 → A5 → Prop) (μ : A1 → A2 → A3 → A4 → A5 → Nat) (val : A1 → A2 → A3 → A4 → A5 → ρ)
    (hs : ∀ (d : Nat) (post : ρ → Prop) (a1 : A1) (a2 : A2) (a3 : A3) (a4 : A4) (a5 : A5), ok a1 a2 a3 a4 a5 → post (val a1 a2 a3 a4 a5) → (∀ (post' : ρ → Prop) (b1 : A1) (b2 : A2) (b3 : A3) (b4 : A4) (b5 : A5), ok b1 b2 b3 b4 b5 → μ b1 b2 b3 b4 b5 < μ a1 a2 a3 a4 a5 → post' (val b1 b2 b3 b4 b5) → W d post' b1 b2 b3 b4 b5) → W (d + 1) post a1 a2 a3 a4 a5) :
    ∀ (d : Nat) (post : ρ → Prop) (a1 : A1) (a2 : A2) (a3 : A3) (a4 : A4) (a5 : A5), ok a1 a2 a3 a4 a5 → μ a1 a2 a3 a4 a5 < d → post (val a1 a2 a3 a4 a5) → W d post a1 a2 a3 a4 a5 := by
  intro d
  induction d with
  | zero => intro post a1 a2 a3 a4 a5 _ h; omega
  | succ d ih =>
    intro post a1 a2 a3 a4 a5 ho hm hp
    exact hs d post a1 a2 a3 a4 a5 ho hp (fun post' b1 b2 b3 b4 b5 ho' hm' hp' => ih post' b1 b2 b3 b4 b5 ho' (by omega) hp')
theorem rp6 {ρ A1 A2 A3 A4 A5 A6 : Type} (W : Nat → (ρ → Prop) → A1 → A2 → A3 → A4 → A5 → A6 → Prop) (ok : A1 → A2 → A3 → A4 → A5 → A6 → Prop) (μ : A1 → A2 → A3 → A4 → A5 → A6 → Nat) (val : A1 → A2 → A3 → A4 → A5 → A6 → ρ)
    (hs : ∀ (d : Nat) (post : ρ → Prop) (a1 : A1) (a2 : A2) (a3 : A3) (a4 : A4) (a5 : A5) (a6 : A6), ok a1 a2 a3 a4 a5 a6 → post (val a1 a2 a3 a4 a5 a6) → (∀ (post' : ρ → Prop) (b1 : A1) (b2 : A2) (b3 : A3) (b4 : A4) (b5 : A5) (b6 : A6), ok b1 b2 b3 b4 b5 b6 → μ b1 b2 b3 b4 b5 b6 < μ a1 a2 a3 a4 a5 a6 → post' (val b1 b2 b3 b4 b5 b6) → W d post' b1 b2 b3 b4 b5 b6) → W (d + 1) post a1 a2 a3 a4 a5 a6) :
    ∀ (d : Nat) (post : ρ → Prop) (a1 : A1) (a2 : A2) (a3 : A3) (a4 : A4) (a5 : A5) (a6 : A6), ok a1 a2 a3 a4 a5 a6 → μ a1 a2 a3 a4 a5 a6 < d → post (val a1 a2 a3 a4 a5 a6) → W d post a1 a2 a3 a4 a5 a6 := by
  intro d
  induction d with
  | zero => intro post a1 a2 a3 a4 a5 a6 _ h; omega
  | succ d ih =>
    intro post a1 a2 a3 a4 a5 a6 ho hm hp
    exact hs d post a1 a2 a3 a4 a5 a6 ho hp (fun post' b1 b2 b3 b4 b5 b6 ho' hm' hp' => ih post' b1 b2 b3 b4 b5 b6 ho' (by omega) hp')
theorem rec_p {σ ρ : Type} (W : Nat → (ρ → Prop) → σ → Prop) (ok : σ → Prop) (μ : σ → Nat) (val : σ → ρ)
    (hs : ∀ d s post, ok s → post (val s) → (∀ s' post', ok s' → μ s' < μ s → post' (val s') → W d post' s') → W (d + 1) post s) :
    ∀ d s post, ok s → μ s < d → post (val s) → W d post s := by
  intro d
  induction d with
  | zero => intro s post _ h; omega
  | succ d ih =>
    intro s post ho hm hp
    exact hs d s post ho hp (fun s' post' ho' hm' hp' => ih s' post' ho' (by omega) hp')
theorem rec_q {σ ρ : Type} (W : Nat → (ρ → Prop) → σ → Prop) (ok : σ → Prop) (μ : σ → Nat) (Q : σ → ρ → Prop)
    (hs : ∀ d s post, ok s → (∀ r, Q s r → post r) → (∀ s' post', ok s' → μ s' < μ s → (∀ r, Q s' r → post' r) → W d post' s') → W (d + 1) post s) :
    ∀ d s post, ok s → μ s < d → (∀ r, Q s r → post r) → W d post s := by
  intro d
  induction d with
  | zero => intro s post _ h; omega
  | succ d ih =>
    intro s post ho hm hp
    exact hs d s post ho hp (fun s' post' ho' hm' hp' => ih s' post' ho' (by omega) hp')
def bx_sum (f : Nat → Int32) : Nat → Int32
  | 0 => 0
  | n + 1 => bx_sum f n + f n
theorem ek_u {A : Prop} {B : Nat → Prop} {k N : Nat} (hk : k < N) (h : B k) : (some k = none → A) ∧ (∀ y : Nat, some k = some y → (y < N ∧ B y)) :=
  ⟨fun z => absurd z (Option.some_ne_none k), fun _ e => (by cases e; exact ⟨hk, h⟩)⟩
theorem ek_nu {A : Prop} {B : Nat → Prop} (h : A) : ((none : Option Nat) = none → A) ∧ (∀ y : Nat, (none : Option Nat) = some y → B y) :=
  ⟨fun _ => h, fun _ e => (by cases e)⟩
theorem ek_if {c d A B : Prop} (e : c ↔ d) (f : d → A) (g : ¬ d → B) : (c → A) ∧ (¬ c → B) :=
  ⟨fun z => f (e.mp z), fun z => g (fun y => z (e.mpr y))⟩
theorem ek_v {α : Sort _} {P : α → Prop} {a b : α} (e : a = b) (h : P b) : P a := e ▸ h
theorem co_some {x : Option Nat} {A : Prop} {B : Nat → Prop} (i : Nat) (h : B i) (hx : x = some i := by rfl) : (x = none → A) ∧ (∀ y : Nat, x = some y → B y) := by
  subst hx
  exact ⟨fun e => (nomatch e), fun y e => Option.some.inj e ▸ h⟩
theorem co_none {x : Option Nat} {A : Prop} {B : Nat → Prop} (h : A) (hx : x = none := by rfl) : (x = none → A) ∧ (∀ y : Nat, x = some y → B y) := by
  subst hx
  exact ⟨fun _ => h, fun y e => (nomatch e)⟩
theorem co_any {x : Option Nat} {A : Prop} {B : Nat → Prop} (hn : x = none → A) (hs : ∀ i : Nat, x = some i → B i) : (x = none → A) ∧ (∀ y : Nat, x = some y → B y) := ⟨hn, hs⟩
theorem co_2 {P : Nat → Prop} (h0 : P 0) (h1 : P 1) {i : Nat} (hi : i < 2) : P i :=
  match i, hi with
  | 0, _ => h0
  | 1, _ => h1
theorem co_3 {P : Nat → Prop} (h0 : P 0) (h1 : P 1) (h2 : P 2) {i : Nat} (hi : i < 3) : P i :=
  match i, hi with
  | 0, _ => h0
  | 1, _ => h1
  | 2, _ => h2
theorem co_4 {P : Nat → Prop} (h0 : P 0) (h1 : P 1) (h2 : P 2) (h3 : P 3) {i : Nat} (hi : i < 4) : P i :=
  match i, hi with
  | 0, _ => h0
  | 1, _ => h1
  | 2, _ => h2
  | 3, _ => h3
theorem co_dec {N : Nat} {P : Nat → Prop} [DecidablePred P] (h : (List.range N).all (fun i => decide (P i)) = true) {i : Nat} (hi : i < N) : P i := by
  have := List.all_eq_true.mp h i (List.mem_range.mpr hi)
  exact of_decide_eq_true this
theorem co_tab {α : Type} {l : List α} {d : α} {P : α → Prop} (h : ∀ a, a ∈ l → P a) {i : Nat} (hi : i < l.length) : P (l.getD i d) := by
  rw [List.getD_eq_getElem?_getD, List.getElem?_eq_getElem hi]
  exact h _ (List.getElem_mem hi)
theorem pk_mu {x : Int32} {L : Nat} (h0 : ¬ x < 0) (h : ¬ nI L ≤ x) (hL : L < 2 ^ 31) : ∃ j : Nat, j < L ∧ x = nI j ∧ x + 1 = nI (j + 1) ∧ x.toNatClampNeg = j ∧ L - (x + 1).toNatClampNeg < L - x.toNatClampNeg := by
  obtain ⟨j, hj, rfl⟩ := nI_of h0
  have hl : j < L := Nat.not_le.mp fun q => h (nI_le q hj)
  refine ⟨j, hl, rfl, nI_1 j, nI_clamp hj, ?_⟩
  rw [nI_1, nI_clamp (by omega), nI_clamp hj]
  omega
theorem op_s {α : Type} {r : Option α} {A : Prop} {B : α → Prop} {y : α} (h : r = some y) (b : B y) : (r = none → A) ∧ ∀ z, r = some z → B z :=
  ⟨fun e => (by rw [h] at e; cases e), fun z e => (by rw [h] at e; cases e; exact b)⟩
def l_holds {α : Type} (a : Nat → Option Nat) (LP : List Nat) (p : Nat → α) (c : Nat) (b : Nat → α) : Prop :=
  ∀ j, j < c → ∃ y, a j = some y ∧ y ∈ LP ∧ p y = b j
theorem l_holds_0 {α : Type} {a : Nat → Option Nat} {LP : List Nat} {p b : Nat → α} : l_holds a LP p 0 b := fun j h => absurd h (Nat.not_lt_zero j)
theorem l_in_new (LP : List Nat) (q : Nat) : q ∈ LP ++ [q] := List.mem_append.mpr (Or.inr (List.mem_singleton.mpr rfl))
def l_sum (b : Nat → Int32) : Nat → Int32
  | 0 => 0
  | k + 1 => l_sum b k + b k
theorem sb_shr0 (x : Int32) : x >>> ((0 : Int32) &&& 31) = x := by
  rw [show ((0 : Int32) &&& 31) = 0 by decide]
  simp
theorem sb_shl0 (x : Int32) : x <<< ((0 : Int32) &&& 31) = x := by
  rw [show ((0 : Int32) &&& 31) = 0 by decide]
  simp
theorem sb_cl0 : (0 : Int32).toNatClampNeg = 0 := by decide
theorem sb_m1 {p : Nat} (h : 0 < p) : nI p + (-1) = nI (p - 1) := by
  obtain ⟨q, rfl⟩ : ∃ q, p = q + 1 := ⟨p - 1, by omega⟩
  exact pk_m1 q
def sb_b (c : Nat) : Int32 := (nI c).toInt8.toInt32
theorem sb_byte : ∀ c, c < 256 → sb_b c &&& 255 = nI c ∧ ((nI c).toUInt32 % 65536).toInt32 = nI c ∧ nI c ≤ 255 := by decide +kernel
def sb_Fit (a : Nat → Int32) : Prop := ∀ j, fits .byte (.int (a j)) = true
def sb_Lat (t : Nat → Nat) (n : Nat) (a : Nat → Int32) : Prop := ∀ j, j < n → t j < 256 ∧ a j = sb_b (t j)
theorem sb_fitB (c : Nat) : fits .byte (.int (sb_b c)) = true := pk_fb _
theorem sb_fit0 : sb_Fit (fun _ => 0) := fun _ => by
  show fits .byte (.int 0) = true
  decide
theorem sb_fitU {a : Nat → Int32} {k : Nat} {x : Int32} (h : sb_Fit a) (hx : fits .byte (.int x) = true) : sb_Fit (upd a k x) := by
  intro j
  by_cases e : j = k
  · subst e
    rw [pk_us]
    exact hx
  · rw [pk_un e]
    exact h j
def sb_cat (t : Nat → Nat) (n : Nat) (s : Nat → Nat) : Nat → Nat := fun j => if j < n then t j else s (j - n)
theorem sb_cat_lo {t s : Nat → Nat} {n j : Nat} (h : j < n) : sb_cat t n s j = t j := if_pos h
theorem sb_cat_hi {t s : Nat → Nat} {n j : Nat} : sb_cat t n s (n + j) = s j := by
  show (if n + j < n then t (n + j) else s (n + j - n)) = s j
  rw [if_neg (by omega), Nat.add_sub_cancel_left]
theorem sb_latPut {t s : Nat → Nat} {n w : Nat} {a a' : Nat → Int32} (h : sb_Lat t n a) (hk : ∀ j, j < n → a' j = a j) (hs : ∀ i, i < w → s i < 256 ∧ a' (n + i) = sb_b (s i)) : sb_Lat (sb_cat t n s) (n + w) a' := by
  intro j hj
  by_cases e : j < n
  · rw [sb_cat_lo e, hk j e]
    exact h j e
  · obtain ⟨i, rfl⟩ : ∃ i, j = n + i := ⟨j - n, by omega⟩
    rw [sb_cat_hi]
    exact hs i (by omega)
theorem sb_latKeep {t : Nat → Nat} {n : Nat} {a a' : Nat → Int32} (h : sb_Lat t n a) (hk : ∀ j, j < n → a' j = a j) : sb_Lat t n a' := fun j hj => by
  rw [hk j hj]
  exact h j hj
def sb_cap (q m : Nat) : Nat := if q ≤ m then m else if 2 * m + 2 < q then q else 2 * m + 2
def sb_Room (q m mc ms : Nat) : Prop := q ≤ m ∨ (1 ≤ mc ∧ sb_cap q m ≤ ms ∧ sb_cap q m ≤ 65536)
theorem sb_cap_ge (q m : Nat) : q ≤ sb_cap q m := by
  unfold sb_cap
  split
  · omega
  · split <;> omega
theorem sb_cap_gem (q m : Nat) : m ≤ sb_cap q m := by
  unfold sb_cap
  split
  · omega
  · split <;> omega
theorem sb_cap_le {q m mc ms : Nat} (hm : m ≤ 65536) (hr : sb_Room q m mc ms) : sb_cap q m ≤ 65536 := by
  rcases hr with h | h
  · rw [sb_cap, if_pos h]
    exact hm
  · exact h.2.2
theorem sb_at {P : Int32 → Prop} {x y : Int32} (e : x = y) (h : P y) : P x := e ▸ h
def sb_dg (w : Nat) : Nat := if w < 10 then 1 else if w < 100 then 2 else if w < 1000 then 3 else if w < 10000 then 4 else if w < 100000 then 5 else if w < 1000000 then 6 else if w < 10000000 then 7 else if w < 100000000 then 8 else if w < 1000000000 then 9 else 10
def sb_dec (v : Nat) : Nat → Nat := fun i => 48 + v / 10 ^ (sb_dg v - 1 - i) % 10
theorem sb_dg_in (w : Nat) : 1 ≤ sb_dg w ∧ sb_dg w ≤ 10 := by
  unfold sb_dg
  constructor <;> (repeat' split) <;> omega
theorem sb_dg100 {w : Nat} (h : 100 ≤ w) (hw : w < 2 ^ 31) : sb_dg w = sb_dg (w / 100) + 2 := by
  rw [sb_dg, sb_dg, if_neg (show ¬ w < 10 by omega), if_neg (show ¬ w < 100 by omega)]
  by_cases h3 : w < 1000
  · rw [if_pos h3, if_pos (show w / 100 < 10 by omega)]
  rw [if_neg h3, if_neg (show ¬ w / 100 < 10 by omega)]
  by_cases h4 : w < 10000
  · rw [if_pos h4, if_pos (show w / 100 < 100 by omega)]
  rw [if_neg h4, if_neg (show ¬ w / 100 < 100 by omega)]
  by_cases h5 : w < 100000
  · rw [if_pos h5, if_pos (show w / 100 < 1000 by omega)]
  rw [if_neg h5, if_neg (show ¬ w / 100 < 1000 by omega)]
  by_cases h6 : w < 1000000
  · rw [if_pos h6, if_pos (show w / 100 < 10000 by omega)]
  rw [if_neg h6, if_neg (show ¬ w / 100 < 10000 by omega)]
  by_cases h7 : w < 10000000
  · rw [if_pos h7, if_pos (show w / 100 < 100000 by omega)]
  rw [if_neg h7, if_neg (show ¬ w / 100 < 100000 by omega)]
  by_cases h8 : w < 100000000
  · rw [if_pos h8, if_pos (show w / 100 < 1000000 by omega)]
  rw [if_neg h8, if_neg (show ¬ w / 100 < 1000000 by omega)]
  by_cases h9 : w < 1000000000
  · rw [if_pos h9, if_pos (show w / 100 < 10000000 by omega)]
  rw [if_neg h9, if_neg (show ¬ w / 100 < 10000000 by omega)]
  rw [if_pos (show w / 100 < 100000000 by omega)]
theorem sb_negT {w : Nat} (h : w < 2 ^ 31) : (-nI w).toInt = -(w : Int) := by
  rw [Int32.toInt_neg, nI_toInt h]
  exact Int.bmod_eq_of_le (by omega) (by omega)
theorem sb_nle {a b : Nat} (ha : a < 2 ^ 31) (hb : b < 2 ^ 31) : -nI a ≤ -nI b ↔ b ≤ a := by
  rw [Int32.le_iff_toInt_le, sb_negT ha, sb_negT hb]
  omega
theorem sb_nlt {a b : Nat} (ha : a < 2 ^ 31) (hb : b < 2 ^ 31) : -nI a < -nI b ↔ b < a := by
  rw [Int32.lt_iff_toInt_lt, sb_negT ha, sb_negT hb]
  omega
theorem sb_cmp {A B : Prop} {x : Int32} (v c : Nat) (f : c ≤ v → A) (g : v < c → B) (hv : v < 2 ^ 31) (hx : x = -nI c := by rfl) (hc : c < 2 ^ 31 := by omega) : (-nI v ≤ x → A) ∧ (¬ -nI v ≤ x → B) := by
  subst hx
  rw [sb_nle hv hc]
  exact ⟨f, fun z => g (by omega)⟩
theorem sb_ndiv {w : Nat} (hw : w < 2 ^ 31) : (-nI w) / 100 = -nI (w / 100) := by
  apply Int32.toInt_inj.mp
  have h100 : (100 : Int32).toInt = 100 := by decide
  rw [Int32.toInt_div, sb_negT hw, h100, sb_negT (by omega), Int.neg_tdiv, Int.tdiv_eq_ediv_of_nonneg (by omega), Int.bmod_eq_of_le (by omega) (by omega)]
  omega
theorem sb_nrem {w : Nat} (hw : w < 2 ^ 31) : (-nI (w / 100)) * 100 - (-nI w) = nI (w % 100) := by
  have h := pk_rem (a := w) (d := 100) hw (by decide) (by decide)
  rw [pk_div hw (by decide) (by decide)] at h
  rw [← h]
  show (-nI (w / 100)) * nI 100 - (-nI w) = nI w - nI (w / 100) * nI 100
  rw [Int32.neg_mul, Int32.sub_neg, Int32.add_comm, ← Int32.sub_eq_add_neg]
end
section
/-! ===== Int32 by its bits: bt x i ===== -/
def bt (x : Int32) (i : Nat) : Bool := x.toBitVec.getLsbD i
theorem b_ext {x y : Int32} (h : ∀ i, i < 32 → bt x i = bt y i) : x = y := Int32.toBitVec_inj.mp (BitVec.eq_of_getLsbD_eq (fun i hi => h i hi))
theorem b_or (x y : Int32) (i : Nat) : bt (x ||| y) i = (bt x i || bt y i) := by unfold bt; rw [Int32.toBitVec_or, BitVec.getLsbD_or]
theorem b_and (x y : Int32) (i : Nat) : bt (x &&& y) i = (bt x i && bt y i) := by unfold bt; rw [Int32.toBitVec_and, BitVec.getLsbD_and]
theorem b_xor (x y : Int32) (i : Nat) : bt (x ^^^ y) i = (bt x i ^^ bt y i) := by unfold bt; rw [Int32.toBitVec_xor, BitVec.getLsbD_xor]
theorem b_big {x : Int32} {i : Nat} (h : 32 ≤ i) : bt x i = false := BitVec.getLsbD_of_ge _ _ h
theorem b_255 (i : Nat) : bt 255 i = decide (i < 8) := by
  rcases Nat.lt_or_ge i 32 with h | h
  · exact (by decide +kernel : ∀ i, i < 32 → bt 255 i = decide (i < 8)) i h
  · rw [b_big h, decide_eq_false (by omega)]
theorem b_65535 (i : Nat) : bt 65535 i = decide (i < 16) := by
  rcases Nat.lt_or_ge i 32 with h | h
  · exact (by decide +kernel : ∀ i, i < 32 → bt 65535 i = decide (i < 16)) i h
  · rw [b_big h, decide_eq_false (by omega)]
theorem b_m1 : ∀ i, i < 32 → bt (-1) i = true := by decide +kernel
theorem b_0 (i : Nat) : bt 0 i = false := BitVec.getLsbD_zero
theorem s_l : ∀ n, n < 32 → ((nI n &&& 31).toBitVec.smod 32).toNat = n := by decide +kernel
theorem s_u : ∀ n, n < 32 → (((nI n).toUInt32 &&& Int32.toUInt32 31).toBitVec % 32).toNat = n := by decide +kernel
theorem b_shl (n : Nat) (hn : n < 32) (x : Int32) {i : Nat} (hi : i < 32) : bt (x <<< (nI n &&& 31)) i = (decide (n ≤ i) && bt x (i - n)) := by
  unfold bt
  rw [Int32.toBitVec_shiftLeft]
  show (x.toBitVec <<< ((nI n &&& 31).toBitVec.smod 32).toNat).getLsbD i = _
  rw [s_l n hn, BitVec.getLsbD_shiftLeft]
  rcases Nat.lt_or_ge i n with h | h
  · simp [h, Nat.not_le.mpr h]
  · simp [hi, h, Nat.not_lt.mpr h]
theorem b_ushr (n : Nat) (hn : n < 32) (x : Int32) (i : Nat) : bt ((x.toUInt32 >>> ((nI n).toUInt32 &&& Int32.toUInt32 31)).toInt32) i = bt x (n + i) := by
  show (x.toUInt32 >>> ((nI n).toUInt32 &&& Int32.toUInt32 31)).toBitVec.getLsbD i = x.toUInt32.toBitVec.getLsbD (n + i)
  rw [UInt32.toBitVec_shiftRight]
  show (x.toUInt32.toBitVec >>> (((nI n).toUInt32 &&& Int32.toUInt32 31).toBitVec % 32).toNat).getLsbD i = _
  rw [s_u n hn, BitVec.getLsbD_ushiftRight]
theorem b_sshr (n : Nat) (hn : n < 32) (x : Int32) {i : Nat} (hi : i < 32) : bt (x >>> (nI n &&& 31)) i = if n + i < 32 then bt x (n + i) else bt x 31 := by
  unfold bt
  rw [Int32.toBitVec_shiftRight]
  show (x.toBitVec.sshiftRight ((nI n &&& 31).toBitVec.smod 32).toNat).getLsbD i = _
  rw [s_l n hn, BitVec.getLsbD_sshiftRight, BitVec.msb_eq_getLsbD_last]
  simp [hi]
theorem b_shl8 (x : Int32) {i : Nat} (hi : i < 32) : bt (x <<< ((8 : Int32) &&& 31)) i = (decide (8 ≤ i) && bt x (i - 8)) := b_shl 8 (by omega) x hi
theorem b_shl16 (x : Int32) {i : Nat} (hi : i < 32) : bt (x <<< ((16 : Int32) &&& 31)) i = (decide (16 ≤ i) && bt x (i - 16)) := b_shl 16 (by omega) x hi
theorem b_shl24 (x : Int32) {i : Nat} (hi : i < 32) : bt (x <<< ((24 : Int32) &&& 31)) i = (decide (24 ≤ i) && bt x (i - 24)) := b_shl 24 (by omega) x hi
theorem b_sshr8 (x : Int32) {i : Nat} (hi : i < 32) : bt (x >>> ((8 : Int32) &&& 31)) i = if 8 + i < 32 then bt x (8 + i) else bt x 31 := b_sshr 8 (by omega) x hi
/-! ===== Int32 as a set of bits: test, set ===== -/
def nf_M (m : Int32) : Nat := 4294967296 - m.toBitVec.toNat
theorem nf_sh : ∀ l, l < 32 → ((1 : Int32) <<< (nI l &&& 31)).toBitVec = BitVec.twoPow 32 l := by decide +kernel
theorem nf_sl : ∀ l, l < 32 → (((nI l).toUInt32 &&& Int32.toUInt32 31).toBitVec % 32).toNat = l := by decide +kernel
theorem nf_tp : ∀ l, l < 32 → BitVec.twoPow 32 l ≠ 0#32 := by decide +kernel
theorem nf_bit (m : Int32) (l : Nat) (hl : l < 32) : ((m.toUInt32 >>> ((nI l).toUInt32 &&& Int32.toUInt32 31)).toInt32 &&& 1) = 0 ↔ (m &&& ((1 : Int32) <<< (nI l &&& 31))) = 0 := by
  have e : ((m.toUInt32 >>> ((nI l).toUInt32 &&& Int32.toUInt32 31)).toInt32).toBitVec = m.toBitVec >>> l := by
    show m.toBitVec >>> (((nI l).toUInt32 &&& Int32.toUInt32 31).toBitVec % 32) = m.toBitVec >>> l
    rw [BitVec.ushiftRight_eq', nf_sl l hl]
  rw [← Int32.toBitVec_inj, ← Int32.toBitVec_inj, Int32.toBitVec_and, Int32.toBitVec_and, nf_sh l hl, e, BitVec.and_twoPow]
  show (m.toBitVec >>> l &&& 1#32) = 0#32 ↔ _ = 0#32
  rw [BitVec.and_one_eq_setWidth_ofBool_getLsbD, BitVec.getLsbD_ushiftRight, Nat.add_zero]
  cases hb : m.toBitVec.getLsbD l
  · exact ⟨fun _ => by simp, fun _ => by decide⟩
  · exact ⟨fun z => absurd z (by decide), fun z => absurd ((if_pos rfl).symm.trans z) (nf_tp l hl)⟩
theorem nf_gr (m k : Int32) (h : m &&& k = 0) (hk : k ≠ 0) : nf_M (m ||| k) < nf_M m := by
  have hm := m.toBitVec.isLt
  have hm' := (m ||| k).toBitVec.isLt
  have h1 : m.toBitVec.toNat ≤ (m ||| k).toBitVec.toNat := by
    rw [Int32.toBitVec_or, BitVec.toNat_or]
    exact Nat.left_le_or
  have h2 : m.toBitVec.toNat ≠ (m ||| k).toBitVec.toNat := by
    intro e
    have e2 : m = m ||| k := Int32.toBitVec_inj.mp (BitVec.eq_of_toNat_eq e)
    apply hk
    apply Int32.toBitVec_inj.mp
    show k.toBitVec = 0#32
    apply BitVec.eq_of_getLsbD_eq
    intro i hi
    have a : m.toBitVec.getLsbD i = (m.toBitVec.getLsbD i || k.toBitVec.getLsbD i) := by rw [← BitVec.getLsbD_or, ← Int32.toBitVec_or, ← e2]
    have b : (m.toBitVec.getLsbD i && k.toBitVec.getLsbD i) = false := by
      rw [← BitVec.getLsbD_and, ← Int32.toBitVec_and, h]
      exact BitVec.getLsbD_zero
    rw [BitVec.getLsbD_zero]
    revert a b
    cases m.toBitVec.getLsbD i <;> cases k.toBitVec.getLsbD i <;> simp
  unfold nf_M
  omega
end
section
/-! the fields of the two states -/
def sx_nodeCount (u : SX) : Int32 := u.1
def sx_filterCount (u : SX) : Int32 := u.2.1
def sx_levelNow (u : SX) : Int32 := u.2.2.1
def sx_compiled (u : SX) : Int32 := u.2.2.2.1
def sx_needed (u : SX) : Int32 := u.2.2.2.2.1
def sx_pinned (u : SX) : Int32 := u.2.2.2.2.2.1
def sx_listEnd (u : SX) : Int32 := u.2.2.2.2.2.2.1
def sx_wordCount (u : SX) : Int32 := u.2.2.2.2.2.2.2.1
def sx_accumulator (u : SX) : Int64 := u.2.2.2.2.2.2.2.2.1
def sx_dueCount (u : SX) : Int32 := u.2.2.2.2.2.2.2.2.2.1
def sx_stepCount (u : SX) : Int32 := u.2.2.2.2.2.2.2.2.2.2.1
def sx_listLength (u : SX) : Nat → Int32 := u.2.2.2.2.2.2.2.2.2.2.2.1
def sx_listValue (u : SX) : Nat → Int32 := u.2.2.2.2.2.2.2.2.2.2.2.2.1
def sx_kindOf (u : SX) : Nat → Int32 := u.2.2.2.2.2.2.2.2.2.2.2.2.2.1
def sx_partX (u : SX) : Nat → Int32 := u.2.2.2.2.2.2.2.2.2.2.2.2.2.2.1
def sx_partY (u : SX) : Nat → Int32 := u.2.2.2.2.2.2.2.2.2.2.2.2.2.2.2.1
def sx_filterOf (u : SX) : Nat → Int32 := u.2.2.2.2.2.2.2.2.2.2.2.2.2.2.2.2.1
def sx_tapCount (u : SX) : Nat → Int32 := u.2.2.2.2.2.2.2.2.2.2.2.2.2.2.2.2.2.1
def sx_taps (u : SX) : Nat → Int32 := u.2.2.2.2.2.2.2.2.2.2.2.2.2.2.2.2.2.2.1
def sx_outputNode (u : SX) : Nat → Int32 := u.2.2.2.2.2.2.2.2.2.2.2.2.2.2.2.2.2.2.2.1
def sx_same (u : SX) : Nat → Int32 := u.2.2.2.2.2.2.2.2.2.2.2.2.2.2.2.2.2.2.2.2.1
def sx_holds (u : SX) : Nat → Int32 := u.2.2.2.2.2.2.2.2.2.2.2.2.2.2.2.2.2.2.2.2.2.1
def sx_registerOf (u : SX) : Nat → Int32 := u.2.2.2.2.2.2.2.2.2.2.2.2.2.2.2.2.2.2.2.2.2.2.1
def sx_isSaved (u : SX) : Nat → Int32 := u.2.2.2.2.2.2.2.2.2.2.2.2.2.2.2.2.2.2.2.2.2.2.2.1
def sx_op (u : SX) : Nat → Int32 := u.2.2.2.2.2.2.2.2.2.2.2.2.2.2.2.2.2.2.2.2.2.2.2.2.1
def sx_into (u : SX) : Nat → Int32 := u.2.2.2.2.2.2.2.2.2.2.2.2.2.2.2.2.2.2.2.2.2.2.2.2.2.1
def sx_first (u : SX) : Nat → Int32 := u.2.2.2.2.2.2.2.2.2.2.2.2.2.2.2.2.2.2.2.2.2.2.2.2.2.2.1
def sx_second (u : SX) : Nat → Int32 := u.2.2.2.2.2.2.2.2.2.2.2.2.2.2.2.2.2.2.2.2.2.2.2.2.2.2.2.1
def sx_number (u : SX) : Nat → Int32 := u.2.2.2.2.2.2.2.2.2.2.2.2.2.2.2.2.2.2.2.2.2.2.2.2.2.2.2.2.1
def sx_wordOf (u : SX) : Nat → Int32 := u.2.2.2.2.2.2.2.2.2.2.2.2.2.2.2.2.2.2.2.2.2.2.2.2.2.2.2.2.2.1
def sx_words (u : SX) : Nat → Int32 := u.2.2.2.2.2.2.2.2.2.2.2.2.2.2.2.2.2.2.2.2.2.2.2.2.2.2.2.2.2.2.1
def sx_memory (u : SX) : Nat → Int32 := u.2.2.2.2.2.2.2.2.2.2.2.2.2.2.2.2.2.2.2.2.2.2.2.2.2.2.2.2.2.2.2.1
def sx_ringAt (u : SX) : Nat → Int32 := u.2.2.2.2.2.2.2.2.2.2.2.2.2.2.2.2.2.2.2.2.2.2.2.2.2.2.2.2.2.2.2.2.1
def sx_register (u : SX) : Nat → Int32 := u.2.2.2.2.2.2.2.2.2.2.2.2.2.2.2.2.2.2.2.2.2.2.2.2.2.2.2.2.2.2.2.2.2.1
def sx_dueRegister (u : SX) : Nat → Int32 := u.2.2.2.2.2.2.2.2.2.2.2.2.2.2.2.2.2.2.2.2.2.2.2.2.2.2.2.2.2.2.2.2.2.2.1
def sx_dueValue (u : SX) : Nat → Int32 := u.2.2.2.2.2.2.2.2.2.2.2.2.2.2.2.2.2.2.2.2.2.2.2.2.2.2.2.2.2.2.2.2.2.2.2.1
def sx_dueWord (u : SX) : Nat → Int32 := u.2.2.2.2.2.2.2.2.2.2.2.2.2.2.2.2.2.2.2.2.2.2.2.2.2.2.2.2.2.2.2.2.2.2.2.2
def sy_n (u : SY) : Int32 := u.1
def sy_steps (u : SY) : Int32 := u.2.1
def sy_size (u : SY) : Nat → Int32 := u.2.2.1
def sy_coefficients (u : SY) : Nat → Int32 := u.2.2.2.1
def sy_kind (u : SY) : Nat → Int32 := u.2.2.2.2.1
def sy_px (u : SY) : Nat → Int32 := u.2.2.2.2.2.1
def sy_py (u : SY) : Nat → Int32 := u.2.2.2.2.2.2.1
def sy_kept (u : SY) : Nat → Int32 := u.2.2.2.2.2.2.2.1
def sy_past (u : SY) : Nat → Int32 := u.2.2.2.2.2.2.2.2.1
def sy_now (u : SY) : Nat → Int32 := u.2.2.2.2.2.2.2.2.2.1
def sy_before (u : SY) : Nat → Int32 := u.2.2.2.2.2.2.2.2.2.2.1
def sy_outputs (u : SY) : Nat → Int32 := u.2.2.2.2.2.2.2.2.2.2.2.1
def sy_inputs (u : SY) : Nat → Int32 := u.2.2.2.2.2.2.2.2.2.2.2.2
/-! ===== the machine: registers, accumulator, memory, ring places ===== -/
abbrev ms_T : Type := (Nat → Int32) × Int64 × (Nat → Int32) × (Nat → Int32)
def ms_R (s : ms_T) : Nat → Int32 := s.1
def ms_A (s : ms_T) : Int64 := s.2.1
def ms_M (s : ms_T) : Nat → Int32 := s.2.2.1
def ms_G (s : ms_T) : Nat → Int32 := s.2.2.2
def cl_v (p : Int64) : Int32 := if -32768 ≤ p then (if p ≤ 32767 then p.toInt32 else 32767) else -32768
def ca_v (o n x y : Int32) (A : Int64) : Int32 :=
  if o = 1 then n else if o = 13 then cl_v ((A + 16384) >>> ((15 : Int32).toInt64 &&& 63)) else if o = 11 then 0
  else if o = 7 then (if -n ≤ x then (if x ≤ n then x else n) else -n)
  else if o = 8 then (if 0 ≤ x then cl_v x.toInt64 else cl_v ((-x).toInt64))
  else if o = 2 then cl_v ((x + y).toInt64) else if o = 3 then cl_v ((x - y).toInt64)
  else if o = 9 then (if x ≤ y then y else x)
  else if o = 10 then cl_v ((((x * y) + 16384) >>> ((15 : Int32) &&& 31)).toInt64) else x * y
def rp_x (tc G : Nat → Int32) (n : Int32) : Int32 :=
  (((G (n / 8).toNatClampNeg) - (n - n / 8 * 8)) + tc (n / 8).toNatClampNeg) - (((G (n / 8).toNatClampNeg) - (n - n / 8 * 8)) + tc (n / 8).toNatClampNeg) / tc (n / 8).toNatClampNeg * tc (n / 8).toNatClampNeg
def rp_a (tc G : Nat → Int32) (n : Int32) : Nat := ((32 + (8 * (n / 8))) + rp_x tc G n).toNatClampNeg
def rp_g (tc G : Nat → Int32) (n : Int32) : Int32 :=
  vp_nar .byte ((((G (n / 8).toNatClampNeg) + 1) - ((G (n / 8).toNatClampNeg) + 1) / tc (n / 8).toNatClampNeg * tc (n / 8).toNatClampNeg).toInt8.toInt32)
/-- an instruction's result -/
def rv_i (tc : Nat → Int32) (o a b n : Int32) (s : ms_T) : Int32 :=
  if o < 16 then ca_v o n (ms_R s a.toNatClampNeg) (ms_R s b.toNatClampNeg) (ms_A s)
  else if o = 16 then ms_M s n.toNatClampNeg else if o = 18 then ms_M s (rp_a tc (ms_G s) n) else 0
/-- one instruction, at once -/
def ex_i (tc : Nat → Int32) (o d a b n : Int32) (s : ms_T) : ms_T :=
  (if 0 ≤ d ∧ d < 8 then upd (ms_R s) d.toNatClampNeg (rv_i tc o a b n s) else ms_R s,
   if o = 11 then 0 else if o = 12 then ms_A s + (rv_i tc o a b n s).toInt64 else ms_A s,
   if o = 17 then upd (ms_M s) n.toNatClampNeg (ms_R s a.toNatClampNeg) else if o = 19 then upd (ms_M s) (rp_a tc (ms_G s) n) (ms_R s a.toNatClampNeg) else ms_M s,
   if o = 20 then upd (ms_G s) (n / 8).toNatClampNeg (rp_g tc (ms_G s) n) else ms_G s)
/-! ===== code: length, op, into, first, second, number ===== -/
abbrev cd_T : Type := Nat × (Nat → Int32) × (Nat → Int32) × (Nat → Int32) × (Nat → Int32) × (Nat → Int32)
def cd_l (c : cd_T) : Nat := c.1
def cd_o (c : cd_T) : Nat → Int32 := c.2.1
def cd_d (c : cd_T) : Nat → Int32 := c.2.2.1
def cd_a (c : cd_T) : Nat → Int32 := c.2.2.2.1
def cd_b (c : cd_T) : Nat → Int32 := c.2.2.2.2.1
def cd_n (c : cd_T) : Nat → Int32 := c.2.2.2.2.2
def cd_push (c : cd_T) (o d a b n : Int32) : cd_T :=
  (cd_l c + 1, upd (cd_o c) (cd_l c) o, upd (cd_d c) (cd_l c) d, upd (cd_a c) (cd_l c) a, upd (cd_b c) (cd_l c) b, upd (cd_n c) (cd_l c) n)
def rn_i (tc : Nat → Int32) (c : cd_T) : Nat → ms_T → ms_T
  | 0, s => s
  | i + 1, s => ex_i tc (cd_o c i) (cd_d c i) (cd_a c i) (cd_b c i) (cd_n c i) (rn_i tc c i s)
def rs_c (tc : Nat → Int32) (c : cd_T) (s : ms_T) : ms_T := rn_i tc c (cd_l c) s
theorem rn_push (tc : Nat → Int32) (c : cd_T) (o d a b n : Int32) (s : ms_T) : ∀ i, i ≤ cd_l c → rn_i tc (cd_push c o d a b n) i s = rn_i tc c i s := by
  intro i
  induction i with
  | zero => intro _; rfl
  | succ i ih =>
    intro hi
    have hne : i ≠ cd_l c := by omega
    show ex_i tc (upd (cd_o c) (cd_l c) o i) (upd (cd_d c) (cd_l c) d i) (upd (cd_a c) (cd_l c) a i) (upd (cd_b c) (cd_l c) b i) (upd (cd_n c) (cd_l c) n i) (rn_i tc (cd_push c o d a b n) i s) = _
    rw [pk_un hne, pk_un hne, pk_un hne, pk_un hne, pk_un hne, ih (by omega)]
    rfl
theorem rs_push (tc : Nat → Int32) (c : cd_T) (o d a b n : Int32) (s : ms_T) : rs_c tc (cd_push c o d a b n) s = ex_i tc o d a b n (rs_c tc c s) := by
  show ex_i tc (upd (cd_o c) (cd_l c) o (cd_l c)) (upd (cd_d c) (cd_l c) d (cd_l c)) (upd (cd_a c) (cd_l c) a (cd_l c)) (upd (cd_b c) (cd_l c) b (cd_l c)) (upd (cd_n c) (cd_l c) n (cd_l c)) (rn_i tc (cd_push c o d a b n) (cd_l c) s) = _
  rw [pk_us, pk_us, pk_us, pk_us, pk_us, rn_push tc c o d a b n s _ (Nat.le_refl _)]
  rfl
/-! ===== well-formed instructions ===== -/
def rg_ok (x : Int32) : Prop := ∃ r : Nat, r < 8 ∧ x = nI r
def ad_ok (n : Int32) : Prop := ∃ m : Nat, n = nI m ∧ (m < 32 ∨ (64 ≤ m ∧ m < 96))
def rn_ok (tc : Nat → Int32) (n : Int32) : Prop := ∃ f k l : Nat, n = nI (8 * f + k) ∧ f < 4 ∧ k < l ∧ l ≤ 6 ∧ tc f = nI l
def wi_ok (tc : Nat → Int32) (o d a b n : Int32) : Prop :=
  (o = 1 ∧ rg_ok d ∧ a = -1 ∧ b = -1) ∨ ((o = 7 ∨ o = 8) ∧ rg_ok d ∧ rg_ok a ∧ b = -1) ∨
  ((o = 2 ∨ o = 3 ∨ o = 9 ∨ o = 10) ∧ rg_ok d ∧ rg_ok a ∧ rg_ok b) ∨ (o = 11 ∧ d = 8 ∧ a = -1 ∧ b = -1) ∨
  (o = 12 ∧ d = 8 ∧ rg_ok a ∧ rg_ok b) ∨ (o = 13 ∧ rg_ok d ∧ a = 8 ∧ b = -1) ∨
  (o = 16 ∧ rg_ok d ∧ a = -1 ∧ b = -1 ∧ ad_ok n) ∨ (o = 17 ∧ d = -1 ∧ rg_ok a ∧ b = -1 ∧ ad_ok n) ∨
  (o = 18 ∧ rg_ok d ∧ a = -1 ∧ b = -1 ∧ rn_ok tc n) ∨ (o = 19 ∧ d = -1 ∧ rg_ok a ∧ b = -1 ∧ rn_ok tc n) ∨
  (o = 20 ∧ d = -1 ∧ a = -1 ∧ b = -1 ∧ rn_ok tc n)
def wc_ok (tc : Nat → Int32) (c : cd_T) : Prop := ∀ i, i < cd_l c → wi_ok tc (cd_o c i) (cd_d c i) (cd_a c i) (cd_b c i) (cd_n c i)
theorem wc_push {tc : Nat → Int32} {c : cd_T} {o d a b n : Int32} (h : wc_ok tc c) (w : wi_ok tc o d a b n) : wc_ok tc (cd_push c o d a b n) := by
  intro i hi
  show wi_ok tc (upd (cd_o c) (cd_l c) o i) (upd (cd_d c) (cd_l c) d i) (upd (cd_a c) (cd_l c) a i) (upd (cd_b c) (cd_l c) b i) (upd (cd_n c) (cd_l c) n i)
  by_cases e : i = cd_l c
  · subst e; rw [pk_us, pk_us, pk_us, pk_us, pk_us]; exact w
  · rw [pk_un e, pk_un e, pk_un e, pk_un e, pk_un e]
    have : i < cd_l c + 1 := hi
    exact h i (by omega)
/-! ===== small numbers ===== -/
theorem sn_b {n : Nat} (h : n < 128) : (nI n).toInt8.toInt32 = nI n := by
  revert n; decide +kernel
theorem sn_bm : (-1 : Int32).toInt8.toInt32 = -1 := by decide
theorem sn_vb {n : Nat} (h : n < 128) : vp_nar .byte (nI n).toInt8.toInt32 = nI n := by rw [pk_vb, sn_b h]
theorem sn_vbm : vp_nar .byte (-1 : Int32).toInt8.toInt32 = -1 := by rw [pk_vb]; decide
theorem sn_vb1 {n : Nat} (h : n < 128) : vp_nar .byte (nI n) = nI n := by rw [vp_nar_byte, sn_b h]
theorem sn_vbm1 : vp_nar .byte (-1 : Int32) = -1 := by rw [vp_nar_byte]; decide
theorem sn_s {n : Nat} (h : n < 32768) : (nI n).toInt16.toInt32 = nI n := lg_i2s_small (by rw [nI_toInt (by omega)]; omega) (by rw [nI_toInt (by omega)]; omega)
theorem sn_vs {n : Nat} (h : n < 32768) : vp_nar .short (nI n).toInt16.toInt32 = nI n := by rw [pk_vs, sn_s h]
theorem sn_vs1 {n : Nat} (h : n < 32768) : vp_nar .short (nI n) = nI n := by rw [vp_nar_short, sn_s h]
theorem sn_cl {n : Nat} (h : n < 2 ^ 31) : (nI n).toNatClampNeg = n := nI_clamp h
theorem sn_ne {n : Nat} (h : n < 2 ^ 31) : nI n ≠ -1 := by
  intro e
  have := congrArg Int32.toInt e
  rw [nI_toInt h, show (-1 : Int32).toInt = -1 from by decide] at this
  omega
theorem sn_inj {a b : Nat} (ha : a < 2 ^ 31) (hb : b < 2 ^ 31) (h : nI a = nI b) : a = b := (nI_eq ha hb).mp h
end
section
/-! ===== registers as numbers ===== -/
theorem rg_nn {x : Int32} (h : rg_ok x) : 0 ≤ x := by obtain ⟨r, hr, rfl⟩ := h; exact nI_pos' (by omega)
theorem rg_lt {x : Int32} (h : rg_ok x) : x < 8 := by obtain ⟨r, hr, rfl⟩ := h; exact nI_lt (b := 8) hr (by decide)
theorem rg_ne8 {x : Int32} (h : rg_ok x) : x ≠ 8 := by
  obtain ⟨r, hr, rfl⟩ := h
  intro e
  have := sn_inj (a := r) (b := 8) (by omega) (by omega) e
  omega
theorem rg_nem {x : Int32} (h : rg_ok x) : x ≠ -1 := by obtain ⟨r, hr, rfl⟩ := h; exact sn_ne (by omega)
theorem rg_of {x : Int32} (h0 : 0 ≤ x) (h8 : x < 8) : rg_ok x := by
  rcases pk_ix x (n := 8) (by omega) with h | h | ⟨j, hj, e⟩
  · exact absurd h (Int32.not_lt.mpr h0)
  · exact absurd h8 (Int32.not_lt.mpr h)
  · exact ⟨j, hj, e⟩
theorem wf_acc {tc : Nat → Int32} {o d a b n : Int32} (h : wi_ok tc o d a b n) : (o = 11 ∨ o = 12) ↔ d = 8 := by
  rcases h with ⟨rfl, hd, _⟩ | ⟨ho, hd, _⟩ | ⟨ho, hd, _⟩ | ⟨rfl, rfl, _⟩ | ⟨rfl, rfl, _⟩ | ⟨rfl, hd, _⟩ | ⟨rfl, hd, _⟩ | ⟨rfl, rfl, _⟩ | ⟨rfl, hd, _⟩ | ⟨rfl, rfl, _⟩ | ⟨rfl, rfl, _⟩
  · exact ⟨fun h => absurd h (by decide), fun h => absurd h (rg_ne8 hd)⟩
  · rcases ho with rfl | rfl <;> exact ⟨fun h => absurd h (by decide), fun h => absurd h (rg_ne8 hd)⟩
  · rcases ho with rfl | rfl | rfl | rfl <;> exact ⟨fun h => absurd h (by decide), fun h => absurd h (rg_ne8 hd)⟩
  · exact ⟨fun _ => rfl, fun _ => Or.inl rfl⟩
  · exact ⟨fun _ => rfl, fun _ => Or.inr rfl⟩
  · exact ⟨fun h => absurd h (by decide), fun h => absurd h (rg_ne8 hd)⟩
  · exact ⟨fun h => absurd h (by decide), fun h => absurd h (rg_ne8 hd)⟩
  · exact ⟨fun h => absurd h (by decide), fun h => absurd h (by decide)⟩
  · exact ⟨fun h => absurd h (by decide), fun h => absurd h (rg_ne8 hd)⟩
  · exact ⟨fun h => absurd h (by decide), fun h => absurd h (by decide)⟩
  · exact ⟨fun h => absurd h (by decide), fun h => absurd h (by decide)⟩
theorem wf_d {tc : Nat → Int32} {o d a b n : Int32} (h : wi_ok tc o d a b n) : d = -1 ∨ d = 8 ∨ rg_ok d := by
  rcases h with ⟨_, hd, _⟩ | ⟨_, hd, _⟩ | ⟨_, hd, _⟩ | ⟨_, hd, _⟩ | ⟨_, hd, _⟩ | ⟨_, hd, _⟩ | ⟨_, hd, _⟩ | ⟨_, hd, _⟩ | ⟨_, hd, _⟩ | ⟨_, hd, _⟩ | ⟨_, hd, _⟩ <;> first | exact Or.inr (Or.inr hd) | exact Or.inr (Or.inl hd) | exact Or.inl hd
/-! ===== places in a ring ===== -/
theorem rp_i {tc G : Nat → Int32} {f k l a : Nat} (hf : f < 4) (hk : k < l) (hl : l ≤ 6) (ht : tc f = nI l) (ha : a < l) (hG : G f = nI a) :
    (nI (8 * f + k)) / 8 = nI f ∧ ((32 + (8 * ((nI (8 * f + k)) / 8))) + rp_x tc G (nI (8 * f + k))) = nI (32 + 8 * f + (a + l - k) % l) := by
  have e1 : (nI (8 * f + k)) / 8 = nI f := by
    have := pk_div (a := 8 * f + k) (d := 8) (by omega) (by omega) (by omega)
    rw [show (8 * f + k) / 8 = f by omega] at this
    exact this
  have e2 : nI (8 * f + k) - nI (8 * f + k) / 8 * 8 = nI k := by
    have := pk_rem (a := 8 * f + k) (d := 8) (by omega) (by omega) (by omega)
    rw [show (8 * f + k) % 8 = k by omega] at this
    exact this
  refine ⟨e1, ?_⟩
  unfold rp_x
  rw [e2, e1, nI_clamp (by omega), hG, ht]
  have e3 : nI a - nI k + nI l = nI (a + l - k) := by
    rw [← pk_sub (a := a + l) (b := k) (by omega), ← nI_add, Int32.sub_eq_add_neg, Int32.sub_eq_add_neg, Int32.add_assoc, Int32.add_assoc, Int32.add_comm (-nI k)]
  rw [e3, pk_rem (by omega) (by omega) (by omega)]
  show nI 32 + nI 8 * nI f + _ = _
  rw [pk_mul, nI_add, nI_add]
theorem rp_ev {tc G : Nat → Int32} {f k l a : Nat} (hf : f < 4) (hk : k < l) (hl : l ≤ 6) (ht : tc f = nI l) (ha : a < l) (hG : G f = nI a) :
    rp_a tc G (nI (8 * f + k)) = 32 + 8 * f + (a + l - k) % l := by
  unfold rp_a
  rw [(rp_i hf hk hl ht ha hG).2, nI_clamp]
  have := Nat.mod_lt (a + l - k) (show 0 < l by omega)
  omega
theorem rp_gv {tc G : Nat → Int32} {f k l a : Nat} (hf : f < 4) (hk : k < l) (hl : l ≤ 6) (ht : tc f = nI l) (ha : a < l) (hG : G f = nI a) :
    rp_g tc G (nI (8 * f + k)) = nI ((a + 1) % l) := by
  unfold rp_g
  rw [(rp_i hf hk hl ht ha hG).1, nI_clamp (by omega), hG, ht, nI_1, pk_rem (by omega) (by omega) (by omega), sn_vb]
  have := Nat.mod_lt (a + 1) (show 0 < l by omega)
  omega
/-- ring places within -/
def gv_ok (tc G : Nat → Int32) : Prop := ∀ f l : Nat, f < 4 → 0 < l → l ≤ 6 → tc f = nI l → ∃ a : Nat, a < l ∧ G f = nI a
/-! ===== one instruction on one place ===== -/
theorem ex_Rn {tc : Nat → Int32} {o d a b n : Int32} {s : ms_T} {r : Nat} (hr : r < 8) (h : d ≠ nI r) : ms_R (ex_i tc o d a b n s) r = ms_R s r := by
  show (if 0 ≤ d ∧ d < 8 then upd (ms_R s) d.toNatClampNeg (rv_i tc o a b n s) else ms_R s) r = _
  by_cases hc : 0 ≤ d ∧ d < 8
  · rw [if_pos hc]
    obtain ⟨j, hj, rfl⟩ := rg_of hc.1 hc.2
    rw [nI_clamp (by omega)]
    exact pk_un (fun e => h (by rw [e]))
  · rw [if_neg hc]
theorem ex_Rs {tc : Nat → Int32} {o a b n : Int32} {s : ms_T} {r : Nat} (hr : r < 8) : ms_R (ex_i tc o (nI r) a b n s) r = rv_i tc o a b n s := by
  show (if 0 ≤ nI r ∧ nI r < 8 then upd (ms_R s) (nI r).toNatClampNeg (rv_i tc o a b n s) else ms_R s) r = _
  rw [if_pos ⟨rg_nn ⟨r, hr, rfl⟩, rg_lt ⟨r, hr, rfl⟩⟩, nI_clamp (by omega)]
  exact pk_us
theorem ex_An {tc : Nat → Int32} {o d a b n : Int32} {s : ms_T} (h : ¬ (o = 11 ∨ o = 12)) : ms_A (ex_i tc o d a b n s) = ms_A s := by
  show (if o = 11 then 0 else if o = 12 then ms_A s + (rv_i tc o a b n s).toInt64 else ms_A s) = _
  rw [if_neg (fun e => h (Or.inl e)), if_neg (fun e => h (Or.inr e))]
theorem ex_Mv {tc : Nat → Int32} {o d a b n : Int32} {s : ms_T} : ms_M (ex_i tc o d a b n s) = if o = 17 then upd (ms_M s) n.toNatClampNeg (ms_R s a.toNatClampNeg) else if o = 19 then upd (ms_M s) (rp_a tc (ms_G s) n) (ms_R s a.toNatClampNeg) else ms_M s := rfl
theorem ex_Gv {tc : Nat → Int32} {o d a b n : Int32} {s : ms_T} : ms_G (ex_i tc o d a b n s) = if o = 20 then upd (ms_G s) (n / 8).toNatClampNeg (rp_g tc (ms_G s) n) else ms_G s := rfl
theorem ex_Av {tc : Nat → Int32} {o d a b n : Int32} {s : ms_T} : ms_A (ex_i tc o d a b n s) = if o = 11 then 0 else if o = 12 then ms_A s + (rv_i tc o a b n s).toInt64 else ms_A s := rfl
theorem ex_Mn {tc : Nat → Int32} {o d a b n : Int32} {s : ms_T} (h1 : o ≠ 17) (h2 : o ≠ 19) : ms_M (ex_i tc o d a b n s) = ms_M s := by
  rw [ex_Mv, if_neg h1, if_neg h2]
theorem ex_M17 {tc : Nat → Int32} {d a b n : Int32} {s : ms_T} : ms_M (ex_i tc 17 d a b n s) = upd (ms_M s) n.toNatClampNeg (ms_R s a.toNatClampNeg) := by rw [ex_Mv, if_pos rfl]
theorem ex_M19 {tc : Nat → Int32} {d a b n : Int32} {s : ms_T} : ms_M (ex_i tc 19 d a b n s) = upd (ms_M s) (rp_a tc (ms_G s) n) (ms_R s a.toNatClampNeg) := by
  rw [ex_Mv, if_neg (by decide), if_pos rfl]
theorem ex_Gn {tc : Nat → Int32} {o d a b n : Int32} {s : ms_T} (h : o ≠ 20) : ms_G (ex_i tc o d a b n s) = ms_G s := by rw [ex_Gv, if_neg h]
theorem ex_G20 {tc : Nat → Int32} {d a b n : Int32} {s : ms_T} : ms_G (ex_i tc 20 d a b n s) = upd (ms_G s) (n / 8).toNatClampNeg (rp_g tc (ms_G s) n) := by rw [ex_Gv, if_pos rfl]
theorem ex_gv {tc : Nat → Int32} {o d a b n : Int32} {s : ms_T} (w : wi_ok tc o d a b n) (g : gv_ok tc (ms_G s)) : gv_ok tc (ms_G (ex_i tc o d a b n s)) := by
  by_cases h : o = 20
  · subst h
    have hr : rn_ok tc n := by
      rcases w with ⟨e, _⟩ | ⟨e, _⟩ | ⟨e, _⟩ | ⟨e, _⟩ | ⟨e, _⟩ | ⟨e, _⟩ | ⟨e, _⟩ | ⟨e, _⟩ | ⟨e, _⟩ | ⟨e, _⟩ | ⟨_, _, _, _, e⟩
      all_goals first | exact e | exact absurd e (by decide)
    obtain ⟨f, k, l, rfl, hf, hk, hl, ht⟩ := hr
    obtain ⟨a', ha, hG⟩ := g f l hf (by omega) hl ht
    rw [ex_G20, rp_gv hf hk hl ht ha hG, (rp_i hf hk hl ht ha hG).1, nI_clamp (by omega)]
    intro f' l' hf' h0 hl' ht'
    by_cases e : f' = f
    · subst e
      have : l' = l := sn_inj (by omega) (by omega) (ht'.symm.trans ht)
      subst this
      exact ⟨_, Nat.mod_lt _ (by omega), pk_us⟩
    · rw [pk_un e]; exact g f' l' hf' h0 hl' ht'
  · rw [ex_Gn h]; exact g
theorem rn_gv {tc : Nat → Int32} {c : cd_T} {s : ms_T} (w : wc_ok tc c) (g : gv_ok tc (ms_G s)) : ∀ i, i ≤ cd_l c → gv_ok tc (ms_G (rn_i tc c i s)) := by
  intro i
  induction i with
  | zero => intro _; exact g
  | succ i ih => intro hi; exact ex_gv (w i (by omega)) (ih (by omega))
/-! ===== what an order of words must keep ===== -/
def dl_i (o : Int32) : Nat := if o = 16 ∨ o = 18 ∨ o = 10 then 2 else 1
def rd_i (c : cd_T) (i : Nat) (r : Int32) : Prop := cd_a c i = r ∨ cd_b c i = r ∨ (cd_o c i = 12 ∧ r = 8)
def sm_i (c : cd_T) (i j : Nat) : Prop := (cd_o c i < 18 ∧ cd_o c j < 18 ∧ cd_n c i = cd_n c j) ∨ (¬ cd_o c i < 18 ∧ ¬ cd_o c j < 18 ∧ cd_n c i / 8 = cd_n c j / 8)
def dp_ok (c : cd_T) (wo : Nat → Nat) (j i : Nat) (w : Nat) : Prop :=
  (0 ≤ cd_d c j → rd_i c i (cd_d c j) → wo j + dl_i (cd_o c j) ≤ w) ∧
  (0 ≤ cd_d c i → rd_i c j (cd_d c i) → wo j ≤ w) ∧
  (0 ≤ cd_d c i → cd_d c i = cd_d c j → wo j + dl_i (cd_o c j) + 1 ≤ w + dl_i (cd_o c i)) ∧
  (¬ cd_o c i < 16 → ¬ cd_o c j < 16 → sm_i c i j → wo j + 1 ≤ w)
def sc_ok (c : cd_T) (wo : Nat → Nat) : Prop := ∀ i, i < cd_l c → ∀ j, j < i → dp_ok c wo j i (wo i) ∧ ((cd_o c i < 16 ↔ cd_o c j < 16) → wo i ≠ wo j)
theorem dl_12 (o : Int32) : 1 ≤ dl_i o ∧ dl_i o ≤ 2 := by unfold dl_i; split <;> omega
section
variable {tc : Nat → Int32} {c : cd_T} {wo : Nat → Nat} {s0 : ms_T}
theorem fr_R {r : Nat} (hr : r < 8) : ∀ (d i : Nat), (∀ j, i ≤ j → j < i + d → cd_d c j ≠ nI r) → ms_R (rn_i tc c (i + d) s0) r = ms_R (rn_i tc c i s0) r := by
  intro d
  induction d with
  | zero => intro i _; rfl
  | succ d ih => intro i h; exact (ex_Rn hr (h (i + d) (by omega) (by omega))).trans (ih i (fun j h1 h2 => h j h1 (by omega)))
theorem fr_A : ∀ (d i : Nat), (∀ j, i ≤ j → j < i + d → ¬ (cd_o c j = 11 ∨ cd_o c j = 12)) → ms_A (rn_i tc c (i + d) s0) = ms_A (rn_i tc c i s0) := by
  intro d
  induction d with
  | zero => intro i _; rfl
  | succ d ih => intro i h; exact (ex_An (h (i + d) (by omega) (by omega))).trans (ih i (fun j h1 h2 => h j h1 (by omega)))
theorem ex_Mx {o d a b n : Int32} {s : ms_T} {x : Nat} (hx : x < 32 ∨ (64 ≤ x ∧ x < 96)) (w : wi_ok tc o d a b n) (g : gv_ok tc (ms_G s)) (h : ¬ ((o = 16 ∨ o = 17) ∧ n = nI x)) : ms_M (ex_i tc o d a b n s) x = ms_M s x := by
  by_cases h1 : o = 17
  · subst h1
    have hn : ad_ok n := by
      rcases w with ⟨e, _⟩ | ⟨e, _⟩ | ⟨e, _⟩ | ⟨e, _⟩ | ⟨e, _⟩ | ⟨e, _⟩ | ⟨e, _⟩ | ⟨_, _, _, _, e⟩ | ⟨e, _⟩ | ⟨e, _⟩ | ⟨e, _⟩
      all_goals first | exact e | exact absurd e (by decide)
    obtain ⟨m, rfl, hm⟩ := hn
    rw [ex_M17, nI_clamp (by omega)]
    exact pk_un (fun e => h ⟨Or.inr rfl, by rw [e]⟩)
  · by_cases h2 : o = 19
    · subst h2
      have hr : rn_ok tc n := by
        rcases w with ⟨e, _⟩ | ⟨e, _⟩ | ⟨e, _⟩ | ⟨e, _⟩ | ⟨e, _⟩ | ⟨e, _⟩ | ⟨e, _⟩ | ⟨e, _⟩ | ⟨e, _⟩ | ⟨_, _, _, _, e⟩ | ⟨e, _⟩
        all_goals first | exact e | exact absurd e (by decide)
      obtain ⟨f, k, l, rfl, hf, hk, hl, ht⟩ := hr
      obtain ⟨a', ha, hG⟩ := g f l hf (by omega) hl ht
      rw [ex_M19, rp_ev hf hk hl ht ha hG]
      have := Nat.mod_lt (a' + l - k) (show 0 < l by omega)
      exact pk_un (by omega)
    · rw [ex_Mn h1 h2]
theorem fr_M {x : Nat} (hx : x < 32 ∨ (64 ≤ x ∧ x < 96)) (w : wc_ok tc c) (g : gv_ok tc (ms_G s0)) : ∀ (d i : Nat), i + d ≤ cd_l c → (∀ j, i ≤ j → j < i + d → ¬ ((cd_o c j = 16 ∨ cd_o c j = 17) ∧ cd_n c j = nI x)) → ms_M (rn_i tc c (i + d) s0) x = ms_M (rn_i tc c i s0) x := by
  intro d
  induction d with
  | zero => intro i _ _; rfl
  | succ d ih => intro i hl h; exact (ex_Mx hx (w (i + d) (by omega)) (rn_gv w g (i + d) (by omega)) (h (i + d) (by omega) (by omega))).trans (ih i (by omega) (fun j h1 h2 => h j h1 (by omega)))
theorem ex_Gx {o d a b n : Int32} {s : ms_T} {f : Nat} (hf : f < 4) (w : wi_ok tc o d a b n) (g : gv_ok tc (ms_G s)) (h : ¬ (¬ o < 18 ∧ n / 8 = nI f)) :
    ms_G (ex_i tc o d a b n s) f = ms_G s f ∧ ∀ y, y < 8 → ms_M (ex_i tc o d a b n s) (32 + 8 * f + y) = ms_M s (32 + 8 * f + y) := by
  by_cases h1 : o = 17
  · subst h1
    have hn : ad_ok n := by
      rcases w with ⟨e, _⟩ | ⟨e, _⟩ | ⟨e, _⟩ | ⟨e, _⟩ | ⟨e, _⟩ | ⟨e, _⟩ | ⟨e, _⟩ | ⟨_, _, _, _, e⟩ | ⟨e, _⟩ | ⟨e, _⟩ | ⟨e, _⟩
      all_goals first | exact e | exact absurd e (by decide)
    obtain ⟨m, rfl, hm⟩ := hn
    rw [ex_M17, ex_Gn (by decide), nI_clamp (by omega)]
    exact ⟨rfl, fun y hy => pk_un (by omega)⟩
  · by_cases h2 : o < 18
    · have e19 : o ≠ 19 := fun e => by subst e; exact absurd h2 (by decide)
      have e20 : o ≠ 20 := fun e => by subst e; exact absurd h2 (by decide)
      rw [ex_Mn h1 e19, ex_Gn e20]
      exact ⟨rfl, fun _ _ => rfl⟩
    · have hr : rn_ok tc n := by
        rcases w with ⟨e, _⟩ | ⟨e, _⟩ | ⟨e, _⟩ | ⟨e, _⟩ | ⟨e, _⟩ | ⟨e, _⟩ | ⟨e, _⟩ | ⟨e, _⟩ | ⟨_, _, _, _, e⟩ | ⟨_, _, _, _, e⟩ | ⟨_, _, _, _, e⟩
        all_goals first | exact e | (subst e; exact absurd (by decide) h2) | (rcases e with rfl | rfl <;> exact absurd (by decide) h2) | (rcases e with rfl | rfl | rfl | rfl <;> exact absurd (by decide) h2)
      obtain ⟨f', k, l, rfl, hf', hk, hl, ht⟩ := hr
      obtain ⟨a', ha, hG⟩ := g f' l hf' (by omega) hl ht
      have hne : f ≠ f' := fun e => h ⟨h2, by rw [e]; exact (rp_i hf' hk hl ht ha hG).1⟩
      have hm := Nat.mod_lt (a' + l - k) (show 0 < l by omega)
      constructor
      · by_cases e20 : o = 20
        · subst e20
          rw [ex_G20, (rp_i hf' hk hl ht ha hG).1, nI_clamp (by omega)]
          exact pk_un hne
        · rw [ex_Gn e20]
      · intro y hy
        by_cases e19 : o = 19
        · subst e19
          rw [ex_M19, rp_ev hf' hk hl ht ha hG]
          exact pk_un (by omega)
        · rw [ex_Mn h1 e19]
theorem fr_G {f : Nat} (hf : f < 4) (w : wc_ok tc c) (g : gv_ok tc (ms_G s0)) : ∀ (d i : Nat), i + d ≤ cd_l c → (∀ j, i ≤ j → j < i + d → ¬ (¬ cd_o c j < 18 ∧ cd_n c j / 8 = nI f)) →
    ms_G (rn_i tc c (i + d) s0) f = ms_G (rn_i tc c i s0) f ∧ ∀ y, y < 8 → ms_M (rn_i tc c (i + d) s0) (32 + 8 * f + y) = ms_M (rn_i tc c i s0) (32 + 8 * f + y) := by
  intro d
  induction d with
  | zero => intro i _ _; exact ⟨rfl, fun _ _ => rfl⟩
  | succ d ih =>
    intro i hl h
    have h1 := ex_Gx hf (w (i + d) (by omega)) (rn_gv w g (i + d) (by omega)) (h (i + d) (by omega) (by omega))
    have h2 := ih i (by omega) (fun j h1 h2 => h j h1 (by omega))
    exact ⟨h1.1.trans h2.1, fun y hy => (h1.2 y hy).trans (h2.2 y hy)⟩
end
end
section
/-! ===== what holds at a word: each place holds what the instructions in order had there, at any cut that fits ===== -/
def ac_i (c : cd_T) (j : Nat) : Prop := cd_o c j = 11 ∨ cd_o c j = 12
def vi_R (tc : Nat → Int32) (c : cd_T) (wo : Nat → Nat) (s0 : ms_T) (R : Nat → Int32) (w : Nat) : Prop :=
  ∀ r, r < 8 → ∀ k, k ≤ cd_l c → (∀ j, j < cd_l c → cd_d c j = nI r → (j < k ↔ wo j + dl_i (cd_o c j) < w)) → R r = ms_R (rn_i tc c k s0) r
def vi_A (tc : Nat → Int32) (c : cd_T) (wo : Nat → Nat) (s0 : ms_T) (A : Int64) (w : Nat) : Prop :=
  ∀ k, k ≤ cd_l c → (∀ j, j < cd_l c → ac_i c j → (j < k ↔ wo j < w)) → A = ms_A (rn_i tc c k s0)
def tm_i (c : cd_T) (x j : Nat) : Prop := (cd_o c j = 16 ∨ cd_o c j = 17) ∧ cd_n c j = nI x
def vi_M (tc : Nat → Int32) (c : cd_T) (wo : Nat → Nat) (s0 : ms_T) (M : Nat → Int32) (w : Nat) : Prop :=
  ∀ x, (x < 32 ∨ (64 ≤ x ∧ x < 96)) → ∀ k, k ≤ cd_l c → (∀ j, j < cd_l c → tm_i c x j → (j < k ↔ wo j < w)) → M x = ms_M (rn_i tc c k s0) x
def tr_i (c : cd_T) (f j : Nat) : Prop := ¬ cd_o c j < 18 ∧ cd_n c j / 8 = nI f
def vi_G (tc : Nat → Int32) (c : cd_T) (wo : Nat → Nat) (s0 : ms_T) (M G : Nat → Int32) (w : Nat) : Prop :=
  ∀ f, f < 4 → ∀ k, k ≤ cd_l c → (∀ j, j < cd_l c → tr_i c f j → (j < k ↔ wo j < w)) →
    G f = ms_G (rn_i tc c k s0) f ∧ ∀ y, y < 8 → M (32 + 8 * f + y) = ms_M (rn_i tc c k s0) (32 + 8 * f + y)
def vl_i (tc : Nat → Int32) (c : cd_T) (s0 : ms_T) (j : Nat) : Int32 := rv_i tc (cd_o c j) (cd_a c j) (cd_b c j) (cd_n c j) (rn_i tc c j s0)
/-- the results under way, of the instructions in P, due at lo or later -/
def vi_Q (tc : Nat → Int32) (c : cd_T) (wo : Nat → Nat) (s0 : ms_T) (q : Nat) (dr dv dw : Nat → Int32) (P : Nat → Prop) (lo : Nat) : Prop :=
  (∀ k, k < q → ∃ j, j < cd_l c ∧ rg_ok (cd_d c j) ∧ dr k = cd_d c j ∧ dv k = vl_i tc c s0 j ∧ dw k = nI (wo j + dl_i (cd_o c j)) ∧ P j ∧ lo ≤ wo j + dl_i (cd_o c j)) ∧
  (∀ j, j < cd_l c → rg_ok (cd_d c j) → P j → lo ≤ wo j + dl_i (cd_o c j) → ∃ k, k < q ∧ dr k = cd_d c j ∧ dv k = vl_i tc c s0 j ∧ dw k = nI (wo j + dl_i (cd_o c j)))
section
variable {tc : Nat → Int32} {c : cd_T} {wo : Nat → Nat} {s0 : ms_T}
theorem nx_A {A A' : Int64} {w : Nat} (sc : sc_ok c wo) (h : vi_A tc c wo s0 A w)
    (h1 : ∀ i, i < cd_l c → wo i = w → ac_i c i → A' = ms_A (rn_i tc c (i + 1) s0)) (h2 : (∀ i, i < cd_l c → wo i = w → ¬ ac_i c i) → A' = A)
    (wf : wc_ok tc c) : vi_A tc c wo s0 A' (w + 1) := by
  intro k hk hc
  by_cases he : ∃ i, i < cd_l c ∧ wo i = w ∧ ac_i c i
  · obtain ⟨i, hi, hw, ha⟩ := he
    rw [h1 i hi hw ha]
    have hik : i < k := (hc i hi ha).mpr (by omega)
    obtain ⟨d, rfl⟩ : ∃ d, k = (i + 1) + d := ⟨k - (i + 1), by omega⟩
    refine (fr_A d (i + 1) ?_).symm
    intro j hj1 hj2 haj
    have hjl : j < cd_l c := by omega
    have hlt := (hc j hjl haj).mp hj2
    have hd8 := (wf_acc (wf j hjl)).mp haj
    have hd8' := (wf_acc (wf i hi)).mp ha
    have := (sc j hjl i (by omega)).1.2.2.1 (by rw [hd8]; decide) (by rw [hd8, hd8'])
    have dj : dl_i (cd_o c j) = 1 := by unfold dl_i; rcases haj with e | e <;> rw [e] <;> decide
    have di : dl_i (cd_o c i) = 1 := by unfold dl_i; rcases ha with e | e <;> rw [e] <;> decide
    omega
  · have he' : ∀ i, i < cd_l c → wo i = w → ¬ ac_i c i := fun i a b d => he ⟨i, a, b, d⟩
    rw [h2 he']
    refine h k hk (fun j hj haj => ?_)
    have := hc j hj haj
    have : wo j ≠ w := fun e => he' j hj e haj
    omega
theorem nx_M {M M' : Nat → Int32} {w : Nat} (sc : sc_ok c wo) (wf : wc_ok tc c) (g : gv_ok tc (ms_G s0)) (h : vi_M tc c wo s0 M w)
    (h1 : ∀ x, (x < 32 ∨ (64 ≤ x ∧ x < 96)) → ∀ i, i < cd_l c → wo i = w → tm_i c x i → M' x = ms_M (rn_i tc c (i + 1) s0) x)
    (h2 : ∀ x, (x < 32 ∨ (64 ≤ x ∧ x < 96)) → (∀ i, i < cd_l c → wo i = w → ¬ tm_i c x i) → M' x = M x) : vi_M tc c wo s0 M' (w + 1) := by
  intro x hx k hk hc
  by_cases he : ∃ i, i < cd_l c ∧ wo i = w ∧ tm_i c x i
  · obtain ⟨i, hi, hw, ha⟩ := he
    rw [h1 x hx i hi hw ha]
    have hik : i < k := (hc i hi ha).mpr (by omega)
    obtain ⟨d, rfl⟩ : ∃ d, k = (i + 1) + d := ⟨k - (i + 1), by omega⟩
    refine (fr_M hx wf g d (i + 1) (by omega) ?_).symm
    intro j hj1 hj2 haj
    have hjl : j < cd_l c := by omega
    have hlt := (hc j hjl haj).mp hj2
    have := (sc j hjl i (by omega)).1.2.2.2 (by rcases haj.1 with e | e <;> rw [e] <;> decide) (by rcases ha.1 with e | e <;> rw [e] <;> decide)
      (Or.inl ⟨by rcases haj.1 with e | e <;> rw [e] <;> decide, by rcases ha.1 with e | e <;> rw [e] <;> decide, by rw [haj.2, ha.2]⟩)
    omega
  · have he' : ∀ i, i < cd_l c → wo i = w → ¬ tm_i c x i := fun i a b d => he ⟨i, a, b, d⟩
    rw [h2 x hx he']
    refine h x hx k hk (fun j hj haj => ?_)
    have := hc j hj haj
    have : wo j ≠ w := fun e => he' j hj e haj
    omega
theorem lt18_16 {o : Int32} (h : ¬ o < 18) : ¬ o < 16 := fun h' => h (Int32.lt_trans h' (by decide))
theorem nx_G {M M' G G' : Nat → Int32} {w : Nat} (sc : sc_ok c wo) (wf : wc_ok tc c) (g : gv_ok tc (ms_G s0)) (h : vi_G tc c wo s0 M G w)
    (h1 : ∀ f, f < 4 → ∀ i, i < cd_l c → wo i = w → tr_i c f i → G' f = ms_G (rn_i tc c (i + 1) s0) f ∧ ∀ y, y < 8 → M' (32 + 8 * f + y) = ms_M (rn_i tc c (i + 1) s0) (32 + 8 * f + y))
    (h2 : ∀ f, f < 4 → (∀ i, i < cd_l c → wo i = w → ¬ tr_i c f i) → G' f = G f ∧ ∀ y, y < 8 → M' (32 + 8 * f + y) = M (32 + 8 * f + y)) : vi_G tc c wo s0 M' G' (w + 1) := by
  intro f hf k hk hc
  by_cases he : ∃ i, i < cd_l c ∧ wo i = w ∧ tr_i c f i
  · obtain ⟨i, hi, hw, ha⟩ := he
    have hik : i < k := (hc i hi ha).mpr (by omega)
    obtain ⟨d, rfl⟩ : ∃ d, k = (i + 1) + d := ⟨k - (i + 1), by omega⟩
    have e1 := h1 f hf i hi hw ha
    have e2 := fr_G (tc := tc) (s0 := s0) hf wf g d (i + 1) (by omega) (by
      intro j hj1 hj2 haj
      have hjl : j < cd_l c := by omega
      have hlt := (hc j hjl haj).mp hj2
      have := (sc j hjl i (by omega)).1.2.2.2 (lt18_16 haj.1) (lt18_16 ha.1) (Or.inr ⟨haj.1, ha.1, by rw [haj.2, ha.2]⟩)
      omega)
    exact ⟨e1.1.trans e2.1.symm, fun y hy => (e1.2 y hy).trans (e2.2 y hy).symm⟩
  · have he' : ∀ i, i < cd_l c → wo i = w → ¬ tr_i c f i := fun i a b d => he ⟨i, a, b, d⟩
    have e1 := h2 f hf he'
    have e2 := h f hf k hk (fun j hj haj => by
      have := hc j hj haj
      have : wo j ≠ w := fun e => he' j hj e haj
      omega)
    exact ⟨e1.1.trans e2.1, fun y hy => (e1.2 y hy).trans (e2.2 y hy)⟩
/-- delivering -/
theorem nx_R {R R' : Nat → Int32} {w : Nat} (sc : sc_ok c wo) (h : vi_R tc c wo s0 R w)
    (h1 : ∀ r, r < 8 → (R' r = R r ∧ ∀ j, j < cd_l c → cd_d c j = nI r → wo j + dl_i (cd_o c j) ≠ w) ∨ (∃ j, j < cd_l c ∧ cd_d c j = nI r ∧ wo j + dl_i (cd_o c j) = w ∧ R' r = vl_i tc c s0 j)) :
    vi_R tc c wo s0 R' (w + 1) := by
  intro r hr k hk hc
  rcases h1 r hr with ⟨e, hn⟩ | ⟨i, hi, hd, hw, e⟩
  · rw [e]
    refine h r hr k hk (fun j hj hdj => ?_)
    have := hc j hj hdj
    have := hn j hj hdj
    omega
  · rw [e]
    have hik : i < k := (hc i hi hd).mpr (by omega)
    obtain ⟨d, rfl⟩ : ∃ d, k = (i + 1) + d := ⟨k - (i + 1), by omega⟩
    rw [fr_R hr d (i + 1) ?_]
    · show _ = ms_R (ex_i tc (cd_o c i) (cd_d c i) (cd_a c i) (cd_b c i) (cd_n c i) (rn_i tc c i s0)) r
      rw [hd, ex_Rs hr]
      rfl
    · intro j hj1 hj2 hdj
      have hjl : j < cd_l c := by omega
      have hlt := (hc j hjl hdj).mp hj2
      have := (sc j hjl i (by omega)).1.2.2.1 (by rw [hdj]; exact nI_pos' (by omega)) (by rw [hdj, hd])
      omega
/-! reading -/
theorem re_R {R : Nat → Int32} {w : Nat} (sc : sc_ok c wo) (h : vi_R tc c wo s0 R (w + 1)) {i r : Nat} (hi : i < cd_l c) (hw : wo i = w) (hr : r < 8) (rd : rd_i c i (nI r)) : R r = ms_R (rn_i tc c i s0) r := by
  refine h r hr i (by omega) (fun j hj hd => ?_)
  have d1 := dl_12 (cd_o c j)
  have d2 := dl_12 (cd_o c i)
  have h0 : (0 : Int32) ≤ cd_d c j := by rw [hd]; exact nI_pos' (by omega)
  constructor
  · intro hji
    have := (sc i hi j hji).1.1 h0 (by rw [hd]; exact rd)
    omega
  · intro hlt
    rcases Nat.lt_or_ge j i with q | q
    · exact q
    · exfalso
      rcases Nat.eq_or_lt_of_le q with e | q
      · subst e; omega
      · have := (sc j hj i q).1.2.1 h0 (by rw [hd]; exact rd)
        omega
theorem re_A {A : Int64} {w : Nat} (sc : sc_ok c wo) (wf : wc_ok tc c) (h : vi_A tc c wo s0 A w) {i : Nat} (hi : i < cd_l c) (hw : wo i = w) (rd : rd_i c i 8) : A = ms_A (rn_i tc c i s0) := by
  refine h i (by omega) (fun j hj ha => ?_)
  have d1 := dl_12 (cd_o c j)
  have hd := (wf_acc (wf j hj)).mp ha
  have h0 : (0 : Int32) ≤ cd_d c j := by rw [hd]; decide
  constructor
  · intro hji
    have := (sc i hi j hji).1.1 h0 (by rw [hd]; exact rd)
    omega
  · intro hlt
    rcases Nat.lt_or_ge j i with q | q
    · exact q
    · exfalso
      rcases Nat.eq_or_lt_of_le q with e | q
      · subst e; omega
      · have := (sc j hj i q).1.2.1 h0 (by rw [hd]; exact rd)
        omega
theorem re_M {M : Nat → Int32} {w : Nat} (sc : sc_ok c wo) (h : vi_M tc c wo s0 M w) {i x : Nat} (hi : i < cd_l c) (hw : wo i = w) (hx : x < 32 ∨ (64 ≤ x ∧ x < 96)) (ht : tm_i c x i) : M x = ms_M (rn_i tc c i s0) x := by
  refine h x hx i (by omega) (fun j hj ha => ?_)
  have hm : ∀ p q : Nat, tm_i c x p → tm_i c x q → ¬ cd_o c p < 16 ∧ sm_i c p q := by
    intro p q hp hq
    exact ⟨by rcases hp.1 with e | e <;> rw [e] <;> decide, Or.inl ⟨by rcases hp.1 with e | e <;> rw [e] <;> decide, by rcases hq.1 with e | e <;> rw [e] <;> decide, by rw [hp.2, hq.2]⟩⟩
  constructor
  · intro hji
    have := (sc i hi j hji).1.2.2.2 (hm i j ht ha).1 (hm j i ha ht).1 (hm i j ht ha).2
    omega
  · intro hlt
    rcases Nat.lt_or_ge j i with q | q
    · exact q
    · exfalso
      rcases Nat.eq_or_lt_of_le q with e | q
      · subst e; omega
      · have := (sc j hj i q).1.2.2.2 (hm j i ha ht).1 (hm i j ht ha).1 (hm j i ha ht).2
        omega
theorem re_G {M G : Nat → Int32} {w : Nat} (sc : sc_ok c wo) (h : vi_G tc c wo s0 M G w) {i f : Nat} (hi : i < cd_l c) (hw : wo i = w) (hf : f < 4) (ht : tr_i c f i) :
    G f = ms_G (rn_i tc c i s0) f ∧ ∀ y, y < 8 → M (32 + 8 * f + y) = ms_M (rn_i tc c i s0) (32 + 8 * f + y) := by
  refine h f hf i (by omega) (fun j hj ha => ?_)
  constructor
  · intro hji
    have := (sc i hi j hji).1.2.2.2 (lt18_16 ht.1) (lt18_16 ha.1) (Or.inr ⟨ht.1, ha.1, by rw [ha.2, ht.2]⟩)
    omega
  · intro hlt
    rcases Nat.lt_or_ge j i with q | q
    · exact q
    · exfalso
      rcases Nat.eq_or_lt_of_le q with e | q
      · subst e; omega
      · have := (sc j hj i q).1.2.2.2 (lt18_16 ha.1) (lt18_16 ht.1) (Or.inr ⟨ha.1, ht.1, by rw [ha.2, ht.2]⟩)
        omega
/-! the ends -/
theorem en_M {M G : Nat → Int32} {wc : Nat} (hM : vi_M tc c wo s0 M wc) (hG : vi_G tc c wo s0 M G wc) (hw : ∀ j, j < cd_l c → wo j < wc) :
    (∀ x, x < 96 → M x = ms_M (rs_c tc c s0) x) ∧ (∀ f, f < 4 → G f = ms_G (rs_c tc c s0) f) := by
  have hg := fun f hf => hG f hf (cd_l c) (Nat.le_refl _) (fun j hj _ => ⟨fun _ => hw j hj, fun _ => hj⟩)
  refine ⟨fun x hx => ?_, fun f hf => (hg f hf).1⟩
  by_cases h : x < 32 ∨ (64 ≤ x ∧ x < 96)
  · exact hM x h (cd_l c) (Nat.le_refl _) (fun j hj _ => ⟨fun _ => hw j hj, fun _ => hj⟩)
  · have := (hg ((x - 32) / 8) (by omega)).2 ((x - 32) % 8) (by omega)
    rw [show 32 + 8 * ((x - 32) / 8) + (x - 32) % 8 = x by omega] at this
    exact this
theorem be_R (R0 : Nat → Int32) (hR : ms_R s0 = R0) : vi_R tc c wo s0 R0 0 := by
  intro r hr k hk hc
  have := fr_R (tc := tc) (c := c) (s0 := s0) hr k 0 (fun j _ hj hd => by
    have := (hc j (by omega) hd).mp (by omega)
    omega)
  rw [Nat.zero_add] at this
  rw [this, ← hR]; rfl
theorem be_A (A0 : Int64) (hA : ms_A s0 = A0) : vi_A tc c wo s0 A0 0 := by
  intro k hk hc
  have := fr_A (tc := tc) (c := c) (s0 := s0) k 0 (fun j _ hj hd => by
    have := (hc j (by omega) hd).mp (by omega)
    omega)
  rw [Nat.zero_add] at this
  rw [this, ← hA]; rfl
theorem be_M (wf : wc_ok tc c) (g : gv_ok tc (ms_G s0)) (M0 : Nat → Int32) (hM : ms_M s0 = M0) : vi_M tc c wo s0 M0 0 := by
  intro x hx k hk hc
  have := fr_M (tc := tc) (c := c) (s0 := s0) hx wf g k 0 (by omega) (fun j _ hj hd => by
    have := (hc j (by omega) hd).mp (by omega)
    omega)
  rw [Nat.zero_add] at this
  rw [this, ← hM]; rfl
theorem be_G (wf : wc_ok tc c) (g : gv_ok tc (ms_G s0)) (M0 G0 : Nat → Int32) (hM : ms_M s0 = M0) (hG : ms_G s0 = G0) : vi_G tc c wo s0 M0 G0 0 := by
  intro f hf k hk hc
  have := fr_G (tc := tc) (c := c) (s0 := s0) hf wf g k 0 (by omega) (fun j _ hj hd => by
    have := (hc j (by omega) hd).mp (by omega)
    omega)
  rw [Nat.zero_add] at this
  exact ⟨by rw [this.1, ← hG]; rfl, fun y hy => by rw [this.2 y hy, ← hM]; rfl⟩
end
end
section
/-! ===== the processor's walk ===== -/
def xr_T (u : SX) (A : Int64) (dc : Int32) (M G R dr dv dw : Nat → Int32) : SX := (sx_nodeCount u, sx_filterCount u, sx_levelNow u, sx_compiled u, sx_needed u, sx_pinned u, sx_listEnd u, sx_wordCount u, A, dc, sx_stepCount u, sx_listLength u, sx_listValue u, sx_kindOf u, sx_partX u, sx_partY u, sx_filterOf u, sx_tapCount u, sx_taps u, sx_outputNode u, sx_same u, sx_holds u, sx_registerOf u, sx_isSaved u, sx_op u, sx_into u, sx_first u, sx_second u, sx_number u, sx_wordOf u, sx_words u, M, G, R, dr, dv, dw)
def dv_I (q w : Nat) (ro om : Nat → Nat) (R0 dr0 dv0 dw0 : Nat → Int32) (k left : Nat) (R dr dv dw : Nat → Int32) : Prop :=
  (∀ i, k ≤ i → i < q → dr i = dr0 i ∧ dv i = dv0 i ∧ dw i = dw0 i) ∧
  (∀ i, i < left → ∃ i0, i0 < k ∧ dr i = dr0 i0 ∧ dv i = dv0 i0 ∧ dw i = dw0 i0 ∧ w < om i0) ∧
  (∀ i0, i0 < k → w < om i0 → ∃ i, i < left ∧ dr i = dr0 i0 ∧ dv i = dv0 i0 ∧ dw i = dw0 i0) ∧
  (∀ r, r < 8 → (R r = R0 r ∧ ∀ i0, i0 < k → om i0 ≤ w → ro i0 ≠ r) ∨ ∃ i0, i0 < k ∧ om i0 ≤ w ∧ ro i0 = r ∧ R r = dv0 i0) ∧
  (∀ a, (∀ i, i < a → om i ≤ w) → a ≤ k → left + a ≤ k)
theorem dv_lp {u : SX} {A : Int64} {M G : Nat → Int32} {post : SX → Prop} {q w : Nat} {ro om : Nat → Nat} {R0 dr0 dv0 dw0 : Nat → Int32}
    (hq : q ≤ 8) (hw : w < 30000) (hro : ∀ k, k < q → dr0 k = nI (ro k) ∧ ro k < 8) (hom : ∀ k, k < q → dw0 k = nI (om k) ∧ om k < 32768)
    (K : ∀ (left : Nat) (R dr dv dw : Nat → Int32), left ≤ q → dv_I q w ro om R0 dr0 dv0 dw0 q left R dr dv dw → post (xr_T u A (nI left) M G R dr dv dw)) :
    ∀ (d k left : Nat) (R dr dv dw : Nat → Int32), k + d = q → left ≤ k → dv_I q w ro om R0 dr0 dv0 dw0 k left R dr dv dw → ∀ n, d < n →
      wX_deliver_4 post (nI w) (sx_nodeCount u) (sx_filterCount u) (sx_levelNow u) (sx_compiled u) (sx_needed u) (sx_pinned u) (sx_listEnd u) (sx_wordCount u) (A) (nI q) (sx_stepCount u) n (nI left) (nI k) (sx_listLength u) (sx_listValue u) (sx_kindOf u) (sx_partX u) (sx_partY u) (sx_filterOf u) (sx_tapCount u) (sx_taps u) (sx_outputNode u) (sx_same u) (sx_holds u) (sx_registerOf u) (sx_isSaved u) (sx_op u) (sx_into u) (sx_first u) (sx_second u) (sx_number u) (sx_wordOf u) (sx_words u) (M) (G) (R) (dr) (dv) (dw) := by
  intro d
  induction d with
  | zero =>
    intro k left R dr dv dw hk hl hI n hn
    obtain ⟨n, rfl⟩ : ∃ m, n = m + 1 := ⟨n - 1, by omega⟩
    have hk' : k = q := by omega
    subst hk'
    rw [wX_deliver_4]
    exact br_t (nI_le (by omega) (by omega)) (K left R dr dv dw hl hI)
  | succ d ih =>
    intro k left R dr dv dw hk hl hI n hn
    obtain ⟨n, rfl⟩ : ∃ m, n = m + 1 := ⟨n - 1, by omega⟩
    have hkq : k < q := by omega
    obtain ⟨I1, I2, I3, I4, I5⟩ := hI
    obtain ⟨e1, e2, e3⟩ := I1 k (Nat.le_refl _) hkq
    obtain ⟨f1, f2⟩ := hro k hkq
    obtain ⟨g1, g2⟩ := hom k hkq
    have ck : (nI k).toNatClampNeg = k := nI_clamp (by omega)
    have cl : (nI left).toNatClampNeg = left := nI_clamp (by omega)
    have ik : vp_in (nI k) 8 := vp_in_nI (by omega) (by omega)
    have il : vp_in (nI left) 8 := vp_in_nI (by omega) (by omega)
    rw [wX_deliver_4]
    refine br_f (nI_ge (by omega) (by omega)) ⟨ik, ?_⟩
    rw [ck, cl, e1, e2, e3, f1, g1]
    by_cases hlt : w < om k
    · refine br_t (nI_lt hlt (by omega)) ⟨ik, il, nm_r (e' := upd dr left (nI (ro k))) (by rw [sn_vb1 (by omega)]) ⟨ik, il, nm_e ⟨ik, il, nm_r (e' := upd dw left (nI (om k))) (by rw [sn_vs1 g2]) (nm_r (e' := nI (left + 1)) (nI_1 _) (nm_r (e' := nI (k + 1)) (nI_1 _) ?_))⟩⟩⟩
      refine ih (k + 1) (left + 1) R _ _ _ (by omega) (by omega) ⟨?_, ?_, ?_, ?_, ?_⟩ n (by omega)
      · intro i h1 h2
        have hne : i ≠ left := by omega
        rw [pk_un hne, pk_un hne, pk_un hne]
        exact I1 i (by omega) h2
      · intro i hi
        by_cases e : i = left
        · subst e
          rw [pk_us, pk_us, pk_us]
          exact ⟨k, by omega, f1.symm, rfl, g1.symm, hlt⟩
        · rw [pk_un e, pk_un e, pk_un e]
          obtain ⟨i0, a, b⟩ := I2 i (by omega)
          exact ⟨i0, by omega, b⟩
      · intro i0 h1 h2
        by_cases e : i0 = k
        · subst e
          exact ⟨left, by omega, by rw [pk_us, f1], by rw [pk_us], by rw [pk_us, g1]⟩
        · obtain ⟨i, a, b1, b2, b3⟩ := I3 i0 (by omega) h2
          have hne : i ≠ left := by omega
          exact ⟨i, by omega, by rw [pk_un hne, b1], by rw [pk_un hne, b2], by rw [pk_un hne, b3]⟩
      · intro r hr
        rcases I4 r hr with ⟨a, b⟩ | ⟨i0, a, b⟩
        · refine Or.inl ⟨a, fun i0 h1 h2 => ?_⟩
          by_cases e : i0 = k
          · subst e; omega
          · exact b i0 (by omega) h2
        · exact Or.inr ⟨i0, by omega, b⟩
      · intro a h1 h2
        have : a ≤ k := by
          rcases Nat.lt_or_ge k a with h | h
          · have := h1 k h; omega
          · exact h
        have := I5 a h1 this
        omega
    · have ir : vp_in (nI (ro k)) 8 := vp_in_nI f2 (by omega)
      refine br_f (nI_nlt (by omega) (by omega)) ⟨ik, ik, ir, nm_r (e' := upd R (ro k) (dv0 k)) (by rw [nI_clamp (by omega)]) (nm_r (e' := nI (k + 1)) (nI_1 _) ?_)⟩
      refine ih (k + 1) left _ dr dv dw (by omega) (by omega) ⟨?_, ?_, ?_, ?_, ?_⟩ n (by omega)
      · exact fun i h1 h2 => I1 i (by omega) h2
      · intro i hi
        obtain ⟨i0, a, b⟩ := I2 i hi
        exact ⟨i0, by omega, b⟩
      · intro i0 h1 h2
        by_cases e : i0 = k
        · subst e; omega
        · exact I3 i0 (by omega) h2
      · intro r hr
        by_cases e : r = ro k
        · subst e
          exact Or.inr ⟨k, by omega, by omega, rfl, pk_us⟩
        · rw [pk_un e]
          rcases I4 r hr with ⟨a, b⟩ | ⟨i0, a, b⟩
          · refine Or.inl ⟨a, fun i0 h1 h2 => ?_⟩
            by_cases e' : i0 = k
            · subst e'; exact fun h => e h.symm
            · exact b i0 (by omega) h2
          · exact Or.inr ⟨i0, by omega, b⟩
      · intro a h1 h2
        by_cases e : a = k + 1
        · subst e
          have := I5 k (fun i hi => h1 i (by omega)) (by omega)
          omega
        · have := I5 a h1 (by omega)
          omega
theorem dv_ok {u : SX} {A : Int64} {M G R dr dv dw : Nat → Int32} {post : SX → Prop} {q w : Nat} {ro om : Nat → Nat}
    (hq : q ≤ 8) (hw : w < 30000) (hro : ∀ k, k < q → dr k = nI (ro k) ∧ ro k < 8) (hom : ∀ k, k < q → dw k = nI (om k) ∧ om k < 32768)
    (K : ∀ (left : Nat) (R' dr' dv' dw' : Nat → Int32), left ≤ q → dv_I q w ro om R dr dv dw q left R' dr' dv' dw' → post (xr_T u A (nI left) M G R' dr' dv' dw')) :
    wpX_deliver post (xr_T u A (nI q) M G R dr dv dw) (nI w) := by
  unfold wpX_deliver xr_T
  refine ⟨q + 1, ?_⟩
  exact dv_lp (R0 := R) (dr0 := dr) (dv0 := dv) (dw0 := dw) hq hw hro hom K q 0 0 R dr dv dw (by omega) (by omega)
    ⟨fun _ _ _ => ⟨rfl, rfl, rfl⟩, fun _ h => absurd h (by omega), fun _ h => absurd h (by omega), fun _ _ => Or.inl ⟨rfl, fun _ h => absurd h (by omega)⟩, fun a _ h => by omega⟩ (q + 1) (by omega)
/-! clipping, calculating -/
theorem cp_ok {u : SX} {post : Int32 → Prop} {p : Int64} (h : post (cl_v p)) : wpX_clipped post u p := by
  unfold wpX_clipped
  unfold cl_v at h
  by_cases h1 : -32768 ≤ p
  · rw [if_pos h1] at h
    refine br_t h1 ?_
    by_cases h2 : p ≤ 32767
    · rw [if_pos h2] at h; exact br_t h2 h
    · rw [if_neg h2] at h; exact br_f h2 h
  · rw [if_neg h1] at h; exact br_f h1 h
theorem cc_ok {u : SX} {post : Int32 → Prop} {i : Nat} (hi : i < 300)
    (ha : ¬ (sx_op u i = 1 ∨ sx_op u i = 13 ∨ sx_op u i = 11) → vp_in (sx_first u i) 8)
    (hb : ¬ (sx_op u i = 1 ∨ sx_op u i = 13 ∨ sx_op u i = 11 ∨ sx_op u i = 7 ∨ sx_op u i = 8) → vp_in (sx_second u i) 8)
    (h : post (ca_v (sx_op u i) (sx_number u i) (sx_register u (sx_first u i).toNatClampNeg) (sx_register u (sx_second u i).toNatClampNeg) (sx_accumulator u))) :
    wpX_calculate post u (nI i) := by
  show wpX_calculate post (sx_nodeCount u, sx_filterCount u, sx_levelNow u, sx_compiled u, sx_needed u, sx_pinned u, sx_listEnd u, sx_wordCount u, sx_accumulator u, sx_dueCount u, sx_stepCount u, sx_listLength u, sx_listValue u, sx_kindOf u, sx_partX u, sx_partY u, sx_filterOf u, sx_tapCount u, sx_taps u, sx_outputNode u, sx_same u, sx_holds u, sx_registerOf u, sx_isSaved u, sx_op u, sx_into u, sx_first u, sx_second u, sx_number u, sx_wordOf u, sx_words u, sx_memory u, sx_ringAt u, sx_register u, sx_dueRegister u, sx_dueValue u, sx_dueWord u) (nI i)
  have ci : (nI i).toNatClampNeg = i := nI_clamp (by omega)
  have ii : vp_in (nI i) 300 := vp_in_nI hi (by omega)
  unfold wpX_calculate
  dsimp only
  rw [ci]
  unfold ca_v at h
  refine ⟨ii, nm_e ⟨ii, nm_e ?_⟩⟩
  by_cases h1 : sx_op u i = 1
  · rw [if_pos h1] at h; exact br_t h1 h
  rw [if_neg h1] at h
  refine br_f h1 ?_
  by_cases h2 : sx_op u i = 13
  · rw [if_pos h2] at h; exact br_t h2 (cp_ok h)
  rw [if_neg h2] at h
  refine br_f h2 ?_
  by_cases h3 : sx_op u i = 11
  · rw [if_pos h3] at h; exact br_t h3 h
  rw [if_neg h3] at h
  refine br_f h3 ⟨ii, ha (fun hh => hh.elim h1 (fun hh => hh.elim h2 h3)), nm_e ?_⟩
  by_cases h4 : sx_op u i = 7
  · rw [if_pos h4] at h
    refine br_t h4 ?_
    by_cases k1 : -(sx_number u i) ≤ sx_register u (sx_first u i).toNatClampNeg
    · rw [if_pos k1] at h
      refine br_t k1 ?_
      by_cases k2 : sx_register u (sx_first u i).toNatClampNeg ≤ sx_number u i
      · rw [if_pos k2] at h; exact br_t k2 h
      · rw [if_neg k2] at h; exact br_f k2 h
    · rw [if_neg k1] at h; exact br_f k1 h
  rw [if_neg h4] at h
  refine br_f h4 ?_
  by_cases h5 : sx_op u i = 8
  · rw [if_pos h5] at h
    refine br_t h5 ?_
    by_cases k1 : 0 ≤ sx_register u (sx_first u i).toNatClampNeg
    · rw [if_pos k1] at h; exact br_t k1 (by unfold wX_calculate_117; exact cp_ok h)
    · rw [if_neg k1] at h; exact br_f k1 (by unfold wX_calculate_117; exact cp_ok h)
  rw [if_neg h5] at h
  refine br_f h5 ⟨ii, hb (fun hh => hh.elim h1 (fun hh => hh.elim h2 (fun hh => hh.elim h3 (fun hh => hh.elim h4 h5)))), nm_e ?_⟩
  by_cases h6 : sx_op u i = 2
  · rw [if_pos h6] at h; exact br_t h6 (cp_ok h)
  rw [if_neg h6] at h
  refine br_f h6 ?_
  by_cases h7 : sx_op u i = 3
  · rw [if_pos h7] at h; exact br_t h7 (cp_ok h)
  rw [if_neg h7] at h
  refine br_f h7 ?_
  by_cases h8 : sx_op u i = 9
  · rw [if_pos h8] at h
    refine br_t h8 ?_
    by_cases k1 : sx_register u (sx_first u i).toNatClampNeg ≤ sx_register u (sx_second u i).toNatClampNeg
    · rw [if_pos k1] at h; exact br_t k1 h
    · rw [if_neg k1] at h; exact br_f k1 h
  rw [if_neg h8] at h
  refine br_f h8 ?_
  by_cases h9 : sx_op u i = 10
  · rw [if_pos h9] at h; exact br_t h9 (cp_ok h)
  · rw [if_neg h9] at h; exact br_f h9 h
end
section
theorem dy_ok {u : SX} {post : Int32 → Prop} {o : Int32} (h : post (nI (dl_i o))) : wpX_delayOf post u o := by
  unfold wpX_delayOf
  unfold dl_i at h
  by_cases h1 : o = 16
  · rw [if_pos (Or.inl h1)] at h; exact br_t h1 h
  refine br_f h1 ?_
  by_cases h2 : o = 18
  · rw [if_pos (Or.inr (Or.inl h2))] at h; exact br_t h2 h
  refine br_f h2 ?_
  by_cases h3 : o = 10
  · rw [if_pos (Or.inr (Or.inr h3))] at h; exact br_t h3 h
  rw [if_neg (fun hh => hh.elim h1 (fun hh => hh.elim h2 h3))] at h
  exact br_f h3 h
theorem pr_n {u : SX} {post : SX → Prop} {i : Nat} {v w : Int32} (hi : i < 300) (hd : ¬ 0 ≤ sx_into u i) (K : post u) : wpX_promise post u (nI i) v w := by
  show wpX_promise post (sx_nodeCount u, sx_filterCount u, sx_levelNow u, sx_compiled u, sx_needed u, sx_pinned u, sx_listEnd u, sx_wordCount u, sx_accumulator u, sx_dueCount u, sx_stepCount u, sx_listLength u, sx_listValue u, sx_kindOf u, sx_partX u, sx_partY u, sx_filterOf u, sx_tapCount u, sx_taps u, sx_outputNode u, sx_same u, sx_holds u, sx_registerOf u, sx_isSaved u, sx_op u, sx_into u, sx_first u, sx_second u, sx_number u, sx_wordOf u, sx_words u, sx_memory u, sx_ringAt u, sx_register u, sx_dueRegister u, sx_dueValue u, sx_dueWord u) (nI i) v w
  unfold wpX_promise
  dsimp only
  rw [nI_clamp (by omega)]
  exact ⟨vp_in_nI hi (by omega), br_f hd K⟩
theorem pr_ok {u : SX} {A : Int64} {M G R dr dv dw : Nat → Int32} {post : SX → Prop} {i r q w : Nat} {v : Int32} (hi : i < 300) (hd : sx_into u i = nI r) (hr : r < 8) (hq : q < 8) (hw : w < 30000)
    (K : post (xr_T u A (nI (q + 1)) M G R (upd dr q (nI r)) (upd dv q v) (upd dw q (nI (w + dl_i (sx_op u i)))))) : wpX_promise post (xr_T u A (nI q) M G R dr dv dw) (nI i) v (nI w) := by
  have ii : vp_in (nI i) 300 := vp_in_nI hi (by omega)
  have iq : vp_in (nI q) 8 := vp_in_nI hq (by omega)
  have d := dl_12 (sx_op u i)
  unfold wpX_promise xr_T
  dsimp only
  rw [nI_clamp (by omega), hd, nI_clamp (n := q) (by omega)]
  refine ⟨ii, br_t (nI_pos' (by omega)) ⟨ii, dy_ok ?_⟩⟩
  refine nm_r (e' := nI (w + dl_i (sx_op u i))) (nI_add _ _) ⟨ii, iq, nm_r (e' := upd dr q (nI r)) (by rw [sn_vb1 (by omega)]) ⟨iq, nm_e ⟨iq, nm_r (e' := upd dw q (nI (w + dl_i (sx_op u i)))) (by rw [sn_vs (by omega)]) (nm_r (e' := nI (q + 1)) (nI_1 _) ?_)⟩⟩⟩
  exact K
theorem fi_11 {u : SX} {post : SX → Prop} {i : Nat} {v w : Int32} (hi : i < 300) (ho : sx_op u i = 11) (K : post (sx_nodeCount u, sx_filterCount u, sx_levelNow u, sx_compiled u, sx_needed u, sx_pinned u, sx_listEnd u, sx_wordCount u, 0, sx_dueCount u, sx_stepCount u, sx_listLength u, sx_listValue u, sx_kindOf u, sx_partX u, sx_partY u, sx_filterOf u, sx_tapCount u, sx_taps u, sx_outputNode u, sx_same u, sx_holds u, sx_registerOf u, sx_isSaved u, sx_op u, sx_into u, sx_first u, sx_second u, sx_number u, sx_wordOf u, sx_words u, sx_memory u, sx_ringAt u, sx_register u, sx_dueRegister u, sx_dueValue u, sx_dueWord u)) : wpX_finish post u (nI i) v w := by
  show wpX_finish post (sx_nodeCount u, sx_filterCount u, sx_levelNow u, sx_compiled u, sx_needed u, sx_pinned u, sx_listEnd u, sx_wordCount u, sx_accumulator u, sx_dueCount u, sx_stepCount u, sx_listLength u, sx_listValue u, sx_kindOf u, sx_partX u, sx_partY u, sx_filterOf u, sx_tapCount u, sx_taps u, sx_outputNode u, sx_same u, sx_holds u, sx_registerOf u, sx_isSaved u, sx_op u, sx_into u, sx_first u, sx_second u, sx_number u, sx_wordOf u, sx_words u, sx_memory u, sx_ringAt u, sx_register u, sx_dueRegister u, sx_dueValue u, sx_dueWord u) (nI i) v w
  unfold wpX_finish
  dsimp only
  rw [nI_clamp (by omega)]
  exact ⟨vp_in_nI hi (by omega), br_t ho K⟩
theorem fi_12 {u : SX} {post : SX → Prop} {i : Nat} {v w : Int32} (hi : i < 300) (ho : sx_op u i = 12) (K : post (sx_nodeCount u, sx_filterCount u, sx_levelNow u, sx_compiled u, sx_needed u, sx_pinned u, sx_listEnd u, sx_wordCount u, sx_accumulator u + v.toInt64, sx_dueCount u, sx_stepCount u, sx_listLength u, sx_listValue u, sx_kindOf u, sx_partX u, sx_partY u, sx_filterOf u, sx_tapCount u, sx_taps u, sx_outputNode u, sx_same u, sx_holds u, sx_registerOf u, sx_isSaved u, sx_op u, sx_into u, sx_first u, sx_second u, sx_number u, sx_wordOf u, sx_words u, sx_memory u, sx_ringAt u, sx_register u, sx_dueRegister u, sx_dueValue u, sx_dueWord u)) : wpX_finish post u (nI i) v w := by
  show wpX_finish post (sx_nodeCount u, sx_filterCount u, sx_levelNow u, sx_compiled u, sx_needed u, sx_pinned u, sx_listEnd u, sx_wordCount u, sx_accumulator u, sx_dueCount u, sx_stepCount u, sx_listLength u, sx_listValue u, sx_kindOf u, sx_partX u, sx_partY u, sx_filterOf u, sx_tapCount u, sx_taps u, sx_outputNode u, sx_same u, sx_holds u, sx_registerOf u, sx_isSaved u, sx_op u, sx_into u, sx_first u, sx_second u, sx_number u, sx_wordOf u, sx_words u, sx_memory u, sx_ringAt u, sx_register u, sx_dueRegister u, sx_dueValue u, sx_dueWord u) (nI i) v w
  unfold wpX_finish
  dsimp only
  rw [nI_clamp (by omega)]
  exact ⟨vp_in_nI hi (by omega), br_f (by rw [ho]; decide) ⟨vp_in_nI hi (by omega), br_t ho (nm_e K)⟩⟩
theorem fi_o {u : SX} {post : SX → Prop} {i : Nat} {v w : Int32} (hi : i < 300) (ho : sx_op u i ≠ 11) (ho' : sx_op u i ≠ 12) (K : wpX_promise post u (nI i) v w) : wpX_finish post u (nI i) v w := by
  show wpX_finish post (sx_nodeCount u, sx_filterCount u, sx_levelNow u, sx_compiled u, sx_needed u, sx_pinned u, sx_listEnd u, sx_wordCount u, sx_accumulator u, sx_dueCount u, sx_stepCount u, sx_listLength u, sx_listValue u, sx_kindOf u, sx_partX u, sx_partY u, sx_filterOf u, sx_tapCount u, sx_taps u, sx_outputNode u, sx_same u, sx_holds u, sx_registerOf u, sx_isSaved u, sx_op u, sx_into u, sx_first u, sx_second u, sx_number u, sx_wordOf u, sx_words u, sx_memory u, sx_ringAt u, sx_register u, sx_dueRegister u, sx_dueValue u, sx_dueWord u) (nI i) v w
  unfold wpX_finish
  dsimp only
  rw [nI_clamp (by omega)]
  exact ⟨vp_in_nI hi (by omega), br_f ho ⟨vp_in_nI hi (by omega), br_f ho' K⟩⟩
/-! touching memory -/
theorem tk_16 {u : SX} {post : Int32 → SX → Prop} {i : Nat} (hi : i < 300) (ho : sx_op u i = 16) (hn : vp_in (sx_number u i) 96) (K : post (sx_memory u (sx_number u i).toNatClampNeg) u) : wpX_touch post u (nI i) := by
  show wpX_touch post (sx_nodeCount u, sx_filterCount u, sx_levelNow u, sx_compiled u, sx_needed u, sx_pinned u, sx_listEnd u, sx_wordCount u, sx_accumulator u, sx_dueCount u, sx_stepCount u, sx_listLength u, sx_listValue u, sx_kindOf u, sx_partX u, sx_partY u, sx_filterOf u, sx_tapCount u, sx_taps u, sx_outputNode u, sx_same u, sx_holds u, sx_registerOf u, sx_isSaved u, sx_op u, sx_into u, sx_first u, sx_second u, sx_number u, sx_wordOf u, sx_words u, sx_memory u, sx_ringAt u, sx_register u, sx_dueRegister u, sx_dueValue u, sx_dueWord u) (nI i)
  have ii : vp_in (nI i) 300 := vp_in_nI hi (by omega)
  unfold wpX_touch
  dsimp only
  rw [nI_clamp (by omega)]
  exact ⟨ii, nm_e ⟨ii, nm_e (br_t ho ⟨hn, K⟩)⟩⟩
theorem tk_17 {u : SX} {post : Int32 → SX → Prop} {i : Nat} (hi : i < 300) (ho : sx_op u i = 17) (ha : vp_in (sx_first u i) 8) (hn : vp_in (sx_number u i) 96)
    (K : post 0 (sx_nodeCount u, sx_filterCount u, sx_levelNow u, sx_compiled u, sx_needed u, sx_pinned u, sx_listEnd u, sx_wordCount u, sx_accumulator u, sx_dueCount u, sx_stepCount u, sx_listLength u, sx_listValue u, sx_kindOf u, sx_partX u, sx_partY u, sx_filterOf u, sx_tapCount u, sx_taps u, sx_outputNode u, sx_same u, sx_holds u, sx_registerOf u, sx_isSaved u, sx_op u, sx_into u, sx_first u, sx_second u, sx_number u, sx_wordOf u, sx_words u, upd (sx_memory u) (sx_number u i).toNatClampNeg (sx_register u (sx_first u i).toNatClampNeg), sx_ringAt u, sx_register u, sx_dueRegister u, sx_dueValue u, sx_dueWord u)) : wpX_touch post u (nI i) := by
  show wpX_touch post (sx_nodeCount u, sx_filterCount u, sx_levelNow u, sx_compiled u, sx_needed u, sx_pinned u, sx_listEnd u, sx_wordCount u, sx_accumulator u, sx_dueCount u, sx_stepCount u, sx_listLength u, sx_listValue u, sx_kindOf u, sx_partX u, sx_partY u, sx_filterOf u, sx_tapCount u, sx_taps u, sx_outputNode u, sx_same u, sx_holds u, sx_registerOf u, sx_isSaved u, sx_op u, sx_into u, sx_first u, sx_second u, sx_number u, sx_wordOf u, sx_words u, sx_memory u, sx_ringAt u, sx_register u, sx_dueRegister u, sx_dueValue u, sx_dueWord u) (nI i)
  have ii : vp_in (nI i) 300 := vp_in_nI hi (by omega)
  unfold wpX_touch
  dsimp only
  rw [nI_clamp (by omega)]
  refine ⟨ii, nm_e ⟨ii, nm_e (br_f (by rw [ho]; decide) (br_t ho ⟨ii, ha, hn, nm_e ?_⟩))⟩⟩
  unfold wX_touch_50 wpX_isRing
  exact br_t (by rw [ho]; decide) (br_t rfl K)
theorem tk_r {u : SX} {post : Int32 → SX → Prop} {i f k l a : Nat} (hi : i < 300) (ho : ¬ sx_op u i < 18) (hn : sx_number u i = nI (8 * f + k)) (hf : f < 4) (hk : k < l) (hl : l ≤ 6) (ht : sx_tapCount u f = nI l) (ha : a < l) (hG : sx_ringAt u f = nI a)
    (K18 : sx_op u i = 18 → post (sx_memory u (rp_a (sx_tapCount u) (sx_ringAt u) (nI (8 * f + k)))) u)
    (K19 : sx_op u i = 19 → vp_in (sx_first u i) 8 ∧ post 0 (sx_nodeCount u, sx_filterCount u, sx_levelNow u, sx_compiled u, sx_needed u, sx_pinned u, sx_listEnd u, sx_wordCount u, sx_accumulator u, sx_dueCount u, sx_stepCount u, sx_listLength u, sx_listValue u, sx_kindOf u, sx_partX u, sx_partY u, sx_filterOf u, sx_tapCount u, sx_taps u, sx_outputNode u, sx_same u, sx_holds u, sx_registerOf u, sx_isSaved u, sx_op u, sx_into u, sx_first u, sx_second u, sx_number u, sx_wordOf u, sx_words u, upd (sx_memory u) (rp_a (sx_tapCount u) (sx_ringAt u) (nI (8 * f + k))) (sx_register u (sx_first u i).toNatClampNeg), sx_ringAt u, sx_register u, sx_dueRegister u, sx_dueValue u, sx_dueWord u))
    (K20 : sx_op u i ≠ 18 → sx_op u i ≠ 19 → post 0 (sx_nodeCount u, sx_filterCount u, sx_levelNow u, sx_compiled u, sx_needed u, sx_pinned u, sx_listEnd u, sx_wordCount u, sx_accumulator u, sx_dueCount u, sx_stepCount u, sx_listLength u, sx_listValue u, sx_kindOf u, sx_partX u, sx_partY u, sx_filterOf u, sx_tapCount u, sx_taps u, sx_outputNode u, sx_same u, sx_holds u, sx_registerOf u, sx_isSaved u, sx_op u, sx_into u, sx_first u, sx_second u, sx_number u, sx_wordOf u, sx_words u, sx_memory u, upd (sx_ringAt u) (nI (8 * f + k) / 8).toNatClampNeg (rp_g (sx_tapCount u) (sx_ringAt u) (nI (8 * f + k))), sx_register u, sx_dueRegister u, sx_dueValue u, sx_dueWord u)) : wpX_touch post u (nI i) := by
  show wpX_touch post (sx_nodeCount u, sx_filterCount u, sx_levelNow u, sx_compiled u, sx_needed u, sx_pinned u, sx_listEnd u, sx_wordCount u, sx_accumulator u, sx_dueCount u, sx_stepCount u, sx_listLength u, sx_listValue u, sx_kindOf u, sx_partX u, sx_partY u, sx_filterOf u, sx_tapCount u, sx_taps u, sx_outputNode u, sx_same u, sx_holds u, sx_registerOf u, sx_isSaved u, sx_op u, sx_into u, sx_first u, sx_second u, sx_number u, sx_wordOf u, sx_words u, sx_memory u, sx_ringAt u, sx_register u, sx_dueRegister u, sx_dueValue u, sx_dueWord u) (nI i)
  have ii : vp_in (nI i) 300 := vp_in_nI hi (by omega)
  have e16 : sx_op u i ≠ 16 := fun e => ho (by rw [e]; decide)
  have e17 : sx_op u i ≠ 17 := fun e => ho (by rw [e]; decide)
  obtain ⟨q1, q2⟩ := rp_i hf hk hl ht ha hG
  have q3 := rp_ev hf hk hl ht ha hG
  have hm := Nat.mod_lt (a + l - k) (show 0 < l by omega)
  have if4 : vp_in (nI f) 4 := vp_in_nI hf (by omega)
  have hl0 : ¬ sx_tapCount u f = 0 := by rw [ht]; exact nI_ne0 (by omega) (by omega)
  have ia : vp_in ((32 + (8 * (nI (8 * f + k) / 8))) + rp_x (sx_tapCount u) (sx_ringAt u) (nI (8 * f + k))) 96 := by rw [q2]; exact vp_in_nI (by omega) (by omega)
  unfold wpX_touch
  dsimp only
  rw [nI_clamp (by omega)]
  refine ⟨ii, nm_e ⟨ii, nm_e (br_f e16 (br_f e17 ?_))⟩⟩
  unfold wX_touch_50 wpX_isRing
  refine br_f ho (br_f (by decide) ⟨by decide, ?_⟩)
  rw [hn]
  refine nm_e ⟨by rw [q1]; exact if4, nm_e ⟨by rw [q1]; exact if4, by decide, by rw [q1, nI_clamp (by omega)]; exact hl0, nm_e ?_⟩⟩
  by_cases h18 : sx_op u i = 18
  · exact br_t h18 ⟨ia, K18 h18⟩
  refine br_f h18 ?_
  by_cases h19 : sx_op u i = 19
  · obtain ⟨ha', K⟩ := K19 h19
    exact br_t h19 (by rw [nI_clamp (n := i) (by omega)]; exact ⟨ii, ha', ia, nm_e K⟩)
  · exact br_f h19 ⟨by rw [q1]; exact if4, by rw [q1, nI_clamp (by omega)]; exact hl0, by rw [q1]; exact if4, nm_e (K20 h18 h19)⟩
end
section
/-! ===== one word ===== -/
def cd_of (u : SX) (le : Nat) : cd_T := (le, sx_op u, sx_into u, sx_first u, sx_second u, sx_number u)
def hf_i (o : Int32) : Nat := if o < 16 then 0 else 1
def wt_ok (c : cd_T) (wo : Nat → Nat) (W : Nat → Int32) (wc : Nat) : Prop :=
  wc ≤ 604 ∧ cd_l c ≤ 300 ∧ (∀ i, i < cd_l c → wo i < wc) ∧
  ∀ w, w < wc → ∀ h, h < 2 → (W (2 * w + h) = 0 ∧ ∀ i, i < cd_l c → wo i = w → hf_i (cd_o c i) ≠ h) ∨ (∃ i, i < cd_l c ∧ W (2 * w + h) = nI (i + 1) ∧ wo i = w ∧ hf_i (cd_o c i) = h)
def pg_ok (u : SX) (le : Nat) (wo : Nat → Nat) (wc : Nat) : Prop :=
  wc_ok (sx_tapCount u) (cd_of u le) ∧ sc_ok (cd_of u le) wo ∧ wt_ok (cd_of u le) wo (sx_words u) wc ∧ sx_wordCount u = nI wc
theorem hf_0 {o : Int32} (h : hf_i o = 0) : o < 16 := by
  unfold hf_i at h
  split at h
  · assumption
  · omega
theorem hf_1 {o : Int32} (h : hf_i o = 1) : ¬ o < 16 := by
  unfold hf_i at h
  split at h
  · omega
  · assumption
theorem hf_uq {c : cd_T} {wo : Nat → Nat} (sc : sc_ok c wo) {i j : Nat} (hi : i < cd_l c) (hj : j < cd_l c) (hw : wo i = wo j) (hh : cd_o c i < 16 ↔ cd_o c j < 16) : i = j := by
  rcases Nat.lt_trichotomy i j with h | h | h
  · exact absurd hw.symm ((sc j hj i h).2 hh.symm)
  · exact h
  · exact absurd hw ((sc i hi j h).2 hh)
theorem vq_push {tc : Nat → Int32} {c : cd_T} {wo : Nat → Nat} {s0 : ms_T} {q : Nat} {dr dv dw : Nat → Int32} {P : Nat → Prop} {lo i r : Nat} {v : Int32} (h : vi_Q tc c wo s0 q dr dv dw P lo)
    (hi : i < cd_l c) (hd : cd_d c i = nI r) (hr : r < 8) (hv : v = vl_i tc c s0 i) (hl : lo ≤ wo i + dl_i (cd_o c i)) :
    vi_Q tc c wo s0 (q + 1) (upd dr q (nI r)) (upd dv q v) (upd dw q (nI (wo i + dl_i (cd_o c i)))) (fun j => P j ∨ j = i) lo := by
  constructor
  · intro k hk
    by_cases e : k = q
    · subst e
      rw [pk_us, pk_us, pk_us]
      exact ⟨i, hi, ⟨r, hr, hd⟩, hd.symm, hv, rfl, Or.inr rfl, hl⟩
    · rw [pk_un e, pk_un e, pk_un e]
      obtain ⟨j, a1, a2, a3, a4, a5, a6, a7⟩ := h.1 k (by omega)
      exact ⟨j, a1, a2, a3, a4, a5, Or.inl a6, a7⟩
  · intro j hj hg hP hlo
    by_cases e : j = i
    · subst e
      exact ⟨q, by omega, by rw [pk_us, hd], by rw [pk_us, hv], by rw [pk_us]⟩
    · rcases hP with hP | hP
      · obtain ⟨k, a1, a2, a3, a4⟩ := h.2 j hj hg hP hlo
        have hne : k ≠ q := by omega
        exact ⟨k, by omega, by rw [pk_un hne, a2], by rw [pk_un hne, a3], by rw [pk_un hne, a4]⟩
      · exact absurd hP e
theorem vq_mono {tc : Nat → Int32} {c : cd_T} {wo : Nat → Nat} {s0 : ms_T} {q : Nat} {dr dv dw : Nat → Int32} {P P' : Nat → Prop} {lo : Nat} (h : vi_Q tc c wo s0 q dr dv dw P lo)
    (e : ∀ j, j < cd_l c → rg_ok (cd_d c j) → (P j ↔ P' j)) : vi_Q tc c wo s0 q dr dv dw P' lo := by
  constructor
  · intro k hk
    obtain ⟨j, a1, a2, a3, a4, a5, a6, a7⟩ := h.1 k hk
    exact ⟨j, a1, a2, a3, a4, a5, (e j a1 a2).mp a6, a7⟩
  · intro j hj hg hP hlo
    exact h.2 j hj hg ((e j hj hg).mpr hP) hlo
theorem cv_1 {n x y : Int32} {A : Int64} : ca_v 1 n x y A = n := by unfold ca_v; rw [if_pos rfl]
theorem cv_13 {n x y : Int32} {A : Int64} : ca_v 13 n x y A = cl_v ((A + 16384) >>> ((15 : Int32).toInt64 &&& 63)) := by unfold ca_v; rw [if_neg (by decide), if_pos rfl]
theorem cv_11 {n x y : Int32} {A : Int64} : ca_v 11 n x y A = 0 := by unfold ca_v; rw [if_neg (by decide), if_neg (by decide), if_pos rfl]
theorem cv_7 {n x y : Int32} {A : Int64} : ca_v 7 n x y A = if -n ≤ x then (if x ≤ n then x else n) else -n := by unfold ca_v; rw [if_neg (by decide), if_neg (by decide), if_neg (by decide), if_pos rfl]
theorem cv_8 {n x y : Int32} {A : Int64} : ca_v 8 n x y A = if 0 ≤ x then cl_v x.toInt64 else cl_v ((-x).toInt64) := by unfold ca_v; rw [if_neg (by decide), if_neg (by decide), if_neg (by decide), if_neg (by decide), if_pos rfl]
theorem cv_2 {n x y : Int32} {A : Int64} : ca_v 2 n x y A = cl_v ((x + y).toInt64) := by unfold ca_v; rw [if_neg (by decide), if_neg (by decide), if_neg (by decide), if_neg (by decide), if_neg (by decide), if_pos rfl]
theorem cv_3 {n x y : Int32} {A : Int64} : ca_v 3 n x y A = cl_v ((x - y).toInt64) := by unfold ca_v; rw [if_neg (by decide), if_neg (by decide), if_neg (by decide), if_neg (by decide), if_neg (by decide), if_neg (by decide), if_pos rfl]
theorem cv_9 {n x y : Int32} {A : Int64} : ca_v 9 n x y A = if x ≤ y then y else x := by unfold ca_v; rw [if_neg (by decide), if_neg (by decide), if_neg (by decide), if_neg (by decide), if_neg (by decide), if_neg (by decide), if_neg (by decide), if_pos rfl]
theorem cv_10 {n x y : Int32} {A : Int64} : ca_v 10 n x y A = cl_v ((((x * y) + 16384) >>> ((15 : Int32) &&& 31)).toInt64) := by unfold ca_v; rw [if_neg (by decide), if_neg (by decide), if_neg (by decide), if_neg (by decide), if_neg (by decide), if_neg (by decide), if_neg (by decide), if_neg (by decide), if_pos rfl]
theorem cv_12 {n x y : Int32} {A : Int64} : ca_v 12 n x y A = x * y := by unfold ca_v; rw [if_neg (by decide), if_neg (by decide), if_neg (by decide), if_neg (by decide), if_neg (by decide), if_neg (by decide), if_neg (by decide), if_neg (by decide), if_neg (by decide)]
theorem ca_1 {n x y : Int32} {A : Int64} : ca_v 1 n x y A = n := cv_1
theorem ca_11 {n x y : Int32} {A : Int64} : ca_v 11 n x y A = 0 := cv_11
theorem ca_13 {n x y n' x' y' : Int32} {A : Int64} : ca_v 13 n x y A = ca_v 13 n' x' y' A := by rw [cv_13, cv_13]
theorem ca_7 {n x y y' : Int32} {A A' : Int64} : ca_v 7 n x y A = ca_v 7 n x y' A' := by rw [cv_7, cv_7]
theorem ca_8 {n n' x y y' : Int32} {A A' : Int64} : ca_v 8 n x y A = ca_v 8 n' x y' A' := by rw [cv_8, cv_8]
theorem ca_A {o n x y : Int32} {A A' : Int64} (h : o ≠ 13) : ca_v o n x y A = ca_v o n x y A' := by
  unfold ca_v
  rw [if_neg h, if_neg h]
section
variable {tc : Nat → Int32} {c : cd_T} {wo : Nat → Nat} {s0 : ms_T}
theorem cv_eq {R : Nat → Int32} {A : Int64} {w i : Nat} (wf : wc_ok tc c) (sc : sc_ok c wo) (hR : vi_R tc c wo s0 R (w + 1)) (hA : vi_A tc c wo s0 A w) (hi : i < cd_l c) (hw : wo i = w) (ho : cd_o c i < 16) :
    ca_v (cd_o c i) (cd_n c i) (R (cd_a c i).toNatClampNeg) (R (cd_b c i).toNatClampNeg) A = vl_i tc c s0 i := by
  have ev : vl_i tc c s0 i = ca_v (cd_o c i) (cd_n c i) (ms_R (rn_i tc c i s0) (cd_a c i).toNatClampNeg) (ms_R (rn_i tc c i s0) (cd_b c i).toNatClampNeg) (ms_A (rn_i tc c i s0)) := if_pos ho
  have ra : rg_ok (cd_a c i) → R (cd_a c i).toNatClampNeg = ms_R (rn_i tc c i s0) (cd_a c i).toNatClampNeg := by
    intro ⟨r, hr, e⟩
    rw [e, nI_clamp (by omega)]
    exact re_R sc hR hi hw hr (Or.inl e)
  have rb : rg_ok (cd_b c i) → R (cd_b c i).toNatClampNeg = ms_R (rn_i tc c i s0) (cd_b c i).toNatClampNeg := by
    intro ⟨r, hr, e⟩
    rw [e, nI_clamp (by omega)]
    exact re_R sc hR hi hw hr (Or.inr (Or.inl e))
  rw [ev]
  rcases wf i hi with ⟨e, _⟩ | ⟨e, _, ha, _⟩ | ⟨e, _, ha, hb⟩ | ⟨e, _⟩ | ⟨e, _, ha, hb⟩ | ⟨e, _, ha, _⟩ | ⟨e, _⟩ | ⟨e, _⟩ | ⟨e, _⟩ | ⟨e, _⟩ | ⟨e, _⟩
  · rw [e, ca_1, ca_1]
  · rw [ra ha]
    rcases e with e | e <;> rw [e]
    · exact ca_7
    · exact ca_8
  · rw [ra ha, rb hb]
    exact ca_A (by rcases e with e | e | e | e <;> rw [e] <;> decide)
  · rw [e, ca_11, ca_11]
  · rw [ra ha, rb hb]
    exact ca_A (by rw [e]; decide)
  · rw [← re_A sc wf hA hi hw (Or.inl ha), e]
    exact ca_13
  all_goals exact absurd (e ▸ ho) (by decide)
/-- the accumulator behind a word -/
theorem fa_eq {R : Nat → Int32} {A : Int64} {w i : Nat} (wf : wc_ok tc c) (sc : sc_ok c wo) (hR : vi_R tc c wo s0 R (w + 1)) (hA : vi_A tc c wo s0 A w) (hi : i < cd_l c) (hw : wo i = w) (A' : Int64)
    (h : ac_i c i → A' = ms_A (rn_i tc c (i + 1) s0)) (h' : ¬ ac_i c i → A' = A) (ho : cd_o c i < 16) : vi_A tc c wo s0 A' (w + 1) := by
  have uq : ∀ j, j < cd_l c → wo j = w → ac_i c j → j = i := by
    intro j hj hwj ha
    refine hf_uq sc hj hi (by omega) ⟨fun _ => ho, fun _ => ?_⟩
    rcases ha with e | e <;> rw [e] <;> decide
  refine nx_A sc hA ?_ ?_ wf
  · intro j hj hwj ha
    have := uq j hj hwj ha
    subst this
    exact h ha
  · intro hn
    exact h' (hn i hi hw)
theorem fa_no {A : Int64} {w : Nat} (wf : wc_ok tc c) (sc : sc_ok c wo) (hA : vi_A tc c wo s0 A w) (hn : ∀ i, i < cd_l c → wo i = w → ¬ cd_o c i < 16) : vi_A tc c wo s0 A (w + 1) := by
  have hn' : ∀ i, i < cd_l c → wo i = w → ¬ ac_i c i := by
    intro i hi hw ha
    exact hn i hi hw (by rcases ha with e | e <;> rw [e] <;> decide)
  exact nx_A sc hA (fun i hi hw ha => absurd ha (hn' i hi hw)) (fun _ => rfl) wf
theorem fm_no {M G : Nat → Int32} {w : Nat} (wf : wc_ok tc c) (sc : sc_ok c wo) (g : gv_ok tc (ms_G s0)) (hM : vi_M tc c wo s0 M w) (hG : vi_G tc c wo s0 M G w) (hn : ∀ i, i < cd_l c → wo i = w → cd_o c i < 16) :
    vi_M tc c wo s0 M (w + 1) ∧ vi_G tc c wo s0 M G (w + 1) := by
  constructor
  · refine nx_M sc wf g hM (fun x _ i hi hw ha => ?_) (fun _ _ _ => rfl)
    exact absurd (hn i hi hw) (by rcases ha.1 with e | e <;> rw [e] <;> decide)
  · refine nx_G sc wf g hG (fun x _ i hi hw ha => ?_) (fun _ _ _ => ⟨rfl, fun _ _ => rfl⟩)
    exact absurd (hn i hi hw) (lt18_16 ha.1)
/-- memory behind a word that touches it -/
theorem fm_ok {M G M' G' : Nat → Int32} {w i : Nat} (wf : wc_ok tc c) (sc : sc_ok c wo) (g : gv_ok tc (ms_G s0)) (hM : vi_M tc c wo s0 M w) (hG : vi_G tc c wo s0 M G w) (hi : i < cd_l c) (hw : wo i = w) (ho : ¬ cd_o c i < 16)
    (h1 : ∀ x, (x < 32 ∨ (64 ≤ x ∧ x < 96)) → tm_i c x i → M' x = ms_M (rn_i tc c (i + 1) s0) x)
    (h2 : ∀ x, (x < 32 ∨ (64 ≤ x ∧ x < 96)) → ¬ tm_i c x i → M' x = M x)
    (h3 : ∀ f, f < 4 → tr_i c f i → G' f = ms_G (rn_i tc c (i + 1) s0) f ∧ ∀ y, y < 8 → M' (32 + 8 * f + y) = ms_M (rn_i tc c (i + 1) s0) (32 + 8 * f + y))
    (h4 : ∀ f, f < 4 → ¬ tr_i c f i → G' f = G f ∧ ∀ y, y < 8 → M' (32 + 8 * f + y) = M (32 + 8 * f + y)) :
    vi_M tc c wo s0 M' (w + 1) ∧ vi_G tc c wo s0 M' G' (w + 1) := by
  have uq : ∀ j, j < cd_l c → wo j = w → ¬ cd_o c j < 16 → j = i := by
    intro j hj hwj ha
    exact hf_uq sc hj hi (by omega) ⟨fun h => absurd h ha, fun h => absurd h ho⟩
  constructor
  · refine nx_M sc wf g hM (fun x hx j hj hwj ha => ?_) (fun x hx hn => h2 x hx (hn i hi hw))
    have := uq j hj hwj (by rcases ha.1 with e | e <;> rw [e] <;> decide)
    subst this
    exact h1 x hx ha
  · refine nx_G sc wf g hG (fun f hf j hj hwj ha => ?_) (fun f hf hn => h4 f hf (hn i hi hw))
    have := uq j hj hwj (lt18_16 ha.1)
    subst this
    exact h3 f hf ha
end
end
section
theorem rv_16 {tc : Nat → Int32} {a b n : Int32} {s : ms_T} : rv_i tc 16 a b n s = ms_M s n.toNatClampNeg := by unfold rv_i; rw [if_neg (by decide), if_pos rfl]
theorem rv_18 {tc : Nat → Int32} {a b n : Int32} {s : ms_T} : rv_i tc 18 a b n s = ms_M s (rp_a tc (ms_G s) n) := by unfold rv_i; rw [if_neg (by decide), if_neg (by decide), if_pos rfl]
theorem rv_c {tc : Nat → Int32} {o a b n : Int32} {s : ms_T} (h : o < 16) : rv_i tc o a b n s = ca_v o n (ms_R s a.toNatClampNeg) (ms_R s b.toNatClampNeg) (ms_A s) := by unfold rv_i; rw [if_pos h]
theorem rn_s {tc : Nat → Int32} {c : cd_T} {i : Nat} {s : ms_T} : rn_i tc c (i + 1) s = ex_i tc (cd_o c i) (cd_d c i) (cd_a c i) (cd_b c i) (cd_n c i) (rn_i tc c i s) := rfl
theorem no_rg {x : Int32} (h : x = -1) : ¬ rg_ok x := fun hh => rg_nem hh h
section
variable {u : SX} {le : Nat} {wo : Nat → Nat} {s0 : ms_T} {A : Int64} {dc : Int32} {M G R dr dv dw : Nat → Int32} {post : Int32 → SX → Prop} {w i : Nat}
theorem tw_ok (wf : wc_ok (sx_tapCount u) (cd_of u le)) (sc : sc_ok (cd_of u le) wo) (g : gv_ok (sx_tapCount u) (ms_G s0))
    (hR : vi_R (sx_tapCount u) (cd_of u le) wo s0 R (w + 1)) (hM : vi_M (sx_tapCount u) (cd_of u le) wo s0 M w) (hG : vi_G (sx_tapCount u) (cd_of u le) wo s0 M G w)
    (hle : le ≤ 300) (hi : i < le) (hw : wo i = w) (ho : ¬ sx_op u i < 16)
    (K : ∀ (t : Int32) (M' G' : Nat → Int32), (rg_ok (sx_into u i) → t = vl_i (sx_tapCount u) (cd_of u le) s0 i) → vi_M (sx_tapCount u) (cd_of u le) wo s0 M' (w + 1) → vi_G (sx_tapCount u) (cd_of u le) wo s0 M' G' (w + 1) → post t (xr_T u A dc M' G' R dr dv dw)) :
    wpX_touch post (xr_T u A dc M G R dr dv dw) (nI i) := by
  have hi3 : i < 300 := by omega
  have gi := rn_gv wf g i (by show i ≤ le; omega)
  have ra : ∀ r, r < 8 → sx_first u i = nI r → R r = ms_R (rn_i (sx_tapCount u) (cd_of u le) i s0) r := fun r hr e => re_R sc hR hi hw hr (Or.inl e)
  rcases wf i hi with ⟨e, _⟩ | ⟨e, _⟩ | ⟨e, _⟩ | ⟨e, _⟩ | ⟨e, _⟩ | ⟨e, _⟩ | ⟨e, _, _, _, m, en, hm⟩ | ⟨e, ed, ⟨r, hr, ea⟩, _, m, en, hm⟩ | ⟨e, _, _, _, f, k, l, en, hf, hk, hl, ht⟩ | ⟨e, ed, ⟨r, hr, ea⟩, _, f, k, l, en, hf, hk, hl, ht⟩ | ⟨e, ed, _, _, f, k, l, en, hf, hk, hl, ht⟩
  · exact absurd (show sx_op u i < 16 by rw [show sx_op u i = 1 from e]; decide) ho
  · exact absurd (show sx_op u i < 16 by rcases e with e | e <;> rw [show sx_op u i = _ from e] <;> decide) ho
  · exact absurd (show sx_op u i < 16 by rcases e with e | e | e | e <;> rw [show sx_op u i = _ from e] <;> decide) ho
  · exact absurd (show sx_op u i < 16 by rw [show sx_op u i = _ from e]; decide) ho
  · exact absurd (show sx_op u i < 16 by rw [show sx_op u i = _ from e]; decide) ho
  · exact absurd (show sx_op u i < 16 by rw [show sx_op u i = _ from e]; decide) ho
  · -- load
    have e' : sx_op u i = 16 := e
    have en' : sx_number u i = nI m := en
    have eR := re_M sc hM hi hw hm ⟨Or.inl e, en⟩
    refine tk_16 (u := xr_T u A dc M G R dr dv dw) hi3 e' (by show vp_in (sx_number u i) 96; rw [en']; exact vp_in_nI (by omega) (by omega)) ?_
    have F := fm_ok (M' := M) (G' := G) wf sc g hM hG hi hw ho
      (fun x hx h => by rw [rn_s, e, ex_Mn (by decide) (by decide)]; exact re_M sc hM hi hw hx h)
      (fun _ _ _ => rfl) (fun f hf h => absurd (show cd_o (cd_of u le) i < 18 by rw [e]; decide) h.1) (fun _ _ _ => ⟨rfl, fun _ _ => rfl⟩)
    refine K _ M G (fun _ => ?_) F.1 F.2
    show M (sx_number u i).toNatClampNeg = rv_i _ _ _ _ _ _
    rw [e, rv_16, en, en', nI_clamp (by omega), eR]
  · -- store
    have e' : sx_op u i = 17 := e
    have en' : sx_number u i = nI m := en
    have ea' : sx_first u i = nI r := ea
    refine tk_17 (u := xr_T u A dc M G R dr dv dw) hi3 e' (by show vp_in (sx_first u i) 8; rw [ea']; exact vp_in_nI hr (by omega)) (by show vp_in (sx_number u i) 96; rw [en']; exact vp_in_nI (by omega) (by omega)) ?_
    have F := fm_ok (M' := upd M m (R r)) (G' := G) wf sc g hM hG hi hw ho
      (fun x hx h => by
        have hxm : x = m := sn_inj (by omega) (by omega) (h.2.symm.trans en)
        rw [rn_s, e, ex_M17, en, ea, nI_clamp (by omega), nI_clamp (by omega), hxm, pk_us, pk_us]
        exact ra r hr ea')
      (fun x hx h => pk_un (fun hh => h ⟨Or.inr e, by rw [hh]; exact en⟩)) (fun f hf h => absurd (show cd_o (cd_of u le) i < 18 by rw [e]; decide) h.1) (fun _ _ _ => ⟨rfl, fun _ _ => pk_un (by omega)⟩)
    have K' := K 0 _ G (fun h => absurd h (no_rg ed)) F.1 F.2
    show post 0 (xr_T u A dc (upd M (sx_number u i).toNatClampNeg (R (sx_first u i).toNatClampNeg)) G R dr dv dw)
    rw [en', ea', nI_clamp (by omega), nI_clamp (by omega)]
    exact K'
  · -- ring load
    have e' : sx_op u i = 18 := e
    have en' : sx_number u i = nI (8 * f + k) := en
    have htr : tr_i (cd_of u le) f i := ⟨by rw [e]; decide, by
      obtain ⟨a, ha, hGa⟩ := gi f l hf (by omega) hl ht
      rw [en]; exact (rp_i hf hk hl ht ha hGa).1⟩
    have eR := re_G sc hG hi hw hf htr
    obtain ⟨a, ha, hGa⟩ := gi f l hf (by omega) hl ht
    have hGb : G f = nI a := eR.1.trans hGa
    have F := fm_ok (M' := M) (G' := G) wf sc g hM hG hi hw ho
      (fun x hx h => absurd h.1 (by rw [e]; decide))
      (fun _ _ _ => rfl) (fun f hf h => by rw [rn_s, e, ex_Mn (by decide) (by decide), ex_Gn (by decide)]; exact re_G sc hG hi hw hf h) (fun _ _ _ => ⟨rfl, fun _ _ => rfl⟩)
    have hm := Nat.mod_lt (a + l - k) (show 0 < l by omega)
    refine tk_r (u := xr_T u A dc M G R dr dv dw) hi3 (by show ¬ sx_op u i < 18; rw [e']; decide) en' hf hk hl ht ha hGb (fun _ => ?_) (fun h => absurd (show sx_op u i = 19 from h) (by rw [e']; decide)) (fun h => absurd e' h)
    refine K _ M G (fun _ => ?_) F.1 F.2
    show M (rp_a (sx_tapCount u) G (nI (8 * f + k))) = rv_i _ _ _ _ _ _
    rw [e, rv_18, en, rp_ev hf hk hl ht ha hGb, rp_ev hf hk hl ht ha hGa]
    exact eR.2 _ (by omega)
  · -- ring store
    have e' : sx_op u i = 19 := e
    have en' : sx_number u i = nI (8 * f + k) := en
    have ea' : sx_first u i = nI r := ea
    obtain ⟨a, ha, hGa⟩ := gi f l hf (by omega) hl ht
    have hdv : cd_n (cd_of u le) i / 8 = nI f := by rw [en]; exact (rp_i hf hk hl ht ha hGa).1
    have htr : tr_i (cd_of u le) f i := ⟨by rw [e]; decide, hdv⟩
    have eR := re_G sc hG hi hw hf htr
    have hGb : G f = nI a := eR.1.trans hGa
    have hm := Nat.mod_lt (a + l - k) (show 0 < l by omega)
    have F := fm_ok (M' := upd M (32 + 8 * f + (a + l - k) % l) (R r)) (G' := G) wf sc g hM hG hi hw ho
      (fun x hx h => absurd h.1 (by rw [e]; decide))
      (fun x hx _ => pk_un (by omega))
      (fun f' hf' h => by
        have hff : f' = f := sn_inj (by omega) (by omega) (h.2.symm.trans hdv)
        subst hff
        rw [rn_s, e, ex_M19, ex_Gn (by decide), en, ea, rp_ev hf hk hl ht ha hGa, nI_clamp (by omega)]
        refine ⟨eR.1, fun y hy => ?_⟩
        by_cases hy' : 32 + 8 * f' + y = 32 + 8 * f' + (a + l - k) % l
        · rw [hy', pk_us, pk_us]; exact ra r hr ea'
        · rw [pk_un hy', pk_un hy']; exact eR.2 y hy)
      (fun f' hf' h => ⟨rfl, fun y hy => pk_un (by
        have : f' ≠ f := fun hh => h (by rw [hh]; exact htr)
        omega)⟩)
    refine tk_r (u := xr_T u A dc M G R dr dv dw) hi3 (by show ¬ sx_op u i < 18; rw [e']; decide) en' hf hk hl ht ha hGb (fun h => absurd (show sx_op u i = 18 from h) (by rw [e']; decide)) (fun _ => ⟨by show vp_in (sx_first u i) 8; rw [ea']; exact vp_in_nI hr (by omega), ?_⟩) (fun _ h => absurd e' h)
    have K' := K 0 _ G (fun h => absurd h (no_rg ed)) F.1 F.2
    show post 0 (xr_T u A dc (upd M (rp_a (sx_tapCount u) G (nI (8 * f + k))) (R (sx_first u i).toNatClampNeg)) G R dr dv dw)
    rw [rp_ev hf hk hl ht ha hGb, ea', nI_clamp (by omega)]
    exact K'
  · -- ring step
    have e' : sx_op u i = 20 := e
    have en' : sx_number u i = nI (8 * f + k) := en
    obtain ⟨a, ha, hGa⟩ := gi f l hf (by omega) hl ht
    have hdv : cd_n (cd_of u le) i / 8 = nI f := by rw [en]; exact (rp_i hf hk hl ht ha hGa).1
    have htr : tr_i (cd_of u le) f i := ⟨by rw [e]; decide, hdv⟩
    have eR := re_G sc hG hi hw hf htr
    have hGb : G f = nI a := eR.1.trans hGa
    have hm := Nat.mod_lt (a + l - k) (show 0 < l by omega)
    have F := fm_ok (M' := M) (G' := upd G f (nI ((a + 1) % l))) wf sc g hM hG hi hw ho
      (fun x hx h => absurd h.1 (by rw [e]; decide))
      (fun x hx _ => rfl)
      (fun f' hf' h => by
        have hff : f' = f := sn_inj (by omega) (by omega) (h.2.symm.trans hdv)
        subst hff
        rw [rn_s, e, ex_Mn (by decide) (by decide), ex_G20, en, rp_gv hf hk hl ht ha hGa, (rp_i hf hk hl ht ha hGa).1, nI_clamp (by omega), pk_us, pk_us]
        exact ⟨rfl, eR.2⟩)
      (fun f' hf' h => ⟨pk_un (fun hh => h (by rw [hh]; exact htr)), fun y hy => rfl⟩)
    refine tk_r (u := xr_T u A dc M G R dr dv dw) hi3 (by show ¬ sx_op u i < 18; rw [e']; decide) en' hf hk hl ht ha hGb (fun h => absurd (show sx_op u i = 18 from h) (by rw [e']; decide)) (fun h => absurd (show sx_op u i = 19 from h) (by rw [e']; decide)) (fun _ _ => ?_)
    have K' := K 0 M _ (fun h => absurd h (no_rg ed)) F.1 F.2
    show post 0 (xr_T u A dc M (upd G (nI (8 * f + k) / 8).toNatClampNeg (rp_g (sx_tapCount u) G (nI (8 * f + k)))) R dr dv dw)
    rw [rp_gv hf hk hl ht ha hGb, (rp_i hf hk hl ht ha hGb).1, nI_clamp (by omega)]
    exact K'
end
end
section
def vs_ok (u : SX) (le : Nat) (wo : Nat → Nat) (s0 : ms_T) (w : Nat) (A : Int64) (q : Nat) (M G R dr dv dw : Nat → Int32) : Prop :=
  vi_R (sx_tapCount u) (cd_of u le) wo s0 R w ∧ vi_A (sx_tapCount u) (cd_of u le) wo s0 A w ∧ vi_M (sx_tapCount u) (cd_of u le) wo s0 M w ∧ vi_G (sx_tapCount u) (cd_of u le) wo s0 M G w ∧
  vi_Q (sx_tapCount u) (cd_of u le) wo s0 q dr dv dw (fun j => wo j < w) w ∧ ∃ a, a ≤ 2 ∧ a ≤ q ∧ q ≤ a + 2 ∧ ∀ k, k < a → (dw k).toNatClampNeg ≤ w
section
variable {u : SX} {le : Nat} {wo : Nat → Nat} {s0 : ms_T} {A : Int64} {M G R dr dv dw : Nat → Int32} {w : Nat}
/-- delivering at a word -/
theorem dw_ok {post : SX → Prop} {q wc : Nat} (hp : pg_ok u le wo wc) (hw : w < wc) (V : vs_ok u le wo s0 w A q M G R dr dv dw)
    (K : ∀ (q' : Nat) (R' dr' dv' dw' : Nat → Int32), q' ≤ 2 → vi_R (sx_tapCount u) (cd_of u le) wo s0 R' (w + 1) → vi_Q (sx_tapCount u) (cd_of u le) wo s0 q' dr' dv' dw' (fun j => wo j < w) (w + 1) → (∀ k, k < q' → (dw' k).toNatClampNeg ≤ w + 1) → post (xr_T u A (nI q') M G R' dr' dv' dw')) :
    wpX_deliver post (xr_T u A (nI q) M G R dr dv dw) (nI w) := by
  obtain ⟨wf, sc, ⟨hwc, hle, hlt, _⟩, _⟩ := hp
  obtain ⟨hR, _, _, _, hQ, a, ha2, haq, hqa, had⟩ := V
  have hent : ∀ k, k < q → ∃ j r, j < le ∧ r < 8 ∧ cd_d (cd_of u le) j = nI r ∧ dr k = nI r ∧ dv k = vl_i (sx_tapCount u) (cd_of u le) s0 j ∧ dw k = nI (wo j + dl_i (cd_o (cd_of u le) j)) ∧ wo j < w ∧ w ≤ wo j + dl_i (cd_o (cd_of u le) j) ∧ wo j + dl_i (cd_o (cd_of u le) j) ≤ w + 1 := by
    intro k hk
    obtain ⟨j, h1, ⟨r, hr, e⟩, h3, h4, h5, h6, h7⟩ := hQ.1 k hk
    have := dl_12 (cd_o (cd_of u le) j)
    have h6' : wo j < w := h6
    exact ⟨j, r, h1, hr, e, h3.trans e, h4, h5, h6', h7, by omega⟩
  refine dv_ok (ro := fun k => (dr k).toNatClampNeg) (om := fun k => (dw k).toNatClampNeg) (by omega) (by omega) ?_ ?_ ?_
  · intro k hk
    obtain ⟨j, r, h1, hr, e, h3, _⟩ := hent k hk
    rw [h3, nI_clamp (by omega)]
    exact ⟨rfl, hr⟩
  · intro k hk
    obtain ⟨j, r, h1, hr, e, h3, h4, h5, h6, h7, h8⟩ := hent k hk
    rw [h5, nI_clamp (by omega)]
    exact ⟨rfl, by omega⟩
  · intro left R' dr' dv' dw' hl I
    obtain ⟨I1, I2, I3, I4, I5⟩ := I
    dsimp only at I2 I3 I4 I5
    have hl2 : left ≤ 2 := by
      have := I5 a had haq
      omega
    refine K left R' dr' dv' dw' hl2 ?_ ?_ ?_
    · refine nx_R sc hR (fun r hr => ?_)
      rcases I4 r hr with ⟨e, hn⟩ | ⟨k, hk, h1, h2, h3⟩
      · refine Or.inl ⟨e, fun j hj hd he => ?_⟩
        have dd := dl_12 (cd_o (cd_of u le) j)
        obtain ⟨k, hk, e1, e2, e3⟩ := hQ.2 j hj ⟨r, hr, hd⟩ (by show wo j < w; omega) (by omega)
        have := hn k hk (by rw [e3, nI_clamp (by omega)]; omega)
        rw [e1, hd, nI_clamp (by omega)] at this
        exact this rfl
      · obtain ⟨j, r', g1, g2, g3, g4, g5, g6, g7, g8, g9⟩ := hent k hk
        rw [g4, nI_clamp (by omega)] at h2
        rw [g6, nI_clamp (by omega)] at h1
        subst h2
        exact Or.inr ⟨j, g1, g3, by omega, h3.trans g5⟩
    · constructor
      · intro k hk
        obtain ⟨k0, h1, h2, h3, h4, h5⟩ := I2 k hk
        obtain ⟨j, r', g1, g2, g3, g4, g5, g6, g7, g8, g9⟩ := hent k0 h1
        rw [g6, nI_clamp (by omega)] at h5
        exact ⟨j, g1, ⟨r', g2, g3⟩, h2.trans (g4.trans g3.symm), h3.trans g5, h4.trans g6, g7, by omega⟩
      · intro j hj hg hP hlo
        have hP' : wo j < w := hP
        have dd := dl_12 (cd_o (cd_of u le) j)
        obtain ⟨k, hk, e1, e2, e3⟩ := hQ.2 j hj hg hP (by omega)
        obtain ⟨k', h1, h2, h3, h4⟩ := I3 k hk (by rw [e3, nI_clamp (by omega)]; omega)
        exact ⟨k', h1, h2.trans e1, h3.trans e2, h4.trans e3⟩
    · intro k hk
      obtain ⟨k0, h1, h2, h3, h4, h5⟩ := I2 k hk
      obtain ⟨j, r', g1, g2, g3, g4, g5, g6, g7, g8, g9⟩ := hent k0 h1
      rw [h4, g6, nI_clamp (by omega)]
      exact g9
variable {post : SX → Prop} {J : Int32 → (Int32) → (Int32) → (Int32) → (Int32) → (Int32) → (Int32) → (Int32) → (Int32) → (Int64) → (Int32) → (Int32) → (Nat → Int32) → (Nat → Int32) → (Nat → Int32) → (Nat → Int32) → (Nat → Int32) → (Nat → Int32) → (Nat → Int32) → (Nat → Int32) → (Nat → Int32) → (Nat → Int32) → (Nat → Int32) → (Nat → Int32) → (Nat → Int32) → (Nat → Int32) → (Nat → Int32) → (Nat → Int32) → (Nat → Int32) → (Nat → Int32) → (Nat → Int32) → (Nat → Int32) → (Nat → Int32) → (Nat → Int32) → (Nat → Int32) → (Nat → Int32) → (Nat → Int32) → (Nat → Int32) → Prop}
/-- the last stage of a word: the result of the instruction that touched memory -/
theorem s84 {q wc : Nat} {P : Nat → Prop} {x3 x5 : Int32} (hp : pg_ok u le wo wc) (hw : w < wc) (hq : q ≤ 7)
    (hx : (x3 < 0 ∧ ∀ i, i < le → wo i = w → sx_op u i < 16) ∨ (∃ i, i < le ∧ x3 = nI i ∧ wo i = w ∧ ¬ sx_op u i < 16 ∧ (rg_ok (sx_into u i) → x5 = vl_i (sx_tapCount u) (cd_of u le) s0 i)))
    (hQ : vi_Q (sx_tapCount u) (cd_of u le) wo s0 q dr dv dw P (w + 1))
    (K : ∀ (q' : Nat) (dr' dv' dw' : Nat → Int32), q ≤ q' → q' ≤ q + 1 → (∀ k, k < q → dw' k = dw k) → vi_Q (sx_tapCount u) (cd_of u le) wo s0 q' dr' dv' dw' (fun j => P j ∨ (wo j = w ∧ ¬ sx_op u j < 16)) (w + 1) →
      J (nI (w + 1)) (sx_nodeCount u) (sx_filterCount u) (sx_levelNow u) (sx_compiled u) (sx_needed u) (sx_pinned u) (sx_listEnd u) (sx_wordCount u) (A) (nI q') (sx_stepCount u) (sx_listLength u) (sx_listValue u) (sx_kindOf u) (sx_partX u) (sx_partY u) (sx_filterOf u) (sx_tapCount u) (sx_taps u) (sx_outputNode u) (sx_same u) (sx_holds u) (sx_registerOf u) (sx_isSaved u) (sx_op u) (sx_into u) (sx_first u) (sx_second u) (sx_number u) (sx_wordOf u) (sx_words u) (M) (G) (R) (dr') (dv') (dw')) :
    wX_step_84 post J (nI w) x3 x5 (sx_nodeCount u) (sx_filterCount u) (sx_levelNow u) (sx_compiled u) (sx_needed u) (sx_pinned u) (sx_listEnd u) (sx_wordCount u) (A) (nI q) (sx_stepCount u) (sx_listLength u) (sx_listValue u) (sx_kindOf u) (sx_partX u) (sx_partY u) (sx_filterOf u) (sx_tapCount u) (sx_taps u) (sx_outputNode u) (sx_same u) (sx_holds u) (sx_registerOf u) (sx_isSaved u) (sx_op u) (sx_into u) (sx_first u) (sx_second u) (sx_number u) (sx_wordOf u) (sx_words u) (M) (G) (R) (dr) (dv) (dw) := by
  obtain ⟨wf, sc, ⟨hwc, hle, hlt, _⟩, _⟩ := hp
  have hle' : le ≤ 300 := hle
  unfold wX_step_84
  rcases hx with ⟨h0, hn⟩ | ⟨i, hi, rfl, hwi, ho, hv⟩
  · refine br_t h0 (nm_r (e' := nI (w + 1)) (nI_1 _) (K q dr dv dw (by omega) (by omega) (fun _ _ => rfl) (vq_mono hQ (fun j hj _ => ⟨Or.inl, fun h => h.elim id (fun h => absurd (hn j hj h.1) h.2)⟩))))
  · refine br_f (nI_pos (by omega)) ?_
    have uq : ∀ j, j < le → wo j = w → ¬ sx_op u j < 16 → j = i := fun j hj hwj ha => hf_uq sc hj hi (by omega) ⟨fun h => absurd h ha, fun h => absurd h ho⟩
    rcases wf_d (wf i hi) with e | e | ⟨r, hr, e⟩
    · refine pr_n (u := xr_T u A (nI q) M G R dr dv dw) (by omega) (by show ¬ 0 ≤ sx_into u i; rw [show sx_into u i = -1 from e]; decide) ?_
      refine nm_r (e' := nI (w + 1)) (nI_1 _) (K q dr dv dw (by omega) (by omega) (fun _ _ => rfl) (vq_mono hQ (fun j hj hg => ⟨Or.inl, fun h => h.elim id (fun h => ?_)⟩)))
      have := uq j hj h.1 h.2
      subst this
      exact absurd hg (no_rg e)
    · exfalso
      have := (wf_acc (wf i hi)).mpr e
      exact ho (by rcases this with e | e <;> rw [show sx_op u i = _ from e] <;> decide)
    · refine pr_ok (u := u) (A := A) (M := M) (G := G) (R := R) (dr := dr) (dv := dv) (dw := dw) (i := i) (r := r) (q := q) (w := w) (v := x5) (by omega) e hr (by omega) (by omega) ?_
      refine nm_r (e' := nI (w + 1)) (nI_1 _) (K (q + 1) _ _ _ (by omega) (by omega) (fun k hk => pk_un (by omega)) ?_)
      have dd := dl_12 (cd_o (cd_of u le) i)
      have := vq_push hQ hi e hr (hv ⟨r, hr, e⟩) (by omega)
      rw [hwi] at this
      refine vq_mono this (fun j hj hg => ⟨fun h => h.elim Or.inl (fun h => Or.inr (by rw [h]; exact ⟨hwi, ho⟩)), fun h => h.elim Or.inl (fun h => Or.inr (uq j hj h.1 h.2))⟩)
/-- the result of the instruction that calculates -/
theorem s72 {q wc : Nat} {P : Nat → Prop} {x2 x3 x4 x5 : Int32} (hp : pg_ok u le wo wc) (hw : w < wc) (hq : q ≤ 7)
    (hR : vi_R (sx_tapCount u) (cd_of u le) wo s0 R (w + 1)) (hA : vi_A (sx_tapCount u) (cd_of u le) wo s0 A w)
    (hx : (x2 < 0 ∧ ∀ i, i < le → wo i = w → ¬ sx_op u i < 16) ∨ (∃ i, i < le ∧ x2 = nI i ∧ wo i = w ∧ sx_op u i < 16 ∧ x4 = vl_i (sx_tapCount u) (cd_of u le) s0 i))
    (hQ : vi_Q (sx_tapCount u) (cd_of u le) wo s0 q dr dv dw P (w + 1))
    (K : ∀ (A' : Int64) (q' : Nat) (dr' dv' dw' : Nat → Int32), q ≤ q' → q' ≤ q + 1 → (∀ k, k < q → dw' k = dw k) → vi_A (sx_tapCount u) (cd_of u le) wo s0 A' (w + 1) → vi_Q (sx_tapCount u) (cd_of u le) wo s0 q' dr' dv' dw' (fun j => P j ∨ (wo j = w ∧ sx_op u j < 16)) (w + 1) →
      wX_step_84 post J (nI w) x3 x5 (sx_nodeCount u) (sx_filterCount u) (sx_levelNow u) (sx_compiled u) (sx_needed u) (sx_pinned u) (sx_listEnd u) (sx_wordCount u) (A') (nI q') (sx_stepCount u) (sx_listLength u) (sx_listValue u) (sx_kindOf u) (sx_partX u) (sx_partY u) (sx_filterOf u) (sx_tapCount u) (sx_taps u) (sx_outputNode u) (sx_same u) (sx_holds u) (sx_registerOf u) (sx_isSaved u) (sx_op u) (sx_into u) (sx_first u) (sx_second u) (sx_number u) (sx_wordOf u) (sx_words u) (M) (G) (R) (dr') (dv') (dw')) :
    wX_step_72 post J (nI w) x2 x3 x4 x5 (sx_nodeCount u) (sx_filterCount u) (sx_levelNow u) (sx_compiled u) (sx_needed u) (sx_pinned u) (sx_listEnd u) (sx_wordCount u) (A) (nI q) (sx_stepCount u) (sx_listLength u) (sx_listValue u) (sx_kindOf u) (sx_partX u) (sx_partY u) (sx_filterOf u) (sx_tapCount u) (sx_taps u) (sx_outputNode u) (sx_same u) (sx_holds u) (sx_registerOf u) (sx_isSaved u) (sx_op u) (sx_into u) (sx_first u) (sx_second u) (sx_number u) (sx_wordOf u) (sx_words u) (M) (G) (R) (dr) (dv) (dw) := by
  obtain ⟨wf, sc, ⟨hwc, hle, hlt, _⟩, _⟩ := hp
  have hle' : le ≤ 300 := hle
  unfold wX_step_72
  rcases hx with ⟨h0, hn⟩ | ⟨i, hi, rfl, hwi, ho, hv⟩
  · exact br_t h0 (K A q dr dv dw (by omega) (by omega) (fun _ _ => rfl) (fa_no wf sc hA hn) (vq_mono hQ (fun j hj _ => ⟨Or.inl, fun h => h.elim id (fun h => absurd h.2 (hn j hj h.1))⟩)))
  · refine br_f (nI_pos (by omega)) ?_
    have uq : ∀ j, j < le → wo j = w → sx_op u j < 16 → j = i := fun j hj hwj ha => hf_uq sc hj hi (by omega) ⟨fun _ => ho, fun _ => ha⟩
    have FA := fun A' h h' => fa_eq (A' := A') wf sc hR hA hi hwi h h' ho
    have hnr : ∀ (h8 : cd_d (cd_of u le) i = 8), vi_Q (sx_tapCount u) (cd_of u le) wo s0 q dr dv dw (fun j => P j ∨ (wo j = w ∧ sx_op u j < 16)) (w + 1) := by
      intro h8
      refine vq_mono hQ (fun j hj hg => ⟨Or.inl, fun h => h.elim id (fun h => ?_)⟩)
      have := uq j hj h.1 h.2
      subst this
      exact absurd h8 (rg_ne8 hg)
    by_cases h11 : sx_op u i = 11
    · have h8 := (wf_acc (wf i hi)).mp (Or.inl h11)
      refine fi_11 (u := xr_T u A (nI q) M G R dr dv dw) (by omega) h11 ?_
      exact K 0 q dr dv dw (by omega) (by omega) (fun _ _ => rfl) (FA 0 (fun _ => by rw [rn_s, ex_Av, if_pos (show cd_o (cd_of u le) i = 11 from h11)]) (fun h => absurd (Or.inl h11) h)) (hnr h8)
    by_cases h12 : sx_op u i = 12
    · have h8 := (wf_acc (wf i hi)).mp (Or.inr h12)
      refine fi_12 (u := xr_T u A (nI q) M G R dr dv dw) (by omega) h12 ?_
      have eA := re_A sc wf hA hi hwi (Or.inr (Or.inr ⟨h12, rfl⟩))
      exact K (A + x4.toInt64) q dr dv dw (by omega) (by omega) (fun _ _ => rfl) (FA (A + x4.toInt64) (fun _ => by
        rw [rn_s, ex_Av, if_neg (show cd_o (cd_of u le) i ≠ 11 from h11), if_pos (show cd_o (cd_of u le) i = 12 from h12), hv, ← eA]
        rfl) (fun h => absurd (Or.inr h12) h)) (hnr h8)
    refine fi_o (u := xr_T u A (nI q) M G R dr dv dw) (by omega) h11 h12 ?_
    have hna : ¬ ac_i (cd_of u le) i := fun h => h.elim h11 h12
    have A1 := FA A (fun h => absurd h hna) (fun _ => rfl)
    rcases wf_d (wf i hi) with e | e | ⟨r, hr, e⟩
    · refine pr_n (u := xr_T u A (nI q) M G R dr dv dw) (by omega) (by show ¬ 0 ≤ sx_into u i; rw [show sx_into u i = -1 from e]; decide) ?_
      refine K A q dr dv dw (by omega) (by omega) (fun _ _ => rfl) A1 (vq_mono hQ (fun j hj hg => ⟨Or.inl, fun h => h.elim id (fun h => ?_)⟩))
      have := uq j hj h.1 h.2
      subst this
      exact absurd hg (no_rg e)
    · exact absurd ((wf_acc (wf i hi)).mpr e) hna
    · refine pr_ok (u := u) (A := A) (M := M) (G := G) (R := R) (dr := dr) (dv := dv) (dw := dw) (i := i) (r := r) (q := q) (w := w) (v := x4) (by omega) e hr (by omega) (by omega) ?_
      refine K A (q + 1) _ _ _ (by omega) (by omega) (fun k hk => pk_un (by omega)) A1 ?_
      have dd := dl_12 (cd_o (cd_of u le) i)
      have := vq_push hQ hi e hr hv (by omega)
      rw [hwi] at this
      refine vq_mono this (fun j hj hg => ⟨fun h => h.elim Or.inl (fun h => Or.inr (by rw [h]; exact ⟨hwi, ho⟩)), fun h => h.elim Or.inl (fun h => Or.inr (uq j hj h.1 h.2))⟩)
end
end
section
section
variable {u : SX} {le : Nat} {wo : Nat → Nat} {s0 : ms_T} {post : SX → Prop}
theorem s58 {J : Int32 → (Int32) → (Int32) → (Int32) → (Int32) → (Int32) → (Int32) → (Int32) → (Int32) → (Int64) → (Int32) → (Int32) → (Nat → Int32) → (Nat → Int32) → (Nat → Int32) → (Nat → Int32) → (Nat → Int32) → (Nat → Int32) → (Nat → Int32) → (Nat → Int32) → (Nat → Int32) → (Nat → Int32) → (Nat → Int32) → (Nat → Int32) → (Nat → Int32) → (Nat → Int32) → (Nat → Int32) → (Nat → Int32) → (Nat → Int32) → (Nat → Int32) → (Nat → Int32) → (Nat → Int32) → (Nat → Int32) → (Nat → Int32) → (Nat → Int32) → (Nat → Int32) → (Nat → Int32) → (Nat → Int32) → Prop} {A : Int64} {M G R dr dv dw : Nat → Int32} {w : Nat} {q wc : Nat} {x2 x3 x4 : Int32} (hp : pg_ok u le wo wc) (g : gv_ok (sx_tapCount u) (ms_G s0)) (hw : w < wc) (hq : q ≤ 2)
    (hR : vi_R (sx_tapCount u) (cd_of u le) wo s0 R (w + 1)) (hA : vi_A (sx_tapCount u) (cd_of u le) wo s0 A w) (hM : vi_M (sx_tapCount u) (cd_of u le) wo s0 M w) (hG : vi_G (sx_tapCount u) (cd_of u le) wo s0 M G w)
    (hx2 : (x2 < 0 ∧ ∀ i, i < le → wo i = w → ¬ sx_op u i < 16) ∨ (∃ i, i < le ∧ x2 = nI i ∧ wo i = w ∧ sx_op u i < 16 ∧ x4 = vl_i (sx_tapCount u) (cd_of u le) s0 i))
    (hx3 : (x3 < 0 ∧ ∀ i, i < le → wo i = w → sx_op u i < 16) ∨ (∃ i, i < le ∧ x3 = nI i ∧ wo i = w ∧ ¬ sx_op u i < 16))
    (hQ : vi_Q (sx_tapCount u) (cd_of u le) wo s0 q dr dv dw (fun j => wo j < w) (w + 1)) (hdw : ∀ k, k < q → (dw k).toNatClampNeg ≤ w + 1)
    (K : ∀ (A' : Int64) (q' : Nat) (M' G' R' dr' dv' dw' : Nat → Int32), vs_ok u le wo s0 (w + 1) A' q' M' G' R' dr' dv' dw' → J (nI (w + 1)) (sx_nodeCount u) (sx_filterCount u) (sx_levelNow u) (sx_compiled u) (sx_needed u) (sx_pinned u) (sx_listEnd u) (sx_wordCount u) (A') (nI q') (sx_stepCount u) (sx_listLength u) (sx_listValue u) (sx_kindOf u) (sx_partX u) (sx_partY u) (sx_filterOf u) (sx_tapCount u) (sx_taps u) (sx_outputNode u) (sx_same u) (sx_holds u) (sx_registerOf u) (sx_isSaved u) (sx_op u) (sx_into u) (sx_first u) (sx_second u) (sx_number u) (sx_wordOf u) (sx_words u) (M') (G') (R') (dr') (dv') (dw')) :
    wX_step_58 post J (nI w) x2 x3 x4 (sx_nodeCount u) (sx_filterCount u) (sx_levelNow u) (sx_compiled u) (sx_needed u) (sx_pinned u) (sx_listEnd u) (sx_wordCount u) (A) (nI q) (sx_stepCount u) (sx_listLength u) (sx_listValue u) (sx_kindOf u) (sx_partX u) (sx_partY u) (sx_filterOf u) (sx_tapCount u) (sx_taps u) (sx_outputNode u) (sx_same u) (sx_holds u) (sx_registerOf u) (sx_isSaved u) (sx_op u) (sx_into u) (sx_first u) (sx_second u) (sx_number u) (sx_wordOf u) (sx_words u) (M) (G) (R) (dr) (dv) (dw) := by
  have hp' := hp
  obtain ⟨wf, sc, ⟨hwc, hle, hlt, _⟩, _⟩ := hp
  have hle' : le ≤ 300 := hle
  have fin : ∀ (M' G' : Nat → Int32) (x5 : Int32), vi_M (sx_tapCount u) (cd_of u le) wo s0 M' (w + 1) → vi_G (sx_tapCount u) (cd_of u le) wo s0 M' G' (w + 1) →
      ((x3 < 0 ∧ ∀ i, i < le → wo i = w → sx_op u i < 16) ∨ (∃ i, i < le ∧ x3 = nI i ∧ wo i = w ∧ ¬ sx_op u i < 16 ∧ (rg_ok (sx_into u i) → x5 = vl_i (sx_tapCount u) (cd_of u le) s0 i))) →
      wX_step_72 post J (nI w) x2 x3 x4 x5 (sx_nodeCount u) (sx_filterCount u) (sx_levelNow u) (sx_compiled u) (sx_needed u) (sx_pinned u) (sx_listEnd u) (sx_wordCount u) (A) (nI q) (sx_stepCount u) (sx_listLength u) (sx_listValue u) (sx_kindOf u) (sx_partX u) (sx_partY u) (sx_filterOf u) (sx_tapCount u) (sx_taps u) (sx_outputNode u) (sx_same u) (sx_holds u) (sx_registerOf u) (sx_isSaved u) (sx_op u) (sx_into u) (sx_first u) (sx_second u) (sx_number u) (sx_wordOf u) (sx_words u) (M') (G') (R) (dr) (dv) (dw) := by
    intro M' G' x5 hM' hG' hx
    refine s72 hp' hw (by omega) hR hA hx2 hQ ?_
    intro A1 q1 dr1 dv1 dw1 h1 h2 h3 hA1 hQ1
    refine s84 hp' hw (by omega) hx hQ1 ?_
    intro q2 dr2 dv2 dw2 k1 k2 k3 hQ2
    refine K A1 q2 M' G' R dr2 dv2 dw2 ⟨hR, hA1, hM', hG', vq_mono hQ2 (fun j hj _ => ?_), q, hq, by omega, by omega, fun k hk => ?_⟩
    · constructor
      · intro h
        rcases h with (h | h) | h
        · show wo j < w + 1; have : wo j < w := h; omega
        · show wo j < w + 1; omega
        · show wo j < w + 1; omega
      · intro h
        have h' : wo j < w + 1 := h
        by_cases e : wo j = w
        · by_cases e16 : sx_op u j < 16
          · exact Or.inl (Or.inr ⟨e, e16⟩)
          · exact Or.inr ⟨e, e16⟩
        · exact Or.inl (Or.inl (by omega))
    · rw [k3 k (by omega), h3 k hk]; exact hdw k hk
  unfold wX_step_58
  rcases hx3 with ⟨h0, hn⟩ | ⟨i, hi, rfl, hwi, ho⟩
  · have F := fm_no wf sc g hM hG hn
    exact br_t h0 (fin M G 0 F.1 F.2 (Or.inl ⟨h0, hn⟩))
  · refine br_f (nI_pos (by omega)) (tw_ok (u := u) (A := A) (dc := nI q) (M := M) (G := G) (R := R) (dr := dr) (dv := dv) (dw := dw) wf sc g hR hM hG hle' hi hwi ho ?_)
    intro t M' G' ht hM' hG'
    exact fin M' G' t hM' hG' (Or.inr ⟨i, hi, rfl, hwi, ho, ht⟩)
theorem tb_w {w : Nat} (h : w < 700) : (2 * nI w) = nI (2 * w) := pk_mul 2 w
theorem tb_1 {i : Nat} : nI (i + 1) - 1 = nI i := nI_pred i
theorem w7 {wc : Nat} (hp : pg_ok u le wo wc) (g : gv_ok (sx_tapCount u) (ms_G s0))
    (K : ∀ (A' : Int64) (q' : Nat) (M' G' R' dr' dv' dw' : Nat → Int32), vs_ok u le wo s0 wc A' q' M' G' R' dr' dv' dw' → post (xr_T u A' (nI q') M' G' R' dr' dv' dw')) :
    ∀ (d w : Nat), w + d = wc → ∀ (A : Int64) (q : Nat) (M G R dr dv dw : Nat → Int32), vs_ok u le wo s0 w A q M G R dr dv dw → ∀ n, d < n →
      wX_step_7 post n (nI w) (sx_nodeCount u) (sx_filterCount u) (sx_levelNow u) (sx_compiled u) (sx_needed u) (sx_pinned u) (sx_listEnd u) (sx_wordCount u) (A) (nI q) (sx_stepCount u) (sx_listLength u) (sx_listValue u) (sx_kindOf u) (sx_partX u) (sx_partY u) (sx_filterOf u) (sx_tapCount u) (sx_taps u) (sx_outputNode u) (sx_same u) (sx_holds u) (sx_registerOf u) (sx_isSaved u) (sx_op u) (sx_into u) (sx_first u) (sx_second u) (sx_number u) (sx_wordOf u) (sx_words u) (M) (G) (R) (dr) (dv) (dw) := by
  have hp' := hp
  obtain ⟨wf, sc, ⟨hwc, hle, hlt, htab⟩, hW⟩ := hp
  have hle' : le ≤ 300 := hle
  intro d
  induction d with
  | zero =>
    intro w hw A q M G R dr dv dw V n hn
    obtain ⟨n, rfl⟩ : ∃ m, n = m + 1 := ⟨n - 1, by omega⟩
    have : w = wc := by omega
    subst this
    rw [wX_step_7, hW]
    exact br_t (nI_le (by omega) (by omega)) (by rw [← hW]; exact K A q M G R dr dv dw V)
  | succ d ih =>
    intro w hw A q M G R dr dv dw V n hn
    obtain ⟨n, rfl⟩ : ∃ m, n = m + 1 := ⟨n - 1, by omega⟩
    have hlw : w < wc := by omega
    rw [wX_step_7]
    refine br_f (by rw [hW]; exact nI_ge (by omega) (by omega)) ?_
    refine dw_ok (u := u) (A := A) (M := M) (G := G) (R := R) (dr := dr) (dv := dv) (dw := dw) hp' hlw V ?_
    intro q1 R1 dr1 dv1 dw1 hq1 hR1 hQ1 hd1
    have i0 : vp_in (2 * nI w) 1210 := by rw [tb_w (by omega)]; exact vp_in_nI (by omega) (by omega)
    have i1 : vp_in (2 * nI w + 1) 1210 := by rw [tb_w (by omega), nI_1]; exact vp_in_nI (by omega) (by omega)
    have c0 : (2 * nI w).toNatClampNeg = 2 * w := by rw [tb_w (by omega)]; exact nI_clamp (by omega)
    have c1 : (2 * nI w + 1).toNatClampNeg = 2 * w + 1 := by rw [tb_w (by omega), nI_1]; exact nI_clamp (by omega)
    obtain ⟨_, hA, hM, hG, _, _⟩ := V
    show vp_in (2 * nI w) 1210 ∧ _
    refine ⟨i0, ?_⟩
    rw [c0]
    refine nm_e ⟨i1, ?_⟩
    rw [c1]
    refine nm_e ?_
    have hx3 : (sx_words u (2 * w + 1) - 1 < 0 ∧ ∀ i, i < le → wo i = w → sx_op u i < 16) ∨ (∃ i, i < le ∧ sx_words u (2 * w + 1) - 1 = nI i ∧ wo i = w ∧ ¬ sx_op u i < 16) := by
      rcases htab w hlw 1 (by omega) with ⟨e, hn⟩ | ⟨i, hi, e, hwi, hf⟩
      · refine Or.inl ⟨by rw [e]; decide, fun i hi hwi => ?_⟩
        have := hn i hi hwi
        rcases Decidable.em (sx_op u i < 16) with h | h
        · exact h
        · exact absurd (if_neg h) this
      · exact Or.inr ⟨i, hi, by rw [e, tb_1], hwi, hf_1 hf⟩
    have KK := fun (x2 x4 : Int32) hx2 => s58 (J := wX_step_7 post n) (post := post) (x2 := x2) (x4 := x4) (A := A) (M := M) (G := G) (R := R1) (dr := dr1) (dv := dv1) (dw := dw1) (q := q1) hp' g hlw hq1 hR1 hA hM hG hx2 hx3 hQ1 hd1 (fun A' q' M' G' R' dr' dv' dw' V' => ih (w + 1) (by omega) A' q' M' G' R' dr' dv' dw' V' n (by omega))
    rcases htab w hlw 0 (by omega) with ⟨e, hn⟩ | ⟨i, hi, e, hwi, hf⟩
    · have e' : sx_words u (2 * w) = 0 := e
      have hlt0 : sx_words u (2 * w) - 1 < 0 := by rw [e']; decide
      refine br_t hlt0 (KK _ 0 (Or.inl ⟨hlt0, fun i hi hwi => ?_⟩))
      intro h
      exact hn i hi hwi (if_pos h)
    · have e' : sx_words u (2 * w) - 1 = nI i := by rw [show sx_words u (2 * w) = nI (i + 1) from e, tb_1]
      have ho := hf_0 hf
      rw [e']
      refine br_f (nI_pos (by omega)) ?_
      have wi := wf i hi
      refine cc_ok (u := xr_T u A (nI q1) M G R1 dr1 dv1 dw1) (by omega) ?_ ?_ ?_
      · intro hne
        have hne' : ¬ (sx_op u i = 1 ∨ sx_op u i = 13 ∨ sx_op u i = 11) := hne
        show vp_in (sx_first u i) 8
        rcases wi with ⟨e, _⟩ | ⟨_, _, ⟨r, hr, e⟩, _⟩ | ⟨_, _, ⟨r, hr, e⟩, _⟩ | ⟨e, _⟩ | ⟨_, _, ⟨r, hr, e⟩, _⟩ | ⟨e, _⟩ | ⟨e, _⟩ | ⟨e, _⟩ | ⟨e, _⟩ | ⟨e, _⟩ | ⟨e, _⟩
        · exact absurd (Or.inl e) hne'
        · rw [show sx_first u i = nI r from e]; exact vp_in_nI hr (by omega)
        · rw [show sx_first u i = nI r from e]; exact vp_in_nI hr (by omega)
        · exact absurd (Or.inr (Or.inr e)) hne'
        · rw [show sx_first u i = nI r from e]; exact vp_in_nI hr (by omega)
        · exact absurd (Or.inr (Or.inl e)) hne'
        all_goals exact absurd (e ▸ ho) (by decide)
      · intro hne
        have hne' : ¬ (sx_op u i = 1 ∨ sx_op u i = 13 ∨ sx_op u i = 11 ∨ sx_op u i = 7 ∨ sx_op u i = 8) := hne
        show vp_in (sx_second u i) 8
        rcases wi with ⟨e, _⟩ | ⟨e, _⟩ | ⟨_, _, _, ⟨r, hr, e⟩⟩ | ⟨e, _⟩ | ⟨_, _, _, ⟨r, hr, e⟩⟩ | ⟨e, _⟩ | ⟨e, _⟩ | ⟨e, _⟩ | ⟨e, _⟩ | ⟨e, _⟩ | ⟨e, _⟩
        · exact absurd (Or.inl e) hne'
        · exact absurd (Or.inr (Or.inr (Or.inr e))) hne'
        · rw [show sx_second u i = nI r from e]; exact vp_in_nI hr (by omega)
        · exact absurd (Or.inr (Or.inr (Or.inl e))) hne'
        · rw [show sx_second u i = nI r from e]; exact vp_in_nI hr (by omega)
        · exact absurd (Or.inr (Or.inl e)) hne'
        all_goals exact absurd (e ▸ ho) (by decide)
      · refine KK (nI i) _ (Or.inr ⟨i, hi, rfl, hwi, ho, ?_⟩)
        exact cv_eq wf sc hR1 hA hi hwi ho
theorem st_ok {wc : Nat} (hp : pg_ok u le wo wc) (g : gv_ok (sx_tapCount u) (sx_ringAt u))
    (K : ∀ (A' : Int64) (dc' : Int32) (M' G' R' dr' dv' dw' : Nat → Int32), (∀ x, x < 96 → M' x = ms_M (rs_c (sx_tapCount u) (cd_of u le) (sx_register u, sx_accumulator u, sx_memory u, sx_ringAt u)) x) →
      (∀ f, f < 4 → G' f = ms_G (rs_c (sx_tapCount u) (cd_of u le) (sx_register u, sx_accumulator u, sx_memory u, sx_ringAt u)) f) → post (xr_T u A' dc' M' G' R' dr' dv' dw')) :
    wpX_step post u := by
  show wpX_step post (sx_nodeCount u, sx_filterCount u, sx_levelNow u, sx_compiled u, sx_needed u, sx_pinned u, sx_listEnd u, sx_wordCount u, sx_accumulator u, sx_dueCount u, sx_stepCount u, sx_listLength u, sx_listValue u, sx_kindOf u, sx_partX u, sx_partY u, sx_filterOf u, sx_tapCount u, sx_taps u, sx_outputNode u, sx_same u, sx_holds u, sx_registerOf u, sx_isSaved u, sx_op u, sx_into u, sx_first u, sx_second u, sx_number u, sx_wordOf u, sx_words u, sx_memory u, sx_ringAt u, sx_register u, sx_dueRegister u, sx_dueValue u, sx_dueWord u)
  unfold wpX_step
  refine ⟨wc + 1, ?_⟩
  refine w7 (s0 := (sx_register u, sx_accumulator u, sx_memory u, sx_ringAt u)) hp g ?_ wc 0 (by omega) (sx_accumulator u) 0 (sx_memory u) (sx_ringAt u) (sx_register u) (sx_dueRegister u) (sx_dueValue u) (sx_dueWord u) ?_ (wc + 1) (by omega)
  · intro A' q' M' G' R' dr' dv' dw' V
    have E := en_M V.2.2.1 V.2.2.2.1 hp.2.2.1.2.2.1
    exact K A' (nI q') M' G' R' dr' dv' dw' E.1 E.2
  · exact ⟨be_R _ rfl, be_A _ rfl, be_M (s0 := (sx_register u, sx_accumulator u, sx_memory u, sx_ringAt u)) hp.1 g _ rfl, be_G (s0 := (sx_register u, sx_accumulator u, sx_memory u, sx_ringAt u)) hp.1 g _ _ rfl rfl, ⟨fun k hk => absurd hk (by omega), fun j _ _ h _ => absurd h (by show ¬ wo j < 0; omega)⟩, 0, by omega, by omega, by omega, fun k hk => absurd hk (by omega)⟩
end
end
section
/-! ===== distances ===== -/
theorem i3_le {x y : Int32} : x ≤ y ↔ x.toInt ≤ y.toInt := Int32.le_iff_toInt_le
theorem i3_lt {x y : Int32} : x < y ↔ x.toInt < y.toInt := Int32.lt_iff_toInt_lt
section
variable {u : SX} {le : Nat} {post : Int32 → Prop}
theorem rd_ok {p : Nat} {x : Int32} (hp : p < 300) (h1 : 0 ≤ x → rd_i (cd_of u le) p x → post 1) (h0 : ¬ (0 ≤ x ∧ rd_i (cd_of u le) p x) → post 0) : wpX_reads post u (nI p) x := by
  show wpX_reads post (sx_nodeCount u, sx_filterCount u, sx_levelNow u, sx_compiled u, sx_needed u, sx_pinned u, sx_listEnd u, sx_wordCount u, sx_accumulator u, sx_dueCount u, sx_stepCount u, sx_listLength u, sx_listValue u, sx_kindOf u, sx_partX u, sx_partY u, sx_filterOf u, sx_tapCount u, sx_taps u, sx_outputNode u, sx_same u, sx_holds u, sx_registerOf u, sx_isSaved u, sx_op u, sx_into u, sx_first u, sx_second u, sx_number u, sx_wordOf u, sx_words u, sx_memory u, sx_ringAt u, sx_register u, sx_dueRegister u, sx_dueValue u, sx_dueWord u) (nI p) x
  have ip : vp_in (nI p) 300 := vp_in_nI hp (by omega)
  unfold wpX_reads
  dsimp only
  rw [nI_clamp (by omega)]
  by_cases hx : x < 0
  · exact br_t hx (h0 (fun h => absurd hx (Int32.not_lt.mpr h.1)))
  have hx' : 0 ≤ x := Int32.not_lt.mp hx
  refine br_f hx ⟨ip, ?_⟩
  by_cases h2 : sx_first u p = x
  · exact br_t h2 (h1 hx' (Or.inl h2))
  refine br_f h2 ⟨ip, ?_⟩
  by_cases h3 : sx_second u p = x
  · exact br_t h3 (h1 hx' (Or.inr (Or.inl h3)))
  refine br_f h3 ⟨ip, ?_⟩
  by_cases h4 : sx_op u p = 12
  · refine br_t h4 ?_
    by_cases h5 : x = 8
    · exact br_t h5 (h1 hx' (Or.inr (Or.inr ⟨h4, h5⟩)))
    · exact br_f h5 (h0 (fun h => h.2.elim h2 (fun h => h.elim h3 (fun h => h5 h.2))))
  · exact br_f h4 (h0 (fun h => h.2.elim h2 (fun h => h.elim h3 (fun h => h4 h.1))))
theorem ir_ok {o : Int32} (h1 : ¬ o < 18 → post 1) (h0 : o < 18 → post 0) : wpX_isRing post u o := by
  unfold wpX_isRing
  exact br_c h0 h1
theorem im_ok {o : Int32} (h1 : ¬ o < 16 → post 1) (h0 : o < 16 → post 0) : wpX_isMemory post u o := by
  unfold wpX_isMemory
  exact br_c h0 h1
theorem ts_ok {i j : Nat} (hi : i < 300) (hj : j < 300) (h1 : sm_i (cd_of u le) i j → post 1) (h0 : ¬ sm_i (cd_of u le) i j → post 0) : wpX_touchSame post u (nI i) (nI j) := by
  show wpX_touchSame post (sx_nodeCount u, sx_filterCount u, sx_levelNow u, sx_compiled u, sx_needed u, sx_pinned u, sx_listEnd u, sx_wordCount u, sx_accumulator u, sx_dueCount u, sx_stepCount u, sx_listLength u, sx_listValue u, sx_kindOf u, sx_partX u, sx_partY u, sx_filterOf u, sx_tapCount u, sx_taps u, sx_outputNode u, sx_same u, sx_holds u, sx_registerOf u, sx_isSaved u, sx_op u, sx_into u, sx_first u, sx_second u, sx_number u, sx_wordOf u, sx_words u, sx_memory u, sx_ringAt u, sx_register u, sx_dueRegister u, sx_dueValue u, sx_dueWord u) (nI i) (nI j)
  have ii : vp_in (nI i) 300 := vp_in_nI hi (by omega)
  have ij : vp_in (nI j) 300 := vp_in_nI hj (by omega)
  unfold wpX_touchSame
  dsimp only
  rw [nI_clamp (n := i) (by omega), nI_clamp (n := j) (by omega)]
  refine ⟨ii, ir_ok (fun hri => ⟨ij, ir_ok (fun hrj => ?_) (fun hrj => ?_)⟩) (fun hri => ⟨ij, ir_ok (fun hrj => ?_) (fun hrj => ?_)⟩)⟩
  · refine br_t rfl ⟨ii, ir_ok (fun _ => ?_) (fun h => absurd h hri)⟩
    refine br_f (by decide) ⟨ii, by decide, ij, by decide, br_c (fun e => h1 (Or.inr ⟨hri, hrj, e⟩)) (fun e => h0 ?_)⟩
    intro h
    rcases h with h | h
    · exact hri h.1
    · exact e h.2.2
  · refine br_f (by decide) (h0 ?_)
    intro h
    rcases h with h | h
    · exact hri h.1
    · exact h.2.1 hrj
  · refine br_f (by decide) (h0 ?_)
    intro h
    rcases h with h | h
    · exact hrj h.2.1
    · exact h.1 hri
  · refine br_t rfl ⟨ii, ir_ok (fun h => absurd hri h) (fun _ => ?_)⟩
    refine br_t rfl ⟨ii, ij, br_c (fun e => h1 (Or.inl ⟨hri, hrj, e⟩)) (fun e => h0 ?_)⟩
    intro h
    rcases h with h | h
    · exact e h.2.2
    · exact h.1 hri
theorem ds_w : ∀ a b : Nat, 1 ≤ a → a ≤ 2 → 1 ≤ b → b ≤ 2 → (nI a - nI b + 1).toInt = (a : Int) - b + 1 := by
  intro a b h1 h2 h3 h4
  have ha : a = 1 ∨ a = 2 := by omega
  have hb : b = 1 ∨ b = 2 := by omega
  rcases ha with rfl | rfl <;> rcases hb with rfl | rfl <;> decide
theorem d107 {i j : Nat} {x3 : Int32} (hi : i < 300) (hj : j < 300) (hx : x3.toInt ≤ 2)
    (K : ∀ r : Int32, x3.toInt ≤ r.toInt → r.toInt ≤ 2 → (¬ sx_op u i < 16 → ¬ sx_op u j < 16 → sm_i (cd_of u le) i j → 1 ≤ r.toInt) → post r) :
    wX_distance_107 post (nI j) (nI i) x3 (sx_nodeCount u) (sx_filterCount u) (sx_levelNow u) (sx_compiled u) (sx_needed u) (sx_pinned u) (sx_listEnd u) (sx_wordCount u) (sx_accumulator u) (sx_dueCount u) (sx_stepCount u) (sx_listLength u) (sx_listValue u) (sx_kindOf u) (sx_partX u) (sx_partY u) (sx_filterOf u) (sx_tapCount u) (sx_taps u) (sx_outputNode u) (sx_same u) (sx_holds u) (sx_registerOf u) (sx_isSaved u) (sx_op u) (sx_into u) (sx_first u) (sx_second u) (sx_number u) (sx_wordOf u) (sx_words u) (sx_memory u) (sx_ringAt u) (sx_register u) (sx_dueRegister u) (sx_dueValue u) (sx_dueWord u) := by
  have ii : vp_in (nI i) 300 := vp_in_nI hi (by omega)
  have ij : vp_in (nI j) 300 := vp_in_nI hj (by omega)
  unfold wX_distance_107
  rw [nI_clamp (n := i) (by omega), nI_clamp (n := j) (by omega)]
  refine ⟨ii, im_ok (fun h1 => ?_) (fun h1 => br_t rfl (K x3 (by omega) hx (fun h => absurd h1 h)))⟩
  refine br_f (by decide) ⟨ij, im_ok (fun h2 => ?_) (fun h2 => br_t rfl (K x3 (by omega) hx (fun _ h => absurd h2 h)))⟩
  refine br_f (by decide) (ts_ok (u := u) (le := le) hi hj (fun h3 => ?_) (fun h3 => br_t rfl (K x3 (by omega) hx (fun _ _ h => absurd h h3))))
  refine br_f (by decide) (br_c (fun h4 => ?_) (fun h4 => ?_))
  · have h4' : (1 : Int32).toInt ≤ x3.toInt := i3_le.mp h4
    rw [show (1 : Int32).toInt = 1 from by decide] at h4'
    exact K x3 (by omega) hx (fun _ _ _ => h4')
  · have h4' : ¬ (1 : Int32).toInt ≤ x3.toInt := fun h => h4 (i3_le.mpr h)
    rw [show (1 : Int32).toInt = 1 from by decide] at h4'
    refine K 1 ?_ ?_ (fun _ _ _ => ?_)
    all_goals rw [show (1 : Int32).toInt = 1 from by decide]; omega
theorem d49 {i j : Nat} {x3 : Int32} (hi : i < 300) (hj : j < 300) (hx : x3.toInt ≤ 2)
    (K : ∀ r : Int32, x3.toInt ≤ r.toInt → r.toInt ≤ 2 → (0 ≤ sx_into u i → sx_into u i = sx_into u j → (dl_i (sx_op u j) : Int) + 1 ≤ r.toInt + dl_i (sx_op u i)) → (¬ sx_op u i < 16 → ¬ sx_op u j < 16 → sm_i (cd_of u le) i j → 1 ≤ r.toInt) → post r) :
    wX_distance_49 post (nI j) (nI i) x3 (sx_nodeCount u) (sx_filterCount u) (sx_levelNow u) (sx_compiled u) (sx_needed u) (sx_pinned u) (sx_listEnd u) (sx_wordCount u) (sx_accumulator u) (sx_dueCount u) (sx_stepCount u) (sx_listLength u) (sx_listValue u) (sx_kindOf u) (sx_partX u) (sx_partY u) (sx_filterOf u) (sx_tapCount u) (sx_taps u) (sx_outputNode u) (sx_same u) (sx_holds u) (sx_registerOf u) (sx_isSaved u) (sx_op u) (sx_into u) (sx_first u) (sx_second u) (sx_number u) (sx_wordOf u) (sx_words u) (sx_memory u) (sx_ringAt u) (sx_register u) (sx_dueRegister u) (sx_dueValue u) (sx_dueWord u) := by
  have ii : vp_in (nI i) 300 := vp_in_nI hi (by omega)
  have ij : vp_in (nI j) 300 := vp_in_nI hj (by omega)
  unfold wX_distance_49
  rw [nI_clamp (n := i) (by omega), nI_clamp (n := j) (by omega)]
  refine ⟨ii, br_c (fun h1 => d107 (u := u) (le := le) hi hj hx (fun r a b c => K r a b (fun h => absurd h1 (Int32.not_lt.mpr h)) c)) (fun h1 => ⟨ii, ij, br_c (fun h2 => ?_) (fun h2 => d107 (u := u) (le := le) hi hj hx (fun r a b c => K r a b (fun _ h => absurd h h2) c))⟩)⟩
  refine ⟨ij, dy_ok ⟨ii, dy_ok ?_⟩⟩
  have e := ds_w _ _ (dl_12 (sx_op u j)).1 (dl_12 (sx_op u j)).2 (dl_12 (sx_op u i)).1 (dl_12 (sx_op u i)).2
  have d1 := dl_12 (sx_op u j)
  have d2 := dl_12 (sx_op u i)
  refine nm_e (br_c (fun h3 => ?_) (fun h3 => ?_))
  · have h3' := i3_le.mp h3
    rw [e] at h3'
    exact d107 (u := u) (le := le) hi hj hx (fun r a b c => K r a b (fun _ _ => by omega) c)
  · have h3' : ¬ _ ≤ _ := fun h => h3 (i3_le.mpr h)
    rw [e] at h3'
    refine d107 (u := u) (le := le) hi hj (by rw [e]; omega) (fun r a b c => K r ?_ b (fun _ _ => ?_) c)
    all_goals rw [e] at a; omega
theorem d29 {i j : Nat} {x3 : Int32} (hi : i < 300) (hj : j < 300) (hx : x3.toInt ≤ 2)
    (K : ∀ r : Int32, x3.toInt ≤ r.toInt → r.toInt ≤ 2 → (0 ≤ sx_into u i → rd_i (cd_of u le) j (sx_into u i) → 0 ≤ r.toInt) → (0 ≤ sx_into u i → sx_into u i = sx_into u j → (dl_i (sx_op u j) : Int) + 1 ≤ r.toInt + dl_i (sx_op u i)) → (¬ sx_op u i < 16 → ¬ sx_op u j < 16 → sm_i (cd_of u le) i j → 1 ≤ r.toInt) → post r) :
    wX_distance_29 post (nI j) (nI i) x3 (sx_nodeCount u) (sx_filterCount u) (sx_levelNow u) (sx_compiled u) (sx_needed u) (sx_pinned u) (sx_listEnd u) (sx_wordCount u) (sx_accumulator u) (sx_dueCount u) (sx_stepCount u) (sx_listLength u) (sx_listValue u) (sx_kindOf u) (sx_partX u) (sx_partY u) (sx_filterOf u) (sx_tapCount u) (sx_taps u) (sx_outputNode u) (sx_same u) (sx_holds u) (sx_registerOf u) (sx_isSaved u) (sx_op u) (sx_into u) (sx_first u) (sx_second u) (sx_number u) (sx_wordOf u) (sx_words u) (sx_memory u) (sx_ringAt u) (sx_register u) (sx_dueRegister u) (sx_dueValue u) (sx_dueWord u) := by
  have ii : vp_in (nI i) 300 := vp_in_nI hi (by omega)
  unfold wX_distance_29
  rw [nI_clamp (n := i) (by omega)]
  have z0 : (0 : Int32).toInt = 0 := by decide
  refine ⟨ii, rd_ok (u := u) (le := le) hj (fun h1 h2 => ?_) (fun h => br_t rfl (d49 (u := u) (le := le) hi hj hx (fun r a b c d => K r a b (fun h1 h2 => absurd ⟨h1, h2⟩ h) c d)))⟩
  refine br_f (by decide) (br_c (fun h3 => ?_) (fun h3 => ?_))
  · have h3' := i3_le.mp h3
    rw [z0] at h3'
    exact d49 (u := u) (le := le) hi hj hx (fun r a b c d => K r a b (fun _ _ => by omega) c d)
  · have h3' : ¬ _ ≤ _ := fun h => h3 (i3_le.mpr h)
    rw [z0] at h3'
    refine d49 (u := u) (le := le) hi hj (by rw [z0]; omega) (fun r a b c d => K r ?_ b (fun _ _ => ?_) c d)
    all_goals rw [z0] at a; omega
theorem ds_ok {i j : Nat} (hi : i < 300) (hj : j < 300)
    (K : ∀ r : Int32, -1000 ≤ r.toInt → r.toInt ≤ 2 → (0 ≤ sx_into u j → rd_i (cd_of u le) i (sx_into u j) → (dl_i (sx_op u j) : Int) ≤ r.toInt) → (0 ≤ sx_into u i → rd_i (cd_of u le) j (sx_into u i) → 0 ≤ r.toInt) → (0 ≤ sx_into u i → sx_into u i = sx_into u j → (dl_i (sx_op u j) : Int) + 1 ≤ r.toInt + dl_i (sx_op u i)) → (¬ sx_op u i < 16 → ¬ sx_op u j < 16 → sm_i (cd_of u le) i j → 1 ≤ r.toInt) → post r) :
    wpX_distance post u (nI j) (nI i) := by
  show wpX_distance post (sx_nodeCount u, sx_filterCount u, sx_levelNow u, sx_compiled u, sx_needed u, sx_pinned u, sx_listEnd u, sx_wordCount u, sx_accumulator u, sx_dueCount u, sx_stepCount u, sx_listLength u, sx_listValue u, sx_kindOf u, sx_partX u, sx_partY u, sx_filterOf u, sx_tapCount u, sx_taps u, sx_outputNode u, sx_same u, sx_holds u, sx_registerOf u, sx_isSaved u, sx_op u, sx_into u, sx_first u, sx_second u, sx_number u, sx_wordOf u, sx_words u, sx_memory u, sx_ringAt u, sx_register u, sx_dueRegister u, sx_dueValue u, sx_dueWord u) (nI j) (nI i)
  have ij : vp_in (nI j) 300 := vp_in_nI hj (by omega)
  unfold wpX_distance
  dsimp only
  rw [nI_clamp (n := j) (by omega)]
  have zm : (-1000 : Int32).toInt = -1000 := by decide
  have d1 := dl_12 (sx_op u j)
  have zd : (nI (dl_i (sx_op u j))).toInt = (dl_i (sx_op u j) : Int) := nI_toInt (by omega)
  refine ⟨ij, rd_ok (u := u) (le := le) hi (fun h1 h2 => br_f (by decide) ⟨ij, dy_ok ?_⟩) (fun h => br_t rfl ?_)⟩
  · refine d29 (u := u) (le := le) hi hj (by rw [zd]; omega) (fun r a b c d e => K r ?_ b (fun _ _ => ?_) c d e)
    all_goals rw [zd] at a; omega
  · refine d29 (u := u) (le := le) hi hj (by rw [zm]; omega) (fun r a b c d e => K r ?_ b (fun h1 h2 => absurd ⟨h1, h2⟩ h) c d e)
    rw [zm] at a; omega
end
end
section
/-! ===== two instructions in a word ===== -/
def si_ok (c : cd_T) (wo : Nat → Nat) (i wc : Nat) (wf ws : Nat → Int32) : Prop :=
  (∀ j, j < i → wf j = nI (wo j) ∧ wo j ≤ 2 * j ∧ wo j < wc) ∧ wc ≤ 2 * i ∧
  (∀ i', i' < i → ∀ j, j < i' → dp_ok c wo j i' (wo i') ∧ ((cd_o c i' < 16 ↔ cd_o c j < 16) → wo i' ≠ wo j)) ∧
  (∀ w, w < 605 → ∀ h, h < 2 → (ws (2 * w + h) = 0 ∧ ∀ j, j < i → wo j = w → hf_i (cd_o c j) ≠ h) ∨ (∃ j, j < i ∧ ws (2 * w + h) = nI (j + 1) ∧ wo j = w ∧ hf_i (cd_o c j) = h))
theorem hf_2 (o : Int32) : hf_i o < 2 := by unfold hf_i; split <;> omega
theorem hf_e {o o' : Int32} (h : o < 16 ↔ o' < 16) : hf_i o = hf_i o' := by
  unfold hf_i
  by_cases k : o < 16
  · rw [if_pos k, if_pos (h.mp k)]
  · rw [if_neg k, if_neg (fun z => k (h.mpr z))]
theorem dp_cg {c : cd_T} {wo wo' : Nat → Nat} {j i w : Nat} (e : wo' j = wo j) (h : dp_ok c wo j i w) : dp_ok c wo' j i w := by
  unfold dp_ok
  rw [e]
  exact h
theorem dp_mo {c : cd_T} {wo : Nat → Nat} {j i w w' : Nat} (e : w ≤ w') (h : dp_ok c wo j i w) : dp_ok c wo j i w' :=
  ⟨fun a b => Nat.le_trans (h.1 a b) e, fun a b => Nat.le_trans (h.2.1 a b) e, fun a b => Nat.le_trans (h.2.2.1 a b) (by omega), fun a b d => Nat.le_trans (h.2.2.2 a b d) e⟩
theorem si_st {c : cd_T} {wo : Nat → Nat} {i wc wc' wd : Nat} {wf ws : Nat → Int32} (S : si_ok c wo i wc wf ws) (h1 : wd ≤ 2 * i) (h2 : ∀ j, j < i → dp_ok c wo j i wd) (h3 : ws (2 * wd + hf_i (cd_o c i)) = 0) (hi : i < 300)
    (h4 : wc ≤ wc') (h5 : wd < wc') (h6 : wc' ≤ 2 * (i + 1)) :
    si_ok c (fun j => if j = i then wd else wo j) (i + 1) wc' (upd wf i (nI wd)) (upd ws (2 * wd + hf_i (cd_o c i)) (nI (i + 1))) := by
  obtain ⟨S1, S2, S3, S4⟩ := S
  have hh := hf_2 (cd_o c i)
  have free : ∀ j, j < i → wo j = wd → hf_i (cd_o c j) ≠ hf_i (cd_o c i) := by
    rcases S4 wd (by omega) _ hh with ⟨_, h⟩ | ⟨j, hj, e, _⟩
    · exact h
    · rw [h3] at e
      exact absurd e.symm (nI_ne0 (by omega) (by omega))
  have e1 : ∀ j, j < i → (if j = i then wd else wo j) = wo j := fun j hj => if_neg (by omega)
  refine ⟨?_, h6, ?_, ?_⟩
  · intro j hj
    dsimp only
    by_cases e : j = i
    · subst e
      rw [pk_us, if_pos rfl]
      exact ⟨rfl, h1, h5⟩
    · rw [pk_un e, if_neg e]
      obtain ⟨a, b, d⟩ := S1 j (by omega)
      exact ⟨a, b, by omega⟩
  · intro i' hi' j hj
    have ej := e1 j (by omega)
    by_cases e : i' = i
    · subst e
      refine ⟨dp_cg ej ?_, ?_⟩
      · dsimp only
        rw [if_pos rfl]
        exact h2 j hj
      · intro hs
        dsimp only
        rw [if_pos rfl, ej]
        exact fun hw => free j hj hw.symm (hf_e hs.symm)
    · have ei := e1 i' (by omega)
      obtain ⟨a, b⟩ := S3 i' (by omega) j hj
      refine ⟨dp_cg ej ?_, ?_⟩
      · dsimp only
        rw [ei]; exact a
      · dsimp only
        rw [ei, ej]; exact b
  · intro w hw h hh'
    by_cases e : 2 * w + h = 2 * wd + hf_i (cd_o c i)
    · have ew : w = wd := by omega
      have eh : h = hf_i (cd_o c i) := by omega
      rw [e, pk_us]
      exact Or.inr ⟨i, by omega, rfl, by dsimp only; rw [if_pos rfl, ew], eh.symm⟩
    · rw [pk_un e]
      rcases S4 w hw h hh' with ⟨a, b⟩ | ⟨j, hj, a, b, d⟩
      · refine Or.inl ⟨a, fun j hj hwj => ?_⟩
        dsimp only at hwj
        by_cases ej : j = i
        · subst ej
          rw [if_pos rfl] at hwj
          intro z
          exact e (by rw [hwj, z])
        · rw [if_neg ej] at hwj
          exact b j (by omega) hwj
      · exact Or.inr ⟨j, by omega, a, by dsimp only; rw [e1 j hj]; exact b, d⟩
section
variable {u : SX} {le : Nat} {post : SX → Prop}
theorem tb_h {w h : Nat} (hw : w < 2000) (hh : h < 2) : (2 * nI w) + nI h = nI (2 * w + h) := by rw [show (2 * nI w) = nI (2 * w) from pk_mul 2 w, nI_add]
/-- from a word on, to the first whose half is free -/
theorem c106 {J : Int32 → Int32 → (Nat → Int32) → (Nat → Int32) → (Nat → Int32) → (Nat → Int32) → (Nat → Int32) → (Nat → Int32) → (Nat → Int32) → (Nat → Int32) → (Nat → Int32) → (Nat → Int32) → (Nat → Int32) → (Nat → Int32) → (Nat → Int32) → (Nat → Int32) → (Nat → Int32) → (Nat → Int32) → (Nat → Int32) → (Nat → Int32) → (Nat → Int32) → (Nat → Int32) → (Nat → Int32) → (Nat → Int32) → (Nat → Int32) → (Nat → Int32) → (Nat → Int32) → (Nat → Int32) → Prop} {wo : Nat → Nat} {i wc : Nat} {wf ws : Nat → Int32} (S : si_ok (cd_of u le) wo i wc wf ws) (hi : i < 300)
    (K : ∀ (wo' : Nat → Nat) (wc' : Nat) (wf' ws' : Nat → Int32), si_ok (cd_of u le) wo' (i + 1) wc' wf' ws' → J (nI (i + 1)) (nI wc') (sx_listLength u) (sx_listValue u) (sx_kindOf u) (sx_partX u) (sx_partY u) (sx_filterOf u) (sx_tapCount u) (sx_taps u) (sx_outputNode u) (sx_same u) (sx_holds u) (sx_registerOf u) (sx_isSaved u) (sx_op u) (sx_into u) (sx_first u) (sx_second u) (sx_number u) (wf') (ws') (sx_memory u) (sx_ringAt u) (sx_register u) (sx_dueRegister u) (sx_dueValue u) (sx_dueWord u)) :
    ∀ (d wd : Nat), wd + d = 2 * i → (∀ j, j < i → dp_ok (cd_of u le) wo j i wd) → ∀ n, d < n →
      wX_schedule_106 post J (nI i) (nI (hf_i (sx_op u i))) (sx_nodeCount u) (sx_filterCount u) (sx_levelNow u) (sx_compiled u) (sx_needed u) (sx_pinned u) (sx_listEnd u) (nI wc) (sx_accumulator u) (sx_dueCount u) (sx_stepCount u) (sx_listLength u) (sx_listValue u) (sx_kindOf u) (sx_partX u) (sx_partY u) (sx_filterOf u) (sx_tapCount u) (sx_taps u) (sx_outputNode u) (sx_same u) (sx_holds u) (sx_registerOf u) (sx_isSaved u) (sx_op u) (sx_into u) (sx_first u) (sx_second u) (sx_number u) (wf) (ws) (sx_memory u) (sx_ringAt u) (sx_register u) (sx_dueRegister u) (sx_dueValue u) (sx_dueWord u) n (nI wd) := by
  have hh := hf_2 (sx_op u i)
  intro d
  induction d with
  | zero =>
    intro wd hwd hdp n hn
    obtain ⟨n, rfl⟩ : ∃ m, n = m + 1 := ⟨n - 1, by omega⟩
    rw [wX_schedule_106]
    dsimp only
    rw [tb_h (w := wd) (by omega) hh, nI_clamp (n := 2 * wd + hf_i (sx_op u i)) (by omega), nI_clamp (n := i) (by omega)]
    have i1 : vp_in (nI (2 * wd + hf_i (sx_op u i))) 1210 := vp_in_nI (by omega) (by omega)
    have ii : vp_in (nI i) 300 := vp_in_nI hi (by omega)
    have h3 : ws (2 * wd + hf_i (sx_op u i)) = 0 := by
      rcases S.2.2.2 wd (by omega) _ hh with ⟨h, _⟩ | ⟨j, hj, _, hw, _⟩
      · exact h
      · have := (S.1 j hj).2.1; omega
    have hwc := S.2.1
    refine ⟨i1, br_t h3 ⟨ii, nm_r (e' := upd wf i (nI wd)) (by rw [sn_vs (by omega)]) ⟨i1, nm_r (e' := upd ws (2 * wd + hf_i (sx_op u i)) (nI (i + 1))) (by rw [nI_1, sn_vs (by omega)]) ?_⟩⟩⟩
    refine br_f (nI_nlt (by omega) (by omega)) (nm_r (e' := nI (wd + 1)) (nI_1 _) (nm_r (e' := nI (i + 1)) (nI_1 _) ?_))
    exact K _ _ _ _ (si_st S (by omega) hdp h3 hi (by omega) (by omega) (by omega))
  | succ d ih =>
    intro wd hwd hdp n hn
    obtain ⟨n, rfl⟩ : ∃ m, n = m + 1 := ⟨n - 1, by omega⟩
    rw [wX_schedule_106]
    dsimp only
    rw [tb_h (w := wd) (by omega) hh, nI_clamp (n := 2 * wd + hf_i (sx_op u i)) (by omega), nI_clamp (n := i) (by omega)]
    have i1 : vp_in (nI (2 * wd + hf_i (sx_op u i))) 1210 := vp_in_nI (by omega) (by omega)
    have ii : vp_in (nI i) 300 := vp_in_nI hi (by omega)
    have hwc := S.2.1
    refine ⟨i1, br_c (fun h3 => ?_) (fun h3 => nm_r (e' := nI (wd + 1)) (nI_1 _) (ih (wd + 1) (by omega) (fun j hj => dp_mo (by omega) (hdp j hj)) n (by omega)))⟩
    refine ⟨ii, nm_r (e' := upd wf i (nI wd)) (by rw [sn_vs (by omega)]) ⟨i1, nm_r (e' := upd ws (2 * wd + hf_i (sx_op u i)) (nI (i + 1))) (by rw [nI_1, sn_vs (by omega)]) ?_⟩⟩
    refine pk_lt wd wc (fun h => ?_) (fun h => ?_)
    · refine nm_r (e' := nI (i + 1)) (nI_1 _) ?_
      exact K _ _ _ _ (si_st S (by omega) hdp h3 hi (Nat.le_refl _) (by omega) (by omega))
    · refine nm_r (e' := nI (wd + 1)) (nI_1 _) (nm_r (e' := nI (i + 1)) (nI_1 _) ?_)
      exact K _ _ _ _ (si_st S (by omega) hdp h3 hi (by omega) (by omega) (by omega))
theorem c87 {J : Int32 → Int32 → (Nat → Int32) → (Nat → Int32) → (Nat → Int32) → (Nat → Int32) → (Nat → Int32) → (Nat → Int32) → (Nat → Int32) → (Nat → Int32) → (Nat → Int32) → (Nat → Int32) → (Nat → Int32) → (Nat → Int32) → (Nat → Int32) → (Nat → Int32) → (Nat → Int32) → (Nat → Int32) → (Nat → Int32) → (Nat → Int32) → (Nat → Int32) → (Nat → Int32) → (Nat → Int32) → (Nat → Int32) → (Nat → Int32) → (Nat → Int32) → (Nat → Int32) → (Nat → Int32) → Prop} {wo : Nat → Nat} {i wc wd : Nat} {wf ws : Nat → Int32} (S : si_ok (cd_of u le) wo i wc wf ws) (hi : i < 300)
    (K : ∀ (wo' : Nat → Nat) (wc' : Nat) (wf' ws' : Nat → Int32), si_ok (cd_of u le) wo' (i + 1) wc' wf' ws' → J (nI (i + 1)) (nI wc') (sx_listLength u) (sx_listValue u) (sx_kindOf u) (sx_partX u) (sx_partY u) (sx_filterOf u) (sx_tapCount u) (sx_taps u) (sx_outputNode u) (sx_same u) (sx_holds u) (sx_registerOf u) (sx_isSaved u) (sx_op u) (sx_into u) (sx_first u) (sx_second u) (sx_number u) (wf') (ws') (sx_memory u) (sx_ringAt u) (sx_register u) (sx_dueRegister u) (sx_dueValue u) (sx_dueWord u))
    (hwd : wd ≤ 2 * i) (hdp : ∀ j, j < i → dp_ok (cd_of u le) wo j i wd) :
      wX_schedule_87 post J (nI i) (nI wd) (sx_nodeCount u) (sx_filterCount u) (sx_levelNow u) (sx_compiled u) (sx_needed u) (sx_pinned u) (sx_listEnd u) (nI wc) (sx_accumulator u) (sx_dueCount u) (sx_stepCount u) (sx_listLength u) (sx_listValue u) (sx_kindOf u) (sx_partX u) (sx_partY u) (sx_filterOf u) (sx_tapCount u) (sx_taps u) (sx_outputNode u) (sx_same u) (sx_holds u) (sx_registerOf u) (sx_isSaved u) (sx_op u) (sx_into u) (sx_first u) (sx_second u) (sx_number u) (wf) (ws) (sx_memory u) (sx_ringAt u) (sx_register u) (sx_dueRegister u) (sx_dueValue u) (sx_dueWord u) := by
  have L := c106 (post := post) S hi K (2 * i - wd) wd (by omega) hdp (2 * i - wd + 1) (by omega)
  unfold wX_schedule_87
  rw [nI_clamp (by omega)]
  refine ⟨vp_in_nI hi (by omega), im_ok (fun h => br_f (by decide) ⟨2 * i - wd + 1, ?_⟩) (fun h => br_t rfl ⟨2 * i - wd + 1, ?_⟩)⟩
  · rw [show hf_i (sx_op u i) = 1 from if_neg h] at L
    exact L
  · rw [show hf_i (sx_op u i) = 0 from if_pos h] at L
    exact L
theorem c52 {J : Int32 → Int32 → (Nat → Int32) → (Nat → Int32) → (Nat → Int32) → (Nat → Int32) → (Nat → Int32) → (Nat → Int32) → (Nat → Int32) → (Nat → Int32) → (Nat → Int32) → (Nat → Int32) → (Nat → Int32) → (Nat → Int32) → (Nat → Int32) → (Nat → Int32) → (Nat → Int32) → (Nat → Int32) → (Nat → Int32) → (Nat → Int32) → (Nat → Int32) → (Nat → Int32) → (Nat → Int32) → (Nat → Int32) → (Nat → Int32) → (Nat → Int32) → (Nat → Int32) → (Nat → Int32) → Prop} {wo : Nat → Nat} {i wc : Nat} {wf ws : Nat → Int32} (S : si_ok (cd_of u le) wo i wc wf ws) (hi : i < 300)
    (K : ∀ (wo' : Nat → Nat) (wc' : Nat) (wf' ws' : Nat → Int32), si_ok (cd_of u le) wo' (i + 1) wc' wf' ws' → J (nI (i + 1)) (nI wc') (sx_listLength u) (sx_listValue u) (sx_kindOf u) (sx_partX u) (sx_partY u) (sx_filterOf u) (sx_tapCount u) (sx_taps u) (sx_outputNode u) (sx_same u) (sx_holds u) (sx_registerOf u) (sx_isSaved u) (sx_op u) (sx_into u) (sx_first u) (sx_second u) (sx_number u) (wf') (ws') (sx_memory u) (sx_ringAt u) (sx_register u) (sx_dueRegister u) (sx_dueValue u) (sx_dueWord u)) :
    ∀ (d j wd : Nat), j + d = i → wd ≤ 2 * j → (∀ j', j' < j → dp_ok (cd_of u le) wo j' i wd) → ∀ n, d < n →
      wX_schedule_52 post J (nI i) (sx_nodeCount u) (sx_filterCount u) (sx_levelNow u) (sx_compiled u) (sx_needed u) (sx_pinned u) (sx_listEnd u) (nI wc) (sx_accumulator u) (sx_dueCount u) (sx_stepCount u) (sx_listLength u) (sx_listValue u) (sx_kindOf u) (sx_partX u) (sx_partY u) (sx_filterOf u) (sx_tapCount u) (sx_taps u) (sx_outputNode u) (sx_same u) (sx_holds u) (sx_registerOf u) (sx_isSaved u) (sx_op u) (sx_into u) (sx_first u) (sx_second u) (sx_number u) (wf) (ws) (sx_memory u) (sx_ringAt u) (sx_register u) (sx_dueRegister u) (sx_dueValue u) (sx_dueWord u) n (nI wd) (nI j) := by
  intro d
  induction d with
  | zero =>
    intro j wd hj hwd hdp n hn
    obtain ⟨n, rfl⟩ : ∃ m, n = m + 1 := ⟨n - 1, by omega⟩
    have : j = i := by omega
    subst this
    rw [wX_schedule_52]
    exact br_t (nI_le (by omega) (by omega)) (c87 S hi K hwd hdp)
  | succ d ih =>
    intro j wd hj hwd hdp n hn
    obtain ⟨n, rfl⟩ : ∃ m, n = m + 1 := ⟨n - 1, by omega⟩
    rw [wX_schedule_52]
    refine br_f (nI_ge (by omega) (by omega)) ⟨vp_in_nI (by omega) (by omega), ?_⟩
    refine ds_ok (u := (sx_nodeCount u, sx_filterCount u, sx_levelNow u, sx_compiled u, sx_needed u, sx_pinned u, sx_listEnd u, nI wc, sx_accumulator u, sx_dueCount u, sx_stepCount u, sx_listLength u, sx_listValue u, sx_kindOf u, sx_partX u, sx_partY u, sx_filterOf u, sx_tapCount u, sx_taps u, sx_outputNode u, sx_same u, sx_holds u, sx_registerOf u, sx_isSaved u, sx_op u, sx_into u, sx_first u, sx_second u, sx_number u, wf, ws, sx_memory u, sx_ringAt u, sx_register u, sx_dueRegister u, sx_dueValue u, sx_dueWord u)) (le := le) hi (by omega) (fun r hr0 hr2 k1 k2 k3 k4 => ?_)
    obtain ⟨s1, s2, s3⟩ := S.1 j (by omega)
    rw [nI_clamp (by omega), s1]
    have eN : (nI (wo j)).toInt = (wo j : Int) := nI_toInt (by omega)
    have eW : (nI wd).toInt = (wd : Int) := nI_toInt (by omega)
    have ea : (nI (wo j) + r).toInt = (wo j : Int) + r.toInt := by
      rw [Int32.toInt_add, eN]
      exact Int.bmod_eq_of_le (by omega) (by omega)
    have dp : ∀ w' : Nat, (wo j : Int) + r.toInt ≤ w' → dp_ok (cd_of u le) wo j i w' := by
      intro w' hw'
      refine ⟨fun a b => ?_, fun a b => ?_, fun a b => ?_, fun a b e => ?_⟩
      · have := k1 a b
        have : (dl_i (cd_o (cd_of u le) j) : Int) ≤ r.toInt := this
        omega
      · have := k2 a b; omega
      · have := k3 a b
        have : (dl_i (cd_o (cd_of u le) j) : Int) + 1 ≤ r.toInt + dl_i (cd_o (cd_of u le) i) := this
        omega
      · have := k4 a b e; omega
    refine nm_e (br_c (fun h => ?_) (fun h => ?_))
    · have h' := i3_le.mp h
      rw [ea, eW] at h'
      refine nm_r (e' := nI (j + 1)) (nI_1 _) (ih (j + 1) wd (by omega) (by omega) (fun j' hj' => ?_) n (by omega))
      by_cases e : j' = j
      · subst e; exact dp wd h'
      · exact hdp j' (by omega)
    · have h' : ¬ _ ≤ _ := fun z => h (i3_le.mpr z)
      rw [ea, eW] at h'
      obtain ⟨wd', hwd'⟩ : ∃ wd' : Nat, (wd' : Int) = (wo j : Int) + r.toInt := ⟨((wo j : Int) + r.toInt).toNat, by omega⟩
      have er : nI (wo j) + r = nI wd' := by
        apply Int32.toInt_inj.mp
        rw [ea, nI_toInt (by omega), hwd']
      rw [er]
      refine nm_r (e' := nI (j + 1)) (nI_1 _) (ih (j + 1) wd' (by omega) (by omega) (fun j' hj' => ?_) n (by omega))
      by_cases e : j' = j
      · subst e; exact dp wd' (by omega)
      · exact dp_mo (by omega) (hdp j' (by omega))
theorem c29 {lv : Nat} (hl : sx_levelNow u = nI lv) (hlv : lv ≤ 2) (hL : sx_listEnd u = nI le) (hle : le ≤ 300)
    (K : ∀ (wo' : Nat → Nat) (wc' : Nat) (wf' ws' : Nat → Int32), si_ok (cd_of u le) wo' le wc' wf' ws' → post (sx_nodeCount u, sx_filterCount u, sx_levelNow u, sx_compiled u, sx_needed u, sx_pinned u, sx_listEnd u, nI wc', sx_accumulator u, sx_dueCount u, sx_stepCount u, sx_listLength u, sx_listValue u, sx_kindOf u, sx_partX u, sx_partY u, sx_filterOf u, sx_tapCount u, sx_taps u, sx_outputNode u, sx_same u, sx_holds u, sx_registerOf u, sx_isSaved u, sx_op u, sx_into u, sx_first u, sx_second u, sx_number u, wf', ws', sx_memory u, sx_ringAt u, sx_register u, sx_dueRegister u, sx_dueValue u, sx_dueWord u)) :
    ∀ (d i : Nat) (wo : Nat → Nat) (wc : Nat) (wf ws : Nat → Int32), i + d = le → si_ok (cd_of u le) wo i wc wf ws → ∀ n, d < n →
      wX_schedule_29 post (sx_nodeCount u) (sx_filterCount u) (sx_levelNow u) (sx_compiled u) (sx_needed u) (sx_pinned u) (sx_listEnd u) (sx_accumulator u) (sx_dueCount u) (sx_stepCount u) n (nI i) (nI wc) (sx_listLength u) (sx_listValue u) (sx_kindOf u) (sx_partX u) (sx_partY u) (sx_filterOf u) (sx_tapCount u) (sx_taps u) (sx_outputNode u) (sx_same u) (sx_holds u) (sx_registerOf u) (sx_isSaved u) (sx_op u) (sx_into u) (sx_first u) (sx_second u) (sx_number u) (wf) (ws) (sx_memory u) (sx_ringAt u) (sx_register u) (sx_dueRegister u) (sx_dueValue u) (sx_dueWord u) := by
  intro d
  induction d with
  | zero =>
    intro i wo wc wf ws hi S n hn
    obtain ⟨n, rfl⟩ : ∃ m, n = m + 1 := ⟨n - 1, by omega⟩
    have : i = le := by omega
    subst this
    rw [wX_schedule_29]
    exact br_t (by rw [hL]; exact nI_le (by omega) (by omega)) (K wo wc wf ws S)
  | succ d ih =>
    intro i wo wc wf ws hi S n hn
    obtain ⟨n, rfl⟩ : ∃ m, n = m + 1 := ⟨n - 1, by omega⟩
    rw [wX_schedule_29]
    refine br_f (by rw [hL]; exact nI_ge (by omega) (by omega)) (nm_r (e' := nI (2 * i)) (pk_mul 2 i) ?_)
    have K' : ∀ (wo' : Nat → Nat) (wc' : Nat) (wf' ws' : Nat → Int32), si_ok (cd_of u le) wo' (i + 1) wc' wf' ws' → wX_schedule_29 post (sx_nodeCount u) (sx_filterCount u) (sx_levelNow u) (sx_compiled u) (sx_needed u) (sx_pinned u) (sx_listEnd u) (sx_accumulator u) (sx_dueCount u) (sx_stepCount u) n (nI (i + 1)) (nI wc') (sx_listLength u) (sx_listValue u) (sx_kindOf u) (sx_partX u) (sx_partY u) (sx_filterOf u) (sx_tapCount u) (sx_taps u) (sx_outputNode u) (sx_same u) (sx_holds u) (sx_registerOf u) (sx_isSaved u) (sx_op u) (sx_into u) (sx_first u) (sx_second u) (sx_number u) (wf') (ws') (sx_memory u) (sx_ringAt u) (sx_register u) (sx_dueRegister u) (sx_dueValue u) (sx_dueWord u) :=
      fun wo' wc' wf' ws' S' => ih (i + 1) wo' wc' wf' ws' (by omega) S' n (by omega)
    refine br_c (fun h => ?_) (fun h => ⟨i + 1, ?_⟩)
    · refine c87 S (by omega) K' (Nat.le_refl _) (fun j hj => ?_)
      obtain ⟨s1, s2, s3⟩ := S.1 j hj
      have d1 := dl_12 (cd_o (cd_of u le) j)
      have d2 := dl_12 (cd_o (cd_of u le) i)
      exact ⟨fun _ _ => by omega, fun _ _ => by omega, fun _ _ => by omega, fun _ _ _ => by omega⟩
    · exact c52 S (by omega) K' i 0 0 (by omega) (by omega) (fun j' hj' => absurd hj' (by omega)) (i + 1) (by omega)
theorem cw_2 {lv : Nat} (hl : sx_levelNow u = nI lv) (hlv : lv ≤ 2) (hL : sx_listEnd u = nI le) (hle : le ≤ 300)
    (K : ∀ (wo' : Nat → Nat) (wc' : Nat) (wf' ws' : Nat → Int32), si_ok (cd_of u le) wo' le wc' wf' ws' → post (sx_nodeCount u, sx_filterCount u, sx_levelNow u, sx_compiled u, sx_needed u, sx_pinned u, sx_listEnd u, nI wc', sx_accumulator u, sx_dueCount u, sx_stepCount u, sx_listLength u, sx_listValue u, sx_kindOf u, sx_partX u, sx_partY u, sx_filterOf u, sx_tapCount u, sx_taps u, sx_outputNode u, sx_same u, sx_holds u, sx_registerOf u, sx_isSaved u, sx_op u, sx_into u, sx_first u, sx_second u, sx_number u, wf', ws', sx_memory u, sx_ringAt u, sx_register u, sx_dueRegister u, sx_dueValue u, sx_dueWord u)) :
    ∀ (d w : Nat) (ws : Nat → Int32), w + d = 1210 → (∀ x, x < w → ws x = 0) → ∀ n, d < n →
      wX_schedule_2 post (sx_nodeCount u) (sx_filterCount u) (sx_levelNow u) (sx_compiled u) (sx_needed u) (sx_pinned u) (sx_listEnd u) (sx_wordCount u) (sx_accumulator u) (sx_dueCount u) (sx_stepCount u) n (nI w) (sx_listLength u) (sx_listValue u) (sx_kindOf u) (sx_partX u) (sx_partY u) (sx_filterOf u) (sx_tapCount u) (sx_taps u) (sx_outputNode u) (sx_same u) (sx_holds u) (sx_registerOf u) (sx_isSaved u) (sx_op u) (sx_into u) (sx_first u) (sx_second u) (sx_number u) (sx_wordOf u) (ws) (sx_memory u) (sx_ringAt u) (sx_register u) (sx_dueRegister u) (sx_dueValue u) (sx_dueWord u) := by
  intro d
  induction d with
  | zero =>
    intro w ws hw hz n hn
    obtain ⟨n, rfl⟩ : ∃ m, n = m + 1 := ⟨n - 1, by omega⟩
    rw [wX_schedule_2]
    refine br_t (nI_le (a := 1210) (by omega) (by omega)) ⟨le + 1, ?_⟩
    refine c29 hl hlv hL hle K le 0 (fun _ => 0) 0 (sx_wordOf u) ws (by omega) ⟨fun j hj => absurd hj (by omega), by omega, fun j hj => absurd hj (by omega), fun w' hw' h hh => Or.inl ⟨hz _ (by omega), fun j hj => absurd hj (by omega)⟩⟩ (le + 1) (by omega)
  | succ d ih =>
    intro w ws hw hz n hn
    obtain ⟨n, rfl⟩ : ∃ m, n = m + 1 := ⟨n - 1, by omega⟩
    rw [wX_schedule_2]
    refine br_f (nI_ge (b := 1210) (by omega) (by omega)) ⟨vp_in_nI (by omega) (by omega), nm_r (e' := upd ws w 0) (by rw [nI_clamp (by omega)]; exact congrArg (upd ws w) (by rw [vp_nar_short]; decide)) (nm_r (e' := nI (w + 1)) (nI_1 _) (ih (w + 1) _ (by omega) (fun x hx => ?_) n (by omega)))⟩
    by_cases e : x = w
    · subst e; exact pk_us
    · rw [pk_un e]; exact hz x (by omega)
theorem sh_ok {lv : Nat} (hl : sx_levelNow u = nI lv) (hlv : lv ≤ 2) (hL : sx_listEnd u = nI le) (hle : le ≤ 300) (wf : wc_ok (sx_tapCount u) (cd_of u le))
    (K : ∀ (wo : Nat → Nat) (wc : Nat) (wf' ws' : Nat → Int32), pg_ok (sx_nodeCount u, sx_filterCount u, sx_levelNow u, sx_compiled u, sx_needed u, sx_pinned u, sx_listEnd u, nI wc, sx_accumulator u, sx_dueCount u, sx_stepCount u, sx_listLength u, sx_listValue u, sx_kindOf u, sx_partX u, sx_partY u, sx_filterOf u, sx_tapCount u, sx_taps u, sx_outputNode u, sx_same u, sx_holds u, sx_registerOf u, sx_isSaved u, sx_op u, sx_into u, sx_first u, sx_second u, sx_number u, wf', ws', sx_memory u, sx_ringAt u, sx_register u, sx_dueRegister u, sx_dueValue u, sx_dueWord u) le wo wc → post (sx_nodeCount u, sx_filterCount u, sx_levelNow u, sx_compiled u, sx_needed u, sx_pinned u, sx_listEnd u, nI wc, sx_accumulator u, sx_dueCount u, sx_stepCount u, sx_listLength u, sx_listValue u, sx_kindOf u, sx_partX u, sx_partY u, sx_filterOf u, sx_tapCount u, sx_taps u, sx_outputNode u, sx_same u, sx_holds u, sx_registerOf u, sx_isSaved u, sx_op u, sx_into u, sx_first u, sx_second u, sx_number u, wf', ws', sx_memory u, sx_ringAt u, sx_register u, sx_dueRegister u, sx_dueValue u, sx_dueWord u)) : wpX_schedule post u := by
  show wpX_schedule post (sx_nodeCount u, sx_filterCount u, sx_levelNow u, sx_compiled u, sx_needed u, sx_pinned u, sx_listEnd u, sx_wordCount u, sx_accumulator u, sx_dueCount u, sx_stepCount u, sx_listLength u, sx_listValue u, sx_kindOf u, sx_partX u, sx_partY u, sx_filterOf u, sx_tapCount u, sx_taps u, sx_outputNode u, sx_same u, sx_holds u, sx_registerOf u, sx_isSaved u, sx_op u, sx_into u, sx_first u, sx_second u, sx_number u, sx_wordOf u, sx_words u, sx_memory u, sx_ringAt u, sx_register u, sx_dueRegister u, sx_dueValue u, sx_dueWord u)
  unfold wpX_schedule
  refine ⟨1211, cw_2 hl hlv hL hle (fun wo wc wf' ws' S => K wo wc wf' ws' ⟨wf, ?_, ?_, rfl⟩) 1210 0 (sx_words u) (by omega) (fun x hx => absurd hx (by omega)) 1211 (by omega)⟩
  · exact fun i hi j hj => S.2.2.1 i hi j hj
  · have h2 := S.2.1
    refine ⟨by omega, hle, fun i hi => (S.1 i hi).2.2, fun w hw h hh => ?_⟩
    exact S.2.2.2 w (by omega) h hh
end
end
section
/-! ===== the nodes: kinds, parts; a node's value ===== -/
abbrev sg_T : Type := (Nat → Int32) × (Nat → Int32) × (Nat → Int32) × (Nat → Int32) × (Nat → Int32) × (Nat → Int32)
def sg_k (g : sg_T) : Nat → Int32 := g.1
def sg_x (g : sg_T) : Nat → Int32 := g.2.1
def sg_y (g : sg_T) : Nat → Int32 := g.2.2.1
def sg_f (g : sg_T) : Nat → Int32 := g.2.2.2.1
def sg_t (g : sg_T) : Nat → Int32 := g.2.2.2.2.1
def sg_p (g : sg_T) : Nat → Int32 := g.2.2.2.2.2
def sg_of (u : SX) : sg_T := (sx_kindOf u, sx_partX u, sx_partY u, sx_filterOf u, sx_tapCount u, sx_taps u)
def kn (g : sg_T) (n : Nat) : Nat := (sg_k g n).toNatClampNeg
def xn (g : sg_T) (n : Nat) : Nat := (sg_x g n).toNatClampNeg
def yn (g : sg_T) (n : Nat) : Nat := (sg_y g n).toNatClampNeg
def tw (k : Nat) : Prop := k = 2 ∨ k = 3 ∨ k = 9 ∨ k = 10
def rk (g : sg_T) : Nat → Nat
  | 0 => 0
  | n + 1 => rk g n + if kn g n = 6 then 1 else 0
def ft_h (tc M G : Nat → Int32) (f : Nat) (x : Int32) (k : Nat) : Int32 := upd M (rp_a tc G (nI (8 * f))) x (rp_a tc G (nI (8 * f + k)))
def ft_a (tc tp M G : Nat → Int32) (f : Nat) (x : Int32) : Nat → Int64
  | 0 => 0
  | k + 1 => ft_a tc tp M G f x k + (ft_h tc M G f x k * tp (6 * f + k)).toInt64
def ft_v (tc tp M G : Nat → Int32) (f : Nat) (x : Int32) (l : Nat) : Int32 := cl_v ((ft_a tc tp M G f x l + 16384) >>> ((15 : Int32).toInt64 &&& 63))
def nd_v (g : sg_T) (M G V : Nat → Int32) (n : Nat) : Int32 :=
  if kn g n = 0 then M (xn g n) else if kn g n = 1 then sg_x g n else if kn g n = 5 then M (8 + n)
  else if kn g n = 6 then ft_v (sg_t g) (sg_p g) M G (rk g n) (V (xn g n)) (sg_t g (rk g n)).toNatClampNeg
  else if kn g n = 4 then ca_v 10 (sg_y g n) (V (xn g n)) (sg_y g n) 0
  else ca_v (sg_k g n) (sg_y g n) (V (xn g n)) (V (yn g n)) 0
def vs_x (g : sg_T) (M G : Nat → Int32) : Nat → (Nat → Int32)
  | 0 => fun _ => 0
  | n + 1 => upd (vs_x g M G n) n (nd_v g M G (vs_x g M G n) n)
def vx (g : sg_T) (M G : Nat → Int32) (n : Nat) : Int32 := vs_x g M G (n + 1) n
/-- what holds of a node -/
def sn_ok (g : sg_T) (n : Nat) : Prop :=
  sg_k g n = nI (kn g n) ∧ kn g n ≤ 10 ∧ (kn g n = 0 → sg_x g n = nI (xn g n) ∧ xn g n < 2) ∧
  (2 ≤ kn g n → sg_x g n = nI (xn g n) ∧ xn g n < 24 ∧ (kn g n ≠ 5 → xn g n < n)) ∧
  (tw (kn g n) → sg_y g n = nI (yn g n) ∧ yn g n < n) ∧
  (kn g n = 6 → sg_f g n = nI (rk g n) ∧ rk g n < 4 ∧ ∃ l, 0 < l ∧ l ≤ 6 ∧ sg_t g (rk g n) = nI l)
def so_ok (g : sg_T) (N : Nat) : Prop := N ≤ 24 ∧ (∀ n, n < N → sn_ok g n) ∧ rk g N ≤ 4
def vd_ok (g : sg_T) (N : Nat) : Prop := ∀ n, n < N → kn g n = 5 → xn g n < N
theorem rk_mono (g : sg_T) : ∀ d n, rk g n ≤ rk g (n + d) := by
  intro d
  induction d with
  | zero => intro n; exact Nat.le_refl _
  | succ d ih => intro n; have := ih n; show rk g n ≤ rk g (n + d) + _; omega
theorem rk_lt {g : sg_T} {n m : Nat} (h : n < m) (k : kn g n = 6) : rk g n < rk g m := by
  have h1 := rk_mono g (m - (n + 1)) (n + 1)
  rw [show n + 1 + (m - (n + 1)) = m by omega] at h1
  have h2 : rk g (n + 1) = rk g n + 1 := by show rk g n + (if kn g n = 6 then 1 else 0) = _; rw [if_pos k]
  omega
theorem rk_inj {g : sg_T} {n m : Nat} (kn1 : kn g n = 6) (kn2 : kn g m = 6) (e : rk g n = rk g m) : n = m := by
  rcases Nat.lt_trichotomy n m with h | h | h
  · have := rk_lt h kn1; omega
  · exact h
  · have := rk_lt h kn2; omega
theorem nd_cg {g : sg_T} {M G V V' : Nat → Int32} {n : Nat} (hs : sn_ok g n) (h1 : 2 ≤ kn g n → kn g n ≠ 5 → V (xn g n) = V' (xn g n)) (h2 : tw (kn g n) → V (yn g n) = V' (yn g n)) : nd_v g M G V n = nd_v g M G V' n := by
  unfold nd_v
  by_cases k0 : kn g n = 0
  · rw [if_pos k0, if_pos k0]
  rw [if_neg k0, if_neg k0]
  by_cases k1 : kn g n = 1
  · rw [if_pos k1, if_pos k1]
  rw [if_neg k1, if_neg k1]
  by_cases k5 : kn g n = 5
  · rw [if_pos k5, if_pos k5]
  rw [if_neg k5, if_neg k5, h1 (by omega) k5]
  by_cases k6 : kn g n = 6
  · rw [if_pos k6, if_pos k6]
  rw [if_neg k6, if_neg k6]
  by_cases k4 : kn g n = 4
  · rw [if_pos k4, if_pos k4]
  rw [if_neg k4, if_neg k4]
  have hk := hs.1
  by_cases k7 : kn g n = 7
  · rw [hk, k7]; exact ca_7
  by_cases k8 : kn g n = 8
  · rw [hk, k8]; exact ca_8
  rw [h2 (by have := hs.2.1; unfold tw; omega)]
theorem vs_lo (g : sg_T) (M G : Nat → Int32) (n : Nat) : ∀ d, vs_x g M G (n + 1 + d) n = vx g M G n := by
  intro d
  induction d with
  | zero => rfl
  | succ d ih =>
    show upd (vs_x g M G (n + 1 + d)) (n + 1 + d) _ n = _
    rw [pk_un (by omega)]
    exact ih
theorem vs_lt (g : sg_T) (M G : Nat → Int32) {n k : Nat} (h : n < k) : vs_x g M G k n = vx g M G n := by
  have := vs_lo g M G n (k - (n + 1))
  rw [show n + 1 + (k - (n + 1)) = k by omega] at this
  exact this
theorem vx_eq {g : sg_T} {M G : Nat → Int32} {n : Nat} (hs : sn_ok g n) : vx g M G n = nd_v g M G (vx g M G) n := by
  show upd (vs_x g M G n) n (nd_v g M G (vs_x g M G n) n) n = _
  rw [pk_us]
  exact nd_cg hs (fun h1 h2 => vs_lt g M G ((hs.2.2.2.1 h1).2.2 h2)) (fun h => vs_lt g M G (hs.2.2.2.2.1 h).2)
/-- two nodes that are built alike -/
def al_ok (g : sg_T) (sm : Nat → Nat) (m n : Nat) : Prop :=
  kn g m = kn g n ∧ (kn g n < 2 → sg_x g m = sg_x g n) ∧
  (2 ≤ kn g n → sm (xn g m) = sm (xn g n) ∧ (tw (kn g n) → sm (yn g m) = sm (yn g n)) ∧ (¬ tw (kn g n) → kn g n ≠ 8 → sg_y g m = sg_y g n))
def sa_ok (g : sg_T) (N : Nat) (sm : Nat → Nat) : Prop :=
  ∀ n, n < N → sm n ≤ n ∧ sm (sm n) = sm n ∧ (kn g n = 5 ∨ kn g n = 6 → sm n = n) ∧ (sm n ≠ n → al_ok g sm (sm n) n)
theorem vx_sm {g : sg_T} {N : Nat} {sm : Nat → Nat} {M G : Nat → Int32} (hs : so_ok g N) (ha : sa_ok g N sm) : ∀ n, n < N → vx g M G (sm n) = vx g M G n := by
  intro n
  induction n using Nat.strongRecOn with
  | ind n ih =>
    intro hn
    obtain ⟨a1, a2, a3, a4⟩ := ha n hn
    by_cases e : sm n = n
    · rw [e]
    obtain ⟨b1, b2, b3⟩ := a4 e
    have n5 : kn g n ≠ 5 := fun h => e (a3 (Or.inl h))
    have n6 : kn g n ≠ 6 := fun h => e (a3 (Or.inr h))
    have s1 := hs.2.1 n hn
    have s2 := hs.2.1 (sm n) (by omega)
    rw [vx_eq s1, vx_eq s2]
    have ex : 2 ≤ kn g n → vx g M G (xn g (sm n)) = vx g M G (xn g n) := by
      intro h
      have p1 := (s1.2.2.2.1 h).2.2 n5
      have p2 := (s2.2.2.2.1 (by omega)).2.2 (by omega)
      rw [← ih (xn g (sm n)) (by omega) (by omega), ← ih (xn g n) p1 (by omega), (b3 h).1]
    have ey : tw (kn g n) → vx g M G (yn g (sm n)) = vx g M G (yn g n) := by
      intro h
      have p1 := (s1.2.2.2.2.1 h).2
      have p2 := (s2.2.2.2.2.1 (by rw [b1]; exact h)).2
      have h2 : 2 ≤ kn g n := by unfold tw at h; omega
      rw [← ih (yn g (sm n)) (by omega) (by omega), ← ih (yn g n) p1 (by omega), (b3 h2).2.1 h]
    unfold nd_v
    rw [b1, if_neg n5, if_neg n5, if_neg n6, if_neg n6]
    by_cases k0 : kn g n = 0
    · rw [if_pos k0, if_pos k0]
      have := b2 (by omega)
      unfold xn
      rw [this]
    rw [if_neg k0, if_neg k0]
    by_cases k1 : kn g n = 1
    · rw [if_pos k1, if_pos k1, b2 (by omega)]
    rw [if_neg k1, if_neg k1]
    have h2 : 2 ≤ kn g n := by omega
    rw [ex h2]
    have ek : sg_k g (sm n) = sg_k g n := by rw [s1.1, s2.1, b1]
    by_cases k4 : kn g n = 4
    · rw [if_pos k4, if_pos k4, (b3 h2).2.2 (by unfold tw; omega) (by omega)]
    rw [if_neg k4, if_neg k4, ek, s1.1]
    by_cases k7 : kn g n = 7
    · rw [(b3 h2).2.2 (by unfold tw; omega) (by omega), k7]; exact ca_7
    by_cases k8 : kn g n = 8
    · rw [k8]; exact ca_8
    have ht : tw (kn g n) := by have := s1.2.1; unfold tw; omega
    rw [ey ht]
    rcases ht with k | k | k | k <;> rw [k]
    · show ca_v 2 _ _ _ _ = ca_v 2 _ _ _ _
      rw [cv_2, cv_2]
    · show ca_v 3 _ _ _ _ = ca_v 3 _ _ _ _
      rw [cv_3, cv_3]
    · show ca_v 9 _ _ _ _ = ca_v 9 _ _ _ _
      rw [cv_9, cv_9]
    · show ca_v 10 _ _ _ _ = ca_v 10 _ _ _ _
      rw [cv_10, cv_10]
end
section
/-! ===== bits ===== -/
theorem bi_1 : ∀ i, i < 32 → bt 1 i = decide (i = 0) := by decide +kernel
theorem bi_a (y : Int32) : (y &&& 1) = 0 ↔ bt y 0 = false := by
  constructor
  · intro h
    have := b_and y 1 0
    rw [h, b_0, bi_1 0 (by omega)] at this
    simpa using this.symm
  · intro h
    apply b_ext
    intro i hi
    rw [b_and, b_0, bi_1 i hi]
    by_cases e : i = 0
    · subst e; rw [h]; rfl
    · rw [decide_eq_false e, Bool.and_false]
theorem bi_t (x : Int32) {n : Nat} (hn : n < 32) : ((x >>> (nI n &&& 31)) &&& 1) = 0 ↔ bt x n = false := by
  rw [bi_a, b_sshr n hn x (i := 0) (by omega), if_pos (by omega)]
  rfl
theorem bi_s (x : Int32) {n i : Nat} (hn : n < 32) (hi : i < 32) : bt (x ||| ((1 : Int32) <<< (nI n &&& 31))) i = (bt x i || decide (i = n)) := by
  rw [b_or, b_shl n hn 1 hi]
  by_cases h : n ≤ i
  · rw [bi_1 (i - n) (by omega), decide_eq_true h]
    by_cases e : i = n
    · subst e; simp
    · rw [decide_eq_false (show ¬ i - n = 0 by omega), decide_eq_false e]; simp
  · rw [decide_eq_false h, decide_eq_false (show ¬ i = n by omega)]; simp
def nd_u (u : SX) (n : Nat) : Prop := bt (sx_needed u) n = true
def sm_u (u : SX) (n : Nat) : Nat := (sx_same u n).toNatClampNeg
/-- what is known when instructions are listed -/
def cs_ok (u : SX) (N : Nat) : Prop :=
  so_ok (sg_of u) N ∧ vd_ok (sg_of u) N ∧ sx_nodeCount u = nI N ∧ sa_ok (sg_of u) N (sm_u u) ∧ (∀ n, n < N → sx_same u n = nI (sm_u u n)) ∧
  (∀ n, n < N → nd_u u n → 2 ≤ kn (sg_of u) n → nd_u u (sm_u u (xn (sg_of u) n)) ∧ (tw (kn (sg_of u) n) → nd_u u (sm_u u (yn (sg_of u) n)))) ∧
  (∀ o, o < 4 → sx_outputNode u o = -1 ∨ ∃ q, q < N ∧ sx_outputNode u o = nI q ∧ nd_u u (sm_u u q))
section
variable {u : SX} {post : Int32 → Prop}
theorem in_ok {n : Nat} (hn : n < 32) (h1 : nd_u u n → post 1) (h0 : ¬ nd_u u n → post 0) : wpX_isNeeded post u (nI n) := by
  show wpX_isNeeded post (sx_nodeCount u, sx_filterCount u, sx_levelNow u, sx_compiled u, sx_needed u, sx_pinned u, sx_listEnd u, sx_wordCount u, sx_accumulator u, sx_dueCount u, sx_stepCount u, sx_listLength u, sx_listValue u, sx_kindOf u, sx_partX u, sx_partY u, sx_filterOf u, sx_tapCount u, sx_taps u, sx_outputNode u, sx_same u, sx_holds u, sx_registerOf u, sx_isSaved u, sx_op u, sx_into u, sx_first u, sx_second u, sx_number u, sx_wordOf u, sx_words u, sx_memory u, sx_ringAt u, sx_register u, sx_dueRegister u, sx_dueValue u, sx_dueWord u) (nI n)
  unfold wpX_isNeeded
  dsimp only
  refine br_c (fun h => h0 ?_) (fun h => h1 ?_)
  · have := (bi_t _ hn).mp h
    unfold nd_u; rw [this]; decide
  · have : ¬ bt (sx_needed u) n = false := fun z => h ((bi_t _ hn).mpr z)
    unfold nd_u
    cases hb : bt (sx_needed u) n
    · exact absurd hb this
    · rfl
theorem ht_ok {k : Nat} (hk : k ≤ 10) (h1 : tw k → post 1) (h0 : ¬ tw k → post 0) : wpX_hasTwo post u (nI k) := by
  unfold wpX_hasTwo
  refine pk_eq k 2 (fun e => h1 (Or.inl e)) (fun e2 => ?_)
  refine pk_eq k 3 (fun e => h1 (Or.inr (Or.inl e))) (fun e3 => ?_)
  refine pk_lt k 9 (fun e => h0 ?_) (fun e => h1 ?_)
  · unfold tw; omega
  · unfold tw; omega
end
/-- node n is used at place q or later -/
def us_u (u : SX) (N n q : Nat) : Prop :=
  ∃ m, m < N ∧ nd_u u m ∧ ((2 ≤ kn (sg_of u) m ∧ kn (sg_of u) m ≠ 5 ∧ q ≤ m ∧ (sm_u u (xn (sg_of u) m) = n ∨ (tw (kn (sg_of u) m) ∧ sm_u u (yn (sg_of u) m) = n))) ∨ (kn (sg_of u) m = 5 ∧ q ≤ 100 + m ∧ sm_u u (xn (sg_of u) m) = n))
theorem us_mo {u : SX} {N n q q' : Nat} (h : q ≤ q') (k : us_u u N n q') : us_u u N n q := by
  obtain ⟨m, a, b, c⟩ := k
  refine ⟨m, a, b, ?_⟩
  rcases c with ⟨c1, c2, c3, c4⟩ | ⟨c1, c2, c3⟩
  · exact Or.inl ⟨c1, c2, by omega, c4⟩
  · exact Or.inr ⟨c1, by omega, c3⟩
section
variable {u : SX} {post : Int32 → Prop} {N n q : Nat}
theorem xn_e (cs : cs_ok u N) {m : Nat} (hm : m < N) (hk : 2 ≤ kn (sg_of u) m) : sx_partX u m = nI (xn (sg_of u) m) ∧ xn (sg_of u) m < N := by
  have s := cs.1.2.1 m hm
  obtain ⟨a, b, c⟩ := s.2.2.2.1 hk
  refine ⟨a, ?_⟩
  by_cases h5 : kn (sg_of u) m = 5
  · exact cs.2.1 m hm h5
  · have := c h5; omega
theorem yn_e (cs : cs_ok u N) {m : Nat} (hm : m < N) (hk : tw (kn (sg_of u) m)) : sx_partY u m = nI (yn (sg_of u) m) ∧ yn (sg_of u) m < N := by
  have s := cs.1.2.1 m hm
  obtain ⟨a, b⟩ := s.2.2.2.2.1 hk
  exact ⟨a, by omega⟩
theorem sm_e (cs : cs_ok u N) {m : Nat} (hm : m < N) : sx_same u m = nI (sm_u u m) ∧ sm_u u m < N := by
  have := (cs.2.2.2.1 m hm).1
  exact ⟨cs.2.2.2.2.1 m hm, by omega⟩
theorem kn_e (cs : cs_ok u N) {m : Nat} (hm : m < N) : sx_kindOf u m = nI (kn (sg_of u) m) ∧ kn (sg_of u) m ≤ 10 := ⟨(cs.1.2.1 m hm).1, (cs.1.2.1 m hm).2.1⟩
theorem n110 (cs : cs_ok u N) (hn : n < 100) (hF : ∀ m, m < N → q ≤ m → nd_u u m → 2 ≤ kn (sg_of u) m → kn (sg_of u) m ≠ 5 → ¬ (sm_u u (xn (sg_of u) m) = n ∨ (tw (kn (sg_of u) m) ∧ sm_u u (yn (sg_of u) m) = n)))
    (K : ∀ r : Nat, r ≤ 200 → (r = 200 → ¬ us_u u N n q) → post (nI r)) :
    ∀ (d m : Nat), m + d = N → (∀ m', m' < m → q ≤ 100 + m' → nd_u u m' → kn (sg_of u) m' = 5 → sm_u u (xn (sg_of u) m') ≠ n) → ∀ f, d < f → wX_nextUse_110 post (nI n) (sx_nodeCount u) (sx_filterCount u) (sx_levelNow u) (sx_compiled u) (sx_needed u) (sx_pinned u) (sx_listEnd u) (sx_wordCount u) (sx_accumulator u) (sx_dueCount u) (sx_stepCount u) (sx_listLength u) (sx_listValue u) (sx_kindOf u) (sx_partX u) (sx_partY u) (sx_filterOf u) (sx_tapCount u) (sx_taps u) (sx_outputNode u) (sx_same u) (sx_holds u) (sx_registerOf u) (sx_isSaved u) (sx_op u) (sx_into u) (sx_first u) (sx_second u) (sx_number u) (sx_wordOf u) (sx_words u) (sx_memory u) (sx_ringAt u) (sx_register u) (sx_dueRegister u) (sx_dueValue u) (sx_dueWord u) f (nI m) := by
  have hN := cs.1.1
  intro d
  induction d with
  | zero =>
    intro m hm hD f hf
    obtain ⟨f, rfl⟩ : ∃ f', f = f' + 1 := ⟨f - 1, by omega⟩
    have : m = N := by omega
    subst this
    rw [wX_nextUse_110]
    refine br_t (by rw [cs.2.2.1]; exact nI_le (by omega) (by omega)) (K 200 (by omega) (fun _ => ?_))
    intro ⟨m', a, b, c⟩
    rcases c with ⟨c1, c2, c3, c4⟩ | ⟨c1, c2, c3⟩
    · exact hF m' a c3 b c1 c2 c4
    · exact hD m' a c2 b c1 c3
  | succ d ih =>
    intro m hm hD f hf
    obtain ⟨f, rfl⟩ : ∃ f', f = f' + 1 := ⟨f - 1, by omega⟩
    have hmN : m < N := by omega
    have cm : (nI m).toNatClampNeg = m := nI_clamp (by omega)
    have im : vp_in (nI m) 24 := vp_in_nI (by omega) (by omega)
    obtain ⟨ke, kl⟩ := kn_e cs hmN
    rw [wX_nextUse_110]
    refine br_f (by rw [cs.2.2.1]; exact nI_ge (by omega) (by omega)) ?_
    rw [cm, ke]
    have nx : (nd_u u m → kn (sg_of u) m = 5 → sm_u u (xn (sg_of u) m) ≠ n) → ∀ y, y = nI m + 1 → wX_nextUse_110 post (nI n) (sx_nodeCount u) (sx_filterCount u) (sx_levelNow u) (sx_compiled u) (sx_needed u) (sx_pinned u) (sx_listEnd u) (sx_wordCount u) (sx_accumulator u) (sx_dueCount u) (sx_stepCount u) (sx_listLength u) (sx_listValue u) (sx_kindOf u) (sx_partX u) (sx_partY u) (sx_filterOf u) (sx_tapCount u) (sx_taps u) (sx_outputNode u) (sx_same u) (sx_holds u) (sx_registerOf u) (sx_isSaved u) (sx_op u) (sx_into u) (sx_first u) (sx_second u) (sx_number u) (sx_wordOf u) (sx_words u) (sx_memory u) (sx_ringAt u) (sx_register u) (sx_dueRegister u) (sx_dueValue u) (sx_dueWord u) f y := by
      intro h
      refine nm_r (e' := nI (m + 1)) (nI_1 _) (ih (m + 1) (by omega) (fun m' h1 h2 h3 h4 => ?_) f (by omega))
      by_cases e : m' = m
      · subst e; exact h h3 h4
      · exact hD m' (by omega) h2 h3 h4
    refine in_ok (u := u) (by omega) (fun hnd => br_f (by decide) ⟨im, ?_⟩) (fun hnd => br_t rfl (nx (fun h => absurd h hnd)))
    refine pk_eq (kn (sg_of u) m) 5 (fun e => ⟨im, ?_⟩) (fun e => nx (fun _ h => absurd h e))
    obtain ⟨xe, xl⟩ := xn_e cs hmN (by omega)
    obtain ⟨se, sl⟩ := sm_e cs xl
    rw [xe, nI_clamp (by omega), se]
    refine ⟨vp_in_nI (by omega) (by omega), pk_eq (sm_u u (xn (sg_of u) m)) n (fun e2 => ?_) (fun e2 => nx (fun _ _ => e2))⟩
    show post (nI 100 + nI m)
    rw [nI_add]
    exact K (100 + m) (by omega) (fun h => by omega)
theorem n2 (cs : cs_ok u N) (hn : n < 100) (hq : q ≤ N ∨ (100 ≤ q ∧ q ≤ 100 + N)) (K : ∀ r : Nat, r ≤ 200 → (r = 200 → ¬ us_u u N n q) → post (nI r)) :
    ∀ (d m : Nat), (m + d = N ∨ (N ≤ m ∧ m < 200 ∧ d = 0)) → (∀ m', m' < m → q ≤ m' → m' < N → nd_u u m' → 2 ≤ kn (sg_of u) m' → kn (sg_of u) m' ≠ 5 → ¬ (sm_u u (xn (sg_of u) m') = n ∨ (tw (kn (sg_of u) m') ∧ sm_u u (yn (sg_of u) m') = n))) → ∀ f, d < f → wX_nextUse_2 post (nI n) (nI q) (sx_nodeCount u) (sx_filterCount u) (sx_levelNow u) (sx_compiled u) (sx_needed u) (sx_pinned u) (sx_listEnd u) (sx_wordCount u) (sx_accumulator u) (sx_dueCount u) (sx_stepCount u) (sx_listLength u) (sx_listValue u) (sx_kindOf u) (sx_partX u) (sx_partY u) (sx_filterOf u) (sx_tapCount u) (sx_taps u) (sx_outputNode u) (sx_same u) (sx_holds u) (sx_registerOf u) (sx_isSaved u) (sx_op u) (sx_into u) (sx_first u) (sx_second u) (sx_number u) (sx_wordOf u) (sx_words u) (sx_memory u) (sx_ringAt u) (sx_register u) (sx_dueRegister u) (sx_dueValue u) (sx_dueWord u) f (nI m) := by
  have hN := cs.1.1
  intro d
  induction d with
  | zero =>
    intro m hm hD f hf
    obtain ⟨f, rfl⟩ : ∃ f', f = f' + 1 := ⟨f - 1, by omega⟩
    have hNm : N ≤ m := by omega
    rw [wX_nextUse_2]
    refine br_t (by rw [cs.2.2.1]; exact nI_le hNm (by omega)) ?_
    have hF : ∀ m', m' < N → q ≤ m' → nd_u u m' → 2 ≤ kn (sg_of u) m' → kn (sg_of u) m' ≠ 5 → ¬ (sm_u u (xn (sg_of u) m') = n ∨ (tw (kn (sg_of u) m') ∧ sm_u u (yn (sg_of u) m') = n)) := fun m' h1 h2 h3 h4 h5 => hD m' (by omega) h2 h1 h3 h4 h5
    refine pk_le 100 q (fun h => ?_) (fun h => ?_)
    · refine nm_r (e' := nI (q - 100)) (pk_sub (a := q) (b := 100) h) ⟨N - (q - 100) + 1, ?_⟩
      exact n110 cs hn hF K (N - (q - 100)) (q - 100) (by omega) (fun m' h1 h2 => by omega) _ (by omega)
    · exact ⟨N + 1, n110 cs hn hF K N 0 (by omega) (fun m' h1 => by omega) _ (by omega)⟩
  | succ d ih =>
    intro m hm hD f hf
    obtain ⟨f, rfl⟩ : ∃ f', f = f' + 1 := ⟨f - 1, by omega⟩
    have hmN : m < N := by omega
    have cm : (nI m).toNatClampNeg = m := nI_clamp (by omega)
    have im : vp_in (nI m) 24 := vp_in_nI (by omega) (by omega)
    obtain ⟨ke, kl⟩ := kn_e cs hmN
    rw [wX_nextUse_2]
    refine br_f (by rw [cs.2.2.1]; exact nI_ge (by omega) (by omega)) ?_
    rw [cm, ke]
    have nx : (nd_u u m → 2 ≤ kn (sg_of u) m → kn (sg_of u) m ≠ 5 → ¬ (sm_u u (xn (sg_of u) m) = n ∨ (tw (kn (sg_of u) m) ∧ sm_u u (yn (sg_of u) m) = n))) → ∀ y, y = nI m + 1 → wX_nextUse_2 post (nI n) (nI q) (sx_nodeCount u) (sx_filterCount u) (sx_levelNow u) (sx_compiled u) (sx_needed u) (sx_pinned u) (sx_listEnd u) (sx_wordCount u) (sx_accumulator u) (sx_dueCount u) (sx_stepCount u) (sx_listLength u) (sx_listValue u) (sx_kindOf u) (sx_partX u) (sx_partY u) (sx_filterOf u) (sx_tapCount u) (sx_taps u) (sx_outputNode u) (sx_same u) (sx_holds u) (sx_registerOf u) (sx_isSaved u) (sx_op u) (sx_into u) (sx_first u) (sx_second u) (sx_number u) (sx_wordOf u) (sx_words u) (sx_memory u) (sx_ringAt u) (sx_register u) (sx_dueRegister u) (sx_dueValue u) (sx_dueWord u) f y := by
      intro h
      refine nm_r (e' := nI (m + 1)) (nI_1 _) (ih (m + 1) (Or.inl (by omega)) (fun m' h1 h2 h3 h4 => ?_) f (by omega))
      by_cases e : m' = m
      · subst e; exact h h4
      · exact hD m' (by omega) h2 h3 h4
    refine in_ok (u := u) (by omega) (fun hnd => br_f (by decide) ⟨im, ?_⟩) (fun hnd => br_t rfl (nx (fun h => absurd h hnd)))
    refine pk_lt (kn (sg_of u) m) 2 (fun e => nx (fun _ h => by omega)) (fun e => ⟨im, ?_⟩)
    refine pk_eq (kn (sg_of u) m) 5 (fun e => nx (fun _ _ h => absurd e h)) (fun e5 => ⟨im, ?_⟩)
    obtain ⟨xe, xl⟩ := xn_e cs hmN e
    obtain ⟨se, sl⟩ := sm_e cs xl
    rw [xe, nI_clamp (n := xn (sg_of u) m) (by omega), se]
    refine ⟨vp_in_nI (by omega) (by omega), pk_eq (sm_u u (xn (sg_of u) m)) n (fun e2 => K m (by omega) (fun h => by omega)) (fun e2 => ⟨im, ?_⟩)⟩
    refine ht_ok kl (fun ht => br_f (by decide) ⟨im, ?_⟩) (fun ht => br_t rfl (nx (fun _ _ _ h => h.elim e2 (fun h => ht h.1))))
    obtain ⟨ye, yl⟩ := yn_e cs hmN ht
    obtain ⟨sye, syl⟩ := sm_e cs yl
    rw [ye, nI_clamp (by omega), sye]
    exact ⟨vp_in_nI (by omega) (by omega), pk_eq (sm_u u (yn (sg_of u) m)) n (fun e3 => K m (by omega) (fun h => by omega)) (fun e3 => nx (fun _ _ _ h => h.elim e2 (fun h => e3 h.2)))⟩
theorem nu_ok (cs : cs_ok u N) (hn : n < 100) (hq : q ≤ N ∨ (100 ≤ q ∧ q ≤ 100 + N)) (K : ∀ r : Nat, r ≤ 200 → (r = 200 → ¬ us_u u N n q) → post (nI r)) : wpX_nextUse post u (nI n) (nI q) := by
  show wpX_nextUse post (sx_nodeCount u, sx_filterCount u, sx_levelNow u, sx_compiled u, sx_needed u, sx_pinned u, sx_listEnd u, sx_wordCount u, sx_accumulator u, sx_dueCount u, sx_stepCount u, sx_listLength u, sx_listValue u, sx_kindOf u, sx_partX u, sx_partY u, sx_filterOf u, sx_tapCount u, sx_taps u, sx_outputNode u, sx_same u, sx_holds u, sx_registerOf u, sx_isSaved u, sx_op u, sx_into u, sx_first u, sx_second u, sx_number u, sx_wordOf u, sx_words u, sx_memory u, sx_ringAt u, sx_register u, sx_dueRegister u, sx_dueValue u, sx_dueWord u) (nI n) (nI q)
  have hN := cs.1.1
  unfold wpX_nextUse
  refine ⟨N - q + 1, n2 cs hn hq K (N - q) q ?_ (fun m' h1 h2 => by omega) _ (by omega)⟩
  omega
end
end
section
/-! ===== registers while instructions are listed ===== -/
theorem ex_Rm {tc : Nat → Int32} {o d a b n : Int32} {s : ms_T} (h : ¬ (0 ≤ d ∧ d < 8)) : ms_R (ex_i tc o d a b n s) = ms_R s := by
  show (if 0 ≤ d ∧ d < 8 then upd (ms_R s) d.toNatClampNeg (rv_i tc o a b n s) else ms_R s) = _
  rw [if_neg h]
def xe_T (u : SX) (c : cd_T) (pn : Int32) (ho rg sv : Nat → Int32) : SX := (sx_nodeCount u, sx_filterCount u, sx_levelNow u, sx_compiled u, sx_needed u, pn, nI (cd_l c), sx_wordCount u, sx_accumulator u, sx_dueCount u, sx_stepCount u, sx_listLength u, sx_listValue u, sx_kindOf u, sx_partX u, sx_partY u, sx_filterOf u, sx_tapCount u, sx_taps u, sx_outputNode u, sx_same u, ho, rg, sv, cd_o c, cd_d c, cd_a c, cd_b c, cd_n c, sx_wordOf u, sx_words u, sx_memory u, sx_ringAt u, sx_register u, sx_dueRegister u, sx_dueValue u, sx_dueWord u)
def ra_ok (N : Nat) (ho rg : Nat → Int32) : Prop :=
  (∀ r, r < 8 → ho r = -1 ∨ ∃ n, n < N ∧ ho r = nI n ∧ rg n = nI r) ∧ (∀ n, n < N → rg n = -1 ∨ ∃ r, r < 8 ∧ rg n = nI r ∧ ho r = nI n)
def ev_ok (g : sg_T) (N : Nat) (c : cd_T) (rg sv : Nat → Int32) : Prop :=
  ∀ s0, gv_ok (sg_t g) (ms_G s0) → (∀ n, n < N → ∀ r, r < 8 → rg n = nI r → ms_R (rs_c (sg_t g) c s0) r = vx g (ms_M s0) (ms_G s0) n) ∧
    (∀ n, n < N → sv n ≠ 0 → ms_M (rs_c (sg_t g) c s0) (64 + n) = vx g (ms_M s0) (ms_G s0) n)
def av_ok (u : SX) (N p q : Nat) (rg sv : Nat → Int32) : Prop :=
  ∀ n, n < p → n < N → nd_u u n → sm_u u n = n → us_u u N n q → kn (sg_of u) n = 1 ∨ rg n ≠ -1 ∨ sv n ≠ 0
def es_ok (u : SX) (N p q : Nat) (c : cd_T) (ho rg sv : Nat → Int32) : Prop :=
  ra_ok N ho rg ∧ ev_ok (sg_of u) N c rg sv ∧ wc_ok (sx_tapCount u) c ∧ av_ok u N p q rg sv ∧ (∀ n, p ≤ n → n < N → rg n = -1)
/-- memory below 64, the rings' places and the accumulator stay -/
def lw_eq (tc : Nat → Int32) (c c' : cd_T) : Prop :=
  ∀ s0, gv_ok tc (ms_G s0) → (∀ x, x < 64 → ms_M (rs_c tc c' s0) x = ms_M (rs_c tc c s0) x) ∧ ms_G (rs_c tc c' s0) = ms_G (rs_c tc c s0) ∧ ms_A (rs_c tc c' s0) = ms_A (rs_c tc c s0)
theorem lw_rf {tc : Nat → Int32} {c : cd_T} : lw_eq tc c c := fun _ _ => ⟨fun _ _ => rfl, rfl, rfl⟩
theorem lw_tr {tc : Nat → Int32} {c c' c'' : cd_T} (h : lw_eq tc c c') (h' : lw_eq tc c' c'') : lw_eq tc c c'' := fun s hs =>
  ⟨fun x hx => ((h' s hs).1 x hx).trans ((h s hs).1 x hx), (h' s hs).2.1.trans (h s hs).2.1, (h' s hs).2.2.trans (h s hs).2.2⟩
theorem es_mo {u : SX} {N p q q' : Nat} {c : cd_T} {ho rg sv : Nat → Int32} (h : q ≤ q') (E : es_ok u N p q c ho rg sv) : es_ok u N p q' c ho rg sv :=
  ⟨E.1, E.2.1, E.2.2.1, fun n a b d e f => E.2.2.2.1 n a b d e (us_mo h f), E.2.2.2.2⟩
/-- a register's content goes -/
theorem es_ev {u : SX} {N p q : Nat} {c : cd_T} {ho rg sv : Nat → Int32} {b n : Nat} (E : es_ok u N p q c ho rg sv) (hN : N ≤ 24) (hb : b < 8) (hn : n < N) (h1 : ho b = nI n) (h2 : rg n = nI b)
    (hu : us_u u N n q → kn (sg_of u) n = 1 ∨ sv n ≠ 0) : es_ok u N p q c (upd ho b (-1)) (upd rg n (-1)) sv := by
  obtain ⟨⟨A1, A2⟩, B, C, D, F⟩ := E
  refine ⟨⟨fun r hr => ?_, fun m hm => ?_⟩, fun s hs => ⟨fun m hm r hr e => ?_, (B s hs).2⟩, C, fun m h3 h4 h5 h6 h7 => ?_, fun m h3 h4 => ?_⟩
  · by_cases e : r = b
    · subst e; exact Or.inl pk_us
    · rw [pk_un e]
      rcases A1 r hr with h | ⟨m, a1, a2, a3⟩
      · exact Or.inl h
      · refine Or.inr ⟨m, a1, a2, ?_⟩
        have : m ≠ n := fun z => by
          subst z
          rw [h2] at a3
          exact e (sn_inj (by omega) (by omega) a3).symm
        rw [pk_un this, a3]
  · by_cases e : m = n
    · subst e; exact Or.inl pk_us
    · rw [pk_un e]
      rcases A2 m hm with h | ⟨r, a1, a2, a3⟩
      · exact Or.inl h
      · refine Or.inr ⟨r, a1, a2, ?_⟩
        have : r ≠ b := fun z => by
          subst z
          rw [h1] at a3
          exact e (sn_inj (by omega) (by omega) a3).symm
        rw [pk_un this, a3]
  · by_cases z : m = n
    · subst z
      rw [pk_us] at e
      exact absurd e.symm (sn_ne (by omega))
    · rw [pk_un z] at e
      exact (B s hs).1 m hm r hr e
  · by_cases z : m = n
    · subst z
      rcases hu h7 with h | h
      · exact Or.inl h
      · exact Or.inr (Or.inr h)
    · rw [pk_un z]; exact D m h3 h4 h5 h6 h7
  · by_cases z : m = n
    · subst z; exact pk_us
    · rw [pk_un z]; exact F m h3 h4
theorem ad_64 {N n : Nat} (hN : N ≤ 24) (hn : n < N) : ad_ok (64 + nI n) := ⟨64 + n, by show nI 64 + nI n = _; rw [nI_add], by omega⟩
theorem cl_64 {N n : Nat} (hN : N ≤ 24) (hn : n < N) : (64 + nI n).toNatClampNeg = 64 + n := by
  show (nI 64 + nI n).toNatClampNeg = _
  rw [nI_add, nI_clamp (by omega)]
/-- a value is put away -/
theorem es_st {u : SX} {N p q : Nat} {c : cd_T} {ho rg sv : Nat → Int32} {b n : Nat} (E : es_ok u N p q c ho rg sv) (hN : N ≤ 24) (hb : b < 8) (hn : n < N) (h2 : rg n = nI b) :
    es_ok u N p q (cd_push c 17 (-1) (nI b) (-1) (64 + nI n)) ho rg (upd sv n 1) ∧ lw_eq (sx_tapCount u) c (cd_push c 17 (-1) (nI b) (-1) (64 + nI n)) ∧
    (∀ s0, ms_R (rs_c (sx_tapCount u) (cd_push c 17 (-1) (nI b) (-1) (64 + nI n)) s0) = ms_R (rs_c (sx_tapCount u) c s0)) := by
  have eR : ∀ s0, ms_R (rs_c (sx_tapCount u) (cd_push c 17 (-1) (nI b) (-1) (64 + nI n)) s0) = ms_R (rs_c (sx_tapCount u) c s0) := by
    intro s0
    rw [rs_push, ex_Rm (by decide)]
  have eM : ∀ s0, ms_M (rs_c (sx_tapCount u) (cd_push c 17 (-1) (nI b) (-1) (64 + nI n)) s0) = upd (ms_M (rs_c (sx_tapCount u) c s0)) (64 + n) (ms_R (rs_c (sx_tapCount u) c s0) b) := by
    intro s0
    rw [rs_push, ex_M17, cl_64 hN hn, nI_clamp (by omega)]
  obtain ⟨A, B, C, D, F⟩ := E
  refine ⟨⟨A, fun s hs => ?_, wc_push C ?_, fun m h3 h4 h5 h6 h7 => ?_, F⟩, fun s hs => ⟨fun x hx => ?_, ?_, ?_⟩, eR⟩
  · have hB := B s hs
    constructor
    · intro m hm r hr e
      show ms_R (rs_c (sx_tapCount u) _ s) r = _
      rw [eR]; exact hB.1 m hm r hr e
    · intro m hm hsv
      show ms_M (rs_c (sx_tapCount u) _ s) (64 + m) = _
      rw [eM]
      by_cases z : m = n
      · subst z
        rw [pk_us]
        exact hB.1 m hm b hb h2
      · rw [pk_un (by omega)]
        rw [pk_un z] at hsv
        exact hB.2 m hm hsv
  · exact Or.inr (Or.inr (Or.inr (Or.inr (Or.inr (Or.inr (Or.inr (Or.inl ⟨rfl, rfl, ⟨b, hb, rfl⟩, rfl, ad_64 hN hn⟩)))))))
  · rcases D m h3 h4 h5 h6 h7 with h | h | h
    · exact Or.inl h
    · exact Or.inr (Or.inl h)
    · refine Or.inr (Or.inr ?_)
      by_cases z : m = n
      · subst z; rw [pk_us]; decide
      · rw [pk_un z]; exact h
  · rw [eM, pk_un (by omega)]
  · rw [rs_push, ex_Gn (by decide)]
  · rw [rs_push, ex_An (by decide)]
/-- a value comes to a register that holds nothing -/
theorem es_rg {u : SX} {N p q : Nat} {c : cd_T} {ho rg sv : Nat → Int32} {r : Nat} {o a b n : Int32} (E : es_ok u N p q c ho rg sv) (hr : r < 8) (h1 : ho r = -1) (hN : N ≤ 24) (ho1 : ¬ (o = 11 ∨ o = 12)) (ho2 : o ≠ 17) (ho3 : o ≠ 19) (ho4 : o ≠ 20)
    (w : wi_ok (sx_tapCount u) o (nI r) a b n) : es_ok u N p q (cd_push c o (nI r) a b n) ho rg sv ∧ lw_eq (sx_tapCount u) c (cd_push c o (nI r) a b n) := by
  obtain ⟨A, B, C, D, F⟩ := E
  refine ⟨⟨A, fun s hs => ?_, wc_push C w, D, F⟩, fun s hs => ⟨fun x hx => ?_, ?_, ?_⟩⟩
  · have hB := B s hs
    constructor
    · intro m hm r' hr' e
      rw [rs_push, ex_Rn hr' (fun z => ?_)]
      · exact hB.1 m hm r' hr' e
      · have : r = r' := sn_inj (by omega) (by omega) z
        subst this
        rcases A.2 m hm with h | ⟨r2, b1, b2, b3⟩
        · rw [h] at e; exact absurd e.symm (sn_ne (by omega))
        · have : r2 = r := sn_inj (by omega) (by omega) (b2.symm.trans e)
          subst this
          rw [h1] at b3
          exact absurd b3.symm (sn_ne (by omega))
    · intro m hm hsv
      rw [rs_push, ex_Mn ho2 ho3]
      exact hB.2 m hm hsv
  · rw [rs_push, ex_Mn ho2 ho3]
  · rw [rs_push, ex_Gn ho4]
  · rw [rs_push, ex_An ho1]
/-- a node's value is known to be in a register -/
theorem es_kp {u : SX} {N p p' q : Nat} {c : cd_T} {ho rg sv : Nat → Int32} {r n : Nat} (E : es_ok u N p q c ho rg sv) (hr : r < 8) (hn : n < N) (hp : n < p') (hp2 : ∀ m, m < p' → m ≠ n → m < p) (hp3 : p ≤ p') (hN : N ≤ 24) (h1 : ho r = -1) (h2 : rg n = -1)
    (hv : ∀ s0, gv_ok (sg_t (sg_of u)) (ms_G s0) → ms_R (rs_c (sg_t (sg_of u)) c s0) r = vx (sg_of u) (ms_M s0) (ms_G s0) n) :
    es_ok u N p' q c (upd ho r (nI n)) (upd rg n (nI r)) sv := by
  obtain ⟨⟨A1, A2⟩, B, C, D, F⟩ := E
  refine ⟨⟨fun r' hr' => ?_, fun m hm => ?_⟩, fun s hs => ⟨fun m hm r' hr' e => ?_, (B s hs).2⟩, C, fun m h3 h4 h5 h6 h7 => ?_, fun m h3 h4 => ?_⟩
  · by_cases e : r' = r
    · subst e; exact Or.inr ⟨n, hn, pk_us, pk_us⟩
    · rw [pk_un e]
      rcases A1 r' hr' with h | ⟨m, a1, a2, a3⟩
      · exact Or.inl h
      · have : m ≠ n := fun z => by subst z; rw [h2] at a3; exact absurd a3.symm (sn_ne (by omega))
        exact Or.inr ⟨m, a1, a2, by rw [pk_un this, a3]⟩
  · by_cases e : m = n
    · subst e; exact Or.inr ⟨r, hr, pk_us, pk_us⟩
    · rw [pk_un e]
      rcases A2 m hm with h | ⟨r', a1, a2, a3⟩
      · exact Or.inl h
      · have : r' ≠ r := fun z => by subst z; rw [h1] at a3; exact absurd a3.symm (sn_ne (by omega))
        exact Or.inr ⟨r', a1, a2, by rw [pk_un this, a3]⟩
  · by_cases z : m = n
    · subst z
      rw [pk_us] at e
      have : r = r' := sn_inj (by omega) (by omega) e
      subst this
      exact hv s hs
    · rw [pk_un z] at e
      exact (B s hs).1 m hm r' hr' e
  · by_cases z : m = n
    · subst z
      exact Or.inr (Or.inl (by rw [pk_us]; exact sn_ne (by omega)))
    · rw [pk_un z]; exact D m (hp2 m h3 z) h4 h5 h6 h7
  · by_cases z : m = n
    · omega
    · rw [pk_un z]; exact F m (by omega) h4
/-- pinned registers are among three -/
def pi_ok (pn : Int32) (a b d : Nat) : Prop := ∀ r, r < 8 → bt pn r = true → r = a ∨ r = b ∨ r = d
theorem pi_ex {pn : Int32} {a b d : Nat} (h : pi_ok pn a b d) : ∃ r, r < 8 ∧ bt pn r = false := by
  obtain ⟨r, hr, h1, h2, h3⟩ : ∃ r : Nat, r < 8 ∧ r ≠ a ∧ r ≠ b ∧ r ≠ d := by
    by_cases z0 : 0 ≠ a ∧ 0 ≠ b ∧ 0 ≠ d
    · exact ⟨0, by omega, z0⟩
    by_cases z1 : 1 ≠ a ∧ 1 ≠ b ∧ 1 ≠ d
    · exact ⟨1, by omega, z1⟩
    by_cases z2 : 2 ≠ a ∧ 2 ≠ b ∧ 2 ≠ d
    · exact ⟨2, by omega, z2⟩
    exact ⟨3, by omega, by omega, by omega, by omega⟩
  refine ⟨r, hr, ?_⟩
  cases hb : bt pn r
  · rfl
  · rcases h r hr hb with e | e | e
    · exact absurd e h1
    · exact absurd e h2
    · exact absurd e h3
theorem pi_0 {a b d : Nat} : pi_ok 0 a b d := fun r _ h => by rw [b_0] at h; exact absurd h (by decide)
theorem pi_s {pn : Int32} {r i : Nat} (hr : r < 8) (hi : i < 8) : bt (pn ||| ((1 : Int32) <<< (nI r &&& 31))) i = (bt pn i || decide (i = r)) := bi_s pn (by omega) (by omega)
theorem pi_1 {pn : Int32} {r : Nat} (hr : r < 8) (h : ∀ a b d, pi_ok pn a b d) : ∀ d, pi_ok (pn ||| ((1 : Int32) <<< (nI r &&& 31))) r d d := by
  intro d i hi hb
  rw [pi_s hr hi] at hb
  cases hz : bt pn i
  · rw [hz] at hb; exact Or.inl (by simpa using hb)
  · rcases h 9 9 9 i hi hz with e | e | e <;> omega
theorem pi_2 {pn : Int32} {a r : Nat} (hr : r < 8) (h : ∀ d, pi_ok pn a d d) : ∀ d, pi_ok (pn ||| ((1 : Int32) <<< (nI r &&& 31))) a r d := by
  intro d i hi hb
  rw [pi_s hr hi] at hb
  cases hz : bt pn i
  · rw [hz] at hb; exact Or.inr (Or.inl (by simpa using hb))
  · rcases h a i hi hz with e | e | e <;> exact Or.inl e
theorem pi_3 {pn : Int32} {a b r : Nat} (hr : r < 8) (h : ∀ d, pi_ok pn a b d) : pi_ok (pn ||| ((1 : Int32) <<< (nI r &&& 31))) a b r := by
  intro i hi hb
  rw [pi_s hr hi] at hb
  cases hz : bt pn i
  · rw [hz] at hb; exact Or.inr (Or.inr (by simpa using hb))
  · rcases h a i hi hz with e | e | e
    · exact Or.inl e
    · exact Or.inr (Or.inl e)
    · exact Or.inl e
end
section
def by_f (x : Int32) : Prop := x.toInt8.toInt32 = x
theorem by_n {n : Nat} (h : n < 128) : by_f (nI n) := sn_b h
theorem by_m : by_f (-1) := sn_bm
section
variable {u : SX} {c : cd_T} {pn : Int32} {ho rg sv : Nat → Int32}
theorem em_ok {post : SX → Prop} {o d a b n : Int32} (hl : cd_l c < 300) (f1 : by_f o) (f2 : by_f d) (f3 : by_f a) (f4 : by_f b) (K : post (xe_T u (cd_push c o d a b n) pn ho rg sv)) :
    wpX_emit post (xe_T u c pn ho rg sv) o d a b n := by
  have il : vp_in (nI (cd_l c)) 300 := vp_in_nI hl (by omega)
  unfold wpX_emit xe_T
  dsimp only
  rw [nI_clamp (by omega), pk_vb, pk_vb, pk_vb, pk_vb, show o.toInt8.toInt32 = o from f1, show d.toInt8.toInt32 = d from f2, show a.toInt8.toInt32 = a from f3, show b.toInt8.toInt32 = b from f4]
  refine ⟨il, nm_e ⟨il, nm_e ⟨il, nm_e ⟨il, nm_e ⟨il, nm_e (nm_r (e' := nI (cd_l c + 1)) (nI_1 _) ?_)⟩⟩⟩⟩⟩
  exact K
theorem kp_ok {post : SX → Prop} {n r : Nat} (hn : n < 24) (hr : r < 8) (K : post (xe_T u c pn (upd ho r (nI n)) (upd rg n (nI r)) sv)) : wpX_keepIn post (xe_T u c pn ho rg sv) (nI n) (nI r) := by
  unfold wpX_keepIn xe_T
  dsimp only
  rw [nI_clamp (n := r) (by omega), nI_clamp (n := n) (by omega), sn_vb (by omega), sn_vb (by omega)]
  exact ⟨vp_in_nI hr (by omega), nm_e ⟨vp_in_nI hn (by omega), nm_e K⟩⟩
variable {N p q : Nat}
/-- a register has been made free -/
def fr_P (u : SX) (N p q : Nat) (c : cd_T) (pn : Int32) (ho rg sv : Nat → Int32) (r : Nat) (c' : cd_T) (ho' rg' sv' : Nat → Int32) : Prop :=
  r < 8 ∧ bt pn r = false ∧ es_ok u N p q c' ho' rg' sv' ∧ lw_eq (sx_tapCount u) c c' ∧ (∀ s0, ms_R (rs_c (sx_tapCount u) c' s0) = ms_R (rs_c (sx_tapCount u) c s0)) ∧ cd_l c' ≤ cd_l c + 1 ∧ ho' r = -1 ∧
  (∀ n, n < N → ∀ r', r' < 8 → r' ≠ r → rg n = nI r' → rg' n = nI r') ∧ (∀ n, n < N → rg n = -1 → rg' n = -1) ∧ (∀ n, n < N → sv n ≠ 0 → sv' n ≠ 0) ∧ (∀ r', r' < 8 → r' ≠ r → ho' r' = ho r')
theorem f158 {post : Int32 → SX → Prop} {r : Nat} (K : post (nI r) (xe_T u c (pn ||| ((1 : Int32) <<< (nI r &&& 31))) ho rg sv)) :
    wX_freeRegister_158 post (nI r) (sx_nodeCount u) (sx_filterCount u) (sx_levelNow u) (sx_compiled u) (sx_needed u) (pn) (nI (cd_l c)) (sx_wordCount u) (sx_accumulator u) (sx_dueCount u) (sx_stepCount u) (sx_listLength u) (sx_listValue u) (sx_kindOf u) (sx_partX u) (sx_partY u) (sx_filterOf u) (sx_tapCount u) (sx_taps u) (sx_outputNode u) (sx_same u) (ho) (rg) (sv) (cd_o c) (cd_d c) (cd_a c) (cd_b c) (cd_n c) (sx_wordOf u) (sx_words u) (sx_memory u) (sx_ringAt u) (sx_register u) (sx_dueRegister u) (sx_dueValue u) (sx_dueWord u) := by
  unfold wX_freeRegister_158
  exact nm_e K
theorem f143 {post : Int32 → SX → Prop} {r n : Nat} (hr : r < 8) (hn : n < 24) (K : post (nI r) (xe_T u c (pn ||| ((1 : Int32) <<< (nI r &&& 31))) (upd ho r (-1)) (upd rg n (-1)) sv)) :
    wX_freeRegister_143 post (nI r) (nI n) (sx_nodeCount u) (sx_filterCount u) (sx_levelNow u) (sx_compiled u) (sx_needed u) (pn) (nI (cd_l c)) (sx_wordCount u) (sx_accumulator u) (sx_dueCount u) (sx_stepCount u) (sx_listLength u) (sx_listValue u) (sx_kindOf u) (sx_partX u) (sx_partY u) (sx_filterOf u) (sx_tapCount u) (sx_taps u) (sx_outputNode u) (sx_same u) (ho) (rg) (sv) (cd_o c) (cd_d c) (cd_a c) (cd_b c) (cd_n c) (sx_wordOf u) (sx_words u) (sx_memory u) (sx_ringAt u) (sx_register u) (sx_dueRegister u) (sx_dueValue u) (sx_dueWord u) := by
  unfold wX_freeRegister_143
  rw [nI_clamp (n := r) (by omega), nI_clamp (n := n) (by omega), sn_vbm1]
  exact ⟨vp_in_nI hn (by omega), nm_e ⟨vp_in_nI hr (by omega), nm_e (f158 K)⟩⟩
def bs_ok (u : SX) (N q : Nat) (pn : Int32) (ho rg : Nat → Int32) (r : Nat) (x2 x3 : Int32) : Prop :=
  (x2 = -1 ∧ x3 = -1 ∧ ∀ r', r' < r → bt pn r' = true) ∨
  (∃ b l, b < r ∧ x2 = nI b ∧ bt pn b = false ∧ x3 = nI l ∧ l ≤ 300 ∧ (ho b = -1 ∨ ∃ n, n < N ∧ ho b = nI n ∧ rg n = nI b ∧ (200 ≤ l → ¬ us_u u N n q)))
theorem f7 {post : Int32 → SX → Prop} (cs : cs_ok u N) (hq : q ≤ N ∨ (100 ≤ q ∧ q ≤ 100 + N)) (E : es_ok u N p q c ho rg sv) (hl : cd_l c < 300) (hp : ∃ r, r < 8 ∧ bt pn r = false)
    (K : ∀ (r : Nat) (c' : cd_T) (ho' rg' sv' : Nat → Int32), fr_P u N p q c pn ho rg sv r c' ho' rg' sv' → post (nI r) (xe_T u c' (pn ||| ((1 : Int32) <<< (nI r &&& 31))) ho' rg' sv')) :
    ∀ (d r : Nat) (x2 x3 : Int32), r + d = 8 → bs_ok u N q pn ho rg r x2 x3 → ∀ f, d < f →
      wX_freeRegister_7 post (nI q) (sx_nodeCount u) (sx_filterCount u) (sx_levelNow u) (sx_compiled u) (sx_needed u) (pn) (nI (cd_l c)) (sx_wordCount u) (sx_accumulator u) (sx_dueCount u) (sx_stepCount u) (sx_listLength u) (sx_listValue u) (sx_kindOf u) (sx_partX u) (sx_partY u) (sx_filterOf u) (sx_tapCount u) (sx_taps u) (sx_outputNode u) (sx_same u) (ho) (rg) (sv) (cd_o c) (cd_d c) (cd_a c) (cd_b c) (cd_n c) (sx_wordOf u) (sx_words u) (sx_memory u) (sx_ringAt u) (sx_register u) (sx_dueRegister u) (sx_dueValue u) (sx_dueWord u) f x2 x3 (nI r) := by
  have hN := cs.1.1
  intro d
  induction d with
  | zero =>
    intro r x2 x3 hr B f hf
    obtain ⟨f, rfl⟩ : ∃ f', f = f' + 1 := ⟨f - 1, by omega⟩
    have : r = 8 := by omega
    subst this
    rw [wX_freeRegister_7]
    refine br_t (nI_le (a := 8) (by omega) (by omega)) ?_
    rcases B with ⟨_, _, h⟩ | ⟨b, l, hb, rfl, hpb, rfl, hl3, hh⟩
    · obtain ⟨r, hr, h0⟩ := hp
      rw [h r hr] at h0
      exact absurd h0 (by decide)
    · rw [nI_clamp (n := b) (by omega)]
      refine ⟨vp_in_nI hb (by omega), ?_⟩
      rcases hh with e | ⟨n, hn, e1, e2, e3⟩
      · rw [e]
        refine nm_e (br_t (by decide) (f158 (u := u) (K b c ho rg sv ⟨hb, hpb, E, lw_rf, fun _ => rfl, by omega, e, fun _ _ _ _ _ h => h, fun _ _ h => h, fun _ _ h => h, fun _ _ _ => rfl⟩)))
      · rw [e1]
        have cn : (nI n).toNatClampNeg = n := nI_clamp (by omega)
        have i24 : vp_in (nI n) 24 := vp_in_nI (by omega) (by omega)
        have kr : ∀ m, m < N → ∀ r', r' < 8 → r' ≠ b → rg m = nI r' → upd rg n (-1) m = nI r' := by
          intro m hm r' hr' hne e
          have : m ≠ n := fun z => by subst z; rw [e2] at e; exact hne (sn_inj (by omega) (by omega) e).symm
          rw [pk_un this, e]
        have kz : ∀ m, m < N → rg m = -1 → upd rg n (-1) m = -1 := by
          intro m hm e
          by_cases z : m = n
          · subst z; exact pk_us
          · rw [pk_un z, e]
        have kh : ∀ r', r' < 8 → r' ≠ b → upd ho b (-1) r' = ho r' := fun r' _ hne => pk_un hne
        have noSt : (us_u u N n q → kn (sg_of u) n = 1 ∨ sv n ≠ 0) → wX_freeRegister_143 post (nI b) (nI n) (sx_nodeCount u) (sx_filterCount u) (sx_levelNow u) (sx_compiled u) (sx_needed u) (pn) (nI (cd_l c)) (sx_wordCount u) (sx_accumulator u) (sx_dueCount u) (sx_stepCount u) (sx_listLength u) (sx_listValue u) (sx_kindOf u) (sx_partX u) (sx_partY u) (sx_filterOf u) (sx_tapCount u) (sx_taps u) (sx_outputNode u) (sx_same u) (ho) (rg) (sv) (cd_o c) (cd_d c) (cd_a c) (cd_b c) (cd_n c) (sx_wordOf u) (sx_words u) (sx_memory u) (sx_ringAt u) (sx_register u) (sx_dueRegister u) (sx_dueValue u) (sx_dueWord u) := by
          intro hu
          exact f143 (u := u) hb (by omega) (K b c _ _ sv ⟨hb, hpb, es_ev E hN hb hn e1 e2 hu, lw_rf, fun _ => rfl, by omega, pk_us, kr, kz, fun _ _ h => h, kh⟩)
        refine nm_e (br_f (nI_pos (by omega)) ?_)
        refine pk_le 200 l (fun h => noSt (fun h' => absurd h' (e3 h))) (fun h => ?_)
        rw [cn]
        obtain ⟨ke, kl⟩ := kn_e cs hn
        rw [ke]
        refine ⟨i24, pk_eq (kn (sg_of u) n) 1 (fun e => noSt (fun _ => Or.inl e)) (fun e => ⟨i24, br_c (fun hs => ?_) (fun hs => noSt (fun _ => Or.inr hs))⟩)⟩
        obtain ⟨S1, S2, S3⟩ := es_st E hN hb hn e2
        refine em_ok (u := u) hl (by_n (n := 17) (by omega)) by_m (by_n (by omega)) by_m ?_
        show vp_in (nI n) 24 ∧ _
        refine ⟨i24, nm_r (e' := upd sv n 1) (congrArg (upd sv n) (show vp_nar .boolean 1 = 1 from rfl)) ?_⟩
        refine f143 (u := u) hb (by omega) (K b _ _ _ _ ⟨hb, hpb, es_ev S1 hN hb hn e1 e2 (fun _ => Or.inr (by rw [pk_us]; decide)), S2, S3, Nat.le_refl _, pk_us, kr, kz, fun m hm h => ?_, kh⟩)
        by_cases z : m = n
        · subst z; rw [pk_us]; decide
        · rw [pk_un z]; exact h
  | succ d ih =>
    intro r x2 x3 hr B f hf
    obtain ⟨f, rfl⟩ : ∃ f', f = f' + 1 := ⟨f - 1, by omega⟩
    rw [wX_freeRegister_7]
    have i8 : vp_in (nI r) 8 := vp_in_nI (by omega) (by omega)
    refine br_f (nI_ge (b := 8) (by omega) (by omega)) ?_
    have h57 : ∀ z : Nat, z ≤ 300 → bt pn r = false → (ho r = -1 ∨ ∃ n, n < N ∧ ho r = nI n ∧ rg n = nI r ∧ (200 ≤ z → ¬ us_u u N n q)) →
        wX_freeRegister_57 post (wX_freeRegister_7 post (nI q) (sx_nodeCount u) (sx_filterCount u) (sx_levelNow u) (sx_compiled u) (sx_needed u) (pn) (nI (cd_l c)) (sx_wordCount u) (sx_accumulator u) (sx_dueCount u) (sx_stepCount u) (sx_listLength u) (sx_listValue u) (sx_kindOf u) (sx_partX u) (sx_partY u) (sx_filterOf u) (sx_tapCount u) (sx_taps u) (sx_outputNode u) (sx_same u) (ho) (rg) (sv) (cd_o c) (cd_d c) (cd_a c) (cd_b c) (cd_n c) (sx_wordOf u) (sx_words u) (sx_memory u) (sx_ringAt u) (sx_register u) (sx_dueRegister u) (sx_dueValue u) (sx_dueWord u) f) (nI q) x2 x3 (nI r) (nI z) (sx_nodeCount u) (sx_filterCount u) (sx_levelNow u) (sx_compiled u) (sx_needed u) (pn) (nI (cd_l c)) (sx_wordCount u) (sx_accumulator u) (sx_dueCount u) (sx_stepCount u) (sx_listLength u) (sx_listValue u) (sx_kindOf u) (sx_partX u) (sx_partY u) (sx_filterOf u) (sx_tapCount u) (sx_taps u) (sx_outputNode u) (sx_same u) (ho) (rg) (sv) (cd_o c) (cd_d c) (cd_a c) (cd_b c) (cd_n c) (sx_wordOf u) (sx_words u) (sx_memory u) (sx_ringAt u) (sx_register u) (sx_dueRegister u) (sx_dueValue u) (sx_dueWord u) := by
      intro z hz hpr hh
      unfold wX_freeRegister_57
      refine br_c (fun _ => nm_r (e' := nI (r + 1)) (nI_1 _) ?_) (fun hlt => nm_r (e' := nI (r + 1)) (nI_1 _) ?_)
      · exact ih (r + 1) _ _ (by omega) (Or.inr ⟨r, z, by omega, rfl, hpr, rfl, hz, hh⟩) f (by omega)
      · refine ih (r + 1) _ _ (by omega) ?_ f (by omega)
        rcases B with ⟨_, e, _⟩ | ⟨b, l, b1, b2⟩
        · exfalso
          apply hlt
          rw [e, i3_lt, nI_toInt (by omega), show (-1 : Int32).toInt = -1 from by decide]
          omega
        · exact Or.inr ⟨b, l, by omega, b2⟩
    refine br_c (fun h => ⟨i8, ?_⟩) (fun h => nm_r (e' := nI (r + 1)) (nI_1 _) (ih (r + 1) _ _ (by omega) ?_ f (by omega)))
    · have hpr := (bi_t _ (by omega)).mp h
      rw [nI_clamp (n := r) (by omega)]
      rcases E.1.1 r (by omega) with e | ⟨n, hn, e1, e2⟩
      · refine br_f (by rw [e]; decide) ?_
        exact h57 300 (by omega) hpr (Or.inl e)
      · rw [e1]
        refine br_t (nI_pos' (by omega)) ⟨i8, ?_⟩
        refine nu_ok (u := xe_T u c pn ho rg sv) (N := N) cs (by omega) hq (fun z hz hz2 => h57 z (by omega) hpr (Or.inr ⟨n, hn, e1, e2, fun h200 => hz2 (by omega)⟩))
    · have hpr : bt pn r = true := by
        cases hb : bt pn r
        · exact absurd ((bi_t _ (by omega)).mpr hb) h
        · rfl
      rcases B with ⟨e1, e2, e3⟩ | ⟨b, l, b1, b2⟩
      · refine Or.inl ⟨e1, e2, fun r' hr' => ?_⟩
        by_cases z : r' = r
        · subst z; exact hpr
        · exact e3 r' (by omega)
      · exact Or.inr ⟨b, l, by omega, b2⟩
theorem fr_ok {post : Int32 → SX → Prop} (cs : cs_ok u N) (hq : q ≤ N ∨ (100 ≤ q ∧ q ≤ 100 + N)) (E : es_ok u N p q c ho rg sv) (hl : cd_l c < 300) {a b d : Nat} (hp : pi_ok pn a b d)
    (K : ∀ (r : Nat) (c' : cd_T) (ho' rg' sv' : Nat → Int32), fr_P u N p q c pn ho rg sv r c' ho' rg' sv' → post (nI r) (xe_T u c' (pn ||| ((1 : Int32) <<< (nI r &&& 31))) ho' rg' sv')) :
    wpX_freeRegister post (xe_T u c pn ho rg sv) (nI q) := by
  unfold wpX_freeRegister xe_T
  exact ⟨9, f7 cs hq E hl (pi_ex hp) K 8 0 (-1) (-1) (by omega) (Or.inl ⟨rfl, rfl, fun r' hr' => absurd hr' (by omega)⟩) 9 (by omega)⟩
/-- a value has been brought to a register -/
def br_P (u : SX) (N p q : Nat) (c : cd_T) (pn : Int32) (ho rg sv : Nat → Int32) (m r : Nat) (c' : cd_T) (ho' rg' sv' : Nat → Int32) : Prop :=
  r < 8 ∧ es_ok u N p q c' ho' rg' sv' ∧ lw_eq (sx_tapCount u) c c' ∧ cd_l c' ≤ cd_l c + 2 ∧ rg' m = nI r ∧ (∀ n, n < N → ∀ r', r' < 8 → bt pn r' = true → rg n = nI r' → rg' n = nI r') ∧
  (∀ n, n < N → n ≠ m → rg n = -1 → rg' n = -1)
theorem ow (x y : Int32) : x ||| y ||| y = x ||| y := by
  apply b_ext
  intro i _
  rw [b_or, b_or, Bool.or_assoc, Bool.or_self]
theorem br_ok {post : Int32 → SX → Prop} {m : Nat} (cs : cs_ok u N) (hq : q ≤ N ∨ (100 ≤ q ∧ q ≤ 100 + N)) (E : es_ok u N p q c ho rg sv) (hl : cd_l c + 1 < 300) {a b d : Nat} (hp : pi_ok pn a b d)
    (hm : m < N) (hmp : sm_u u m < p) (hav : kn (sg_of u) (sm_u u m) = 1 ∨ rg (sm_u u m) ≠ -1 ∨ sv (sm_u u m) ≠ 0)
    (K : ∀ (r : Nat) (c' : cd_T) (ho' rg' sv' : Nat → Int32), br_P u N p q c pn ho rg sv (sm_u u m) r c' ho' rg' sv' → post (nI r) (xe_T u c' (pn ||| ((1 : Int32) <<< (nI r &&& 31))) ho' rg' sv')) :
    wpX_bring post (xe_T u c pn ho rg sv) (nI m) (nI q) := by
  have hN := cs.1.1
  obtain ⟨se, sl⟩ := sm_e cs hm
  unfold wpX_bring xe_T
  dsimp only
  rw [nI_clamp (n := m) (by omega), se]
  refine ⟨vp_in_nI (by omega) (by omega), ?_⟩
  refine nm_e ⟨vp_in_nI (by omega) (by omega), ?_⟩
  rw [nI_clamp (n := sm_u u m) (by omega)]
  have i24 : vp_in (nI (sm_u u m)) 24 := vp_in_nI (by omega) (by omega)
  have cS : (nI (sm_u u m)).toNatClampNeg = sm_u u m := nI_clamp (by omega)
  rcases E.1.2 (sm_u u m) sl with e | ⟨r, hr, e1, e2⟩
  · rw [e]
    refine nm_e (br_f (by decide) ?_)
    refine fr_ok (u := u) cs hq E (by omega) hp (fun r c' ho' rg' sv' F => ?_)
    obtain ⟨hr, hpr, E', L, eR, hl', hfr, kr, kz, ks, kh⟩ := F
    obtain ⟨ke, kl⟩ := kn_e cs sl
    have s1 := cs.1.2.1 (sm_u u m) sl
    have fin : ∀ (o n : Int32), ¬ (o = 11 ∨ o = 12) → o ≠ 17 → o ≠ 19 → o ≠ 20 → wi_ok (sx_tapCount u) o (nI r) (-1) (-1) n →
        (∀ s0, gv_ok (sg_t (sg_of u)) (ms_G s0) → rv_i (sg_t (sg_of u)) o (-1) (-1) n (rs_c (sg_t (sg_of u)) c' s0) = vx (sg_of u) (ms_M s0) (ms_G s0) (sm_u u m)) →
        wX_bring_69 post (nI (sm_u u m)) (nI r) (sx_nodeCount u) (sx_filterCount u) (sx_levelNow u) (sx_compiled u) (sx_needed u) (pn ||| ((1 : Int32) <<< (nI r &&& 31))) (nI (cd_l (cd_push c' o (nI r) (-1) (-1) n))) (sx_wordCount u) (sx_accumulator u) (sx_dueCount u) (sx_stepCount u) (sx_listLength u) (sx_listValue u) (sx_kindOf u) (sx_partX u) (sx_partY u) (sx_filterOf u) (sx_tapCount u) (sx_taps u) (sx_outputNode u) (sx_same u) (ho') (rg') (sv') (cd_o (cd_push c' o (nI r) (-1) (-1) n)) (cd_d (cd_push c' o (nI r) (-1) (-1) n)) (cd_a (cd_push c' o (nI r) (-1) (-1) n)) (cd_b (cd_push c' o (nI r) (-1) (-1) n)) (cd_n (cd_push c' o (nI r) (-1) (-1) n)) (sx_wordOf u) (sx_words u) (sx_memory u) (sx_ringAt u) (sx_register u) (sx_dueRegister u) (sx_dueValue u) (sx_dueWord u) := by
      intro o n o1 o2 o3 o4 w hv
      obtain ⟨E2, L2⟩ := es_rg (o := o) (a := -1) (b := -1) (n := n) E' hr hfr hN o1 o2 o3 o4 w
      have E3 := es_kp E2 hr sl hmp (fun _ h _ => h) (Nat.le_refl _) hN hfr (kz _ sl e) (fun s0 hs => by rw [rs_push, ex_Rs hr]; exact hv s0 hs)
      unfold wX_bring_69
      refine kp_ok (u := u) (n := sm_u u m) (r := r) (by omega) hr ?_
      show wX_bring_76 _ _ _ _ _ _ _ _ _ _ _ _ _ _ _ _ _ _ _ _ _ _ _ _ _ _ _ _ _ _ _ _ _ _ _ _ _ _ _
      unfold wX_bring_76
      refine nm_r (e' := pn ||| ((1 : Int32) <<< (nI r &&& 31))) (ow _ _) (K r _ _ _ _ ⟨hr, E3, lw_tr L L2, ?_, pk_us, fun n hn r' hr' hb e' => ?_, fun n hn hne e' => ?_⟩)
      · show cd_l c' + 1 ≤ _; omega
      · have hne : r' ≠ r := fun z => by subst z; rw [hpr] at hb; exact absurd hb (by decide)
        have : n ≠ sm_u u m := fun z => by subst z; rw [e] at e'; exact absurd e'.symm (sn_ne (by omega))
        rw [pk_un this]
        exact kr n hn r' hr' hne e'
      · rw [pk_un hne]; exact kz n hn e'
    show vp_in (nI (sm_u u m)) 24 ∧ ((sx_kindOf u (sm_u u m) = 1 → vp_in (nI (sm_u u m)) 24 ∧ wpX_emit _ (xe_T u c' (pn ||| ((1 : Int32) <<< (nI r &&& 31))) ho' rg' sv') 1 (nI r) (-1) (-1) (sx_partX u (sm_u u m))) ∧ (¬ sx_kindOf u (sm_u u m) = 1 → wpX_emit _ (xe_T u c' (pn ||| ((1 : Int32) <<< (nI r &&& 31))) ho' rg' sv') 16 (nI r) (-1) (-1) (64 + nI (sm_u u m))))
    refine ⟨i24, ?_⟩
    rw [ke]
    refine pk_eq (kn (sg_of u) (sm_u u m)) 1 (fun k1 => ⟨i24, ?_⟩) (fun k1 => ?_)
    · refine em_ok (u := u) (by omega) (by_n (n := 1) (by omega)) (by_n (by omega)) by_m by_m ?_
      refine fin 1 _ (by decide) (by decide) (by decide) (by decide) (Or.inl ⟨rfl, ⟨r, hr, rfl⟩, rfl, rfl⟩) (fun s0 hs => ?_)
      rw [rv_c (by decide), ca_1, vx_eq s1]
      unfold nd_v
      rw [if_neg (by omega), if_pos k1]
      rfl
    · refine em_ok (u := u) (by omega) (by_n (n := 16) (by omega)) (by_n (by omega)) by_m by_m ?_
      refine fin 16 _ (by decide) (by decide) (by decide) (by decide) (Or.inr (Or.inr (Or.inr (Or.inr (Or.inr (Or.inr (Or.inl ⟨rfl, ⟨r, hr, rfl⟩, rfl, rfl, ad_64 hN sl⟩))))))) (fun s0 hs => ?_)
      rw [rv_16, cl_64 hN sl]
      refine (E'.2.1 s0 hs).2 _ sl (ks _ sl ?_)
      rcases hav with h | h | h
      · exact absurd h k1
      · exact absurd e h
      · exact h
  · rw [e1]
    refine nm_e (br_t (nI_pos' (by omega)) ?_)
    unfold wX_bring_76
    exact nm_e (K r c ho rg sv ⟨hr, E, lw_rf, by omega, e1, fun _ _ _ _ _ h => h, fun _ _ _ h => h⟩)
end
end
section
/-! ===== what the instructions listed so far do to memory ===== -/
/-- an instruction that gives no register a value and leaves what is put away -/
theorem es_nr {u : SX} {N p q : Nat} {c : cd_T} {ho rg sv : Nat → Int32} {o d a b n : Int32} (E : es_ok u N p q c ho rg sv) (hd : ¬ (0 ≤ d ∧ d < 8)) (w : wi_ok (sx_tapCount u) o d a b n)
    (hm : ∀ s0, gv_ok (sx_tapCount u) (ms_G s0) → ∀ m, m < N → ms_M (ex_i (sx_tapCount u) o d a b n (rs_c (sx_tapCount u) c s0)) (64 + m) = ms_M (rs_c (sx_tapCount u) c s0) (64 + m)) :
    es_ok u N p q (cd_push c o d a b n) ho rg sv := by
  obtain ⟨A, B, C, D, F⟩ := E
  refine ⟨A, fun s hs => ⟨fun m hm' r hr e => ?_, fun m hm' hsv => ?_⟩, wc_push C w, D, F⟩
  · rw [rs_push, ex_Rm hd]
    exact (B s hs).1 m hm' r hr e
  · rw [rs_push]
    exact (hm s hs m hm').trans ((B s hs).2 m hm' hsv)
def ri_ok (s0 s : ms_T) (f : Nat) : Prop := ms_G s f = ms_G s0 f ∧ ∀ y, y < 8 → ms_M s (32 + 8 * f + y) = ms_M s0 (32 + 8 * f + y)
def rf_ok (tc : Nat → Int32) (s0 s : ms_T) (f : Nat) (x : Int32) : Prop :=
  ms_G s f = rp_g tc (ms_G s0) (nI (8 * f)) ∧ ∀ y, y < 8 → ms_M s (32 + 8 * f + y) = upd (ms_M s0) (rp_a tc (ms_G s0) (nI (8 * f))) x (32 + 8 * f + y)
def mf_ok (u : SX) (N p : Nat) (Q : Nat → Nat → Prop) (P5 : Nat → Prop) (c : cd_T) : Prop :=
  ∀ s0, gv_ok (sx_tapCount u) (ms_G s0) →
    ms_M (rs_c (sx_tapCount u) c s0) 0 = ms_M s0 0 ∧ ms_M (rs_c (sx_tapCount u) c s0) 1 = ms_M s0 1 ∧
    (∀ o, o < 4 → ∀ q, q < N → sx_outputNode u o = nI q → Q o (sm_u u q) → ms_M (rs_c (sx_tapCount u) c s0) (2 + o) = vx (sg_of u) (ms_M s0) (ms_G s0) q) ∧
    (∀ n, n < N → (kn (sg_of u) n = 5 → P5 n → ms_M (rs_c (sx_tapCount u) c s0) (8 + n) = vx (sg_of u) (ms_M s0) (ms_G s0) (xn (sg_of u) n)) ∧ (¬ P5 n → ms_M (rs_c (sx_tapCount u) c s0) (8 + n) = ms_M s0 (8 + n))) ∧
    (∀ n, n < N → kn (sg_of u) n = 6 → (n < p ∧ nd_u u n → rf_ok (sx_tapCount u) s0 (rs_c (sx_tapCount u) c s0) (rk (sg_of u) n) (vx (sg_of u) (ms_M s0) (ms_G s0) (xn (sg_of u) n))) ∧
      (¬ (n < p ∧ nd_u u n) → ri_ok s0 (rs_c (sx_tapCount u) c s0) (rk (sg_of u) n)))
theorem mf_lw {u : SX} {N p : Nat} {Q : Nat → Nat → Prop} {P5 : Nat → Prop} {c c' : cd_T} (hN : N ≤ 24) (hr : ∀ n, n < N → kn (sg_of u) n = 6 → rk (sg_of u) n < 4) (h : mf_ok u N p Q P5 c) (L : lw_eq (sx_tapCount u) c c') : mf_ok u N p Q P5 c' := by
  intro s0 hs
  obtain ⟨h1, h2, h3, h4, h5⟩ := h s0 hs
  obtain ⟨l1, l2, l3⟩ := L s0 hs
  refine ⟨(l1 0 (by omega)).trans h1, (l1 1 (by omega)).trans h2, fun o ho q hq e z => (l1 (2 + o) (by omega)).trans (h3 o ho q hq e z), fun n hn => ⟨fun k z => (l1 (8 + n) (by omega)).trans ((h4 n hn).1 k z), fun z => (l1 (8 + n) (by omega)).trans ((h4 n hn).2 z)⟩, fun n hn k => ?_⟩
  have hf := hr n hn k
  refine ⟨fun z => ?_, fun z => ?_⟩
  · have := (h5 n hn k).1 z
    exact ⟨by rw [l2]; exact this.1, fun y hy => (l1 _ (by omega)).trans (this.2 y hy)⟩
  · have := (h5 n hn k).2 z
    exact ⟨by rw [l2]; exact this.1, fun y hy => (l1 _ (by omega)).trans (this.2 y hy)⟩
/-- a store at a place below 32 -/
theorem st_lo {u : SX} {N p q : Nat} {c : cd_T} {ho rg sv : Nat → Int32} {r x : Nat} (E : es_ok u N p q c ho rg sv) (hr : r < 8) (hx : x < 32) :
    es_ok u N p q (cd_push c 17 (-1) (nI r) (-1) (nI x)) ho rg sv ∧
    (∀ s0, ms_M (rs_c (sx_tapCount u) (cd_push c 17 (-1) (nI r) (-1) (nI x)) s0) = upd (ms_M (rs_c (sx_tapCount u) c s0)) x (ms_R (rs_c (sx_tapCount u) c s0) r)) ∧
    (∀ s0, ms_G (rs_c (sx_tapCount u) (cd_push c 17 (-1) (nI r) (-1) (nI x)) s0) = ms_G (rs_c (sx_tapCount u) c s0)) := by
  have eM : ∀ s0, ms_M (rs_c (sx_tapCount u) (cd_push c 17 (-1) (nI r) (-1) (nI x)) s0) = upd (ms_M (rs_c (sx_tapCount u) c s0)) x (ms_R (rs_c (sx_tapCount u) c s0) r) := by
    intro s0
    rw [rs_push, ex_M17, nI_clamp (by omega), nI_clamp (by omega)]
  refine ⟨es_nr E (by decide) (Or.inr (Or.inr (Or.inr (Or.inr (Or.inr (Or.inr (Or.inr (Or.inl ⟨rfl, rfl, ⟨r, hr, rfl⟩, rfl, ⟨x, rfl, Or.inl hx⟩⟩)))))))) (fun s0 _ m hm => ?_), eM, fun s0 => by rw [rs_push, ex_Gn (by decide)]⟩
  rw [← rs_push, eM, pk_un (by omega)]
/-- the outputs' cells -/
theorem mf_out {u : SX} {N p : Nat} {Q Q' : Nat → Nat → Prop} {P5 : Nat → Prop} {c c' : cd_T} {o r m : Nat} (hN : N ≤ 24) (hr : ∀ n, n < N → kn (sg_of u) n = 6 → rk (sg_of u) n < 4) (h : mf_ok u N p Q P5 c) (ho : o < 4)
    (eM : ∀ s0, ms_M (rs_c (sx_tapCount u) c' s0) = upd (ms_M (rs_c (sx_tapCount u) c s0)) (2 + o) (ms_R (rs_c (sx_tapCount u) c s0) r))
    (eG : ∀ s0, ms_G (rs_c (sx_tapCount u) c' s0) = ms_G (rs_c (sx_tapCount u) c s0))
    (hv : ∀ s0, gv_ok (sx_tapCount u) (ms_G s0) → ms_R (rs_c (sx_tapCount u) c s0) r = vx (sg_of u) (ms_M s0) (ms_G s0) m)
    (hm : ∀ q, q < N → sx_outputNode u o = nI q → ∀ M G, vx (sg_of u) M G q = vx (sg_of u) M G m)
    (hQ : ∀ o' s, Q' o' s → o' = o ∨ Q o' s) : mf_ok u N p Q' P5 c' := by
  intro s0 hs
  obtain ⟨h1, h2, h3, h4, h5⟩ := h s0 hs
  unfold ri_ok rf_ok at h5
  unfold ri_ok rf_ok
  rw [eM, eG]
  refine ⟨by rw [pk_un (by omega)]; exact h1, by rw [pk_un (by omega)]; exact h2, fun o' ho' q hq e z => ?_, fun n hn => ⟨fun k z => by rw [pk_un (by omega)]; exact (h4 n hn).1 k z, fun z => by rw [pk_un (by omega)]; exact (h4 n hn).2 z⟩, fun n hn k => ⟨fun z => ⟨((h5 n hn k).1 z).1, fun y hy => by rw [pk_un (by omega)]; exact ((h5 n hn k).1 z).2 y hy⟩, fun z => ⟨((h5 n hn k).2 z).1, fun y hy => by rw [pk_un (by omega)]; exact ((h5 n hn k).2 z).2 y hy⟩⟩⟩
  by_cases eo : o' = o
  · subst eo
    rw [pk_us, hv s0 hs, hm q hq e]
  · rw [pk_un (by omega)]
    rcases hQ o' _ z with e' | z'
    · exact absurd e' eo
    · exact h3 o' ho' q hq e z'
/-- a delay's cell -/
theorem mf_del {u : SX} {N p : Nat} {Q : Nat → Nat → Prop} {P5 : Nat → Prop} {c c' : cd_T} {m r : Nat} (hN : N ≤ 24) (h : mf_ok u N p Q P5 c) (hm : m < N)
    (eM : ∀ s0, ms_M (rs_c (sx_tapCount u) c' s0) = upd (ms_M (rs_c (sx_tapCount u) c s0)) (8 + m) (ms_R (rs_c (sx_tapCount u) c s0) r))
    (eG : ∀ s0, ms_G (rs_c (sx_tapCount u) c' s0) = ms_G (rs_c (sx_tapCount u) c s0))
    (hv : ∀ s0, gv_ok (sx_tapCount u) (ms_G s0) → ms_R (rs_c (sx_tapCount u) c s0) r = vx (sg_of u) (ms_M s0) (ms_G s0) (xn (sg_of u) m)) : mf_ok u N p Q (fun n => P5 n ∨ n = m) c' := by
  intro s0 hs
  obtain ⟨h1, h2, h3, h4, h5⟩ := h s0 hs
  unfold ri_ok rf_ok at h5
  unfold ri_ok rf_ok
  rw [eM, eG]
  refine ⟨by rw [pk_un (by omega)]; exact h1, by rw [pk_un (by omega)]; exact h2, fun o' ho' q hq e z => by rw [pk_un (by omega)]; exact h3 o' ho' q hq e z, fun n hn => ?_, fun n hn k => ⟨fun z => ⟨((h5 n hn k).1 z).1, fun y hy => by rw [pk_un (by omega)]; exact ((h5 n hn k).1 z).2 y hy⟩, fun z => ⟨((h5 n hn k).2 z).1, fun y hy => by rw [pk_un (by omega)]; exact ((h5 n hn k).2 z).2 y hy⟩⟩⟩
  by_cases e : n = m
  · subst e
    rw [pk_us]
    exact ⟨fun _ _ => hv s0 hs, fun z => absurd (Or.inr rfl) z⟩
  · rw [pk_un (by omega)]
    exact ⟨fun k z => z.elim (fun z => (h4 n hn).1 k z) (fun z => absurd z e), fun z => (h4 n hn).2 (fun z' => z (Or.inl z'))⟩
/-- with the next node that changes nothing -/
theorem mf_sk {u : SX} {N p : Nat} {Q Q' : Nat → Nat → Prop} {P5 : Nat → Prop} {c : cd_T} (h : mf_ok u N p Q P5 c) (h6 : p < N → kn (sg_of u) p = 6 → ¬ nd_u u p)
    (hQ : ∀ o, o < 4 → ∀ q, q < N → sx_outputNode u o = nI q → Q' o (sm_u u q) → Q o (sm_u u q)) : mf_ok u N (p + 1) Q' P5 c := by
  intro s0 hs
  obtain ⟨h1, h2, h3, h4, h5⟩ := h s0 hs
  refine ⟨h1, h2, fun o ho q hq e z => h3 o ho q hq e (hQ o ho q hq e z), h4, fun n hn k => ⟨fun z => (h5 n hn k).1 ⟨?_, z.2⟩, fun z => (h5 n hn k).2 (fun z' => z ⟨by omega, z'.2⟩)⟩⟩
  by_cases e : n = p
  · subst e; exact absurd z.2 (h6 hn k)
  · omega
def ol_b (u : SX) (p o : Nat) : Nat := if 0 ≤ sx_outputNode u o ∧ sm_u u (sx_outputNode u o).toNatClampNeg < p then 1 else 0
def ol_e (u : SX) (p o : Nat) : Nat := if 0 ≤ sx_outputNode u o ∧ sm_u u (sx_outputNode u o).toNatClampNeg = p then 1 else 0
theorem ol_s (u : SX) (p o : Nat) : ol_b u (p + 1) o = ol_b u p o + ol_e u p o := by
  unfold ol_b ol_e
  by_cases h : 0 ≤ sx_outputNode u o
  · by_cases h1 : sm_u u (sx_outputNode u o).toNatClampNeg < p
    · rw [if_pos ⟨h, by omega⟩, if_pos ⟨h, h1⟩, if_neg (fun z => by omega)]
    · by_cases h2 : sm_u u (sx_outputNode u o).toNatClampNeg = p
      · rw [if_pos ⟨h, by omega⟩, if_neg (fun z => h1 z.2), if_pos ⟨h, h2⟩]
      · rw [if_neg (fun z => by omega), if_neg (fun z => h1 z.2), if_neg (fun z => h2 z.2)]
  · rw [if_neg (fun z => h z.1), if_neg (fun z => h z.1), if_neg (fun z => h z.1)]
def oL (u : SX) (p : Nat) : Nat := ol_b u p 0 + ol_b u p 1 + ol_b u p 2 + ol_b u p 3
def oE (u : SX) (p : Nat) : Nat → Nat
  | 0 => 0
  | o + 1 => oE u p o + ol_e u p o
theorem oL_s (u : SX) (p : Nat) : oL u (p + 1) = oL u p + oE u p 4 := by
  show ol_b u (p + 1) 0 + ol_b u (p + 1) 1 + ol_b u (p + 1) 2 + ol_b u (p + 1) 3 = ol_b u p 0 + ol_b u p 1 + ol_b u p 2 + ol_b u p 3 + (0 + ol_e u p 0 + ol_e u p 1 + ol_e u p 2 + ol_e u p 3)
  rw [ol_s, ol_s, ol_s, ol_s]
  omega
theorem oL_4 (u : SX) (p : Nat) : oL u p ≤ 4 := by
  have : ∀ o, ol_b u p o ≤ 1 := by intro o; unfold ol_b; split <;> omega
  have h0 := this 0
  have h1 := this 1
  have h2 := this 2
  have h3 := this 3
  unfold oL
  omega
theorem oE_1 (u : SX) (p : Nat) : ∀ o, oE u p o ≤ o := by
  intro o
  induction o with
  | zero => exact Nat.le_refl _
  | succ o ih =>
    have : ol_e u p o ≤ 1 := by unfold ol_e; split <;> omega
    show oE u p o + ol_e u p o ≤ _
    omega
theorem oE_m (u : SX) (p : Nat) : oE u p 4 ≤ 4 := oE_1 u p 4
end
section
section
variable {u : SX} {pn : Int32} {ho rg sv : Nat → Int32} {N p : Nat} {P5 : Nat → Prop} {post : SX → Prop}
theorem rk_4 (cs : cs_ok u N) : ∀ n, n < N → kn (sg_of u) n = 6 → rk (sg_of u) n < 4 := fun n hn k => ((cs.1.2.1 n hn).2.2.2.2.2 k).2.1
theorem e121 (cs : cs_ok u N) (hp : p < N) {r B : Nat} (hr : r < 8) (hrg : rg p = nI r) (hB : B + 4 ≤ 300)
    (K : ∀ c', es_ok u N (p + 1) (p + 1) c' ho rg sv → mf_ok u N (p + 1) (fun _ s => s < p + 1) P5 c' → cd_l c' ≤ B + oE u p 4 → post (xe_T u c' 0 ho rg sv)) :
    ∀ (d o : Nat) (c : cd_T), o + d = 4 → es_ok u N (p + 1) (p + 1) c ho rg sv → mf_ok u N (p + 1) (fun o' s => s < p ∨ (s = p ∧ o' < o)) P5 c → cd_l c ≤ B + oE u p o → ∀ f, d < f →
      wX_emitNode_121 post (nI p) (nI r) f (nI o) (sx_nodeCount u) (sx_filterCount u) (sx_levelNow u) (sx_compiled u) (sx_needed u) (pn) (nI (cd_l c)) (sx_wordCount u) (sx_accumulator u) (sx_dueCount u) (sx_stepCount u) (sx_listLength u) (sx_listValue u) (sx_kindOf u) (sx_partX u) (sx_partY u) (sx_filterOf u) (sx_tapCount u) (sx_taps u) (sx_outputNode u) (sx_same u) (ho) (rg) (sv) (cd_o c) (cd_d c) (cd_a c) (cd_b c) (cd_n c) (sx_wordOf u) (sx_words u) (sx_memory u) (sx_ringAt u) (sx_register u) (sx_dueRegister u) (sx_dueValue u) (sx_dueWord u) := by
  have hN := cs.1.1
  intro d
  induction d with
  | zero =>
    intro o c hd E Mf hl f hf
    obtain ⟨f, rfl⟩ : ∃ f', f = f' + 1 := ⟨f - 1, by omega⟩
    have : o = 4 := by omega
    subst this
    rw [wX_emitNode_121]
    refine br_t (nI_le (a := 4) (by omega) (by omega)) (K c E ?_ hl)
    intro s0 hs
    obtain ⟨h1, h2, h3, h4, h5⟩ := Mf s0 hs
    exact ⟨h1, h2, fun o ho q hq e z => h3 o ho q hq e (by have : sm_u u q < p + 1 := z; omega), h4, h5⟩
  | succ d ih =>
    intro o c hd E Mf hl f hf
    obtain ⟨f, rfl⟩ : ∃ f', f = f' + 1 := ⟨f - 1, by omega⟩
    have i4 : vp_in (nI o) 4 := vp_in_nI (by omega) (by omega)
    have hoE : oE u p (o + 1) = oE u p o + ol_e u p o := rfl
    have hE4 := oE_1 u p o
    rw [wX_emitNode_121]
    refine br_f (nI_ge (b := 4) (by omega) (by omega)) ⟨i4, ?_⟩
    rw [nI_clamp (n := o) (by omega)]
    have skip : (∀ q, q < N → sx_outputNode u o = nI q → sm_u u q ≠ p) → ∀ y, y = nI o + 1 → wX_emitNode_121 post (nI p) (nI r) f y (sx_nodeCount u) (sx_filterCount u) (sx_levelNow u) (sx_compiled u) (sx_needed u) (pn) (nI (cd_l c)) (sx_wordCount u) (sx_accumulator u) (sx_dueCount u) (sx_stepCount u) (sx_listLength u) (sx_listValue u) (sx_kindOf u) (sx_partX u) (sx_partY u) (sx_filterOf u) (sx_tapCount u) (sx_taps u) (sx_outputNode u) (sx_same u) (ho) (rg) (sv) (cd_o c) (cd_d c) (cd_a c) (cd_b c) (cd_n c) (sx_wordOf u) (sx_words u) (sx_memory u) (sx_ringAt u) (sx_register u) (sx_dueRegister u) (sx_dueValue u) (sx_dueWord u) := by
      intro hq'
      refine nm_r (e' := nI (o + 1)) (nI_1 _) (ih (o + 1) c (by omega) E ?_ (by omega) f (by omega))
      intro s0 hs
      obtain ⟨h1, h2, h3, h4, h5⟩ := Mf s0 hs
      refine ⟨h1, h2, fun o' ho' q hq e z => h3 o' ho' q hq e ?_, h4, h5⟩
      rcases z with z | ⟨z1, z2⟩
      · exact Or.inl z
      · by_cases eo : o' = o
        · subst eo; exact absurd z1 (hq' q hq e)
        · exact Or.inr ⟨z1, by omega⟩
    rcases cs.2.2.2.2.2.2 o (by omega) with e | ⟨q, hq, e, hnd⟩
    · rw [e]
      exact br_t (by decide) (skip (fun q hq e' => absurd (e.symm.trans e') (fun z => sn_ne (by omega) z.symm)))
    · obtain ⟨se, sl⟩ := sm_e cs hq
      rw [e]
      refine br_f (nI_pos (by omega)) ⟨i4, vp_in_nI (by omega) (by omega), ?_⟩
      rw [nI_clamp (n := q) (by omega), se]
      refine pk_eq (sm_u u q) p (fun eq => ?_) (fun ne => skip (fun q' hq' e' => ?_))
      · rw [show (2 : Int32) + nI o = nI (2 + o) from nI_add 2 o]
        refine em_ok (u := u) (by omega) (by_n (n := 17) (by omega)) by_m (by_n (by omega)) by_m ?_
        refine nm_r (e' := nI (o + 1)) (nI_1 _) ?_
        obtain ⟨E', eM, eG⟩ := st_lo (x := 2 + o) E hr (by omega)
        refine ih (o + 1) _ (by omega) E' (mf_out (m := p) hN (rk_4 cs) Mf (by omega : o < 4) eM eG (fun s0 hs => (E.2.1 s0 hs).1 p hp r hr hrg) (fun q' hq' e' M G => ?_) (fun o' s z => ?_)) ?_ f (by omega)
        · have : q' = q := sn_inj (by omega) (by omega) (e'.symm.trans e)
          subst this
          rw [← vx_sm cs.1 cs.2.2.2.1 q' hq', eq]
        · rcases z with z | ⟨z1, z2⟩
          · exact Or.inr (Or.inl z)
          · by_cases eo : o' = o
            · exact Or.inl eo
            · exact Or.inr (Or.inr ⟨z1, by omega⟩)
        · have : ol_e u p o = 1 := by
            unfold ol_e
            rw [e, nI_clamp (by omega), if_pos ⟨nI_pos' (by omega), eq⟩]
          show cd_l c + 1 ≤ _
          omega
      · have : q' = q := sn_inj (by omega) (by omega) (e'.symm.trans e)
        subst this
        exact ne
theorem e112 {c : cd_T} (cs : cs_ok u N) (hp : p < N) {r B : Nat} (hr : r < 8) (hB : B + 4 ≤ 300)
    (E : es_ok u N (p + 1) (p + 1) c (upd ho r (nI p)) (upd rg p (nI r)) sv) (Mf : mf_ok u N (p + 1) (fun _ s => s < p) P5 c) (hl : cd_l c ≤ B)
    (K : ∀ c', es_ok u N (p + 1) (p + 1) c' (upd ho r (nI p)) (upd rg p (nI r)) sv → mf_ok u N (p + 1) (fun _ s => s < p + 1) P5 c' → cd_l c' ≤ B + oE u p 4 → post (xe_T u c' 0 (upd ho r (nI p)) (upd rg p (nI r)) sv)) :
    wX_emitNode_112 post (nI p) (nI r) (sx_nodeCount u) (sx_filterCount u) (sx_levelNow u) (sx_compiled u) (sx_needed u) (pn) (nI (cd_l c)) (sx_wordCount u) (sx_accumulator u) (sx_dueCount u) (sx_stepCount u) (sx_listLength u) (sx_listValue u) (sx_kindOf u) (sx_partX u) (sx_partY u) (sx_filterOf u) (sx_tapCount u) (sx_taps u) (sx_outputNode u) (sx_same u) (ho) (rg) (sv) (cd_o c) (cd_d c) (cd_a c) (cd_b c) (cd_n c) (sx_wordOf u) (sx_words u) (sx_memory u) (sx_ringAt u) (sx_register u) (sx_dueRegister u) (sx_dueValue u) (sx_dueWord u) := by
  have hN := cs.1.1
  unfold wX_emitNode_112
  refine kp_ok (u := u) (n := p) (r := r) (by omega) hr ⟨5, ?_⟩
  refine e121 (pn := pn) cs hp hr pk_us hB K 4 0 c (by omega) E ?_ (by show cd_l c ≤ B + 0; omega) 5 (by omega)
  intro s0 hs
  obtain ⟨h1, h2, h3, h4, h5⟩ := Mf s0 hs
  refine ⟨h1, h2, fun o' ho' q hq e z => h3 o' ho' q hq e ?_, h4, h5⟩
  rcases z with z | ⟨z1, z2⟩
  · exact z
  · omega
end
end
section
section
variable {u : SX} {c : cd_T} {pn : Int32} {ho rg sv : Nat → Int32} {N p : Nat} {P5 : Nat → Prop}
/-- node p's value stands in register r, which holds nothing yet -/
def ep_P (u : SX) (N p : Nat) (c : cd_T) (L r : Nat) (c' : cd_T) (ho' rg' sv' : Nat → Int32) : Prop :=
  r < 8 ∧ es_ok u N p (p + 1) c' ho' rg' sv' ∧ ho' r = -1 ∧ (∀ s0, gv_ok (sx_tapCount u) (ms_G s0) → ms_R (rs_c (sx_tapCount u) c' s0) r = vx (sg_of u) (ms_M s0) (ms_G s0) p) ∧ lw_eq (sx_tapCount u) c c' ∧ cd_l c' ≤ L
theorem p63 {post : Int32 → SX → Prop} {x2 x4 o : Int32} {a a1 a2 a3 L : Nat} (cs : cs_ok u N) (hp : p < N) (E : es_ok u N p p c ho rg sv) (hpi : pi_ok pn a1 a2 a3) (hl : cd_l c + 2 ≤ L) (hL : L ≤ 300)
    (ho1 : o < 16) (ho2 : ¬ (o = 11 ∨ o = 12)) (ho3 : by_f o) (ho4 : by_f x4) (ha8 : a < 8) (w : ∀ r, r < 8 → wi_ok (sx_tapCount u) o (nI r) (nI a) x4 (sx_partY u p)) (hx2 : (x2 = 4 ∧ o = 10) ∨ (x2 ≠ 4 ∧ o = x2))
    (hv : ∀ s0, gv_ok (sx_tapCount u) (ms_G s0) → rv_i (sx_tapCount u) o (nI a) x4 (sx_partY u p) (rs_c (sx_tapCount u) c s0) = vx (sg_of u) (ms_M s0) (ms_G s0) p)
    (K : ∀ (r : Nat) (c' : cd_T) (pn' : Int32) (ho' rg' sv' : Nat → Int32), ep_P u N p c L r c' ho' rg' sv' → post (nI r) (xe_T u c' pn' ho' rg' sv')) :
    wX_emitPlain_63 post (nI p) x2 (nI a) x4 (sx_nodeCount u) (sx_filterCount u) (sx_levelNow u) (sx_compiled u) (sx_needed u) (pn) (nI (cd_l c)) (sx_wordCount u) (sx_accumulator u) (sx_dueCount u) (sx_stepCount u) (sx_listLength u) (sx_listValue u) (sx_kindOf u) (sx_partX u) (sx_partY u) (sx_filterOf u) (sx_tapCount u) (sx_taps u) (sx_outputNode u) (sx_same u) (ho) (rg) (sv) (cd_o c) (cd_d c) (cd_a c) (cd_b c) (cd_n c) (sx_wordOf u) (sx_words u) (sx_memory u) (sx_ringAt u) (sx_register u) (sx_dueRegister u) (sx_dueValue u) (sx_dueWord u) := by
  have hN := cs.1.1
  unfold wX_emitPlain_63
  rw [nI_1]
  refine fr_ok (u := u) cs (Or.inl (by omega)) (es_mo (q' := p + 1) (by omega) E) (by omega) hpi (fun r c' ho' rg' sv' F => ?_)
  obtain ⟨hr, hpr, E', Lw, eR, hl', hfr, kr, kz, ks, kh⟩ := F
  have o17 : o ≠ 17 := fun e => by rw [e] at ho1; exact absurd ho1 (by decide)
  have o19 : o ≠ 19 := fun e => by rw [e] at ho1; exact absurd ho1 (by decide)
  have o20 : o ≠ 20 := fun e => by rw [e] at ho1; exact absurd ho1 (by decide)
  have goal : wX_emitPlain_84 post (nI p) (nI a) x4 (nI r) o (sx_nodeCount u) (sx_filterCount u) (sx_levelNow u) (sx_compiled u) (sx_needed u) (pn ||| ((1 : Int32) <<< (nI r &&& 31))) (nI (cd_l c')) (sx_wordCount u) (sx_accumulator u) (sx_dueCount u) (sx_stepCount u) (sx_listLength u) (sx_listValue u) (sx_kindOf u) (sx_partX u) (sx_partY u) (sx_filterOf u) (sx_tapCount u) (sx_taps u) (sx_outputNode u) (sx_same u) (ho') (rg') (sv') (cd_o c') (cd_d c') (cd_a c') (cd_b c') (cd_n c') (sx_wordOf u) (sx_words u) (sx_memory u) (sx_ringAt u) (sx_register u) (sx_dueRegister u) (sx_dueValue u) (sx_dueWord u) := by
    unfold wX_emitPlain_84
    rw [nI_clamp (n := p) (by omega)]
    refine ⟨vp_in_nI (by omega) (by omega), ?_⟩
    refine em_ok (u := u) (by omega) ho3 (by_n (by omega)) (by_n (by omega)) ho4 ?_
    obtain ⟨E2, L2⟩ := es_rg (o := o) (a := nI a) (b := x4) (n := sx_partY u p) E' hr hfr hN ho2 o17 o19 o20 (w r hr)
    refine K r _ _ ho' rg' sv' ⟨hr, E2, hfr, fun s0 hs => ?_, lw_tr Lw L2, by show cd_l c' + 1 ≤ L; omega⟩
    rw [rs_push, ex_Rs hr, rv_c ho1, eR, (Lw s0 hs).2.2, ← rv_c (tc := sx_tapCount u) ho1]
    exact hv s0 hs
  rcases hx2 with ⟨e1, e2⟩ | ⟨e1, e2⟩
  · subst e2
    exact br_t e1 goal
  · subst e2
    exact br_f e1 goal
def xo_ok (u : SX) (rg : Nat → Int32) (k p : Nat) (x4 : Int32) : Prop := (tw k ∧ ∃ b, b < 8 ∧ x4 = nI b ∧ rg (sm_u u (yn (sg_of u) p)) = nI b) ∨ (¬ tw k ∧ x4 = -1)
theorem p36 {post : Int32 → SX → Prop} {x4 : Int32} {k a a1 a2 L : Nat} (cs : cs_ok u N) (hp : p < N) (hk : kn (sg_of u) p = k) (hk2 : 2 ≤ k) (hk5 : k ≠ 5) (hk6 : k ≠ 6) (E : es_ok u N p p c ho rg sv) (hpi : ∀ d, pi_ok pn a1 a2 d) (hl : cd_l c + 4 ≤ L ∨ (k ≠ 4 ∧ cd_l c + 2 ≤ L)) (hL : L ≤ 300)
    (ha8 : a < 8) (ha : rg (sm_u u (xn (sg_of u) p)) = nI a) (hap : bt pn a = true)
    (hx4 : xo_ok u rg k p x4)
    (K : ∀ (r : Nat) (c' : cd_T) (pn' : Int32) (ho' rg' sv' : Nat → Int32), ep_P u N p c L r c' ho' rg' sv' → post (nI r) (xe_T u c' pn' ho' rg' sv')) :
    wX_emitPlain_36 post (nI p) (nI k) (nI a) x4 (sx_nodeCount u) (sx_filterCount u) (sx_levelNow u) (sx_compiled u) (sx_needed u) (pn) (nI (cd_l c)) (sx_wordCount u) (sx_accumulator u) (sx_dueCount u) (sx_stepCount u) (sx_listLength u) (sx_listValue u) (sx_kindOf u) (sx_partX u) (sx_partY u) (sx_filterOf u) (sx_tapCount u) (sx_taps u) (sx_outputNode u) (sx_same u) (ho) (rg) (sv) (cd_o c) (cd_d c) (cd_a c) (cd_b c) (cd_n c) (sx_wordOf u) (sx_words u) (sx_memory u) (sx_ringAt u) (sx_register u) (sx_dueRegister u) (sx_dueValue u) (sx_dueWord u) := by
  have hN := cs.1.1
  have s1 := cs.1.2.1 p hp
  have hk10 := s1.2.1
  obtain ⟨xe, xl⟩ := xn_e cs hp (by omega)
  obtain ⟨se, sl⟩ := sm_e cs xl
  have eva : ∀ s0, gv_ok (sx_tapCount u) (ms_G s0) → ms_R (rs_c (sx_tapCount u) c s0) a = vx (sg_of u) (ms_M s0) (ms_G s0) (xn (sg_of u) p) := by
    intro s0 hs
    rw [← vx_sm cs.1 cs.2.2.2.1 _ xl]
    exact (E.2.1 s0 hs).1 _ sl a ha8 ha
  have vxe : ∀ M G, vx (sg_of u) M G p = nd_v (sg_of u) M G (vx (sg_of u) M G) p := fun M G => vx_eq s1
  have ek : sg_k (sg_of u) p = nI k := by rw [s1.1, hk]
  unfold wX_emitPlain_36
  refine pk_eq k 4 (fun k4 => ?_) (fun k4 => ?_)
  · subst k4
    have hnt : ¬ tw 4 := by unfold tw; omega
    refine fr_ok (u := u) cs (Or.inl (by omega)) E (by omega) (hpi 0) (fun b c' ho' rg' sv' F => ?_)
    obtain ⟨hb, hpb, E', Lw, eR, hl', hfr, kr, kz, ks, kh⟩ := F
    have hab : a ≠ b := fun e => by subst e; rw [hap] at hpb; exact absurd hpb (by decide)
    show vp_in (nI p) 24 ∧ wpX_emit _ (xe_T u c' (pn ||| ((1 : Int32) <<< (nI b &&& 31))) ho' rg' sv') 1 (nI b) (-1) (-1) (sx_partY u (nI p).toNatClampNeg)
    rw [nI_clamp (n := p) (by omega)]
    refine ⟨vp_in_nI (by omega) (by omega), ?_⟩
    refine em_ok (u := u) (by omega) (by_n (n := 1) (by omega)) (by_n (by omega)) by_m by_m ?_
    obtain ⟨E2, L2⟩ := es_rg (o := 1) (a := -1) (b := -1) (n := sx_partY u p) E' hb hfr hN (by decide) (by decide) (by decide) (by decide) (Or.inl ⟨rfl, ⟨b, hb, rfl⟩, rfl, rfl⟩)
    refine p63 (u := u) (o := 10) (a := a) cs hp E2 (pi_3 hb hpi) (by show cd_l c' + 1 + 2 ≤ L; omega) hL (by decide) (by decide) (by_n (n := 10) (by omega)) (by_n (by omega)) ha8 (fun r hr => Or.inr (Or.inr (Or.inl ⟨Or.inr (Or.inr (Or.inr rfl)), ⟨r, hr, rfl⟩, ⟨a, ha8, rfl⟩, ⟨b, hb, rfl⟩⟩))) (Or.inl ⟨rfl, rfl⟩) (fun s0 hs => ?_) (fun r c2 pn' ho2 rg2 sv2 P => K r c2 pn' ho2 rg2 sv2 ?_)
    · rw [rv_c (by decide), nI_clamp (by omega), nI_clamp (by omega), rs_push, ex_Rs hb, ex_Rn ha8 (fun z => hab (sn_inj (by omega) (by omega) z).symm), rv_c (by decide), ca_1, eR, eva s0 hs, vxe]
      unfold nd_v
      rw [hk, if_neg (by decide), if_neg (by decide), if_neg (by decide), if_neg (by decide), if_pos rfl]
      exact ca_A (by decide)
    · obtain ⟨q1, q2, q3, q4, q5, q6⟩ := P
      exact ⟨q1, q2, q3, q4, lw_tr Lw (lw_tr L2 q5), q6⟩
  · have hkne : nI k ≠ 4 := fun e => k4 (sn_inj (a := k) (b := 4) (by omega) (by omega) e)
    have hl2 : cd_l c + 2 ≤ L := by omega
    rcases hx4 with ⟨ht, b, hb, rfl, hb2⟩ | ⟨hnt, rfl⟩
    · obtain ⟨ye, yl⟩ := yn_e cs hp (by rw [hk]; exact ht)
      obtain ⟨sye, syl⟩ := sm_e cs yl
      have evb : ∀ s0, gv_ok (sx_tapCount u) (ms_G s0) → ms_R (rs_c (sx_tapCount u) c s0) b = vx (sg_of u) (ms_M s0) (ms_G s0) (yn (sg_of u) p) := by
        intro s0 hs
        rw [← vx_sm cs.1 cs.2.2.2.1 _ yl]
        exact (E.2.1 s0 hs).1 _ syl b hb hb2
      have ko : nI k = 2 ∨ nI k = 3 ∨ nI k = 9 ∨ nI k = 10 := by
        rcases ht with e | e | e | e <;> rw [e]
        · exact Or.inl rfl
        · exact Or.inr (Or.inl rfl)
        · exact Or.inr (Or.inr (Or.inl rfl))
        · exact Or.inr (Or.inr (Or.inr rfl))
      have k16 : nI k < 16 := nI_lt (b := 16) (by omega) (by omega)
      refine p63 (u := u) (o := nI k) (a := a) cs hp E (hpi 0) hl2 hL k16 ?_ (by_n (by omega)) (by_n (by omega)) ha8 (fun r hr => Or.inr (Or.inr (Or.inl ⟨ko, ⟨r, hr, rfl⟩, ⟨a, ha8, rfl⟩, ⟨b, hb, rfl⟩⟩))) (Or.inr ⟨hkne, rfl⟩) (fun s0 hs => ?_) K
      · rcases ko with e | e | e | e <;> rw [e] <;> decide
      · rw [rv_c k16, nI_clamp (by omega), nI_clamp (by omega), eva s0 hs, evb s0 hs, vxe]
        unfold nd_v
        have hk01 : 2 ≤ kn (sg_of u) p := by omega
        rw [if_neg (by omega), if_neg (by omega), if_neg (by omega), if_neg (by omega), if_neg (by omega), ek]
        exact ca_A (by rcases ko with e | e | e | e <;> rw [e] <;> decide)
    · have hk78 : k = 7 ∨ k = 8 := by unfold tw at hnt; omega
      have ko : nI k = 7 ∨ nI k = 8 := by
        rcases hk78 with e | e <;> rw [e]
        · exact Or.inl rfl
        · exact Or.inr rfl
      have k16 : nI k < 16 := nI_lt (b := 16) (by omega) (by omega)
      refine p63 (u := u) (o := nI k) (a := a) cs hp E (hpi 0) hl2 hL k16 ?_ (by_n (by omega)) by_m ha8 (fun r hr => Or.inr (Or.inl ⟨ko, ⟨r, hr, rfl⟩, ⟨a, ha8, rfl⟩, rfl⟩)) (Or.inr ⟨hkne, rfl⟩) (fun s0 hs => ?_) K
      · rcases ko with e | e <;> rw [e] <;> decide
      · rw [rv_c k16, nI_clamp (by omega), eva s0 hs, vxe]
        unfold nd_v
        rw [if_neg (by omega), if_neg (by omega), if_neg (by omega), if_neg (by omega), if_neg (by omega), ek]
        rcases hk78 with e | e <;> subst e
        · exact ca_7
        · exact ca_8
/-- an operand is there to be brought -/
theorem av_op (cs : cs_ok u N) {m : Nat} (hp : p < N) (hnd : nd_u u p) (hk2 : 2 ≤ kn (sg_of u) p) (hk5 : kn (sg_of u) p ≠ 5) (E : es_ok u N p p c ho rg sv)
    (hm : m = xn (sg_of u) p ∨ (tw (kn (sg_of u) p) ∧ m = yn (sg_of u) p)) : m < N ∧ sm_u u m < p ∧ (kn (sg_of u) (sm_u u m) = 1 ∨ rg (sm_u u m) ≠ -1 ∨ sv (sm_u u m) ≠ 0) := by
  have s1 := cs.1.2.1 p hp
  have hlt : m < p := by
    rcases hm with e | ⟨h, e⟩
    · rw [e]; exact (s1.2.2.2.1 hk2).2.2 hk5
    · rw [e]; exact (s1.2.2.2.2.1 h).2
  have hmN : m < N := by omega
  obtain ⟨a1, a2, _, _⟩ := cs.2.2.2.1 m hmN
  refine ⟨hmN, by omega, E.2.2.2.1 (sm_u u m) (by omega) (by omega) ?_ a2 ⟨p, hp, hnd, Or.inl ⟨hk2, hk5, Nat.le_refl _, ?_⟩⟩⟩
  · have := cs.2.2.2.2.2.1 p hp hnd hk2
    rcases hm with e | ⟨h, e⟩
    · rw [e]; exact this.1
    · rw [e]; exact this.2 h
  · rcases hm with e | ⟨h, e⟩
    · rw [e]; exact Or.inl rfl
    · rw [e]; exact Or.inr ⟨h, rfl⟩
theorem pl_ok {post : Int32 → SX → Prop} {k : Nat} (cs : cs_ok u N) (hp : p < N) (hnd : nd_u u p) (hk : kn (sg_of u) p = k) (hk2 : 2 ≤ k) (hk5 : k ≠ 5) (hk6 : k ≠ 6) (E : es_ok u N p p c ho rg sv) (hl : cd_l c + 6 ≤ 300)
    (K : ∀ (r : Nat) (c' : cd_T) (pn' : Int32) (ho' rg' sv' : Nat → Int32), ep_P u N p c (cd_l c + 6) r c' ho' rg' sv' → post (nI r) (xe_T u c' pn' ho' rg' sv')) :
    wpX_emitPlain post (xe_T u c 0 ho rg sv) (nI p) (nI k) := by
  have hN := cs.1.1
  have s1 := cs.1.2.1 p hp
  have hk10 := s1.2.1
  obtain ⟨xe, xl⟩ := xn_e cs hp (by omega)
  obtain ⟨v1, v2, v3⟩ := av_op (m := xn (sg_of u) p) cs hp hnd (by omega) (by omega) E (Or.inl rfl)
  have i24 : vp_in (nI p) 24 := vp_in_nI (by omega) (by omega)
  unfold wpX_emitPlain
  show vp_in (nI p) 24 ∧ wpX_bring _ (xe_T u c 0 ho rg sv) (sx_partX u (nI p).toNatClampNeg) (nI p)
  refine ⟨i24, ?_⟩
  rw [nI_clamp (n := p) (by omega), xe]
  refine br_ok (u := u) cs (Or.inl (by omega)) E (by omega) (pi_0 (a := 0) (b := 0) (d := 0)) v1 v2 v3 (fun a c1 ho1 rg1 sv1 B1 => ?_)
  obtain ⟨ha8, E1, L1, hl1, hrg1, kp1, kz1⟩ := B1
  have hpi1 := pi_1 (pn := 0) ha8 (fun _ _ _ => pi_0)
  have hap : bt (0 ||| ((1 : Int32) <<< (nI a &&& 31))) a = true := by rw [pi_s ha8 ha8]; simp
  show wpX_hasTwo _ (xe_T u c1 (0 ||| ((1 : Int32) <<< (nI a &&& 31))) ho1 rg1 sv1) (nI k)
  refine ht_ok (by omega) (fun ht => br_f (by decide) ?_) (fun ht => br_t rfl ?_)
  · show vp_in (nI p) 24 ∧ wpX_bring _ (xe_T u c1 (0 ||| ((1 : Int32) <<< (nI a &&& 31))) ho1 rg1 sv1) (sx_partY u p) (nI p)
    refine ⟨i24, ?_⟩
    obtain ⟨ye, yl⟩ := yn_e cs hp (by rw [hk]; exact ht)
    obtain ⟨w1, w2, w3⟩ := av_op (m := yn (sg_of u) p) cs hp hnd (by omega) (by omega) E1 (Or.inr ⟨by rw [hk]; exact ht, rfl⟩)
    rw [ye]
    refine br_ok (u := u) cs (Or.inl (by omega)) E1 (by omega) (hpi1 0) w1 w2 w3 (fun b c2 ho2 rg2 sv2 B2 => ?_)
    obtain ⟨hb8, E2, L2, hl2, hrg2, kp2, kz2⟩ := B2
    refine p36 (u := u) (k := k) (a := a) cs hp hk hk2 hk5 hk6 E2 (pi_2 hb8 hpi1) (Or.inr ⟨by unfold tw at ht; omega, by omega⟩) hl ha8 (kp2 _ (sm_e cs v1).2 a ha8 hap hrg1) (by rw [pi_s hb8 ha8, hap]; rfl) (Or.inl ⟨ht, b, hb8, rfl, hrg2⟩) (fun r c' pn' ho' rg' sv' P => K r c' pn' ho' rg' sv' ?_)
    obtain ⟨q1, q2, q3, q4, q5, q6⟩ := P
    exact ⟨q1, q2, q3, q4, lw_tr L1 (lw_tr L2 q5), q6⟩
  · refine p36 (u := u) (k := k) (a := a) (a1 := a) (a2 := a) cs hp hk hk2 hk5 hk6 E1 (fun d i hi hb => by rcases hpi1 a i hi hb with e | e | e <;> exact Or.inl e) (Or.inl (by omega)) hl ha8 hrg1 hap (Or.inr ⟨ht, rfl⟩) (fun r c' pn' ho' rg' sv' P => K r c' pn' ho' rg' sv' ?_)
    obtain ⟨q1, q2, q3, q4, q5, q6⟩ := P
    exact ⟨q1, q2, q3, q4, lw_tr L1 q5, q6⟩
end
end
section
theorem wi_11 {tc : Nat → Int32} : wi_ok tc 11 8 (-1) (-1) 0 := Or.inr (Or.inr (Or.inr (Or.inl ⟨rfl, rfl, rfl, rfl⟩)))
theorem wi_12 {tc : Nat → Int32} {a b : Nat} (ha : a < 8) (hb : b < 8) : wi_ok tc 12 8 (nI a) (nI b) 0 := Or.inr (Or.inr (Or.inr (Or.inr (Or.inl ⟨rfl, rfl, ⟨a, ha, rfl⟩, ⟨b, hb, rfl⟩⟩))))
theorem wi_13 {tc : Nat → Int32} {d : Nat} (hd : d < 8) : wi_ok tc 13 (nI d) 8 (-1) 0 := Or.inr (Or.inr (Or.inr (Or.inr (Or.inr (Or.inl ⟨rfl, ⟨d, hd, rfl⟩, rfl, rfl⟩)))))
theorem wi_16 {tc : Nat → Int32} {d : Nat} {n : Int32} (hd : d < 8) (h : ad_ok n) : wi_ok tc 16 (nI d) (-1) (-1) n := Or.inr (Or.inr (Or.inr (Or.inr (Or.inr (Or.inr (Or.inl ⟨rfl, ⟨d, hd, rfl⟩, rfl, rfl, h⟩))))))
theorem wi_18 {tc : Nat → Int32} {d : Nat} {n : Int32} (hd : d < 8) (h : rn_ok tc n) : wi_ok tc 18 (nI d) (-1) (-1) n := Or.inr (Or.inr (Or.inr (Or.inr (Or.inr (Or.inr (Or.inr (Or.inr (Or.inl ⟨rfl, ⟨d, hd, rfl⟩, rfl, rfl, h⟩))))))))
theorem wi_19 {tc : Nat → Int32} {a : Nat} {n : Int32} (ha : a < 8) (h : rn_ok tc n) : wi_ok tc 19 (-1) (nI a) (-1) n := Or.inr (Or.inr (Or.inr (Or.inr (Or.inr (Or.inr (Or.inr (Or.inr (Or.inr (Or.inl ⟨rfl, rfl, ⟨a, ha, rfl⟩, rfl, h⟩)))))))))
theorem wi_20 {tc : Nat → Int32} {n : Int32} (h : rn_ok tc n) : wi_ok tc 20 (-1) (-1) (-1) n := Or.inr (Or.inr (Or.inr (Or.inr (Or.inr (Or.inr (Or.inr (Or.inr (Or.inr (Or.inr ⟨rfl, rfl, rfl, rfl, h⟩)))))))))
/-- while a filter is listed: its ring has the new value, the sum is at tap k, all else below is as before -/
def fs_ok (u : SX) (p f : Nat) (c0 c : cd_T) (k : Nat) : Prop := ∀ s0, gv_ok (sx_tapCount u) (ms_G s0) →
  (∀ x, x < 64 → (x < 32 + 8 * f ∨ 32 + 8 * f + 8 ≤ x) → ms_M (rs_c (sx_tapCount u) c s0) x = ms_M (rs_c (sx_tapCount u) c0 s0) x) ∧
  (∀ f', f' ≠ f → ms_G (rs_c (sx_tapCount u) c s0) f' = ms_G (rs_c (sx_tapCount u) c0 s0) f') ∧ ms_G (rs_c (sx_tapCount u) c s0) f = ms_G s0 f ∧
  (∀ y, y < 8 → ms_M (rs_c (sx_tapCount u) c s0) (32 + 8 * f + y) = upd (ms_M s0) (rp_a (sx_tapCount u) (ms_G s0) (nI (8 * f))) (vx (sg_of u) (ms_M s0) (ms_G s0) (xn (sg_of u) p)) (32 + 8 * f + y)) ∧
  ms_A (rs_c (sx_tapCount u) c s0) = ft_a (sx_tapCount u) (sx_taps u) (ms_M s0) (ms_G s0) f (vx (sg_of u) (ms_M s0) (ms_G s0) (xn (sg_of u) p)) k
def ff_ok (u : SX) (p f : Nat) (c0 c : cd_T) : Prop := ∀ s0, gv_ok (sx_tapCount u) (ms_G s0) →
  (∀ x, x < 64 → (x < 32 + 8 * f ∨ 32 + 8 * f + 8 ≤ x) → ms_M (rs_c (sx_tapCount u) c s0) x = ms_M (rs_c (sx_tapCount u) c0 s0) x) ∧
  (∀ f', f' ≠ f → ms_G (rs_c (sx_tapCount u) c s0) f' = ms_G (rs_c (sx_tapCount u) c0 s0) f') ∧ rf_ok (sx_tapCount u) s0 (rs_c (sx_tapCount u) c s0) f (vx (sg_of u) (ms_M s0) (ms_G s0) (xn (sg_of u) p))
theorem fs_lw {u : SX} {p f : Nat} {c0 c c' : cd_T} {k : Nat} (hf : f < 4) (h : fs_ok u p f c0 c k) (L : lw_eq (sx_tapCount u) c c') : fs_ok u p f c0 c' k := by
  intro s0 hs
  obtain ⟨h1, h2, h3, h4, h5⟩ := h s0 hs
  obtain ⟨l1, l2, l3⟩ := L s0 hs
  exact ⟨fun x hx hx' => (l1 x hx).trans (h1 x hx hx'), fun f' hf' => by rw [l2]; exact h2 f' hf', by rw [l2]; exact h3, fun y hy => (l1 _ (by omega)).trans (h4 y hy), l3.trans h5⟩
theorem mf_fl {u : SX} {N p : Nat} {Q : Nat → Nat → Prop} {P5 : Nat → Prop} {c0 c : cd_T} (cs : cs_ok u N) (hp : p < N) (hk : kn (sg_of u) p = 6) (hnd : nd_u u p) (h : mf_ok u N p Q P5 c0) (F : ff_ok u p (rk (sg_of u) p) c0 c) : mf_ok u N (p + 1) Q P5 c := by
  have hN := cs.1.1
  have hf := rk_4 cs p hp hk
  intro s0 hs
  obtain ⟨h1, h2, h3, h4, h5⟩ := h s0 hs
  obtain ⟨f1, f2, f3⟩ := F s0 hs
  refine ⟨(f1 0 (by omega) (Or.inl (by omega))).trans h1, (f1 1 (by omega) (Or.inl (by omega))).trans h2, fun o ho q hq e z => (f1 _ (by omega) (Or.inl (by omega))).trans (h3 o ho q hq e z), fun n hn => ⟨fun k z => (f1 _ (by omega) (Or.inl (by omega))).trans ((h4 n hn).1 k z), fun z => (f1 _ (by omega) (Or.inl (by omega))).trans ((h4 n hn).2 z)⟩, fun n hn k => ?_⟩
  by_cases e : n = p
  · subst e
    exact ⟨fun _ => f3, fun z => absurd ⟨by omega, hnd⟩ z⟩
  · have hr : rk (sg_of u) n ≠ rk (sg_of u) p := fun z => e (rk_inj k hk z)
    have hr4 := rk_4 cs n hn k
    obtain ⟨g1, g2⟩ := h5 n hn k
    constructor
    · intro z
      obtain ⟨a, b⟩ := g1 ⟨by omega, z.2⟩
      exact ⟨(f2 _ hr).trans a, fun y hy => (f1 _ (by omega) (by omega)).trans (b y hy)⟩
    · intro z
      obtain ⟨a, b⟩ := g2 (fun z' => z ⟨by omega, z'.2⟩)
      exact ⟨(f2 _ hr).trans a, fun y hy => (f1 _ (by omega) (by omega)).trans (b y hy)⟩
section
variable {u : SX} {pn : Int32} {ho rg sv : Nat → Int32} {N p : Nat} {post : Int32 → SX → Prop}
theorem e64 {l t v L : Nat} {c0 : cd_T} (cs : cs_ok u N) (hp : p < N) (hk : kn (sg_of u) p = 6) (h0 : 0 < l) (h6 : l ≤ 6) (ht : sx_tapCount u (rk (sg_of u) p) = nI l) (t8 : t < 8) (v8 : v < 8) (tv : t ≠ v) (hot : ho t = -1) (hov : ho v = -1) (hL : L ≤ 300)
    (K : ∀ c', es_ok u N p (p + 1) c' ho rg sv → (∀ s0, gv_ok (sx_tapCount u) (ms_G s0) → ms_R (rs_c (sx_tapCount u) c' s0) t = vx (sg_of u) (ms_M s0) (ms_G s0) p) → ff_ok u p (rk (sg_of u) p) c0 c' → cd_l c' ≤ L → post (nI t) (xe_T u c' pn ho rg sv)) :
    ∀ (d k : Nat) (c : cd_T), k + d = l → es_ok u N p (p + 1) c ho rg sv → fs_ok u p (rk (sg_of u) p) c0 c k → cd_l c + 3 * d + 2 ≤ L → ∀ n, d < n →
      wX_emitFilter_64 post (nI (rk (sg_of u) p)) (nI t) (nI v) n (nI k) (sx_nodeCount u) (sx_filterCount u) (sx_levelNow u) (sx_compiled u) (sx_needed u) (pn) (nI (cd_l c)) (sx_wordCount u) (sx_accumulator u) (sx_dueCount u) (sx_stepCount u) (sx_listLength u) (sx_listValue u) (sx_kindOf u) (sx_partX u) (sx_partY u) (sx_filterOf u) (sx_tapCount u) (sx_taps u) (sx_outputNode u) (sx_same u) (ho) (rg) (sv) (cd_o c) (cd_d c) (cd_a c) (cd_b c) (cd_n c) (sx_wordOf u) (sx_words u) (sx_memory u) (sx_ringAt u) (sx_register u) (sx_dueRegister u) (sx_dueValue u) (sx_dueWord u) := by
  have hN := cs.1.1
  have hf := rk_4 cs p hp hk
  have s1 := cs.1.2.1 p hp
  have cf : (nI (rk (sg_of u) p)).toNatClampNeg = rk (sg_of u) p := nI_clamp (by omega)
  have if4 : vp_in (nI (rk (sg_of u) p)) 4 := vp_in_nI hf (by omega)
  intro d
  induction d with
  | zero =>
    intro k c hkd E Fs hl n hn
    obtain ⟨n, rfl⟩ : ∃ m, n = m + 1 := ⟨n - 1, by omega⟩
    have : k = l := by omega
    subst this
    rw [wX_emitFilter_64]
    dsimp only
    rw [cf, ht]
    refine ⟨if4, br_t (nI_le (by omega) (by omega)) ?_⟩
    rw [show (8 : Int32) * nI (rk (sg_of u) p) = nI (8 * rk (sg_of u) p) from pk_mul 8 _]
    obtain ⟨E1, L1⟩ := es_rg (o := 13) (a := 8) (b := -1) (n := 0) E t8 hot hN (by decide) (by decide) (by decide) (by decide) (wi_13 t8)
    refine em_ok (u := u) (by omega) (by_n (n := 13) (by omega)) (by_n (by omega)) (by_n (n := 8) (by omega)) by_m ?_
    refine em_ok (u := u) (c := cd_push c 13 (nI t) 8 (-1) 0) (by show cd_l c + 1 < 300; omega) (by_n (n := 20) (by omega)) by_m by_m by_m ?_
    have hrn : rn_ok (sx_tapCount u) (nI (8 * rk (sg_of u) p)) := ⟨rk (sg_of u) p, 0, k, rfl, hf, h0, h6, ht⟩
    have Fs1 := fs_lw hf Fs L1
    refine K _ (es_nr E1 (by decide) (wi_20 hrn) (fun s0 _ m hm => by rw [ex_Mn (by decide) (by decide)])) (fun s0 hs => ?_) (fun s0 hs => ?_) (by show cd_l c + 1 + 1 ≤ L; omega)
    · rw [rs_push, ex_Rm (by decide), rs_push, ex_Rs t8, rv_c (by decide), cv_13, (Fs s0 hs).2.2.2.2, vx_eq s1]
      unfold nd_v
      rw [hk, if_neg (by decide), if_neg (by decide), if_neg (by decide), if_pos rfl]
      show _ = ft_v (sx_tapCount u) (sx_taps u) _ _ _ _ (sx_tapCount u (rk (sg_of u) p)).toNatClampNeg
      rw [ht, nI_clamp (by omega)]
      rfl
    · obtain ⟨g1, g2, g3, g4, g5⟩ := Fs1 s0 hs
      obtain ⟨a, ha, hG⟩ := hs _ k hf h0 h6 ht
      have hG' := g3.trans hG
      have er : rp_g (sx_tapCount u) (ms_G (rs_c (sx_tapCount u) (cd_push c 13 (nI t) 8 (-1) 0) s0)) (nI (8 * rk (sg_of u) p)) = nI ((a + 1) % k) := rp_gv (k := 0) hf h0 h6 ht ha hG'
      have er0 : rp_g (sx_tapCount u) (ms_G s0) (nI (8 * rk (sg_of u) p)) = nI ((a + 1) % k) := rp_gv (k := 0) hf h0 h6 ht ha hG
      have ed : (nI (8 * rk (sg_of u) p)) / 8 = nI (rk (sg_of u) p) := (rp_i (k := 0) hf h0 h6 ht ha hG).1
      rw [rs_push]
      unfold rf_ok
      rw [ex_G20, ex_Mn (by decide) (by decide), er, er0, ed, cf]
      exact ⟨g1, fun f' hf' => (pk_un hf').trans (g2 f' hf'), pk_us, g4⟩
  | succ d ih =>
    intro k c hkd E Fs hl n hn
    obtain ⟨n, rfl⟩ : ∃ m, n = m + 1 := ⟨n - 1, by omega⟩
    rw [wX_emitFilter_64]
    dsimp only
    rw [cf, ht]
    refine ⟨if4, br_f (nI_ge (by omega) (by omega)) ?_⟩
    rw [show (8 : Int32) * nI (rk (sg_of u) p) = nI (8 * rk (sg_of u) p) from pk_mul 8 _, nI_add]
    have e6 : (6 : Int32) * nI (rk (sg_of u) p) + nI k = nI (6 * rk (sg_of u) p + k) := by rw [show (6 : Int32) * nI (rk (sg_of u) p) = nI (6 * rk (sg_of u) p) from pk_mul 6 _, nI_add]
    have c6 : (nI (6 * rk (sg_of u) p + k)).toNatClampNeg = 6 * rk (sg_of u) p + k := nI_clamp (by omega)
    rw [e6, c6]
    have hrn : rn_ok (sx_tapCount u) (nI (8 * rk (sg_of u) p + k)) := ⟨rk (sg_of u) p, k, l, rfl, hf, by omega, h6, ht⟩
    obtain ⟨E1, L1⟩ := es_rg (o := 18) (a := -1) (b := -1) (n := nI (8 * rk (sg_of u) p + k)) E t8 hot hN (by decide) (by decide) (by decide) (by decide) (wi_18 t8 hrn)
    obtain ⟨E2, L2⟩ := es_rg (o := 1) (a := -1) (b := -1) (n := sx_taps u (6 * rk (sg_of u) p + k)) E1 v8 hov hN (by decide) (by decide) (by decide) (by decide) (Or.inl ⟨rfl, ⟨v, v8, rfl⟩, rfl, rfl⟩)
    refine em_ok (u := u) (by omega) (by_n (n := 18) (by omega)) (by_n (by omega)) by_m by_m ?_
    refine ⟨vp_in_nI (by omega) (by omega), ?_⟩
    refine em_ok (u := u) (c := cd_push c 18 (nI t) (-1) (-1) (nI (8 * rk (sg_of u) p + k))) (by show cd_l c + 1 < 300; omega) (by_n (n := 1) (by omega)) (by_n (by omega)) by_m by_m ?_
    refine em_ok (u := u) (c := cd_push (cd_push c 18 (nI t) (-1) (-1) (nI (8 * rk (sg_of u) p + k))) 1 (nI v) (-1) (-1) (sx_taps u (6 * rk (sg_of u) p + k))) (by show cd_l c + 1 + 1 < 300; omega) (by_n (n := 12) (by omega)) (by_n (n := 8) (by omega)) (by_n (by omega)) (by_n (by omega)) ?_
    refine nm_r (e' := nI (k + 1)) (nI_1 _) ?_
    refine ih (k + 1) _ (by omega) (es_nr E2 (by decide) (wi_12 t8 v8) (fun s0 _ m hm => by rw [ex_Mn (by decide) (by decide)])) (fun s0 hs => ?_) (by show cd_l c + 1 + 1 + 1 + 3 * d + 2 ≤ L; omega) n (by omega)
    obtain ⟨g1, g2, g3, g4, g5⟩ := fs_lw hf Fs (lw_tr L1 L2) s0 hs
    obtain ⟨a, ha, hG⟩ := hs _ l hf h0 h6 ht
    have Fs0 := Fs s0 hs
    have hm := Nat.mod_lt (a + l - k) (show 0 < l by omega)
    refine ⟨fun x hx hx' => ?_, fun f' hf' => ?_, ?_, fun y hy => ?_, ?_⟩
    · rw [rs_push, ex_Mn (by decide) (by decide)]; exact g1 x hx hx'
    · rw [rs_push, ex_Gn (by decide)]; exact g2 f' hf'
    · rw [rs_push, ex_Gn (by decide)]; exact g3
    · rw [rs_push, ex_Mn (by decide) (by decide)]; exact g4 y hy
    · rw [rs_push, ex_Av, if_neg (by decide), if_pos rfl, rv_c (by decide), cv_12, g5, nI_clamp (by omega), nI_clamp (by omega)]
      rw [rs_push, ex_Rs v8, rv_c (by decide), ca_1, ex_Rn t8 (fun z => tv (sn_inj (by omega) (by omega) z).symm)]
      rw [rs_push, ex_Rs t8, rv_18, rp_ev hf (by omega) h6 ht ha (Fs0.2.2.1.trans hG), Fs0.2.2.2.1 _ (by omega)]
      show _ + _ = ft_a _ _ _ _ _ _ k + (ft_h _ _ _ _ _ k * _).toInt64
      unfold ft_h
      rw [rp_ev hf (by omega : k < l) h6 ht ha hG]
theorem fl_ok {c : cd_T} {P5 : Nat → Prop} {Q : Nat → Nat → Prop} (cs : cs_ok u N) (hp : p < N) (hnd : nd_u u p) (hk : kn (sg_of u) p = 6) (E : es_ok u N p p c ho rg sv) (Mf : mf_ok u N p Q P5 c) (hl : cd_l c + 26 ≤ 300)
    (K : ∀ (r : Nat) (c' : cd_T) (pn' : Int32) (ho' rg' sv' : Nat → Int32), r < 8 → es_ok u N p (p + 1) c' ho' rg' sv' → ho' r = -1 → (∀ s0, gv_ok (sx_tapCount u) (ms_G s0) → ms_R (rs_c (sx_tapCount u) c' s0) r = vx (sg_of u) (ms_M s0) (ms_G s0) p) →
      mf_ok u N (p + 1) Q P5 c' → cd_l c' ≤ cd_l c + 26 → post (nI r) (xe_T u c' pn' ho' rg' sv')) :
    wpX_emitFilter post (xe_T u c 0 ho rg sv) (nI p) := by
  have hN := cs.1.1
  have s1 := cs.1.2.1 p hp
  obtain ⟨fe, hf, l, h0, h6, ht⟩ := s1.2.2.2.2.2 hk
  have fe' : sx_filterOf u p = nI (rk (sg_of u) p) := fe
  have ht' : sx_tapCount u (rk (sg_of u) p) = nI l := ht
  obtain ⟨xe, xl⟩ := xn_e cs hp (by omega)
  obtain ⟨v1, v2, v3⟩ := av_op (m := xn (sg_of u) p) cs hp hnd (by omega) (by omega) E (Or.inl rfl)
  have i24 : vp_in (nI p) 24 := vp_in_nI (by omega) (by omega)
  have cf : (nI (rk (sg_of u) p)).toNatClampNeg = rk (sg_of u) p := nI_clamp (by omega)
  unfold wpX_emitFilter
  show vp_in (nI p) 24 ∧ ∀ x2 : Int32, x2 = sx_filterOf u (nI p).toNatClampNeg → (vp_in (nI p) 24 ∧ wpX_bring _ (xe_T u c 0 ho rg sv) (sx_partX u (nI p).toNatClampNeg) (nI p))
  refine ⟨i24, ?_⟩
  rw [nI_clamp (n := p) (by omega), xe, fe']
  refine nm_e ⟨i24, ?_⟩
  refine br_ok (u := u) cs (Or.inl (by omega)) E (by omega) (pi_0 (a := 0) (b := 0) (d := 0)) v1 v2 v3 (fun a c1 ho1 rg1 sv1 B1 => ?_)
  obtain ⟨ha8, E1, L1, hl1, hrg1, kp1, kz1⟩ := B1
  have hpi1 := pi_1 (pn := 0) ha8 (fun _ _ _ => pi_0)
  show wpX_emit _ (xe_T u c1 (0 ||| ((1 : Int32) <<< (nI a &&& 31))) ho1 rg1 sv1) 19 (-1) (nI a) (-1) (8 * nI (rk (sg_of u) p))
  rw [show (8 : Int32) * nI (rk (sg_of u) p) = nI (8 * rk (sg_of u) p) from pk_mul 8 _]
  have hrn : rn_ok (sx_tapCount u) (nI (8 * rk (sg_of u) p)) := ⟨rk (sg_of u) p, 0, l, rfl, hf, h0, h6, ht⟩
  refine em_ok (u := u) (by omega) (by_n (n := 19) (by omega)) by_m (by_n (by omega)) by_m ?_
  refine em_ok (u := u) (c := cd_push c1 19 (-1) (nI a) (-1) (nI (8 * rk (sg_of u) p))) (by show cd_l c1 + 1 < 300; omega) (by_n (n := 11) (by omega)) (by_n (n := 8) (by omega)) by_m by_m ?_
  have Mf1 := mf_lw hN (rk_4 cs) Mf L1
  have hri : ∀ s0, gv_ok (sx_tapCount u) (ms_G s0) → ri_ok s0 (rs_c (sx_tapCount u) c1 s0) (rk (sg_of u) p) := fun s0 hs => ((Mf1 s0 hs).2.2.2.2 p hp hk).2 (fun z => by omega)
  have ad : ∀ s0, gv_ok (sx_tapCount u) (ms_G s0) → ∃ y, y < 8 ∧ rp_a (sx_tapCount u) (ms_G (rs_c (sx_tapCount u) c1 s0)) (nI (8 * rk (sg_of u) p)) = 32 + 8 * rk (sg_of u) p + y ∧ rp_a (sx_tapCount u) (ms_G s0) (nI (8 * rk (sg_of u) p)) = 32 + 8 * rk (sg_of u) p + y := by
    intro s0 hs
    obtain ⟨b, hb, hG⟩ := hs _ l hf h0 h6 ht
    have hm := Nat.mod_lt (b + l - 0) (show 0 < l by omega)
    exact ⟨(b + l - 0) % l, by omega, rp_ev (k := 0) hf h0 h6 ht hb ((hri s0 hs).1.trans hG), rp_ev (k := 0) hf h0 h6 ht hb hG⟩
  have E2 : es_ok u N p p (cd_push c1 19 (-1) (nI a) (-1) (nI (8 * rk (sg_of u) p))) ho1 rg1 sv1 := es_nr E1 (by decide) (wi_19 ha8 hrn) (fun s0 hs m hm => by
    obtain ⟨y, hy, e1, e2⟩ := ad s0 hs
    rw [ex_M19, e1, pk_un (by omega)])
  have E3 : es_ok u N p p (cd_push (cd_push c1 19 (-1) (nI a) (-1) (nI (8 * rk (sg_of u) p))) 11 8 (-1) (-1) 0) ho1 rg1 sv1 := es_nr E2 (by decide) wi_11 (fun s0 hs m hm => by rw [ex_Mn (by decide) (by decide)])
  have va : ∀ s0, gv_ok (sx_tapCount u) (ms_G s0) → ms_R (rs_c (sx_tapCount u) c1 s0) a = vx (sg_of u) (ms_M s0) (ms_G s0) (xn (sg_of u) p) := by
    intro s0 hs
    rw [← vx_sm cs.1 cs.2.2.2.1 _ xl]
    exact (E1.2.1 s0 hs).1 _ (sm_e cs v1).2 a ha8 hrg1
  have Fs : fs_ok u p (rk (sg_of u) p) c1 (cd_push (cd_push c1 19 (-1) (nI a) (-1) (nI (8 * rk (sg_of u) p))) 11 8 (-1) (-1) 0) 0 := by
    intro s0 hs
    obtain ⟨y, hy, e1, e2⟩ := ad s0 hs
    rw [rs_push, ex_Mn (by decide) (by decide), ex_Gn (by decide), rs_push, ex_M19, ex_Gn (by decide), e1, e2, nI_clamp (by omega), va s0 hs]
    refine ⟨fun x hx hx' => pk_un (by omega), fun _ _ => rfl, (hri s0 hs).1, fun y' hy' => ?_, ?_⟩
    · by_cases z : 32 + 8 * rk (sg_of u) p + y' = 32 + 8 * rk (sg_of u) p + y
      · rw [z, pk_us, pk_us]
      · rw [pk_un z, pk_un z]; exact (hri s0 hs).2 y' hy'
    · rw [ex_Av, if_pos rfl]; rfl
  show wpX_freeRegister _ (xe_T u (cd_push (cd_push c1 19 (-1) (nI a) (-1) (nI (8 * rk (sg_of u) p))) 11 8 (-1) (-1) 0) (0 ||| ((1 : Int32) <<< (nI a &&& 31))) ho1 rg1 sv1) (nI p + 1)
  rw [nI_1]
  refine fr_ok (u := u) cs (Or.inl (by omega)) (es_mo (q' := p + 1) (by omega) E3) (by show cd_l c1 + 1 + 1 < 300; omega) (hpi1 0) (fun t c2 ho2 rg2 sv2 F2 => ?_)
  obtain ⟨t8, hpt, E4, L4, eR4, hl4, hft, kr4, kz4, ks4, kh4⟩ := F2
  show wpX_freeRegister _ (xe_T u c2 ((0 ||| ((1 : Int32) <<< (nI a &&& 31))) ||| ((1 : Int32) <<< (nI t &&& 31))) ho2 rg2 sv2) (nI (p + 1))
  have hl4' : cd_l c2 ≤ cd_l c1 + 1 + 1 + 1 := hl4
  refine fr_ok (u := u) cs (Or.inl (by omega)) E4 (by omega) (pi_2 t8 hpi1 0) (fun v c3 ho3 rg3 sv3 F3 => ?_)
  obtain ⟨v8, hpv, E5, L5, eR5, hl5, hfv, kr5, kz5, ks5, kh5⟩ := F3
  have tv : t ≠ v := fun e => by
    subst e
    rw [pi_s t8 v8] at hpv
    simp at hpv
  refine ⟨l + 1, ?_⟩
  refine e64 (u := u) (ho := ho3) (rg := rg3) (sv := sv3) (L := cd_l c + 26) (c0 := c1) cs hp hk h0 h6 ht' t8 v8 tv ((kh5 t t8 tv).trans hft) hfv hl (fun c' Ec hv Ff hl' => ?_) l 0 c3 (by omega) E5 (fs_lw hf (fs_lw hf Fs L4) L5) (by omega) (l + 1) (by omega)
  exact K t c' _ ho3 rg3 sv3 t8 Ec ((kh5 t t8 tv).trans hft) hv (mf_fl cs hp hk hnd Mf1 Ff) hl'
end
end
section
section
variable {u : SX} {c : cd_T} {pn : Int32} {ho rg sv : Nat → Int32} {N p : Nat} {P5 : Nat → Prop}
theorem o2 {post : Int32 → Prop} (cs : cs_ok u N) (hp : p < N) (h1 : post 1) (h0 : (∀ o, o < 4 → ∀ q, q < N → sx_outputNode u o = nI q → sm_u u q ≠ p) → post 0) :
    ∀ (d o : Nat), o + d = 4 → (∀ o', o' < o → ∀ q, q < N → sx_outputNode u o' = nI q → sm_u u q ≠ p) → ∀ f, d < f → wX_isOutput_2 post (nI p) (sx_nodeCount u) (sx_filterCount u) (sx_levelNow u) (sx_compiled u) (sx_needed u) (sx_pinned u) (sx_listEnd u) (sx_wordCount u) (sx_accumulator u) (sx_dueCount u) (sx_stepCount u) (sx_listLength u) (sx_listValue u) (sx_kindOf u) (sx_partX u) (sx_partY u) (sx_filterOf u) (sx_tapCount u) (sx_taps u) (sx_outputNode u) (sx_same u) (sx_holds u) (sx_registerOf u) (sx_isSaved u) (sx_op u) (sx_into u) (sx_first u) (sx_second u) (sx_number u) (sx_wordOf u) (sx_words u) (sx_memory u) (sx_ringAt u) (sx_register u) (sx_dueRegister u) (sx_dueValue u) (sx_dueWord u) f (nI o) := by
  have hN := cs.1.1
  intro d
  induction d with
  | zero =>
    intro o hd hD f hf
    obtain ⟨f, rfl⟩ : ∃ f', f = f' + 1 := ⟨f - 1, by omega⟩
    have : o = 4 := by omega
    subst this
    rw [wX_isOutput_2]
    exact br_t (nI_le (a := 4) (by omega) (by omega)) (h0 hD)
  | succ d ih =>
    intro o hd hD f hf
    obtain ⟨f, rfl⟩ : ∃ f', f = f' + 1 := ⟨f - 1, by omega⟩
    have i4 : vp_in (nI o) 4 := vp_in_nI (by omega) (by omega)
    rw [wX_isOutput_2]
    refine br_f (nI_ge (b := 4) (by omega) (by omega)) ⟨i4, ?_⟩
    rw [nI_clamp (n := o) (by omega)]
    have nx : (∀ q, q < N → sx_outputNode u o = nI q → sm_u u q ≠ p) → ∀ y, y = nI o + 1 → wX_isOutput_2 post (nI p) (sx_nodeCount u) (sx_filterCount u) (sx_levelNow u) (sx_compiled u) (sx_needed u) (sx_pinned u) (sx_listEnd u) (sx_wordCount u) (sx_accumulator u) (sx_dueCount u) (sx_stepCount u) (sx_listLength u) (sx_listValue u) (sx_kindOf u) (sx_partX u) (sx_partY u) (sx_filterOf u) (sx_tapCount u) (sx_taps u) (sx_outputNode u) (sx_same u) (sx_holds u) (sx_registerOf u) (sx_isSaved u) (sx_op u) (sx_into u) (sx_first u) (sx_second u) (sx_number u) (sx_wordOf u) (sx_words u) (sx_memory u) (sx_ringAt u) (sx_register u) (sx_dueRegister u) (sx_dueValue u) (sx_dueWord u) f y := by
      intro h
      refine nm_r (e' := nI (o + 1)) (nI_1 _) (ih (o + 1) (by omega) (fun o' ho' q hq e => ?_) f (by omega))
      by_cases z : o' = o
      · subst z; exact h q hq e
      · exact hD o' (by omega) q hq e
    rcases cs.2.2.2.2.2.2 o (by omega) with e | ⟨q, hq, e, _⟩
    · rw [e]
      exact br_t (by decide) (nx (fun q hq e' => absurd (e.symm.trans e') (fun z => sn_ne (by omega) z.symm)))
    · obtain ⟨se, sl⟩ := sm_e cs hq
      rw [e]
      refine br_f (nI_pos (by omega)) ⟨i4, vp_in_nI (by omega) (by omega), ?_⟩
      rw [nI_clamp (n := q) (by omega), se]
      refine pk_eq (sm_u u q) p (fun _ => h1) (fun ne => nx (fun q' hq' e' => ?_))
      have : q' = q := sn_inj (by omega) (by omega) (e'.symm.trans e)
      subst this
      exact ne
theorem io_ok {post : Int32 → Prop} (cs : cs_ok u N) (hp : p < N) (h1 : post 1) (h0 : (∀ o, o < 4 → ∀ q, q < N → sx_outputNode u o = nI q → sm_u u q ≠ p) → post 0) : wpX_isOutput post u (nI p) := by
  show wpX_isOutput post (sx_nodeCount u, sx_filterCount u, sx_levelNow u, sx_compiled u, sx_needed u, sx_pinned u, sx_listEnd u, sx_wordCount u, sx_accumulator u, sx_dueCount u, sx_stepCount u, sx_listLength u, sx_listValue u, sx_kindOf u, sx_partX u, sx_partY u, sx_filterOf u, sx_tapCount u, sx_taps u, sx_outputNode u, sx_same u, sx_holds u, sx_registerOf u, sx_isSaved u, sx_op u, sx_into u, sx_first u, sx_second u, sx_number u, sx_wordOf u, sx_words u, sx_memory u, sx_ringAt u, sx_register u, sx_dueRegister u, sx_dueValue u, sx_dueWord u) (nI p)
  unfold wpX_isOutput
  exact ⟨5, o2 cs hp h1 h0 4 0 (by omega) (fun o' h => absurd h (by omega)) 5 (by omega)⟩
/-- a node has been listed -/
def nk_P (u : SX) (N p : Nat) (P5 : Nat → Prop) (c' : cd_T) (ho' rg' sv' : Nat → Int32) : Prop :=
  es_ok u N p p c' ho' rg' sv' ∧ mf_ok u N p (fun _ s => s < p) P5 c' ∧ cd_l c' ≤ 6 * p + 20 * rk (sg_of u) p + oL u p
variable {post : SX → Prop}
theorem rk_le (cs : cs_ok u N) (h : p ≤ N) : rk (sg_of u) p ≤ 4 := by
  have h1 := rk_mono (sg_of u) (N - p) p
  rw [show p + (N - p) = N by omega] at h1
  have := cs.1.2.2
  omega
/-- nothing is listed for a node -/
theorem nk_sk (cs : cs_ok u N) (hp : p < N) (hD : nd_u u p → sm_u u p = p → kn (sg_of u) p = 1) (hO : ∀ o, o < 4 → ∀ q, q < N → sx_outputNode u o = nI q → sm_u u q ≠ p) (h : nk_P u N p P5 c ho rg sv) : nk_P u N (p + 1) P5 c ho rg sv := by
  obtain ⟨⟨A, B, C, D, F⟩, Mf, hl⟩ := h
  refine ⟨⟨A, B, C, fun n h1 h2 h3 h4 h5 => ?_, fun n h1 h2 => F n (by omega) h2⟩, mf_sk Mf (fun _ h6 hnd => ?_) (fun o ho q hq e z => ?_), ?_⟩
  · by_cases e : n = p
    · subst e; exact Or.inl (hD h3 h4)
    · exact D n (by omega) h2 h3 h4 (us_mo (by omega) h5)
  · have := hD hnd ((cs.2.2.2.1 p hp).2.2.1 (Or.inr h6))
    omega
  · have := hO o ho q hq e
    have z' : sm_u u q < p + 1 := z
    show sm_u u q < p
    omega
  · rw [oL_s]
    show _ ≤ 6 * (p + 1) + 20 * (rk (sg_of u) p + _) + _
    omega
theorem e_fin (cs : cs_ok u N) (hp : p < N) {r : Nat} (hr : r < 8) (E : es_ok u N p (p + 1) c ho rg sv) (h1 : ho r = -1)
    (hv : ∀ s0, gv_ok (sx_tapCount u) (ms_G s0) → ms_R (rs_c (sx_tapCount u) c s0) r = vx (sg_of u) (ms_M s0) (ms_G s0) p)
    (Mf : mf_ok u N (p + 1) (fun _ s => s < p) P5 c) (hl : cd_l c ≤ 6 * (p + 1) + 20 * rk (sg_of u) (p + 1) + oL u p)
    (K : ∀ (c' : cd_T) (ho' rg' sv' : Nat → Int32), nk_P u N (p + 1) P5 c' ho' rg' sv' → post (xe_T u c' 0 ho' rg' sv')) :
    wX_emitNode_112 post (nI p) (nI r) (sx_nodeCount u) (sx_filterCount u) (sx_levelNow u) (sx_compiled u) (sx_needed u) (pn) (nI (cd_l c)) (sx_wordCount u) (sx_accumulator u) (sx_dueCount u) (sx_stepCount u) (sx_listLength u) (sx_listValue u) (sx_kindOf u) (sx_partX u) (sx_partY u) (sx_filterOf u) (sx_tapCount u) (sx_taps u) (sx_outputNode u) (sx_same u) (ho) (rg) (sv) (cd_o c) (cd_d c) (cd_a c) (cd_b c) (cd_n c) (sx_wordOf u) (sx_words u) (sx_memory u) (sx_ringAt u) (sx_register u) (sx_dueRegister u) (sx_dueValue u) (sx_dueWord u) := by
  have hN := cs.1.1
  have h4 := oL_4 u p
  have hr4 := rk_le cs (p := p + 1) (by omega)
  refine e112 (B := 6 * (p + 1) + 20 * rk (sg_of u) (p + 1) + oL u p) cs hp hr (by omega) (es_kp E hr hp (by omega) (fun m h1 h2 => by omega) (by omega) hN h1 (E.2.2.2.2 p (Nat.le_refl _) hp) hv) Mf hl (fun c' E' Mf' hl' => K c' _ _ _ ⟨E', Mf', ?_⟩)
  rw [oL_s]; omega
theorem e53 {k : Nat} (cs : cs_ok u N) (hp : p < N) (hk : kn (sg_of u) p = k) (hk05 : k = 0 ∨ k = 5) (hP : ∀ n, ¬ P5 n) (E : nk_P u N p P5 c ho rg sv)
    (K : ∀ (c' : cd_T) (ho' rg' sv' : Nat → Int32), nk_P u N (p + 1) P5 c' ho' rg' sv' → post (xe_T u c' 0 ho' rg' sv')) :
    wX_emitNode_53 post (nI p) (nI k) (sx_nodeCount u) (sx_filterCount u) (sx_levelNow u) (sx_compiled u) (sx_needed u) (0) (nI (cd_l c)) (sx_wordCount u) (sx_accumulator u) (sx_dueCount u) (sx_stepCount u) (sx_listLength u) (sx_listValue u) (sx_kindOf u) (sx_partX u) (sx_partY u) (sx_filterOf u) (sx_tapCount u) (sx_taps u) (sx_outputNode u) (sx_same u) (ho) (rg) (sv) (cd_o c) (cd_d c) (cd_a c) (cd_b c) (cd_n c) (sx_wordOf u) (sx_words u) (sx_memory u) (sx_ringAt u) (sx_register u) (sx_dueRegister u) (sx_dueValue u) (sx_dueWord u) := by
  have hN := cs.1.1
  have h4 := oL_4 u p
  have hr4 := rk_le cs (p := p) (by omega)
  have s1 := cs.1.2.1 p hp
  obtain ⟨E, Mf, hl⟩ := E
  unfold wX_emitNode_53
  rw [nI_1]
  refine fr_ok (u := u) cs (Or.inl (by omega)) (es_mo (q' := p + 1) (by omega) E) (by omega) (pi_0 (a := 0) (b := 0) (d := 0)) (fun r c' ho' rg' sv' F => ?_)
  obtain ⟨hr, hpr, E', Lw, eR, hl', hfr, kr, kz, ks, kh⟩ := F
  have Mf' := mf_lw hN (rk_4 cs) Mf Lw
  have fin : ∀ x : Nat, x < 32 → (∀ s0, gv_ok (sx_tapCount u) (ms_G s0) → ms_M (rs_c (sx_tapCount u) c' s0) x = vx (sg_of u) (ms_M s0) (ms_G s0) p) → wX_emitNode_84 post (nI p) (nI r) (nI x) (-1) (-1) (nI r) 16 (sx_nodeCount u) (sx_filterCount u) (sx_levelNow u) (sx_compiled u) (sx_needed u) (0 ||| ((1 : Int32) <<< (nI r &&& 31))) (nI (cd_l c')) (sx_wordCount u) (sx_accumulator u) (sx_dueCount u) (sx_stepCount u) (sx_listLength u) (sx_listValue u) (sx_kindOf u) (sx_partX u) (sx_partY u) (sx_filterOf u) (sx_tapCount u) (sx_taps u) (sx_outputNode u) (sx_same u) (ho') (rg') (sv') (cd_o c') (cd_d c') (cd_a c') (cd_b c') (cd_n c') (sx_wordOf u) (sx_words u) (sx_memory u) (sx_ringAt u) (sx_register u) (sx_dueRegister u) (sx_dueValue u) (sx_dueWord u) := by
    intro x hx hv
    unfold wX_emitNode_84
    refine em_ok (u := u) (by omega) (by_n (n := 16) (by omega)) (by_n (by omega)) by_m by_m ?_
    obtain ⟨E2, L2⟩ := es_rg (o := 16) (a := -1) (b := -1) (n := nI x) E' hr hfr hN (by decide) (by decide) (by decide) (by decide) (wi_16 hr ⟨x, rfl, Or.inl hx⟩)
    refine e_fin (u := u) (P5 := P5) cs hp hr E2 hfr (fun s0 hs => ?_) (mf_sk (mf_lw hN (rk_4 cs) Mf' L2) (fun _ h6 => by omega) (fun _ _ _ _ _ z => z)) (by
      show cd_l c' + 1 ≤ 6 * (p + 1) + 20 * (rk (sg_of u) p + _) + oL u p
      omega) K
    rw [rs_push, ex_Rs hr, rv_16, nI_clamp (by omega)]
    exact hv s0 hs
  show (nI k = 0 → vp_in (nI p) 24 ∧ wX_emitNode_84 post (nI p) (nI r) (sx_partX u (nI p).toNatClampNeg) (-1) (-1) (nI r) 16 _ _ _ _ _ _ _ _ _ _ _ _ _ _ _ _ _ _ _ _ _ _ _ _ _ _ _ _ _ _ _ _ _ _ _ _ _) ∧ _
  rw [nI_clamp (n := p) (by omega)]
  refine pk_eq k 0 (fun k0 => ⟨vp_in_nI (by omega) (by omega), ?_⟩) (fun k0 => ?_)
  · obtain ⟨xe, xl⟩ := s1.2.2.1 (by omega)
    rw [show sx_partX u p = nI (xn (sg_of u) p) from xe]
    refine fin _ (by omega) (fun s0 hs => ?_)
    rw [vx_eq s1]
    unfold nd_v
    rw [if_pos (by omega)]
    have hx : xn (sg_of u) p = 0 ∨ xn (sg_of u) p = 1 := by omega
    rcases hx with h | h <;> rw [h]
    · exact (Mf' s0 hs).1
    · exact (Mf' s0 hs).2.1
  · rw [show (8 : Int32) + nI p = nI (8 + p) from nI_add 8 p]
    refine fin _ (by omega) (fun s0 hs => ?_)
    rw [vx_eq s1]
    unfold nd_v
    rw [if_neg (by omega), if_neg (by omega), if_pos (by omega)]
    exact ((Mf' s0 hs).2.2.2.1 p hp).2 (hP p)
theorem up_id {f : Nat → Int32} {k : Nat} {x : Int32} (h : f k = x) : upd f k x = f := by
  funext j
  by_cases e : j = k
  · subst e; rw [pk_us, h]
  · rw [pk_un e]
theorem en_ok (cs : cs_ok u N) (hp : p < N) (hnd : nd_u u p) (hP : ∀ n, ¬ P5 n) (E : nk_P u N p P5 c ho rg sv)
    (K : ∀ (c' : cd_T) (ho' rg' sv' : Nat → Int32), nk_P u N (p + 1) P5 c' ho' rg' sv' → post (xe_T u c' 0 ho' rg' sv')) :
    wpX_emitNode post (xe_T u c 0 ho rg sv) (nI p) := by
  have hN := cs.1.1
  have h4 := oL_4 u p
  have hr4 := rk_le cs (p := p) (by omega)
  have hrk1 : rk (sg_of u) (p + 1) = rk (sg_of u) p + if kn (sg_of u) p = 6 then 1 else 0 := rfl
  have hrk5 := rk_le cs (p := p + 1) (by omega)
  have s1 := cs.1.2.1 p hp
  have i24 : vp_in (nI p) 24 := vp_in_nI (by omega) (by omega)
  obtain ⟨ke, kl⟩ := kn_e cs hp
  obtain ⟨se, sl⟩ := sm_e cs hp
  unfold wpX_emitNode xe_T
  dsimp only
  rw [nI_clamp (n := p) (by omega), ke, se]
  refine ⟨i24, nm_e ⟨i24, pk_eq (sm_u u p) p (fun hs => ?_) (fun hs => ?_)⟩⟩
  · refine pk_eq (kn (sg_of u) p) 1 (fun k1 => ?_) (fun k1 => ?_)
    · refine io_ok (u := xe_T u c 0 ho rg sv) (N := N) cs hp (br_f (by decide) ?_) (fun hO => br_t rfl (K c ho rg sv (nk_sk cs hp (fun _ _ => k1) hO E)))
      obtain ⟨E, Mf, hl⟩ := E
      have E1 : es_ok u N (p + 1) p c ho rg sv := by
        obtain ⟨A, B, C, D, F⟩ := E
        refine ⟨A, B, C, fun n h1 h2 h3 h4 h5 => ?_, fun n h1 h2 => F n (by omega) h2⟩
        by_cases e : n = p
        · subst e; exact Or.inl k1
        · exact D n (by omega) h2 h3 h4 h5
      refine br_ok (u := u) cs (Or.inl (by omega)) E1 (by omega) (pi_0 (a := 0) (b := 0) (d := 0)) hp (by omega) (Or.inl (by rw [hs]; exact k1)) (fun r c' ho' rg' sv' B => ?_)
      rw [hs] at B
      obtain ⟨hr, E2, L2, hl2, hrg, _, _⟩ := B
      have hho : ho' r = nI p := by
        rcases E2.1.2 p hp with e | ⟨r', hr', e1, e2⟩
        · rw [e] at hrg; exact absurd hrg.symm (sn_ne (by omega))
        · have : r' = r := sn_inj (by omega) (by omega) (e1.symm.trans hrg)
          subst this; exact e2
      have E3 : es_ok u N (p + 1) (p + 1) c' (upd ho' r (nI p)) (upd rg' p (nI r)) sv' := by
        rw [up_id hho, up_id hrg]; exact es_mo (by omega) E2
      refine e112 (u := u) (P5 := P5) (B := 6 * (p + 1) + 20 * rk (sg_of u) (p + 1) + oL u p) cs hp hr (by omega) E3 (mf_sk (mf_lw hN (rk_4 cs) Mf L2) (fun _ h6 => by omega) (fun _ _ _ _ _ z => z)) (by omega) (fun c2 E4 Mf4 hl4 => K c2 _ _ _ ⟨E4, Mf4, ?_⟩)
      rw [oL_s]; omega
    refine pk_eq (kn (sg_of u) p) 0 (fun k0 => ?_) (fun k0 => ?_)
    · rw [k0]; exact e53 (u := u) (k := 0) cs hp k0 (Or.inl rfl) hP E K
    refine pk_eq (kn (sg_of u) p) 5 (fun k5 => ?_) (fun k5 => ?_)
    · rw [k5]; exact e53 (u := u) (k := 5) cs hp k5 (Or.inr rfl) hP E K
    obtain ⟨E, Mf, hl⟩ := E
    refine pk_eq (kn (sg_of u) p) 6 (fun k6 => ?_) (fun k6 => ?_)
    · rw [if_pos k6] at hrk1
      refine fl_ok (u := u) (c := c) cs hp hnd k6 E Mf (by omega) (fun r c' pn' ho' rg' sv' hr E2 hfr hv Mf2 hl2 => ?_)
      exact e_fin (u := u) (P5 := P5) cs hp hr E2 hfr hv Mf2 (by omega) K
    · rw [if_neg k6] at hrk1
      refine pl_ok (u := u) (c := c) cs hp hnd rfl (by omega) k5 k6 E (by omega) (fun r c' pn' ho' rg' sv' P => ?_)
      obtain ⟨hr, E2, hfr, hv, L2, hl2⟩ := P
      exact e_fin (u := u) (P5 := P5) cs hp hr E2 hfr hv (mf_sk (mf_lw hN (rk_4 cs) Mf L2) (fun _ h6 => absurd h6 k6) (fun _ _ _ _ _ z => z)) (by omega) K
  · refine K c ho rg sv (nk_sk cs hp (fun _ h => absurd h hs) (fun o ho q hq e z => hs ?_) E)
    have := (cs.2.2.2.1 q hq).2.1
    rw [z] at this
    exact this
end
end
section
/-! ===== the whole code ===== -/
def li_ok (g : sg_T) (ou : Nat → Int32) (N n : Nat) : Prop :=
  ∀ S : Nat → Prop, (∀ o q, o < 4 → q < N → ou o = nI q → S q) → (∀ m, m < N → S m → 2 ≤ kn g m → S (xn g m) ∧ (tw (kn g m) → S (yn g m))) → S n
/-- what one step does to memory and rings -/
def xs_ok (g : sg_T) (ou : Nat → Int32) (N : Nat) (s0 s : ms_T) : Prop :=
  ms_M s 0 = ms_M s0 0 ∧ ms_M s 1 = ms_M s0 1 ∧
  (∀ o, o < 4 → ∀ q, q < N → ou o = nI q → ms_M s (2 + o) = vx g (ms_M s0) (ms_G s0) q) ∧
  (∀ n, n < N → kn g n = 5 → li_ok g ou N n → ms_M s (8 + n) = vx g (ms_M s0) (ms_G s0) (xn g n)) ∧
  (∀ n, n < N → kn g n = 6 → li_ok g ou N n → rf_ok (sg_t g) s0 s (rk g n) (vx g (ms_M s0) (ms_G s0) (xn g n))) ∧ gv_ok (sg_t g) (ms_G s)
def ck_ok (v : SX) (N : Nat) : Prop :=
  ∃ le wo wc, pg_ok v le wo wc ∧ ∀ s0, gv_ok (sx_tapCount v) (ms_G s0) → xs_ok (sg_of v) (sx_outputNode v) N s0 (rs_c (sx_tapCount v) (cd_of v le) s0)
section
variable {u : SX} {N : Nat}
theorem li_nd (cs : cs_ok u N) {n : Nat} (h : li_ok (sg_of u) (sx_outputNode u) N n) : n < N ∧ nd_u u (sm_u u n) := by
  refine h (fun n => n < N ∧ nd_u u (sm_u u n)) (fun o q ho hq e => ⟨hq, ?_⟩) (fun m hm S k2 => ?_)
  · rcases cs.2.2.2.2.2.2 o ho with e' | ⟨q', hq', e', h'⟩
    · exact absurd (e'.symm.trans e) (fun z => sn_ne (by have := cs.1.1; omega) z.symm)
    · have : q' = q := sn_inj (by have := cs.1.1; omega) (by have := cs.1.1; omega) (e'.symm.trans e)
      subst this; exact h'
  · obtain ⟨xe, xl⟩ := xn_e cs hm k2
    obtain ⟨a1, a2, a3, a4⟩ := cs.2.2.2.1 m hm
    have key : nd_u u (sm_u u (xn (sg_of u) m)) ∧ (tw (kn (sg_of u) m) → nd_u u (sm_u u (yn (sg_of u) m))) := by
      by_cases e : sm_u u m = m
      · have := S.2
        rw [e] at this
        exact cs.2.2.2.2.2.1 m hm this k2
      · obtain ⟨b1, b2, b3⟩ := a4 e
        have := cs.2.2.2.2.2.1 (sm_u u m) (by omega) S.2 (by omega)
        rw [(b3 k2).1, b1] at this
        refine ⟨this.1, fun ht => ?_⟩
        rw [← (b3 k2).2.1 ht]
        exact this.2 ht
    exact ⟨⟨xl, key.1⟩, fun ht => ⟨(yn_e cs hm ht).2, key.2 ht⟩⟩
theorem mf_p5 {p : Nat} {Q : Nat → Nat → Prop} {P P' : Nat → Prop} {c : cd_T} (e : ∀ n, n < N → (P n ↔ P' n)) (h : mf_ok u N p Q P c) : mf_ok u N p Q P' c := by
  intro s0 hs
  obtain ⟨h1, h2, h3, h4, h5⟩ := h s0 hs
  exact ⟨h1, h2, h3, fun n hn => ⟨fun k z => (h4 n hn).1 k ((e n hn).mpr z), fun z => (h4 n hn).2 (fun z' => z ((e n hn).mp z'))⟩, h5⟩
def dk_P (u : SX) (N p : Nat) (c : cd_T) (ho rg sv : Nat → Int32) : Prop :=
  es_ok u N N (100 + p) c ho rg sv ∧ mf_ok u N N (fun _ s => s < N) (fun n => n < p ∧ nd_u u n ∧ kn (sg_of u) n = 5) c ∧ cd_l c ≤ 228 + 3 * p
variable {c : cd_T} {ho rg sv : Nat → Int32} {p : Nat} {post : SX → Prop}
theorem dk_sk (h : dk_P u N p c ho rg sv) (hn : ¬ (nd_u u p ∧ kn (sg_of u) p = 5)) : dk_P u N (p + 1) c ho rg sv := by
  obtain ⟨E, Mf, hl⟩ := h
  refine ⟨es_mo (by omega) E, mf_p5 (fun n _ => ?_) Mf, by omega⟩
  constructor
  · intro z; exact ⟨by omega, z.2⟩
  · intro z
    by_cases e : n = p
    · subst e; exact absurd z.2 hn
    · exact ⟨by omega, z.2⟩
theorem ed_ok (cs : cs_ok u N) (hp : p < N) (hnd : nd_u u p) (hk : kn (sg_of u) p = 5) (E : dk_P u N p c ho rg sv)
    (K : ∀ (c' : cd_T) (ho' rg' sv' : Nat → Int32), dk_P u N (p + 1) c' ho' rg' sv' → post (xe_T u c' 0 ho' rg' sv')) : wpX_emitDelay post (xe_T u c 0 ho rg sv) (nI p) := by
  have hN := cs.1.1
  obtain ⟨E, Mf, hl⟩ := E
  obtain ⟨xe, xl⟩ := xn_e cs hp (by omega)
  obtain ⟨se, sl⟩ := sm_e cs xl
  have hav := E.2.2.2.1 (sm_u u (xn (sg_of u) p)) sl sl (cs.2.2.2.2.2.1 p hp hnd (by omega)).1 (cs.2.2.2.1 _ xl).2.1 ⟨p, hp, hnd, Or.inr ⟨hk, Nat.le_refl _, rfl⟩⟩
  unfold wpX_emitDelay
  show vp_in (nI p) 24 ∧ wpX_bring _ (xe_T u c 0 ho rg sv) (sx_partX u (nI p).toNatClampNeg) (100 + nI p)
  refine ⟨vp_in_nI (by omega) (by omega), ?_⟩
  rw [nI_clamp (n := p) (by omega), xe, show (100 : Int32) + nI p = nI (100 + p) from nI_add 100 p]
  refine br_ok (u := u) cs (Or.inr ⟨by omega, by omega⟩) E (by omega) (pi_0 (a := 0) (b := 0) (d := 0)) xl sl hav (fun r c' ho' rg' sv' B => ?_)
  obtain ⟨hr, E2, L2, hl2, hrg, _, _⟩ := B
  show wpX_emit _ (xe_T u c' (0 ||| ((1 : Int32) <<< (nI r &&& 31))) ho' rg' sv') 17 (-1) (nI r) (-1) (8 + nI p)
  rw [show (8 : Int32) + nI p = nI (8 + p) from nI_add 8 p]
  refine em_ok (u := u) (by omega) (by_n (n := 17) (by omega)) by_m (by_n (by omega)) by_m ?_
  obtain ⟨E3, eM, eG⟩ := st_lo (x := 8 + p) E2 hr (by omega)
  refine K _ ho' rg' sv' ⟨es_mo (by omega) E3, ?_, by show cd_l c' + 1 ≤ _; omega⟩
  refine mf_p5 (fun n _ => ?_) (mf_del hN (mf_lw hN (rk_4 cs) Mf L2) hp eM eG (fun s0 hs => ?_))
  · constructor
    · intro z
      rcases z with z | z
      · exact ⟨by omega, z.2⟩
      · rw [z]; exact ⟨by omega, hnd, hk⟩
    · intro z
      by_cases e : n = p
      · exact Or.inr e
      · exact Or.inl ⟨by omega, z.2⟩
  · rw [← vx_sm cs.1 cs.2.2.2.1 _ xl]
    exact (E2.2.1 s0 hs).1 _ sl r hr hrg
/-- the fields that compiling gives anew -/
def xc_T (u : SX) (c : cd_T) (pn : Int32) (ho rg sv : Nat → Int32) (wc : Int32) (wf ws : Nat → Int32) : SX :=
  (sx_nodeCount u, sx_filterCount u, sx_levelNow u, sx_compiled u, sx_needed u, pn, nI (cd_l c), wc, sx_accumulator u, sx_dueCount u, sx_stepCount u, sx_listLength u, sx_listValue u, sx_kindOf u, sx_partX u, sx_partY u, sx_filterOf u, sx_tapCount u, sx_taps u, sx_outputNode u, sx_same u, ho, rg, sv, cd_o c, cd_d c, cd_a c, cd_b c, cd_n c, wf, ws, sx_memory u, sx_ringAt u, sx_register u, sx_dueRegister u, sx_dueValue u, sx_dueWord u)
theorem k103 {lv : Nat} (cs : cs_ok u N) (hl : sx_levelNow u = nI lv) (hlv : lv ≤ 2)
    (K : ∀ (c' : cd_T) (ho' rg' sv' : Nat → Int32) (wc : Int32) (wf ws : Nat → Int32), ck_ok (xc_T u c' 0 ho' rg' sv' wc wf ws) N → post (xc_T u c' 0 ho' rg' sv' wc wf ws)) :
    ∀ (d p : Nat) (c : cd_T) (ho rg sv : Nat → Int32), p + d = N → dk_P u N p c ho rg sv → ∀ n, d < n →
      wX_compile_103 post n (nI p) (sx_nodeCount u) (sx_filterCount u) (sx_levelNow u) (sx_compiled u) (sx_needed u) (0) (nI (cd_l c)) (sx_wordCount u) (sx_accumulator u) (sx_dueCount u) (sx_stepCount u) (sx_listLength u) (sx_listValue u) (sx_kindOf u) (sx_partX u) (sx_partY u) (sx_filterOf u) (sx_tapCount u) (sx_taps u) (sx_outputNode u) (sx_same u) (ho) (rg) (sv) (cd_o c) (cd_d c) (cd_a c) (cd_b c) (cd_n c) (sx_wordOf u) (sx_words u) (sx_memory u) (sx_ringAt u) (sx_register u) (sx_dueRegister u) (sx_dueValue u) (sx_dueWord u) := by
  have hN := cs.1.1
  intro d
  induction d with
  | zero =>
    intro p c ho rg sv hd D n hn
    obtain ⟨n, rfl⟩ : ∃ m, n = m + 1 := ⟨n - 1, by omega⟩
    have : p = N := by omega
    subst this
    rw [wX_compile_103]
    refine br_t (by rw [cs.2.2.1]; exact nI_le (by omega) (by omega)) ?_
    obtain ⟨E, Mf, hlen⟩ := D
    refine sh_ok (u := xe_T u c 0 ho rg sv) (le := cd_l c) (lv := lv) hl hlv rfl (by omega) E.2.2.1 (fun wo wc wf ws hpg => K c ho rg sv (nI wc) wf ws ⟨cd_l c, wo, wc, hpg, fun s0 hs => ?_⟩)
    obtain ⟨h1, h2, h3, h4, h5⟩ := Mf s0 hs
    refine ⟨h1, h2, fun o ho q hq e => h3 o ho q hq e (sm_e cs hq).2, fun n hn k hli => (h4 n hn).1 k ⟨hn, ?_, k⟩, fun n hn k hli => (h5 n hn k).1 ⟨hn, ?_⟩, rn_gv E.2.2.1 hs (cd_l c) (Nat.le_refl _)⟩
    · have := (li_nd cs hli).2
      rw [(cs.2.2.2.1 n hn).2.2.1 (Or.inl k)] at this
      exact this
    · have := (li_nd cs hli).2
      rw [(cs.2.2.2.1 n hn).2.2.1 (Or.inr k)] at this
      exact this
  | succ d ih =>
    intro p c ho rg sv hd D n hn
    obtain ⟨n, rfl⟩ : ∃ m, n = m + 1 := ⟨n - 1, by omega⟩
    have hp : p < N := by omega
    obtain ⟨ke, kl⟩ := kn_e cs hp
    rw [wX_compile_103]
    refine br_f (by rw [cs.2.2.1]; exact nI_ge (by omega) (by omega)) ?_
    rw [nI_clamp (n := p) (by omega), ke]
    have sk : ¬ (nd_u u p ∧ kn (sg_of u) p = 5) → ∀ y, y = nI p + 1 → wX_compile_103 post n y (sx_nodeCount u) (sx_filterCount u) (sx_levelNow u) (sx_compiled u) (sx_needed u) (0) (nI (cd_l c)) (sx_wordCount u) (sx_accumulator u) (sx_dueCount u) (sx_stepCount u) (sx_listLength u) (sx_listValue u) (sx_kindOf u) (sx_partX u) (sx_partY u) (sx_filterOf u) (sx_tapCount u) (sx_taps u) (sx_outputNode u) (sx_same u) (ho) (rg) (sv) (cd_o c) (cd_d c) (cd_a c) (cd_b c) (cd_n c) (sx_wordOf u) (sx_words u) (sx_memory u) (sx_ringAt u) (sx_register u) (sx_dueRegister u) (sx_dueValue u) (sx_dueWord u) :=
      fun h => nm_r (e' := nI (p + 1)) (nI_1 _) (ih (p + 1) c ho rg sv (by omega) (dk_sk D h) n (by omega))
    refine in_ok (u := xe_T u c 0 ho rg sv) (by omega) (fun hnd => br_f (by decide) ⟨vp_in_nI (by omega) (by omega), ?_⟩) (fun hnd => br_t rfl (sk (fun h => hnd h.1)))
    refine pk_eq (kn (sg_of u) p) 5 (fun k5 => ?_) (fun k5 => sk (fun h => k5 h.2))
    refine ed_ok (u := u) cs hp hnd k5 D (fun c' ho' rg' sv' D' => ?_)
    exact nm_r (e' := nI (p + 1)) (nI_1 _) (ih (p + 1) c' ho' rg' sv' (by omega) D' n (by omega))
theorem k74 {lv : Nat} (cs : cs_ok u N) (hl : sx_levelNow u = nI lv) (hlv : lv ≤ 2)
    (K : ∀ (c' : cd_T) (ho' rg' sv' : Nat → Int32) (wc : Int32) (wf ws : Nat → Int32), ck_ok (xc_T u c' 0 ho' rg' sv' wc wf ws) N → post (xc_T u c' 0 ho' rg' sv' wc wf ws)) :
    ∀ (d p : Nat) (c : cd_T) (ho rg sv : Nat → Int32), p + d = N → nk_P u N p (fun _ => False) c ho rg sv → ∀ n, d < n →
      wX_compile_74 post n (nI p) (sx_nodeCount u) (sx_filterCount u) (sx_levelNow u) (sx_compiled u) (sx_needed u) (0) (nI (cd_l c)) (sx_wordCount u) (sx_accumulator u) (sx_dueCount u) (sx_stepCount u) (sx_listLength u) (sx_listValue u) (sx_kindOf u) (sx_partX u) (sx_partY u) (sx_filterOf u) (sx_tapCount u) (sx_taps u) (sx_outputNode u) (sx_same u) (ho) (rg) (sv) (cd_o c) (cd_d c) (cd_a c) (cd_b c) (cd_n c) (sx_wordOf u) (sx_words u) (sx_memory u) (sx_ringAt u) (sx_register u) (sx_dueRegister u) (sx_dueValue u) (sx_dueWord u) := by
  have hN := cs.1.1
  intro d
  induction d with
  | zero =>
    intro p c ho rg sv hd D n hn
    obtain ⟨n, rfl⟩ : ∃ m, n = m + 1 := ⟨n - 1, by omega⟩
    have : p = N := by omega
    subst this
    rw [wX_compile_74]
    refine br_t (by rw [cs.2.2.1]; exact nI_le (by omega) (by omega)) ⟨p + 1, ?_⟩
    obtain ⟨E, Mf, hlen⟩ := D
    have h4 := oL_4 u p
    have hr4 := rk_le cs (p := p) (by omega)
    refine k103 cs hl hlv K p 0 c ho rg sv (by omega) ⟨es_mo (by omega) E, mf_p5 (fun n _ => ⟨fun z => z.elim, fun z => absurd z.1 (by omega)⟩) Mf, by omega⟩ (p + 1) (by omega)
  | succ d ih =>
    intro p c ho rg sv hd D n hn
    obtain ⟨n, rfl⟩ : ∃ m, n = m + 1 := ⟨n - 1, by omega⟩
    have hp : p < N := by omega
    rw [wX_compile_74]
    refine br_f (by rw [cs.2.2.1]; exact nI_ge (by omega) (by omega)) ?_
    refine in_ok (u := xe_T u c 0 ho rg sv) (by omega) (fun hnd => br_f (by decide) ?_) (fun hnd => br_t rfl (nm_r (e' := nI (p + 1)) (nI_1 _) (ih (p + 1) c ho rg sv (by omega) (nk_sk cs hp (fun h => absurd h hnd) (fun o ho q hq e z => ?_) D) n (by omega))))
    · refine en_ok (u := u) cs hp hnd (fun _ h => h) D (fun c' ho' rg' sv' D' => ?_)
      exact nm_r (e' := nI (p + 1)) (nI_1 _) (ih (p + 1) c' ho' rg' sv' (by omega) D' n (by omega))
    · rcases cs.2.2.2.2.2.2 o ho with e' | ⟨q', hq', e', h'⟩
      · exact absurd (e'.symm.trans e) (fun z => sn_ne (by omega) z.symm)
      · have : q' = q := sn_inj (by omega) (by omega) (e'.symm.trans e)
        subst this
        rw [z] at h'
        exact hnd h'
end
end
section
/-! ===== which node stands for which ===== -/
def sf (a : Nat → Int32) (j : Nat) : Nat := (a j).toNatClampNeg
def fs_I (g : sg_T) (sa : Nat → Int32) (n : Nat) : Prop :=
  ∀ m, m < n → sa m = nI (sf sa m) ∧ sf sa m ≤ m ∧ sf sa (sf sa m) = sf sa m ∧ (kn g m = 5 ∨ kn g m = 6 → sf sa m = m) ∧ (sf sa m ≠ m → al_ok g (sf sa) (sf sa m) m)
theorem al_cg {g : sg_T} {s s' : Nat → Nat} {a b n N : Nat} (hs : so_ok g N) (ha : a < N) (hb : b < N) (h5 : kn g b ≠ 5) (ha' : a ≤ n) (hb' : b ≤ n) (h : ∀ j, j < n → s' j = s j) (k : al_ok g s a b) : al_ok g s' a b := by
  obtain ⟨k1, k2, k3⟩ := k
  have sa := hs.2.1 a ha
  have sb := hs.2.1 b hb
  refine ⟨k1, k2, fun h2 => ?_⟩
  obtain ⟨q1, q2, q3⟩ := k3 h2
  have x1 := (sa.2.2.2.1 (by omega)).2.2 (by omega)
  have x2 := (sb.2.2.2.1 h2).2.2 h5
  refine ⟨by rw [h _ (by omega), h _ (by omega)]; exact q1, fun ht => ?_, q3⟩
  have y1 := (sa.2.2.2.2.1 (by rw [k1]; exact ht)).2
  have y2 := (sb.2.2.2.2.1 ht).2
  rw [h _ (by omega), h _ (by omega)]
  exact q2 ht
theorem fs_st {g : sg_T} {sa : Nat → Int32} {n k N : Nat} (hs : so_ok g N) (hn : n < N) (I : fs_I g sa n) (h : k = n ∨ (k < n ∧ sf sa k = k ∧ kn g n ≠ 5 ∧ kn g n ≠ 6 ∧ al_ok g (sf sa) k n)) : fs_I g (upd sa n (nI k)) (n + 1) := by
  have hN := hs.1
  have ag : ∀ j, j < n → sf (upd sa n (nI k)) j = sf sa j := fun j hj => by unfold sf; rw [pk_un (by omega)]
  have an : sf (upd sa n (nI k)) n = k := by unfold sf; rw [pk_us, nI_clamp (by omega)]
  intro m hm
  by_cases e : m = n
  · subst e
    rw [an, pk_us]
    rcases h with h | ⟨h1, h2, h3, h4, h5⟩
    · subst h
      exact ⟨rfl, Nat.le_refl _, an, fun _ => rfl, fun z => absurd rfl z⟩
    · refine ⟨rfl, by omega, by rw [ag k h1]; exact h2, fun z => z.elim (fun z => absurd z h3) (fun z => absurd z h4), fun _ => ?_⟩
      exact al_cg hs (by omega) hn h3 (by omega) (Nat.le_refl m) ag h5
  · obtain ⟨i1, i2, i3, i4, i5⟩ := I m (by omega)
    rw [ag m (by omega), pk_un e, ag (sf sa m) (by omega)]
    refine ⟨i1, i2, i3, i4, fun z => ?_⟩
    have k5 : kn g m ≠ 5 := fun z' => z (i4 (Or.inl z'))
    exact al_cg hs (by omega) (by omega) k5 (n := n) (by omega) (by omega) ag (i5 z)
section
variable {u : SX} {N : Nat}
theorem aa_ok {post : Int32 → Prop} {m n : Nat} (hs : so_ok (sg_of u) N) (hm : m < N) (hn : n < N) (h5 : kn (sg_of u) n ≠ 5) (h1 : al_ok (sg_of u) (sf (sx_same u)) m n → post 1) (h0 : post 0) : wpX_areAlike post u (nI m) (nI n) := by
  show wpX_areAlike post (sx_nodeCount u, sx_filterCount u, sx_levelNow u, sx_compiled u, sx_needed u, sx_pinned u, sx_listEnd u, sx_wordCount u, sx_accumulator u, sx_dueCount u, sx_stepCount u, sx_listLength u, sx_listValue u, sx_kindOf u, sx_partX u, sx_partY u, sx_filterOf u, sx_tapCount u, sx_taps u, sx_outputNode u, sx_same u, sx_holds u, sx_registerOf u, sx_isSaved u, sx_op u, sx_into u, sx_first u, sx_second u, sx_number u, sx_wordOf u, sx_words u, sx_memory u, sx_ringAt u, sx_register u, sx_dueRegister u, sx_dueValue u, sx_dueWord u) (nI m) (nI n)
  have hN := hs.1
  have sa := hs.2.1 m hm
  have sb := hs.2.1 n hn
  have im : vp_in (nI m) 24 := vp_in_nI (by omega) (by omega)
  have inn : vp_in (nI n) 24 := vp_in_nI (by omega) (by omega)
  unfold wpX_areAlike
  dsimp only
  rw [nI_clamp (n := m) (by omega), nI_clamp (n := n) (by omega), show sx_kindOf u n = nI (kn (sg_of u) n) from sb.1, show sx_kindOf u m = nI (kn (sg_of u) m) from sa.1]
  have kb := sb.2.1
  have ka := sa.2.1
  refine ⟨inn, nm_e ⟨im, pk_eq (kn (sg_of u) m) (kn (sg_of u) n) (fun ek => ?_) (fun _ => h0)⟩⟩
  refine pk_le 2 (kn (sg_of u) n) (fun k2 => ?_) (fun k2 => ?_)
  · obtain ⟨xa, xa2, _⟩ := sa.2.2.2.1 (by omega)
    obtain ⟨xb, xb2, _⟩ := sb.2.2.2.1 k2
    rw [show sx_partX u m = nI (xn (sg_of u) m) from xa, show sx_partX u n = nI (xn (sg_of u) n) from xb, nI_clamp (n := xn (sg_of u) m) (by omega), nI_clamp (n := xn (sg_of u) n) (by omega)]
    refine ⟨im, vp_in_nI (by omega) (by omega), inn, vp_in_nI (by omega) (by omega), br_c (fun es => ?_) (fun _ => h0)⟩
    have es' : sf (sx_same u) (xn (sg_of u) m) = sf (sx_same u) (xn (sg_of u) n) := by unfold sf; rw [es]
    refine pk_eq (kn (sg_of u) n) 8 (fun k8 => h1 ⟨ek, fun z => by omega, fun _ => ⟨es', fun ht => by unfold tw at ht; omega, fun _ z => absurd k8 z⟩⟩) (fun k8 => ?_)
    refine ht_ok (u := u) kb (fun ht => br_f (by decide) ?_) (fun ht => br_t rfl ⟨im, inn, br_c (fun ey => h1 ⟨ek, fun z => by omega, fun _ => ⟨es', fun z => absurd z ht, fun _ _ => ey⟩⟩) (fun _ => h0)⟩)
    obtain ⟨ya, ya2⟩ := sa.2.2.2.2.1 (by rw [ek]; exact ht)
    obtain ⟨yb, yb2⟩ := sb.2.2.2.2.1 ht
    rw [show sx_partY u m = nI (yn (sg_of u) m) from ya, show sx_partY u n = nI (yn (sg_of u) n) from yb, nI_clamp (n := yn (sg_of u) m) (by omega), nI_clamp (n := yn (sg_of u) n) (by omega)]
    refine ⟨im, vp_in_nI (by omega) (by omega), inn, vp_in_nI (by omega) (by omega), br_c (fun ey => h1 ⟨ek, fun z => by omega, fun _ => ⟨es', fun _ => ?_, fun z => absurd ht z⟩⟩) (fun _ => h0)⟩
    unfold sf; rw [ey]
  · exact ⟨im, inn, br_c (fun ex => h1 ⟨ek, fun _ => ex, fun z => by omega⟩) (fun _ => h0)⟩
theorem s52 {post : SX → Prop} {J : Int32 → (Nat → Int32) → (Nat → Int32) → (Nat → Int32) → (Nat → Int32) → (Nat → Int32) → (Nat → Int32) → (Nat → Int32) → (Nat → Int32) → (Nat → Int32) → (Nat → Int32) → (Nat → Int32) → (Nat → Int32) → (Nat → Int32) → (Nat → Int32) → (Nat → Int32) → (Nat → Int32) → (Nat → Int32) → (Nat → Int32) → (Nat → Int32) → (Nat → Int32) → (Nat → Int32) → (Nat → Int32) → (Nat → Int32) → (Nat → Int32) → (Nat → Int32) → (Nat → Int32) → Prop} {sa : Nat → Int32} {n : Nat} (hs : so_ok (sg_of u) N) (hn : n < N) (h5 : kn (sg_of u) n ≠ 5) (h6 : kn (sg_of u) n ≠ 6) (I : fs_I (sg_of u) sa n)
    (K : ∀ sa', fs_I (sg_of u) sa' (n + 1) → J (nI (n + 1)) (sx_listLength u) (sx_listValue u) (sx_kindOf u) (sx_partX u) (sx_partY u) (sx_filterOf u) (sx_tapCount u) (sx_taps u) (sx_outputNode u) (sa') (sx_holds u) (sx_registerOf u) (sx_isSaved u) (sx_op u) (sx_into u) (sx_first u) (sx_second u) (sx_number u) (sx_wordOf u) (sx_words u) (sx_memory u) (sx_ringAt u) (sx_register u) (sx_dueRegister u) (sx_dueValue u) (sx_dueWord u)) :
    ∀ (d m : Nat), m + d = n → ∀ f, d < f → wX_findSame_52 post J (nI n) (sx_nodeCount u) (sx_filterCount u) (sx_levelNow u) (sx_compiled u) (sx_needed u) (sx_pinned u) (sx_listEnd u) (sx_wordCount u) (sx_accumulator u) (sx_dueCount u) (sx_stepCount u) (sx_listLength u) (sx_listValue u) (sx_kindOf u) (sx_partX u) (sx_partY u) (sx_filterOf u) (sx_tapCount u) (sx_taps u) (sx_outputNode u) (upd sa n (nI n)) (sx_holds u) (sx_registerOf u) (sx_isSaved u) (sx_op u) (sx_into u) (sx_first u) (sx_second u) (sx_number u) (sx_wordOf u) (sx_words u) (sx_memory u) (sx_ringAt u) (sx_register u) (sx_dueRegister u) (sx_dueValue u) (sx_dueWord u) f (nI m) := by
  have hN := hs.1
  intro d
  induction d with
  | zero =>
    intro m hm f hf
    obtain ⟨f, rfl⟩ : ∃ f', f = f' + 1 := ⟨f - 1, by omega⟩
    rw [wX_findSame_52]
    exact br_t (nI_le (by omega) (by omega)) (nm_r (e' := nI (n + 1)) (nI_1 _) (K _ (fs_st hs hn I (Or.inl rfl))))
  | succ d ih =>
    intro m hm f hf
    obtain ⟨f, rfl⟩ : ∃ f', f = f' + 1 := ⟨f - 1, by omega⟩
    rw [wX_findSame_52]
    refine br_f (nI_ge (by omega) (by omega)) ⟨vp_in_nI (by omega) (by omega), ?_⟩
    rw [nI_clamp (n := m) (by omega), nI_clamp (n := n) (by omega)]
    have nx : ∀ y, y = nI m + 1 → wX_findSame_52 post J (nI n) (sx_nodeCount u) (sx_filterCount u) (sx_levelNow u) (sx_compiled u) (sx_needed u) (sx_pinned u) (sx_listEnd u) (sx_wordCount u) (sx_accumulator u) (sx_dueCount u) (sx_stepCount u) (sx_listLength u) (sx_listValue u) (sx_kindOf u) (sx_partX u) (sx_partY u) (sx_filterOf u) (sx_tapCount u) (sx_taps u) (sx_outputNode u) (upd sa n (nI n)) (sx_holds u) (sx_registerOf u) (sx_isSaved u) (sx_op u) (sx_into u) (sx_first u) (sx_second u) (sx_number u) (sx_wordOf u) (sx_words u) (sx_memory u) (sx_ringAt u) (sx_register u) (sx_dueRegister u) (sx_dueValue u) (sx_dueWord u) f y := nm_r (e' := nI (m + 1)) (nI_1 _) (ih (m + 1) (by omega) f (by omega))
    refine br_c (fun e => ?_) (fun e => nx)
    rw [pk_un (by omega)] at e
    refine aa_ok (u := (sx_nodeCount u, sx_filterCount u, sx_levelNow u, sx_compiled u, sx_needed u, sx_pinned u, sx_listEnd u, sx_wordCount u, sx_accumulator u, sx_dueCount u, sx_stepCount u, sx_listLength u, sx_listValue u, sx_kindOf u, sx_partX u, sx_partY u, sx_filterOf u, sx_tapCount u, sx_taps u, sx_outputNode u, upd sa n (nI n), sx_holds u, sx_registerOf u, sx_isSaved u, sx_op u, sx_into u, sx_first u, sx_second u, sx_number u, sx_wordOf u, sx_words u, sx_memory u, sx_ringAt u, sx_register u, sx_dueRegister u, sx_dueValue u, sx_dueWord u)) (N := N) hs (by omega) hn h5 (fun ha => br_f (by decide) ⟨vp_in_nI (by omega) (by omega), ?_⟩) (br_t rfl nx)
    refine nm_r (e' := upd (upd sa n (nI n)) n (nI m)) (by rw [sn_vb (by omega)]) (nm_r (e' := nI (n + 1)) (nI_1 _) (K _ ?_))
    have eu : upd (upd sa n (nI n)) n (nI m) = upd sa n (nI m) := by
      funext j
      by_cases z : j = n
      · subst z; rw [pk_us, pk_us]
      · rw [pk_un z, pk_un z, pk_un z]
    rw [eu]
    refine fs_st hs hn I (Or.inr ⟨by omega, by unfold sf; rw [e, nI_clamp (by omega)], h5, h6, ?_⟩)
    refine al_cg hs (by omega) hn h5 (n := n) (by omega) (by omega) (fun j hj => ?_) ha
    show sf sa j = sf (upd sa n (nI n)) j
    unfold sf; rw [pk_un (by omega)]
theorem s2 {post : SX → Prop} {lv : Nat} (hs : so_ok (sg_of u) N) (hc : sx_nodeCount u = nI N) (hl : sx_levelNow u = nI lv) (hlv : lv ≤ 2)
    (K : ∀ sa', fs_I (sg_of u) sa' N → post (sx_nodeCount u, sx_filterCount u, sx_levelNow u, sx_compiled u, sx_needed u, sx_pinned u, sx_listEnd u, sx_wordCount u, sx_accumulator u, sx_dueCount u, sx_stepCount u, sx_listLength u, sx_listValue u, sx_kindOf u, sx_partX u, sx_partY u, sx_filterOf u, sx_tapCount u, sx_taps u, sx_outputNode u, sa', sx_holds u, sx_registerOf u, sx_isSaved u, sx_op u, sx_into u, sx_first u, sx_second u, sx_number u, sx_wordOf u, sx_words u, sx_memory u, sx_ringAt u, sx_register u, sx_dueRegister u, sx_dueValue u, sx_dueWord u)) :
    ∀ (d n : Nat) (sa : Nat → Int32), n + d = N → fs_I (sg_of u) sa n → ∀ f, d < f →
      wX_findSame_2 post (sx_nodeCount u) (sx_filterCount u) (sx_levelNow u) (sx_compiled u) (sx_needed u) (sx_pinned u) (sx_listEnd u) (sx_wordCount u) (sx_accumulator u) (sx_dueCount u) (sx_stepCount u) f (nI n) (sx_listLength u) (sx_listValue u) (sx_kindOf u) (sx_partX u) (sx_partY u) (sx_filterOf u) (sx_tapCount u) (sx_taps u) (sx_outputNode u) (sa) (sx_holds u) (sx_registerOf u) (sx_isSaved u) (sx_op u) (sx_into u) (sx_first u) (sx_second u) (sx_number u) (sx_wordOf u) (sx_words u) (sx_memory u) (sx_ringAt u) (sx_register u) (sx_dueRegister u) (sx_dueValue u) (sx_dueWord u) := by
  have hN := hs.1
  intro d
  induction d with
  | zero =>
    intro n sa hd I f hf
    obtain ⟨f, rfl⟩ : ∃ f', f = f' + 1 := ⟨f - 1, by omega⟩
    have : n = N := by omega
    subst this
    rw [wX_findSame_2]
    exact br_t (by rw [hc]; exact nI_le (by omega) (by omega)) (K sa I)
  | succ d ih =>
    intro n sa hd I f hf
    obtain ⟨f, rfl⟩ : ∃ f', f = f' + 1 := ⟨f - 1, by omega⟩
    have hn : n < N := by omega
    have s1 := hs.2.1 n hn
    have i24 : vp_in (nI n) 24 := vp_in_nI (by omega) (by omega)
    rw [wX_findSame_2]
    refine br_f (by rw [hc]; exact nI_ge (by omega) (by omega)) ⟨i24, ?_⟩
    rw [nI_clamp (n := n) (by omega), show sx_kindOf u n = nI (kn (sg_of u) n) from s1.1]
    have k10 := s1.2.1
    refine nm_r (e' := upd sa n (nI n)) (by rw [sn_vb (by omega)]) ?_
    have nx : ∀ y, y = nI n + 1 → wX_findSame_2 post (sx_nodeCount u) (sx_filterCount u) (sx_levelNow u) (sx_compiled u) (sx_needed u) (sx_pinned u) (sx_listEnd u) (sx_wordCount u) (sx_accumulator u) (sx_dueCount u) (sx_stepCount u) f y (sx_listLength u) (sx_listValue u) (sx_kindOf u) (sx_partX u) (sx_partY u) (sx_filterOf u) (sx_tapCount u) (sx_taps u) (sx_outputNode u) (upd sa n (nI n)) (sx_holds u) (sx_registerOf u) (sx_isSaved u) (sx_op u) (sx_into u) (sx_first u) (sx_second u) (sx_number u) (sx_wordOf u) (sx_words u) (sx_memory u) (sx_ringAt u) (sx_register u) (sx_dueRegister u) (sx_dueValue u) (sx_dueWord u) :=
      nm_r (e' := nI (n + 1)) (nI_1 _) (ih (n + 1) _ (by omega) (fs_st hs hn I (Or.inl rfl)) f (by omega))
    refine br_c (fun _ => nx) (fun _ => ⟨i24, ?_⟩)
    refine pk_eq (kn (sg_of u) n) 5 (fun _ => nx) (fun h5 => ⟨i24, ?_⟩)
    refine pk_eq (kn (sg_of u) n) 6 (fun _ => nx) (fun h6 => ⟨n + 1, ?_⟩)
    exact s52 (u := u) hs hn h5 h6 I (fun sa' I' => ih (n + 1) sa' (by omega) I' f (by omega)) n 0 (by omega) (n + 1) (by omega)
theorem fs_ok' {post : SX → Prop} {lv : Nat} (hs : so_ok (sg_of u) N) (hc : sx_nodeCount u = nI N) (hl : sx_levelNow u = nI lv) (hlv : lv ≤ 2)
    (K : ∀ sa', fs_I (sg_of u) sa' N → post (sx_nodeCount u, sx_filterCount u, sx_levelNow u, sx_compiled u, sx_needed u, sx_pinned u, sx_listEnd u, sx_wordCount u, sx_accumulator u, sx_dueCount u, sx_stepCount u, sx_listLength u, sx_listValue u, sx_kindOf u, sx_partX u, sx_partY u, sx_filterOf u, sx_tapCount u, sx_taps u, sx_outputNode u, sa', sx_holds u, sx_registerOf u, sx_isSaved u, sx_op u, sx_into u, sx_first u, sx_second u, sx_number u, sx_wordOf u, sx_words u, sx_memory u, sx_ringAt u, sx_register u, sx_dueRegister u, sx_dueValue u, sx_dueWord u)) : wpX_findSame post u := by
  show wpX_findSame post (sx_nodeCount u, sx_filterCount u, sx_levelNow u, sx_compiled u, sx_needed u, sx_pinned u, sx_listEnd u, sx_wordCount u, sx_accumulator u, sx_dueCount u, sx_stepCount u, sx_listLength u, sx_listValue u, sx_kindOf u, sx_partX u, sx_partY u, sx_filterOf u, sx_tapCount u, sx_taps u, sx_outputNode u, sx_same u, sx_holds u, sx_registerOf u, sx_isSaved u, sx_op u, sx_into u, sx_first u, sx_second u, sx_number u, sx_wordOf u, sx_words u, sx_memory u, sx_ringAt u, sx_register u, sx_dueRegister u, sx_dueValue u, sx_dueWord u)
  unfold wpX_findSame
  exact ⟨N + 1, s2 hs hc hl hlv K N 0 (sx_same u) (by omega) (fun m h => absurd h (by omega)) (N + 1) (by omega)⟩
end
end
section
/-! ===== which nodes are needed ===== -/
def mb (x : Int32) : Nat := 4294967296 - x.toBitVec.toNat
def sub_b (x y : Int32) : Prop := ∀ i, i < 32 → bt x i = true → bt y i = true
theorem mb_lt {x y : Int32} (h : sub_b x y) (hne : x ≠ y) : mb y < mb x := by
  have e : y = x ||| y := by
    apply b_ext
    intro i hi
    rw [b_or]
    cases hx : bt x i
    · simp
    · rw [h i hi hx]; rfl
  have e2 : y.toBitVec.toNat = x.toBitVec.toNat ||| y.toBitVec.toNat := by
    have := congrArg (fun z => z.toBitVec.toNat) e
    rw [Int32.toBitVec_or, BitVec.toNat_or] at this
    exact this
  have h1 : x.toBitVec.toNat ≤ x.toBitVec.toNat ||| y.toBitVec.toNat := Nat.left_le_or
  have h2 : x.toBitVec.toNat ≠ y.toBitVec.toNat := fun z => hne (Int32.toBitVec_inj.mp (BitVec.eq_of_toNat_eq z))
  have h3 := y.toBitVec.isLt
  have h4 := x.toBitVec.isLt
  unfold mb
  omega
theorem sub_o (x : Int32) {s : Nat} (hs : s < 32) : sub_b x (x ||| ((1 : Int32) <<< (nI s &&& 31))) := fun i hi h => by rw [bi_s x hs hi, h]; rfl
theorem sub_t {x y z : Int32} (h : sub_b x y) (h' : sub_b y z) : sub_b x z := fun i hi k => h' i hi (h i hi k)
theorem bit_o (x : Int32) {s : Nat} (hs : s < 32) : bt (x ||| ((1 : Int32) <<< (nI s &&& 31))) s = true := by rw [bi_s x hs hs]; simp
def pp_ok (g : sg_T) (sm : Nat → Nat) (N k : Nat) (b c : Int32) : Prop :=
  ∀ m, k ≤ m → m < N → bt b m = true → 2 ≤ kn g m → bt c (sm (xn g m)) = true ∧ (tw (kn g m) → bt c (sm (yn g m)) = true)
section
variable {u : SX} {N : Nat} {post : SX → Prop}
def dx (k : Nat) : Int32 := nI k + (-1)
theorem dx_s (j : Nat) : dx (j + 1) = nI j := pk_m1 j
theorem q89 {J : Int32 → Int32 → Prop} {b : Int32} (hs : so_ok (sg_of u) N) (hv : vd_ok (sg_of u) N) (I : fs_I (sg_of u) (sx_same u) N) 
    (K : ∀ c, sub_b b c → pp_ok (sg_of u) (sf (sx_same u)) N 0 b c → J b c) :
    ∀ (k : Nat) (c : Int32), k ≤ N → sub_b b c → pp_ok (sg_of u) (sf (sx_same u)) N k b c → ∀ f, k < f →
      wX_findNeeded_89 post J b (sx_nodeCount u) (sx_filterCount u) (sx_levelNow u) (sx_compiled u) (sx_pinned u) (sx_listEnd u) (sx_wordCount u) (sx_accumulator u) (sx_dueCount u) (sx_stepCount u) (sx_listLength u) (sx_listValue u) (sx_kindOf u) (sx_partX u) (sx_partY u) (sx_filterOf u) (sx_tapCount u) (sx_taps u) (sx_outputNode u) (sx_same u) (sx_holds u) (sx_registerOf u) (sx_isSaved u) (sx_op u) (sx_into u) (sx_first u) (sx_second u) (sx_number u) (sx_wordOf u) (sx_words u) (sx_memory u) (sx_ringAt u) (sx_register u) (sx_dueRegister u) (sx_dueValue u) (sx_dueWord u) f (dx k) c := by
  have hN := hs.1
  intro k
  induction k with
  | zero =>
    intro c hk sb pp f hf
    obtain ⟨f, rfl⟩ : ∃ f', f = f' + 1 := ⟨f - 1, by omega⟩
    rw [wX_findNeeded_89]
    exact br_t (by decide) (K c sb pp)
  | succ j ih =>
    intro c hk sb pp f hf
    obtain ⟨f, rfl⟩ : ∃ f', f = f' + 1 := ⟨f - 1, by omega⟩
    have hj : j < N := by omega
    have s1 := hs.2.1 j hj
    have ij : vp_in (nI j) 24 := vp_in_nI (by omega) (by omega)
    rw [dx_s, wX_findNeeded_89]
    refine br_f (nI_pos (by omega)) ?_
    rw [nI_clamp (n := j) (by omega), show sx_kindOf u j = nI (kn (sg_of u) j) from s1.1]
    have k10 := s1.2.1
    have nx : ∀ c', sub_b c c' → (bt b j = true → 2 ≤ kn (sg_of u) j → bt c' (sf (sx_same u) (xn (sg_of u) j)) = true ∧ (tw (kn (sg_of u) j) → bt c' (sf (sx_same u) (yn (sg_of u) j)) = true)) → ∀ y, y = nI j + (-1) → wX_findNeeded_89 post J b (sx_nodeCount u) (sx_filterCount u) (sx_levelNow u) (sx_compiled u) (sx_pinned u) (sx_listEnd u) (sx_wordCount u) (sx_accumulator u) (sx_dueCount u) (sx_stepCount u) (sx_listLength u) (sx_listValue u) (sx_kindOf u) (sx_partX u) (sx_partY u) (sx_filterOf u) (sx_tapCount u) (sx_taps u) (sx_outputNode u) (sx_same u) (sx_holds u) (sx_registerOf u) (sx_isSaved u) (sx_op u) (sx_into u) (sx_first u) (sx_second u) (sx_number u) (sx_wordOf u) (sx_words u) (sx_memory u) (sx_ringAt u) (sx_register u) (sx_dueRegister u) (sx_dueValue u) (sx_dueWord u) f y c' := by
      intro c' hcc h
      refine nm_e (ih c' (by omega) (sub_t sb hcc) (fun m h1 h2 h3 h4 => ?_) f (by omega))
      by_cases e : m = j
      · subst e; exact h h3 h4
      · obtain ⟨p1, p2⟩ := pp m (by omega) h2 h3 h4
        have sx : ∀ q, q < N → sf (sx_same u) q < 32 := fun q hq => by have := (I q hq).2.1; omega
        have t1 := (hs.2.1 m h2).2.2.2.1 h4
        have xl : xn (sg_of u) m < N := by
          by_cases k5 : kn (sg_of u) m = 5
          · exact hv m h2 k5
          · have := t1.2.2 k5; omega
        refine ⟨hcc _ (sx _ xl) p1, fun ht => hcc _ (sx _ ?_) (p2 ht)⟩
        have := ((hs.2.1 m h2).2.2.2.2.1 ht).2
        omega
    refine in_ok (u := (sx_nodeCount u, sx_filterCount u, sx_levelNow u, sx_compiled u, c, sx_pinned u, sx_listEnd u, sx_wordCount u, sx_accumulator u, sx_dueCount u, sx_stepCount u, sx_listLength u, sx_listValue u, sx_kindOf u, sx_partX u, sx_partY u, sx_filterOf u, sx_tapCount u, sx_taps u, sx_outputNode u, sx_same u, sx_holds u, sx_registerOf u, sx_isSaved u, sx_op u, sx_into u, sx_first u, sx_second u, sx_number u, sx_wordOf u, sx_words u, sx_memory u, sx_ringAt u, sx_register u, sx_dueRegister u, sx_dueValue u, sx_dueWord u)) (n := j) (by omega) (fun hnd => br_f (by decide) ⟨ij, ?_⟩) (fun hnd => br_t rfl (nx c (fun _ _ h => h) (fun hb => absurd (sb j (by omega) hb) hnd)))
    refine pk_le 2 (kn (sg_of u) j) (fun k2 => ⟨ij, ?_⟩) (fun k2 => nx c (fun _ _ h => h) (fun _ h => by omega))
    obtain ⟨xe, x24, xlt⟩ := s1.2.2.2.1 k2
    have xl : xn (sg_of u) j < N := by
      by_cases k5 : kn (sg_of u) j = 5
      · exact hv j hj k5
      · have := xlt k5; omega
    obtain ⟨i1, i2, _⟩ := I _ xl
    rw [show sx_partX u j = nI (xn (sg_of u) j) from xe, nI_clamp (n := xn (sg_of u) j) (by omega), i1]
    refine ⟨vp_in_nI (by omega) (by omega), nm_e ⟨ij, ?_⟩⟩
    have hs1 : sf (sx_same u) (xn (sg_of u) j) < 32 := by omega
    refine ht_ok k10 (fun ht => br_f (by decide) ⟨ij, ?_⟩) (fun ht => br_t rfl (nx _ (sub_o c hs1) (fun _ _ => ⟨bit_o c hs1, fun z => absurd z ht⟩)))
    obtain ⟨ye, ylt⟩ := s1.2.2.2.2.1 ht
    obtain ⟨j1, j2, _⟩ := I (yn (sg_of u) j) (by omega)
    rw [show sx_partY u j = nI (yn (sg_of u) j) from ye, nI_clamp (n := yn (sg_of u) j) (by omega), j1]
    have hs2 : sf (sx_same u) (yn (sg_of u) j) < 32 := by omega
    refine ⟨vp_in_nI (by omega) (by omega), nm_e (nx _ (sub_t (sub_o c hs1) (sub_o _ hs2)) (fun _ _ => ⟨sub_o _ hs2 _ hs1 (bit_o c hs1), fun _ => bit_o _ hs2⟩))⟩
def nq_ok (u : SX) (N : Nat) (c : Int32) : Prop :=
  pp_ok (sg_of u) (sf (sx_same u)) N 0 c c ∧ ∀ o, o < 4 → ∀ q, q < N → sx_outputNode u o = nI q → bt c (sf (sx_same u) q) = true
theorem q69 (hs : so_ok (sg_of u) N) (hv : vd_ok (sg_of u) N) (hc : sx_nodeCount u = nI N) (I : fs_I (sg_of u) (sx_same u) N) (K : ∀ c, nq_ok u N c → post (sx_nodeCount u, sx_filterCount u, sx_levelNow u, sx_compiled u, c, sx_pinned u, sx_listEnd u, sx_wordCount u, sx_accumulator u, sx_dueCount u, sx_stepCount u, sx_listLength u, sx_listValue u, sx_kindOf u, sx_partX u, sx_partY u, sx_filterOf u, sx_tapCount u, sx_taps u, sx_outputNode u, sx_same u, sx_holds u, sx_registerOf u, sx_isSaved u, sx_op u, sx_into u, sx_first u, sx_second u, sx_number u, sx_wordOf u, sx_words u, sx_memory u, sx_ringAt u, sx_register u, sx_dueRegister u, sx_dueValue u, sx_dueWord u)) :
    ∀ (k : Nat) (b c : Int32), (c = b ∨ mb c < k) → (b = -1 ∨ pp_ok (sg_of u) (sf (sx_same u)) N 0 b c) → (∀ o, o < 4 → ∀ q, q < N → sx_outputNode u o = nI q → bt c (sf (sx_same u) q) = true) → ∀ f, k < f →
      wX_findNeeded_69 post (sx_nodeCount u) (sx_filterCount u) (sx_levelNow u) (sx_compiled u) (sx_pinned u) (sx_listEnd u) (sx_wordCount u) (sx_accumulator u) (sx_dueCount u) (sx_stepCount u) (sx_listLength u) (sx_listValue u) (sx_kindOf u) (sx_partX u) (sx_partY u) (sx_filterOf u) (sx_tapCount u) (sx_taps u) (sx_outputNode u) (sx_same u) (sx_holds u) (sx_registerOf u) (sx_isSaved u) (sx_op u) (sx_into u) (sx_first u) (sx_second u) (sx_number u) (sx_wordOf u) (sx_words u) (sx_memory u) (sx_ringAt u) (sx_register u) (sx_dueRegister u) (sx_dueValue u) (sx_dueWord u) f b c := by
  have hN := hs.1
  have sx : ∀ q, q < N → sf (sx_same u) q < 32 := fun q hq => by have := (I q hq).2.1; omega
  have ex : ∀ (b c : Int32), c = b → (b = -1 ∨ pp_ok (sg_of u) (sf (sx_same u)) N 0 b c) → (∀ o, o < 4 → ∀ q, q < N → sx_outputNode u o = nI q → bt c (sf (sx_same u) q) = true) → post (sx_nodeCount u, sx_filterCount u, sx_levelNow u, sx_compiled u, c, sx_pinned u, sx_listEnd u, sx_wordCount u, sx_accumulator u, sx_dueCount u, sx_stepCount u, sx_listLength u, sx_listValue u, sx_kindOf u, sx_partX u, sx_partY u, sx_filterOf u, sx_tapCount u, sx_taps u, sx_outputNode u, sx_same u, sx_holds u, sx_registerOf u, sx_isSaved u, sx_op u, sx_into u, sx_first u, sx_second u, sx_number u, sx_wordOf u, sx_words u, sx_memory u, sx_ringAt u, sx_register u, sx_dueRegister u, sx_dueValue u, sx_dueWord u) := by
    intro b c e h ho
    subst e
    refine K c ⟨?_, ho⟩
    rcases h with h | h
    · subst h
      intro m h1 h2 h3 h4
      have t1 := (hs.2.1 m h2).2.2.2.1 h4
      have xl : xn (sg_of u) m < N := by
        by_cases k5 : kn (sg_of u) m = 5
        · exact hv m h2 k5
        · have := t1.2.2 k5; omega
      refine ⟨b_m1 _ (sx _ xl), fun ht => b_m1 _ (sx _ ?_)⟩
      have := ((hs.2.1 m h2).2.2.2.2.1 ht).2
      omega
    · exact h
  intro k
  induction k with
  | zero =>
    intro b c hk hpp ho f hf
    obtain ⟨f, rfl⟩ : ∃ f', f = f' + 1 := ⟨f - 1, by omega⟩
    have e : c = b := by
      rcases hk with h | h
      · exact h
      · omega
    rw [wX_findNeeded_69]
    exact br_t e (ex b c e hpp ho)
  | succ k ih =>
    intro b c hk hpp ho f hf
    obtain ⟨f, rfl⟩ : ∃ f', f = f' + 1 := ⟨f - 1, by omega⟩
    rw [wX_findNeeded_69]
    refine br_c (fun e => ex b c e hpp ho) (fun e => ?_)
    have hk' : mb c < k + 1 := by
      rcases hk with h | h
      · exact absurd h e
      · exact h
    refine nm_r (e' := dx N) (by rw [hc]; unfold dx; exact Int32.sub_eq_add_neg _ _) ⟨N + 1, ?_⟩
    refine q89 (u := u) (b := c) hs hv I (fun c' sb pp => ?_) N c (Nat.le_refl _) (fun _ _ h => h) (fun m h1 h2 => by omega) (N + 1) (by omega)
    refine ih c c' ?_ (Or.inr pp) (fun o h1 q h2 h3 => sb _ (sx q h2) (ho o h1 q h2 h3)) f (by omega)
    by_cases z : c' = c
    · exact Or.inl z
    · have := mb_lt sb (fun z' => z z'.symm)
      exact Or.inr (by omega)
theorem q25 (hs : so_ok (sg_of u) N) (hv : vd_ok (sg_of u) N) (hc : sx_nodeCount u = nI N) (I : fs_I (sg_of u) (sx_same u) N) (hO : ∀ o, o < 4 → sx_outputNode u o = -1 ∨ ∃ q, q < N ∧ sx_outputNode u o = nI q) (K : ∀ c, nq_ok u N c → post (sx_nodeCount u, sx_filterCount u, sx_levelNow u, sx_compiled u, c, sx_pinned u, sx_listEnd u, sx_wordCount u, sx_accumulator u, sx_dueCount u, sx_stepCount u, sx_listLength u, sx_listValue u, sx_kindOf u, sx_partX u, sx_partY u, sx_filterOf u, sx_tapCount u, sx_taps u, sx_outputNode u, sx_same u, sx_holds u, sx_registerOf u, sx_isSaved u, sx_op u, sx_into u, sx_first u, sx_second u, sx_number u, sx_wordOf u, sx_words u, sx_memory u, sx_ringAt u, sx_register u, sx_dueRegister u, sx_dueValue u, sx_dueWord u)) :
    ∀ (d o : Nat) (c : Int32), o + d = 4 → (∀ o', o' < o → ∀ q, q < N → sx_outputNode u o' = nI q → bt c (sf (sx_same u) q) = true) → ∀ f, d < f →
      wX_findNeeded_25 post (sx_nodeCount u) (sx_filterCount u) (sx_levelNow u) (sx_compiled u) (sx_pinned u) (sx_listEnd u) (sx_wordCount u) (sx_accumulator u) (sx_dueCount u) (sx_stepCount u) (sx_listLength u) (sx_listValue u) (sx_kindOf u) (sx_partX u) (sx_partY u) (sx_filterOf u) (sx_tapCount u) (sx_taps u) (sx_outputNode u) (sx_same u) (sx_holds u) (sx_registerOf u) (sx_isSaved u) (sx_op u) (sx_into u) (sx_first u) (sx_second u) (sx_number u) (sx_wordOf u) (sx_words u) (sx_memory u) (sx_ringAt u) (sx_register u) (sx_dueRegister u) (sx_dueValue u) (sx_dueWord u) f (nI o) c := by
  have hN := hs.1
  have sx : ∀ q, q < N → sf (sx_same u) q < 32 := fun q hq => by have := (I q hq).2.1; omega
  intro d
  induction d with
  | zero =>
    intro o c hd ho f hf
    obtain ⟨f, rfl⟩ : ∃ f', f = f' + 1 := ⟨f - 1, by omega⟩
    have : o = 4 := by omega
    subst this
    rw [wX_findNeeded_25]
    refine br_t (nI_le (a := 4) (by omega) (by omega)) ⟨mb c + 2, q69 hs hv hc I K (mb c + 1) (-1) c (Or.inr (by omega)) (Or.inl rfl) ho _ (by omega)⟩
  | succ d ih =>
    intro o c hd ho f hf
    obtain ⟨f, rfl⟩ : ∃ f', f = f' + 1 := ⟨f - 1, by omega⟩
    have i4 : vp_in (nI o) 4 := vp_in_nI (by omega) (by omega)
    rw [wX_findNeeded_25]
    refine br_f (nI_ge (b := 4) (by omega) (by omega)) ⟨i4, ?_⟩
    rw [nI_clamp (n := o) (by omega)]
    rcases hO o (by omega) with e | ⟨q, hq, e⟩
    · rw [e]
      refine br_t (by decide) (nm_r (e' := nI (o + 1)) (nI_1 _) (ih (o + 1) c (by omega) (fun o' h1 q h2 h3 => ?_) f (by omega)))
      by_cases z : o' = o
      · subst z; exact absurd (e.symm.trans h3) (fun z => sn_ne (by omega) z.symm)
      · exact ho o' (by omega) q h2 h3
    · obtain ⟨i1, i2, _⟩ := I q hq
      rw [e]
      refine br_f (nI_pos (by omega)) ⟨i4, vp_in_nI (by omega) (by omega), ?_⟩
      rw [nI_clamp (n := q) (by omega), i1]
      refine nm_e (nm_r (e' := nI (o + 1)) (nI_1 _) (ih (o + 1) _ (by omega) (fun o' h1 q' h2 h3 => ?_) f (by omega)))
      by_cases z : o' = o
      · subst z
        have : q' = q := sn_inj (by omega) (by omega) (h3.symm.trans e)
        subst this
        exact bit_o c (sx q' h2)
      · exact sub_o c (sx q hq) _ (sx q' h2) (ho o' (by omega) q' h2 h3)
theorem fn_ok (hs : so_ok (sg_of u) N) (hv : vd_ok (sg_of u) N) (hc : sx_nodeCount u = nI N) (I : fs_I (sg_of u) (sx_same u) N) (hO : ∀ o, o < 4 → sx_outputNode u o = -1 ∨ ∃ q, q < N ∧ sx_outputNode u o = nI q) (K : ∀ c, nq_ok u N c → post (sx_nodeCount u, sx_filterCount u, sx_levelNow u, sx_compiled u, c, sx_pinned u, sx_listEnd u, sx_wordCount u, sx_accumulator u, sx_dueCount u, sx_stepCount u, sx_listLength u, sx_listValue u, sx_kindOf u, sx_partX u, sx_partY u, sx_filterOf u, sx_tapCount u, sx_taps u, sx_outputNode u, sx_same u, sx_holds u, sx_registerOf u, sx_isSaved u, sx_op u, sx_into u, sx_first u, sx_second u, sx_number u, sx_wordOf u, sx_words u, sx_memory u, sx_ringAt u, sx_register u, sx_dueRegister u, sx_dueValue u, sx_dueWord u)) :
    wpX_findNeeded post u := by
  show wpX_findNeeded post (sx_nodeCount u, sx_filterCount u, sx_levelNow u, sx_compiled u, sx_needed u, sx_pinned u, sx_listEnd u, sx_wordCount u, sx_accumulator u, sx_dueCount u, sx_stepCount u, sx_listLength u, sx_listValue u, sx_kindOf u, sx_partX u, sx_partY u, sx_filterOf u, sx_tapCount u, sx_taps u, sx_outputNode u, sx_same u, sx_holds u, sx_registerOf u, sx_isSaved u, sx_op u, sx_into u, sx_first u, sx_second u, sx_number u, sx_wordOf u, sx_words u, sx_memory u, sx_ringAt u, sx_register u, sx_dueRegister u, sx_dueValue u, sx_dueWord u)
  unfold wpX_findNeeded
  refine br_c (fun _ => nm_e ⟨5, ?_⟩) (fun _ => ⟨5, ?_⟩)
  · exact q25 hs hv hc I hO K 4 0 _ (by omega) (fun o' h => absurd h (by omega)) 5 (by omega)
  · exact q25 hs hv hc I hO K 4 0 _ (by omega) (fun o' h => absurd h (by omega)) 5 (by omega)
end
end
section
section
variable {u : SX} {N : Nat} {post : SX → Prop}
theorem k46 {lv : Nat} (cs : cs_ok u N) (hl : sx_levelNow u = nI lv) (hlv : lv ≤ 2) (c : cd_T) (hc0 : cd_l c = 0) (ho : Nat → Int32) (hho : ∀ r, r < 8 → ho r = -1)
    (K : ∀ (c' : cd_T) (ho' rg' sv' : Nat → Int32) (wc : Int32) (wf ws : Nat → Int32), ck_ok (xc_T u c' 0 ho' rg' sv' wc wf ws) N → post (xc_T u c' 0 ho' rg' sv' wc wf ws)) :
    ∀ (d n : Nat) (rg sv : Nat → Int32), n + d = 24 → (∀ m, m < n → rg m = -1 ∧ sv m = 0) → ∀ f, d < f →
      wX_compile_46 post (sx_nodeCount u) (sx_filterCount u) (sx_levelNow u) (sx_compiled u) (sx_needed u) (0) (nI (cd_l c)) (sx_wordCount u) (sx_accumulator u) (sx_dueCount u) (sx_stepCount u) f (nI n) (sx_listLength u) (sx_listValue u) (sx_kindOf u) (sx_partX u) (sx_partY u) (sx_filterOf u) (sx_tapCount u) (sx_taps u) (sx_outputNode u) (sx_same u) (ho) (rg) (sv) (cd_o c) (cd_d c) (cd_a c) (cd_b c) (cd_n c) (sx_wordOf u) (sx_words u) (sx_memory u) (sx_ringAt u) (sx_register u) (sx_dueRegister u) (sx_dueValue u) (sx_dueWord u) := by
  have hN := cs.1.1
  intro d
  induction d with
  | zero =>
    intro n rg sv hd hz f hf
    obtain ⟨f, rfl⟩ : ∃ f', f = f' + 1 := ⟨f - 1, by omega⟩
    have : n = 24 := by omega
    subst this
    rw [wX_compile_46]
    refine br_t (nI_le (a := 24) (by omega) (by omega)) ⟨N + 1, ?_⟩
    refine k74 cs hl hlv K N 0 c ho rg sv (by omega) ⟨⟨⟨fun r hr => Or.inl (hho r hr), fun m hm => Or.inl (hz m (by omega)).1⟩, fun s0 hs => ⟨fun m hm r hr e => ?_, fun m hm e => absurd (hz m (by omega)).2 e⟩, fun i hi => by omega, fun m h => by omega, fun m _ hm => (hz m (by omega)).1⟩, fun s0 hs => ?_, by omega⟩ (N + 1) (by omega)
    · rw [(hz m (by omega)).1] at e
      exact absurd e.symm (sn_ne (by omega))
    · have e0 : rs_c (sx_tapCount u) c s0 = s0 := by unfold rs_c; rw [hc0]; rfl
      rw [e0]
      exact ⟨rfl, rfl, fun o ho q hq e z => absurd z (by show ¬ sm_u u q < 0; omega), fun n hn => ⟨fun _ z => z.elim, fun _ => rfl⟩, fun n hn k => ⟨fun z => absurd z.1 (by omega), fun _ => ⟨rfl, fun _ _ => rfl⟩⟩⟩
  | succ d ih =>
    intro n rg sv hd hz f hf
    obtain ⟨f, rfl⟩ : ∃ f', f = f' + 1 := ⟨f - 1, by omega⟩
    have i24 : vp_in (nI n) 24 := vp_in_nI (by omega) (by omega)
    rw [wX_compile_46]
    refine br_f (nI_ge (b := 24) (by omega) (by omega)) ⟨i24, ?_⟩
    rw [nI_clamp (n := n) (by omega)]
    refine nm_r (e' := upd rg n (-1)) (by rw [sn_vbm1]) ⟨i24, nm_r (e' := upd sv n 0) (congrArg (upd sv n) (show vp_nar .boolean 0 = 0 from rfl)) (nm_r (e' := nI (n + 1)) (nI_1 _) (ih (n + 1) _ _ (by omega) (fun m hm => ?_) f (by omega)))⟩
    by_cases e : m = n
    · subst e; exact ⟨pk_us, pk_us⟩
    · rw [pk_un e, pk_un e]; exact hz m (by omega)
theorem k25 {lv : Nat} (cs : cs_ok u N) (hl : sx_levelNow u = nI lv) (hlv : lv ≤ 2) (c : cd_T) (hc0 : cd_l c = 0) (rg sv : Nat → Int32)
    (K : ∀ (c' : cd_T) (ho' rg' sv' : Nat → Int32) (wc : Int32) (wf ws : Nat → Int32), ck_ok (xc_T u c' 0 ho' rg' sv' wc wf ws) N → post (xc_T u c' 0 ho' rg' sv' wc wf ws)) :
    ∀ (d n : Nat) (ho : Nat → Int32), n + d = 8 → (∀ m, m < n → ho m = -1) → ∀ f, d < f →
      wX_compile_25 post (sx_nodeCount u) (sx_filterCount u) (sx_levelNow u) (sx_compiled u) (sx_needed u) (0) (nI (cd_l c)) (sx_wordCount u) (sx_accumulator u) (sx_dueCount u) (sx_stepCount u) f (nI n) (sx_listLength u) (sx_listValue u) (sx_kindOf u) (sx_partX u) (sx_partY u) (sx_filterOf u) (sx_tapCount u) (sx_taps u) (sx_outputNode u) (sx_same u) (ho) (rg) (sv) (cd_o c) (cd_d c) (cd_a c) (cd_b c) (cd_n c) (sx_wordOf u) (sx_words u) (sx_memory u) (sx_ringAt u) (sx_register u) (sx_dueRegister u) (sx_dueValue u) (sx_dueWord u) := by
  intro d
  induction d with
  | zero =>
    intro n ho hd hz f hf
    obtain ⟨f, rfl⟩ : ∃ f', f = f' + 1 := ⟨f - 1, by omega⟩
    have : n = 8 := by omega
    subst this
    rw [wX_compile_25]
    exact br_t (nI_le (a := 8) (by omega) (by omega)) ⟨25, k46 cs hl hlv c hc0 ho hz K 24 0 rg sv (by omega) (fun m h => absurd h (by omega)) 25 (by omega)⟩
  | succ d ih =>
    intro n ho hd hz f hf
    obtain ⟨f, rfl⟩ : ∃ f', f = f' + 1 := ⟨f - 1, by omega⟩
    rw [wX_compile_25]
    refine br_f (nI_ge (b := 8) (by omega) (by omega)) ⟨vp_in_nI (by omega) (by omega), ?_⟩
    rw [nI_clamp (n := n) (by omega)]
    refine nm_r (e' := upd ho n (-1)) (by rw [sn_vbm1]) (nm_r (e' := nI (n + 1)) (nI_1 _) (ih (n + 1) _ (by omega) (fun m hm => ?_) f (by omega)))
    by_cases e : m = n
    · subst e; exact pk_us
    · rw [pk_un e]; exact hz m (by omega)
end
def st_1 (u : SX) : SX := (sx_nodeCount u, sx_filterCount u, sx_levelNow u, 1, sx_needed u, sx_pinned u, sx_listEnd u, sx_wordCount u, sx_accumulator u, sx_dueCount u, sx_stepCount u, sx_listLength u, sx_listValue u, sx_kindOf u, sx_partX u, sx_partY u, sx_filterOf u, sx_tapCount u, sx_taps u, sx_outputNode u, sx_same u, sx_holds u, sx_registerOf u, sx_isSaved u, sx_op u, sx_into u, sx_first u, sx_second u, sx_number u, sx_wordOf u, sx_words u, sx_memory u, sx_ringAt u, sx_register u, sx_dueRegister u, sx_dueValue u, sx_dueWord u)
def st_2 (u : SX) (sa : Nat → Int32) : SX := (sx_nodeCount u, sx_filterCount u, sx_levelNow u, sx_compiled u, sx_needed u, sx_pinned u, sx_listEnd u, sx_wordCount u, sx_accumulator u, sx_dueCount u, sx_stepCount u, sx_listLength u, sx_listValue u, sx_kindOf u, sx_partX u, sx_partY u, sx_filterOf u, sx_tapCount u, sx_taps u, sx_outputNode u, sa, sx_holds u, sx_registerOf u, sx_isSaved u, sx_op u, sx_into u, sx_first u, sx_second u, sx_number u, sx_wordOf u, sx_words u, sx_memory u, sx_ringAt u, sx_register u, sx_dueRegister u, sx_dueValue u, sx_dueWord u)
def st_3 (u : SX) (nd : Int32) : SX := (sx_nodeCount u, sx_filterCount u, sx_levelNow u, sx_compiled u, nd, sx_pinned u, sx_listEnd u, sx_wordCount u, sx_accumulator u, sx_dueCount u, sx_stepCount u, sx_listLength u, sx_listValue u, sx_kindOf u, sx_partX u, sx_partY u, sx_filterOf u, sx_tapCount u, sx_taps u, sx_outputNode u, sx_same u, sx_holds u, sx_registerOf u, sx_isSaved u, sx_op u, sx_into u, sx_first u, sx_second u, sx_number u, sx_wordOf u, sx_words u, sx_memory u, sx_ringAt u, sx_register u, sx_dueRegister u, sx_dueValue u, sx_dueWord u)
theorem sg_1 (u : SX) : sg_of (st_1 u) = sg_of u := rfl
theorem sg_2 (u : SX) (sa : Nat → Int32) : sg_of (st_2 u sa) = sg_of u := rfl
theorem sg_3 (u : SX) (nd : Int32) : sg_of (st_3 u nd) = sg_of u := rfl
theorem cs_3 {v : SX} {N : Nat} {nd : Int32} (hs : so_ok (sg_of v) N) (hv : vd_ok (sg_of v) N) (hc : sx_nodeCount v = nI N) (I : fs_I (sg_of v) (sx_same v) N) (hO : ∀ o, o < 4 → sx_outputNode v o = -1 ∨ ∃ q, q < N ∧ sx_outputNode v o = nI q) (Q : nq_ok v N nd) : cs_ok (st_3 v nd) N := by
  unfold cs_ok
  rw [sg_3]
  refine ⟨hs, hv, hc, fun n hn => ?_, fun n hn => (I n hn).1, fun n hn h k2 => ?_, fun o ho => ?_⟩
  · obtain ⟨i1, i2, i3, i4, i5⟩ := I n hn
    exact ⟨i2, i3, i4, i5⟩
  · exact Q.1 n (by omega) hn h k2
  · rcases hO o ho with e | ⟨q, hq, e⟩
    · exact Or.inl e
    · exact Or.inr ⟨q, hq, e, Q.2 o ho q hq e⟩
section
variable {N : Nat} {post : SX → Prop}
theorem cmA {v : SX} {lv : Nat} (cs : cs_ok v N) (hl : sx_levelNow v = nI lv) (hlv : lv ≤ 2)
    (K : ∀ (c' : cd_T) (ho' rg' sv' : Nat → Int32) (wc : Int32) (wf ws : Nat → Int32), ck_ok (xc_T v c' 0 ho' rg' sv' wc wf ws) N → post (xc_T v c' 0 ho' rg' sv' wc wf ws)) :
    ∃ n, wX_compile_25 post (sx_nodeCount v) (sx_filterCount v) (sx_levelNow v) (sx_compiled v) (sx_needed v) (0) (0) (sx_wordCount v) (sx_accumulator v) (sx_dueCount v) (sx_stepCount v) n 0 (sx_listLength v) (sx_listValue v) (sx_kindOf v) (sx_partX v) (sx_partY v) (sx_filterOf v) (sx_tapCount v) (sx_taps v) (sx_outputNode v) (sx_same v) (sx_holds v) (sx_registerOf v) (sx_isSaved v) (sx_op v) (sx_into v) (sx_first v) (sx_second v) (sx_number v) (sx_wordOf v) (sx_words v) (sx_memory v) (sx_ringAt v) (sx_register v) (sx_dueRegister v) (sx_dueValue v) (sx_dueWord v) :=
  ⟨9, k25 cs hl hlv (0, sx_op v, sx_into v, sx_first v, sx_second v, sx_number v) rfl (sx_registerOf v) (sx_isSaved v) K 8 0 (sx_holds v) (by omega) (fun m h => absurd h (by omega)) 9 (by omega)⟩
theorem cmB {v : SX} {lv : Nat} (hs : so_ok (sg_of v) N) (hv : vd_ok (sg_of v) N) (hc : sx_nodeCount v = nI N) (hl : sx_levelNow v = nI lv) (hlv : lv ≤ 2) (I : fs_I (sg_of v) (sx_same v) N) (hO : ∀ o, o < 4 → sx_outputNode v o = -1 ∨ ∃ q, q < N ∧ sx_outputNode v o = nI q)
    (K : ∀ (nd : Int32) (c' : cd_T) (ho' rg' sv' : Nat → Int32) (wc : Int32) (wf ws : Nat → Int32), ck_ok (xc_T (st_3 v nd) c' 0 ho' rg' sv' wc wf ws) N → post (xc_T (st_3 v nd) c' 0 ho' rg' sv' wc wf ws)) :
    wpX_findNeeded (fun w => ∃ n, wX_compile_25 post (sx_nodeCount w) (sx_filterCount w) (sx_levelNow w) (sx_compiled w) (sx_needed w) (0) (0) (sx_wordCount w) (sx_accumulator w) (sx_dueCount w) (sx_stepCount w) n 0 (sx_listLength w) (sx_listValue w) (sx_kindOf w) (sx_partX w) (sx_partY w) (sx_filterOf w) (sx_tapCount w) (sx_taps w) (sx_outputNode w) (sx_same w) (sx_holds w) (sx_registerOf w) (sx_isSaved w) (sx_op w) (sx_into w) (sx_first w) (sx_second w) (sx_number w) (sx_wordOf w) (sx_words w) (sx_memory w) (sx_ringAt w) (sx_register w) (sx_dueRegister w) (sx_dueValue w) (sx_dueWord w)) v :=
  fn_ok hs hv hc I hO (fun nd Q => cmA (v := st_3 v nd) (cs_3 hs hv hc I hO Q) hl hlv (K nd))
theorem cmC {v : SX} {lv : Nat} (hs : so_ok (sg_of v) N) (hv : vd_ok (sg_of v) N) (hc : sx_nodeCount v = nI N) (hl : sx_levelNow v = nI lv) (hlv : lv ≤ 2) (hO : ∀ o, o < 4 → sx_outputNode v o = -1 ∨ ∃ q, q < N ∧ sx_outputNode v o = nI q)
    (K : ∀ (sa : Nat → Int32) (nd : Int32) (c' : cd_T) (ho' rg' sv' : Nat → Int32) (wc : Int32) (wf ws : Nat → Int32), ck_ok (xc_T (st_3 (st_2 v sa) nd) c' 0 ho' rg' sv' wc wf ws) N → post (xc_T (st_3 (st_2 v sa) nd) c' 0 ho' rg' sv' wc wf ws)) :
    wpX_findSame (fun z => wpX_findNeeded (fun w => ∃ n, wX_compile_25 post (sx_nodeCount w) (sx_filterCount w) (sx_levelNow w) (sx_compiled w) (sx_needed w) (0) (0) (sx_wordCount w) (sx_accumulator w) (sx_dueCount w) (sx_stepCount w) n 0 (sx_listLength w) (sx_listValue w) (sx_kindOf w) (sx_partX w) (sx_partY w) (sx_filterOf w) (sx_tapCount w) (sx_taps w) (sx_outputNode w) (sx_same w) (sx_holds w) (sx_registerOf w) (sx_isSaved w) (sx_op w) (sx_into w) (sx_first w) (sx_second w) (sx_number w) (sx_wordOf w) (sx_words w) (sx_memory w) (sx_ringAt w) (sx_register w) (sx_dueRegister w) (sx_dueValue w) (sx_dueWord w)) z) v :=
  fs_ok' hs hc hl hlv (fun sa I => cmB (v := st_2 v sa) (by rw [sg_2]; exact hs) (by rw [sg_2]; exact hv) hc hl hlv (by rw [sg_2]; exact I) hO (K sa))
theorem cm_ok {u : SX} {lv : Nat} (hs : so_ok (sg_of u) N) (hv : vd_ok (sg_of u) N) (hc : sx_nodeCount u = nI N) (hl : sx_levelNow u = nI lv) (hlv : lv ≤ 2) (hO : ∀ o, o < 4 → sx_outputNode u o = -1 ∨ ∃ q, q < N ∧ sx_outputNode u o = nI q)
    (K : ∀ (sa : Nat → Int32) (nd : Int32) (c : cd_T) (ho rg sv : Nat → Int32) (wc : Int32) (wf ws : Nat → Int32), ck_ok (xc_T (st_3 (st_2 (st_1 u) sa) nd) c 0 ho rg sv wc wf ws) N → post (xc_T (st_3 (st_2 (st_1 u) sa) nd) c 0 ho rg sv wc wf ws)) :
    wpX_compile post u := by
  have H := cmC (v := st_1 u) (post := post) (by rw [sg_1]; exact hs) (by rw [sg_1]; exact hv) hc hl hlv hO K
  show wpX_compile post (sx_nodeCount u, sx_filterCount u, sx_levelNow u, sx_compiled u, sx_needed u, sx_pinned u, sx_listEnd u, sx_wordCount u, sx_accumulator u, sx_dueCount u, sx_stepCount u, sx_listLength u, sx_listValue u, sx_kindOf u, sx_partX u, sx_partY u, sx_filterOf u, sx_tapCount u, sx_taps u, sx_outputNode u, sx_same u, sx_holds u, sx_registerOf u, sx_isSaved u, sx_op u, sx_into u, sx_first u, sx_second u, sx_number u, sx_wordOf u, sx_words u, sx_memory u, sx_ringAt u, sx_register u, sx_dueRegister u, sx_dueValue u, sx_dueWord u)
  unfold wpX_compile
  exact H
end
end
section
/-! ===== the relation ===== -/
def smp (x : Int32) : Prop := -32768 ≤ x.toInt ∧ x.toInt ≤ 32767
def sv_ok (g : sg_T) (n : Nat) : Prop := (kn g n = 1 → smp (sg_x g n)) ∧ (kn g n = 7 → smp (sg_y g n) ∧ smp (-sg_y g n))
def tp_ok (g : sg_T) (kp : Nat → Int32) (n : Nat) : Prop := ∀ l, sg_t g (rk g n) = nI l → l ≤ 6 → ∀ j, j < 6 → kp (6 * n + j) = if j < l then sg_p g (6 * rk g n + j) else 0
def ou_ok (ou : Nat → Int32) (N : Nat) : Prop := ∀ o, o < 4 → ou o = -1 ∨ ∃ q, q < N ∧ ou o = nI q
def ln_ok (le : Nat → Int32) : Prop := ∀ l, l < 4 → ∃ L, 0 < L ∧ L ≤ 6 ∧ le l = nI L
/-- nodes -/
def rl_S (u : SX) (v : SY) (N : Nat) : Prop :=
  so_ok (sg_of u) N ∧ sx_nodeCount u = nI N ∧ sy_n v = nI N ∧ sx_filterCount u = nI (rk (sg_of u) N) ∧ sy_kind v = sx_kindOf u ∧ sy_px v = sx_partX u ∧ sy_py v = sx_partY u ∧
  sy_outputs v = sx_outputNode u ∧ ou_ok (sx_outputNode u) N ∧ (∀ n, n < N → sv_ok (sg_of u) n) ∧ (∀ n, n < N → kn (sg_of u) n = 6 → tp_ok (sg_of u) (sy_kept v) n)
/-- lists -/
def rl_L (u : SX) (v : SY) : Prop :=
  sy_size v = sx_listLength u ∧ sy_coefficients v = sx_listValue u ∧ ln_ok (sx_listLength u) ∧ (∀ i, smp (sx_listValue u i)) ∧ (∀ i, smp (sy_kept v i))
def hr_ok (tc M G pa : Nat → Int32) (n f : Nat) : Prop :=
  ∀ l a, 0 < l → l ≤ 6 → a < l → tc f = nI l → G f = nI a → ∀ j, j < l → pa (6 * n + j) = M (32 + 8 * f + (a + l - 1 - j) % l)
/-- what the steps have left -/
def dn_ok (g : sg_T) (ou M G : Nat → Int32) (N s : Nat) (nw bf pa : Nat → Int32) : Prop :=
  (∀ n, n < N → kn g n = 5 → li_ok g ou N n → M (8 + n) = if s = 0 then 0 else bf (xn g n)) ∧
  (∀ n, n < N → kn g n = 6 → li_ok g ou N n → hr_ok (sg_t g) M G pa n (rk g n)) ∧
  (∀ o, o < 4 → ∀ q, q < N → ou o = nI q → M (2 + o) = if s = 0 then 0 else nw q)
def rl_D (k : Nat) (u : SX) (v : SY) (N s : Nat) : Prop :=
  sx_stepCount u = nI s ∧ sy_steps v = nI s ∧ s ≤ 50 * k ∧ (∃ lv, lv ≤ 2 ∧ sx_levelNow u = nI lv) ∧ gv_ok (sx_tapCount u) (sx_ringAt u) ∧
  sx_memory u 0 = sy_inputs v 0 ∧ sx_memory u 1 = sy_inputs v 1 ∧ smp (sy_inputs v 0) ∧ smp (sy_inputs v 1) ∧
  (∀ i, smp (sy_now v i)) ∧ (∀ i, smp (sy_before v i)) ∧ (∀ i, smp (sy_past v i)) ∧
  dn_ok (sg_of u) (sx_outputNode u) (sx_memory u) (sx_ringAt u) N s (sy_now v) (sy_before v) (sy_past v)
def rl_C (u : SX) (N : Nat) : Prop := sx_compiled u = 0 ∨ ck_ok u N
def i_Rel (k : Nat) (u : SX) (v : SY) : Prop := ∃ N s : Nat, rl_S u v N ∧ rl_L u v ∧ rl_D k u v N s ∧ rl_C u N
theorem i_up {k : Nat} {u : SX} {v : SY} (h : i_Rel k u v) : i_Rel (k + 4) u v := by
  obtain ⟨N, s, S, L, D, C⟩ := h
  obtain ⟨d1, d2, d3, d4⟩ := D
  exact ⟨N, s, S, L, ⟨d1, d2, by omega, d4⟩, C⟩
theorem sm_0 : smp 0 := by unfold smp; decide
/-! ===== small methods ===== -/
section
variable {u : SX} {v : SY} {post : Int32 → Prop}
theorem xi_ok {x : Int32} (h1 : smp x → post 1) (h0 : ¬ smp x → post 0) : wpX_isSample post u x := by
  unfold wpX_isSample
  have z1 : (-32768 : Int32).toInt = -32768 := by decide
  have z2 : (32767 : Int32).toInt = 32767 := by decide
  refine br_c (fun h => h0 (fun k => ?_)) (fun h => br_c (fun h' => h0 (fun k => ?_)) (fun h' => h1 ?_))
  · have := i3_lt.mp h; rw [z1] at this; unfold smp at k; omega
  · have := i3_lt.mp h'; rw [z2] at this; unfold smp at k; omega
  · have a : ¬ _ < _ := fun z => h (i3_lt.mpr z)
    have b : ¬ _ < _ := fun z => h' (i3_lt.mpr z)
    rw [z1] at a; rw [z2] at b
    unfold smp; omega
theorem yi_ok {x lo hi : Int32} (h1 : ¬ x < lo → ¬ hi < x → post 1) (h0 : x < lo ∨ hi < x → post 0) : wpY_in post v x lo hi := by
  unfold wpY_in
  exact br_c (fun h => h0 (Or.inl h)) (fun h => br_c (fun h' => h0 (Or.inr h')) (fun h' => h1 h h'))
theorem ys_ok {x : Int32} (h1 : smp x → post 1) (h0 : ¬ smp x → post 0) : wpY_isSample post v x := by
  have z1 : (-32768 : Int32).toInt = -32768 := by decide
  have z2 : (32767 : Int32).toInt = 32767 := by decide
  show wpY_isSample post (sy_n v, sy_steps v, sy_size v, sy_coefficients v, sy_kind v, sy_px v, sy_py v, sy_kept v, sy_past v, sy_now v, sy_before v, sy_outputs v, sy_inputs v) x
  unfold wpY_isSample
  refine yi_ok (fun a b => ⟨rfl, h1 ?_⟩) (fun h => ⟨rfl, h0 (fun k => ?_)⟩)
  · have a' : ¬ _ < _ := fun z => a (i3_lt.mpr z)
    have b' : ¬ _ < _ := fun z => b (i3_lt.mpr z)
    rw [z1] at a'; rw [z2] at b'
    unfold smp; omega
  · rcases h with h | h
    · have := i3_lt.mp h; rw [z1] at this; unfold smp at k; omega
    · have := i3_lt.mp h; rw [z2] at this; unfold smp at k; omega
theorem xn_ok {N : Nat} {x : Int32} (hc : sx_nodeCount u = nI N) (hN : N ≤ 24) (h1 : ∀ n, n < N → x = nI n → post 1) (h0 : (∀ n, n < N → x ≠ nI n) → post 0) : wpX_isNode post u x := by
  show wpX_isNode post (sx_nodeCount u, sx_filterCount u, sx_levelNow u, sx_compiled u, sx_needed u, sx_pinned u, sx_listEnd u, sx_wordCount u, sx_accumulator u, sx_dueCount u, sx_stepCount u, sx_listLength u, sx_listValue u, sx_kindOf u, sx_partX u, sx_partY u, sx_filterOf u, sx_tapCount u, sx_taps u, sx_outputNode u, sx_same u, sx_holds u, sx_registerOf u, sx_isSaved u, sx_op u, sx_into u, sx_first u, sx_second u, sx_number u, sx_wordOf u, sx_words u, sx_memory u, sx_ringAt u, sx_register u, sx_dueRegister u, sx_dueValue u, sx_dueWord u) x
  unfold wpX_isNode
  dsimp only
  rw [hc]
  have key : x < 0 ∨ nI N ≤ x → ∀ n, n < N → x ≠ nI n := by
    intro h n hn e
    subst e
    rcases h with h | h
    · exact nI_pos (by omega) h
    · exact nI_ge hn (by omega) h
  refine br_c (fun h => h0 (key (Or.inl h))) (fun h => br_c (fun h' => h0 (key (Or.inr h'))) (fun h' => ?_))
  rcases pk_ix x (n := N) (by omega) with z | z | ⟨j, hj, e⟩
  · exact absurd z h
  · exact absurd z h'
  · exact h1 j hj e
theorem yn_ok {N : Nat} {x : Int32} (hc : sy_n v = nI N) (hN : N ≤ 24) (h1 : ∀ n, n < N → x = nI n → post 1) (h0 : (∀ n, n < N → x ≠ nI n) → post 0) : wpY_isNode post v x := by
  show wpY_isNode post (sy_n v, sy_steps v, sy_size v, sy_coefficients v, sy_kind v, sy_px v, sy_py v, sy_kept v, sy_past v, sy_now v, sy_before v, sy_outputs v, sy_inputs v) x
  unfold wpY_isNode
  dsimp only
  rw [hc]
  have key : x < 0 ∨ nI N ≤ x → ∀ n, n < N → x ≠ nI n := by
    intro h n hn e
    subst e
    rcases h with h | h
    · exact nI_pos (by omega) h
    · exact nI_ge hn (by omega) h
  refine br_c (fun h => h0 (key (Or.inl h))) (fun h => br_c (fun h' => h0 (key (Or.inr h'))) (fun h' => ?_))
  rcases pk_ix x (n := N) (by omega) with z | z | ⟨j, hj, e⟩
  · exact absurd z h
  · exact absurd z h'
  · exact h1 j hj e
end
/-! ===== reset ===== -/
section
variable {u : SX} {v : SY}
theorem xr_23 {post : SX → Prop} {M : Nat → Int32} (K : ∀ G, (∀ f, f < 4 → G f = 0) → post (sx_nodeCount u, sx_filterCount u, sx_levelNow u, sx_compiled u, sx_needed u, sx_pinned u, sx_listEnd u, sx_wordCount u, sx_accumulator u, sx_dueCount u, 0, sx_listLength u, sx_listValue u, sx_kindOf u, sx_partX u, sx_partY u, sx_filterOf u, sx_tapCount u, sx_taps u, sx_outputNode u, sx_same u, sx_holds u, sx_registerOf u, sx_isSaved u, sx_op u, sx_into u, sx_first u, sx_second u, sx_number u, sx_wordOf u, sx_words u, M, G, sx_register u, sx_dueRegister u, sx_dueValue u, sx_dueWord u)) :
    ∀ (d f : Nat) (G : Nat → Int32), f + d = 4 → (∀ f', f' < f → G f' = 0) → ∀ n, d < n → wX_reset_23 post (sx_nodeCount u) (sx_filterCount u) (sx_levelNow u) (sx_compiled u) (sx_needed u) (sx_pinned u) (sx_listEnd u) (sx_wordCount u) (sx_accumulator u) (sx_dueCount u) (sx_stepCount u) n (nI f) (sx_listLength u) (sx_listValue u) (sx_kindOf u) (sx_partX u) (sx_partY u) (sx_filterOf u) (sx_tapCount u) (sx_taps u) (sx_outputNode u) (sx_same u) (sx_holds u) (sx_registerOf u) (sx_isSaved u) (sx_op u) (sx_into u) (sx_first u) (sx_second u) (sx_number u) (sx_wordOf u) (sx_words u) (M) (G) (sx_register u) (sx_dueRegister u) (sx_dueValue u) (sx_dueWord u) := by
  intro d
  induction d with
  | zero =>
    intro f G hd hz n hn
    obtain ⟨n, rfl⟩ : ∃ m, n = m + 1 := ⟨n - 1, by omega⟩
    have : f = 4 := by omega
    subst this
    rw [wX_reset_23]
    exact br_t (nI_le (a := 4) (by omega) (by omega)) (K G hz)
  | succ d ih =>
    intro f G hd hz n hn
    obtain ⟨n, rfl⟩ : ∃ m, n = m + 1 := ⟨n - 1, by omega⟩
    rw [wX_reset_23]
    refine br_f (nI_ge (b := 4) (by omega) (by omega)) ⟨vp_in_nI (by omega) (by omega), ?_⟩
    rw [nI_clamp (n := f) (by omega)]
    refine nm_r (e' := upd G f 0) (congrArg (upd G f) (by rw [vp_nar_byte]; decide)) (nm_r (e' := nI (f + 1)) (nI_1 _) (ih (f + 1) _ (by omega) (fun f' hf' => ?_) n (by omega)))
    by_cases e : f' = f
    · subst e; exact pk_us
    · rw [pk_un e]; exact hz f' (by omega)
theorem xr_2 {post : SX → Prop} (K : ∀ M G, M 0 = sx_memory u 0 → M 1 = sx_memory u 1 → (∀ i, 2 ≤ i → i < 96 → M i = 0) → (∀ f, f < 4 → G f = 0) → post (sx_nodeCount u, sx_filterCount u, sx_levelNow u, sx_compiled u, sx_needed u, sx_pinned u, sx_listEnd u, sx_wordCount u, sx_accumulator u, sx_dueCount u, 0, sx_listLength u, sx_listValue u, sx_kindOf u, sx_partX u, sx_partY u, sx_filterOf u, sx_tapCount u, sx_taps u, sx_outputNode u, sx_same u, sx_holds u, sx_registerOf u, sx_isSaved u, sx_op u, sx_into u, sx_first u, sx_second u, sx_number u, sx_wordOf u, sx_words u, M, G, sx_register u, sx_dueRegister u, sx_dueValue u, sx_dueWord u)) :
    ∀ (d i : Nat) (M : Nat → Int32), i + d = 96 → 2 ≤ i → M 0 = sx_memory u 0 → M 1 = sx_memory u 1 → (∀ j, 2 ≤ j → j < i → M j = 0) → ∀ n, d < n → wX_reset_2 post (sx_nodeCount u) (sx_filterCount u) (sx_levelNow u) (sx_compiled u) (sx_needed u) (sx_pinned u) (sx_listEnd u) (sx_wordCount u) (sx_accumulator u) (sx_dueCount u) (sx_stepCount u) n (nI i) (sx_listLength u) (sx_listValue u) (sx_kindOf u) (sx_partX u) (sx_partY u) (sx_filterOf u) (sx_tapCount u) (sx_taps u) (sx_outputNode u) (sx_same u) (sx_holds u) (sx_registerOf u) (sx_isSaved u) (sx_op u) (sx_into u) (sx_first u) (sx_second u) (sx_number u) (sx_wordOf u) (sx_words u) (M) (sx_ringAt u) (sx_register u) (sx_dueRegister u) (sx_dueValue u) (sx_dueWord u) := by
  intro d
  induction d with
  | zero =>
    intro i M hd h2 m0 m1 hz n hn
    obtain ⟨n, rfl⟩ : ∃ m, n = m + 1 := ⟨n - 1, by omega⟩
    have : i = 96 := by omega
    subst this
    rw [wX_reset_2]
    exact br_t (nI_le (a := 96) (by omega) (by omega)) ⟨5, xr_23 (u := u) (fun G hG => K M G m0 m1 hz hG) 4 0 (sx_ringAt u) (by omega) (fun f' h => absurd h (by omega)) 5 (by omega)⟩
  | succ d ih =>
    intro i M hd h2 m0 m1 hz n hn
    obtain ⟨n, rfl⟩ : ∃ m, n = m + 1 := ⟨n - 1, by omega⟩
    rw [wX_reset_2]
    refine br_f (nI_ge (b := 96) (by omega) (by omega)) ⟨vp_in_nI (by omega) (by omega), ?_⟩
    rw [nI_clamp (n := i) (by omega)]
    refine nm_e (nm_r (e' := nI (i + 1)) (nI_1 _) (ih (i + 1) _ (by omega) (by omega) (by rw [pk_un (by omega)]; exact m0) (by rw [pk_un (by omega)]; exact m1) (fun j hj1 hj2 => ?_) n (by omega)))
    by_cases e : j = i
    · subst e; exact pk_us
    · rw [pk_un e]; exact hz j hj1 (by omega)
theorem xr_ok {post : SX → Prop} (K : ∀ M G, M 0 = sx_memory u 0 → M 1 = sx_memory u 1 → (∀ i, 2 ≤ i → i < 96 → M i = 0) → (∀ f, f < 4 → G f = 0) → post (sx_nodeCount u, sx_filterCount u, sx_levelNow u, sx_compiled u, sx_needed u, sx_pinned u, sx_listEnd u, sx_wordCount u, sx_accumulator u, sx_dueCount u, 0, sx_listLength u, sx_listValue u, sx_kindOf u, sx_partX u, sx_partY u, sx_filterOf u, sx_tapCount u, sx_taps u, sx_outputNode u, sx_same u, sx_holds u, sx_registerOf u, sx_isSaved u, sx_op u, sx_into u, sx_first u, sx_second u, sx_number u, sx_wordOf u, sx_words u, M, G, sx_register u, sx_dueRegister u, sx_dueValue u, sx_dueWord u)) : wpX_reset post u := by
  show wpX_reset post (sx_nodeCount u, sx_filterCount u, sx_levelNow u, sx_compiled u, sx_needed u, sx_pinned u, sx_listEnd u, sx_wordCount u, sx_accumulator u, sx_dueCount u, sx_stepCount u, sx_listLength u, sx_listValue u, sx_kindOf u, sx_partX u, sx_partY u, sx_filterOf u, sx_tapCount u, sx_taps u, sx_outputNode u, sx_same u, sx_holds u, sx_registerOf u, sx_isSaved u, sx_op u, sx_into u, sx_first u, sx_second u, sx_number u, sx_wordOf u, sx_words u, sx_memory u, sx_ringAt u, sx_register u, sx_dueRegister u, sx_dueValue u, sx_dueWord u)
  unfold wpX_reset
  exact ⟨95, xr_2 K 94 2 (sx_memory u) (by omega) (by omega) rfl rfl (fun j h1 h2 => by omega) 95 (by omega)⟩
theorem xc_ok {post : SX → Prop} (K : ∀ M G, M 0 = sx_memory u 0 → M 1 = sx_memory u 1 → (∀ i, 2 ≤ i → i < 96 → M i = 0) → (∀ f, f < 4 → G f = 0) → post (sx_nodeCount u, sx_filterCount u, sx_levelNow u, 0, sx_needed u, sx_pinned u, sx_listEnd u, sx_wordCount u, sx_accumulator u, sx_dueCount u, 0, sx_listLength u, sx_listValue u, sx_kindOf u, sx_partX u, sx_partY u, sx_filterOf u, sx_tapCount u, sx_taps u, sx_outputNode u, sx_same u, sx_holds u, sx_registerOf u, sx_isSaved u, sx_op u, sx_into u, sx_first u, sx_second u, sx_number u, sx_wordOf u, sx_words u, M, G, sx_register u, sx_dueRegister u, sx_dueValue u, sx_dueWord u)) : wpX_change post u := by
  show wpX_change post (sx_nodeCount u, sx_filterCount u, sx_levelNow u, sx_compiled u, sx_needed u, sx_pinned u, sx_listEnd u, sx_wordCount u, sx_accumulator u, sx_dueCount u, sx_stepCount u, sx_listLength u, sx_listValue u, sx_kindOf u, sx_partX u, sx_partY u, sx_filterOf u, sx_tapCount u, sx_taps u, sx_outputNode u, sx_same u, sx_holds u, sx_registerOf u, sx_isSaved u, sx_op u, sx_into u, sx_first u, sx_second u, sx_number u, sx_wordOf u, sx_words u, sx_memory u, sx_ringAt u, sx_register u, sx_dueRegister u, sx_dueValue u, sx_dueWord u)
  unfold wpX_change
  exact xr_ok (u := (sx_nodeCount u, sx_filterCount u, sx_levelNow u, 0, sx_needed u, sx_pinned u, sx_listEnd u, sx_wordCount u, sx_accumulator u, sx_dueCount u, sx_stepCount u, sx_listLength u, sx_listValue u, sx_kindOf u, sx_partX u, sx_partY u, sx_filterOf u, sx_tapCount u, sx_taps u, sx_outputNode u, sx_same u, sx_holds u, sx_registerOf u, sx_isSaved u, sx_op u, sx_into u, sx_first u, sx_second u, sx_number u, sx_wordOf u, sx_words u, sx_memory u, sx_ringAt u, sx_register u, sx_dueRegister u, sx_dueValue u, sx_dueWord u)) (fun M G h1 h2 h3 h4 => K M G h1 h2 h3 h4)
theorem yr_7 {post : SY → Prop} {st : Int32} (K : ∀ pa, (∀ i, i < 144 → pa i = 0) → (∀ i, smp (pa i)) → post (sy_n v, st, sy_size v, sy_coefficients v, sy_kind v, sy_px v, sy_py v, sy_kept v, pa, sy_now v, sy_before v, sy_outputs v, sy_inputs v)) :
    ∀ (d i : Nat) (pa : Nat → Int32), i + d = 144 → (∀ j, j < i → pa j = 0) → (∀ j, smp (pa j)) → ∀ n, d < n → wY_reset_7 post (sy_n v) st n (nI i) (sy_size v) (sy_coefficients v) (sy_kind v) (sy_px v) (sy_py v) (sy_kept v) (pa) (sy_now v) (sy_before v) (sy_outputs v) (sy_inputs v) := by
  intro d
  induction d with
  | zero =>
    intro i pa hd hz hs n hn
    obtain ⟨n, rfl⟩ : ∃ m, n = m + 1 := ⟨n - 1, by omega⟩
    have : i = 144 := by omega
    subst this
    rw [wY_reset_7]
    exact br_t (nI_le (a := 144) (by omega) (by omega)) (K pa hz hs)
  | succ d ih =>
    intro i pa hd hz hs n hn
    obtain ⟨n, rfl⟩ : ∃ m, n = m + 1 := ⟨n - 1, by omega⟩
    rw [wY_reset_7]
    refine br_f (nI_ge (b := 144) (by omega) (by omega)) ⟨vp_in_nI (by omega) (by omega), ?_⟩
    rw [nI_clamp (n := i) (by omega)]
    refine nm_e (nm_r (e' := nI (i + 1)) (nI_1 _) (ih (i + 1) _ (by omega) (fun j hj => ?_) (fun j => ?_) n (by omega)))
    · by_cases e : j = i
      · subst e; exact pk_us
      · rw [pk_un e]; exact hz j (by omega)
    · by_cases e : j = i
      · subst e; rw [pk_us]; exact sm_0
      · rw [pk_un e]; exact hs j
theorem yr_ok {post : SY → Prop} (hs : ∀ i, smp (sy_past v i)) (K : ∀ pa, (∀ i, i < 144 → pa i = 0) → (∀ i, smp (pa i)) → post (sy_n v, 0, sy_size v, sy_coefficients v, sy_kind v, sy_px v, sy_py v, sy_kept v, pa, sy_now v, sy_before v, sy_outputs v, sy_inputs v)) : wpY_reset post v := by
  show wpY_reset post (sy_n v, sy_steps v, sy_size v, sy_coefficients v, sy_kind v, sy_px v, sy_py v, sy_kept v, sy_past v, sy_now v, sy_before v, sy_outputs v, sy_inputs v)
  unfold wpY_reset
  exact ⟨145, yr_7 (v := v) K 144 0 (sy_past v) (by omega) (fun j h => absurd h (by omega)) hs 145 (by omega)⟩
/-- behind a reset -/
theorem dn_0 {g : sg_T} {ou M G nw bf pa : Nat → Int32} {N : Nat} (hN : so_ok g N) (hM : ∀ i, 2 ≤ i → i < 96 → M i = 0) (hp : ∀ i, i < 144 → pa i = 0) : dn_ok g ou M G N 0 nw bf pa := by
  have h24 := hN.1
  refine ⟨fun n hn _ _ => by rw [hM _ (by omega) (by omega)]; rfl, fun n hn k6 _ => fun l a l0 l6 al _ _ j hj => ?_, fun o ho q hq _ => by rw [hM _ (by omega) (by omega)]; rfl⟩
  have hf := ((hN.2.1 n hn).2.2.2.2.2 k6).2.1
  have hm := Nat.mod_lt (a + l - 1 - j) l0
  rw [hp _ (by omega), hM _ (by omega) (by omega)]
theorem gv_0 {tc G : Nat → Int32} (h : ∀ f, f < 4 → G f = 0) : gv_ok tc G := fun f l hf h0 _ _ => ⟨0, h0, by rw [h f hf]; rfl⟩
end
end
section
/-! ===== the constructors ===== -/
def in_f (x : Int32) : Nat → (Nat → Int32)
  | 0 => fun _ => 0
  | k + 1 => upd (in_f x k) k x
theorem in_v (x : Int32) : ∀ k i, i < k → in_f x k i = x := by
  intro k
  induction k with
  | zero => intro i h; omega
  | succ k ih =>
    intro i h
    show upd (in_f x k) k x i = x
    by_cases e : i = k
    · subst e; exact pk_us
    · rw [pk_un e]; exact ih i (by omega)
theorem x242 {post : SX → Prop} (K : post (0, 0, 2, 0, 0, 0, 0, 0, 0, 0, 0, in_f 1 4, (fun _ => 0), (fun _ => 0), (fun _ => 0), (fun _ => 0), (fun _ => 0), (fun _ => 0), (fun _ => 0), in_f (-1) 4, (fun _ => 0), (fun _ => 0), (fun _ => 0), (fun _ => 0), (fun _ => 0), (fun _ => 0), (fun _ => 0), (fun _ => 0), (fun _ => 0), (fun _ => 0), (fun _ => 0), (fun _ => 0), (fun _ => 0), (fun _ => 0), (fun _ => 0), (fun _ => 0), (fun _ => 0))) : ∀ (d k : Nat), k + d = 4 → ∀ n, d < n → wX_init_242 post (0) (0) (2) (0) (0) (0) (0) (0) (0) (0) (0) n (nI k) (in_f 1 4) ((fun _ => 0)) ((fun _ => 0)) ((fun _ => 0)) ((fun _ => 0)) ((fun _ => 0)) ((fun _ => 0)) ((fun _ => 0)) (in_f (-1) k) ((fun _ => 0)) ((fun _ => 0)) ((fun _ => 0)) ((fun _ => 0)) ((fun _ => 0)) ((fun _ => 0)) ((fun _ => 0)) ((fun _ => 0)) ((fun _ => 0)) ((fun _ => 0)) ((fun _ => 0)) ((fun _ => 0)) ((fun _ => 0)) ((fun _ => 0)) ((fun _ => 0)) ((fun _ => 0)) ((fun _ => 0)) := by
  intro d
  induction d with
  | zero =>
    intro k hk n hn
    obtain ⟨n, rfl⟩ : ∃ m, n = m + 1 := ⟨n - 1, by omega⟩
    have : k = 4 := by omega
    subst this
    rw [wX_init_242]
    exact br_t (nI_le (a := 4) (by omega) (by omega)) K
  | succ d ih =>
    intro k hk n hn
    obtain ⟨n, rfl⟩ : ∃ m, n = m + 1 := ⟨n - 1, by omega⟩
    rw [wX_init_242]
    refine br_f (nI_ge (b := 4) (by omega) (by omega)) ⟨vp_in_nI (by omega) (by omega), ?_⟩
    rw [nI_clamp (n := k) (by omega)]
    exact nm_r (e' := in_f (-1) (k + 1)) (by rw [sn_vbm1]; rfl) (nm_r (e' := nI (k + 1)) (nI_1 _) (ih (k + 1) (by omega) n (by omega)))
theorem x222 {post : SX → Prop} (K : post (0, 0, 2, 0, 0, 0, 0, 0, 0, 0, 0, in_f 1 4, (fun _ => 0), (fun _ => 0), (fun _ => 0), (fun _ => 0), (fun _ => 0), (fun _ => 0), (fun _ => 0), in_f (-1) 4, (fun _ => 0), (fun _ => 0), (fun _ => 0), (fun _ => 0), (fun _ => 0), (fun _ => 0), (fun _ => 0), (fun _ => 0), (fun _ => 0), (fun _ => 0), (fun _ => 0), (fun _ => 0), (fun _ => 0), (fun _ => 0), (fun _ => 0), (fun _ => 0), (fun _ => 0))) : ∀ (d k : Nat), k + d = 4 → ∀ n, d < n → wX_init_222 post (0) (0) (2) (0) (0) (0) (0) (0) (0) (0) (0) n (nI k) (in_f 1 k) ((fun _ => 0)) ((fun _ => 0)) ((fun _ => 0)) ((fun _ => 0)) ((fun _ => 0)) ((fun _ => 0)) ((fun _ => 0)) ((fun _ => 0)) ((fun _ => 0)) ((fun _ => 0)) ((fun _ => 0)) ((fun _ => 0)) ((fun _ => 0)) ((fun _ => 0)) ((fun _ => 0)) ((fun _ => 0)) ((fun _ => 0)) ((fun _ => 0)) ((fun _ => 0)) ((fun _ => 0)) ((fun _ => 0)) ((fun _ => 0)) ((fun _ => 0)) ((fun _ => 0)) ((fun _ => 0)) := by
  intro d
  induction d with
  | zero =>
    intro k hk n hn
    obtain ⟨n, rfl⟩ : ∃ m, n = m + 1 := ⟨n - 1, by omega⟩
    have : k = 4 := by omega
    subst this
    rw [wX_init_222]
    exact br_t (nI_le (a := 4) (by omega) (by omega)) ⟨5, x242 K 4 0 (by omega) 5 (by omega)⟩
  | succ d ih =>
    intro k hk n hn
    obtain ⟨n, rfl⟩ : ∃ m, n = m + 1 := ⟨n - 1, by omega⟩
    rw [wX_init_222]
    refine br_f (nI_ge (b := 4) (by omega) (by omega)) ⟨vp_in_nI (by omega) (by omega), ?_⟩
    rw [nI_clamp (n := k) (by omega)]
    exact nm_r (e' := in_f 1 (k + 1)) (by rw [show vp_nar .byte 1 = 1 from sn_vb1 (n := 1) (by omega)]; rfl) (nm_r (e' := nI (k + 1)) (nI_1 _) (ih (k + 1) (by omega) n (by omega)))
theorem y103 {post : SY → Prop} (K : post (0, 0, in_f 1 4, (fun _ => 0), (fun _ => 0), (fun _ => 0), (fun _ => 0), (fun _ => 0), (fun _ => 0), (fun _ => 0), (fun _ => 0), in_f (-1) 4, (fun _ => 0))) : ∀ (d k : Nat), k + d = 4 → ∀ n, d < n → wY_init_103 post 0 0 n (nI k) (in_f 1 k) ((fun _ => 0)) ((fun _ => 0)) ((fun _ => 0)) ((fun _ => 0)) ((fun _ => 0)) ((fun _ => 0)) ((fun _ => 0)) ((fun _ => 0)) (in_f (-1) k) ((fun _ => 0)) := by
  intro d
  induction d with
  | zero =>
    intro k hk n hn
    obtain ⟨n, rfl⟩ : ∃ m, n = m + 1 := ⟨n - 1, by omega⟩
    have : k = 4 := by omega
    subst this
    rw [wY_init_103]
    exact br_t (nI_le (a := 4) (by omega) (by omega)) K
  | succ d ih =>
    intro k hk n hn
    obtain ⟨n, rfl⟩ : ∃ m, n = m + 1 := ⟨n - 1, by omega⟩
    rw [wY_init_103]
    refine br_f (nI_ge (b := 4) (by omega) (by omega)) ⟨vp_in_nI (by omega) (by omega), ?_⟩
    rw [nI_clamp (n := k) (by omega)]
    exact nm_r (e' := in_f 1 (k + 1)) rfl ⟨vp_in_nI (by omega) (by omega), nm_r (e' := in_f (-1) (k + 1)) rfl (nm_r (e' := nI (k + 1)) (nI_1 _) (ih (k + 1) (by omega) n (by omega)))⟩
theorem rel_0 : i_Rel 0 (0, 0, 2, 0, 0, 0, 0, 0, 0, 0, 0, in_f 1 4, (fun _ => 0), (fun _ => 0), (fun _ => 0), (fun _ => 0), (fun _ => 0), (fun _ => 0), (fun _ => 0), in_f (-1) 4, (fun _ => 0), (fun _ => 0), (fun _ => 0), (fun _ => 0), (fun _ => 0), (fun _ => 0), (fun _ => 0), (fun _ => 0), (fun _ => 0), (fun _ => 0), (fun _ => 0), (fun _ => 0), (fun _ => 0), (fun _ => 0), (fun _ => 0), (fun _ => 0), (fun _ => 0)) (0, 0, in_f 1 4, (fun _ => 0), (fun _ => 0), (fun _ => 0), (fun _ => 0), (fun _ => 0), (fun _ => 0), (fun _ => 0), (fun _ => 0), in_f (-1) 4, (fun _ => 0)) := by
  refine ⟨0, 0, ⟨⟨by omega, fun n h => absurd h (by omega), Nat.zero_le _⟩, rfl, rfl, rfl, rfl, rfl, rfl, rfl, fun o ho => Or.inl (in_v (-1) 4 o ho), fun n h => absurd h (by omega), fun n h => absurd h (by omega)⟩, ⟨rfl, rfl, fun l hl => ⟨1, by omega, by omega, in_v 1 4 l hl⟩, fun i => sm_0, fun i => sm_0⟩, ⟨rfl, rfl, by omega, ⟨2, by omega, rfl⟩, gv_0 (fun f _ => rfl), rfl, rfl, sm_0, sm_0, fun i => sm_0, fun i => sm_0, fun i => sm_0, fun n h => absurd h (by omega), fun n h => absurd h (by omega), fun o ho q hq => absurd hq (by omega)⟩, Or.inl rfl⟩
theorem i_vc0 : wpX_init (fun u => wpY_init (fun v => i_Rel 0 u v)) := by
  unfold wpX_init
  refine ⟨5, x222 ?_ 4 0 (by omega) 5 (by omega)⟩
  unfold wpY_init
  exact ⟨5, y103 rel_0 4 0 (by omega) 5 (by omega)⟩
end
section
theorem i_vc_steps {k : Nat} {u : SX} {v : SY} (I : i_Rel k u v) (hk : k + 4 ≤ 2048) : wpX_steps (fun r => wpY_steps (fun r' => r' = r ∧ i_Rel (k + 4) u v) v) u := by
  obtain ⟨N, s, S, L, D, C⟩ := id I
  exact ⟨D.2.1.trans D.1.symm, i_up I⟩
theorem i_vc_reset {k : Nat} {u : SX} {v : SY} (I : i_Rel k u v) (hk : k + 4 ≤ 2048) : wpX_reset (fun u' => wpY_reset (fun v' => i_Rel (k + 4) u' v') v) u := by
  obtain ⟨N, s, S, L, D, C⟩ := I
  obtain ⟨d1, d2, d3, d4, d5, d6, d7, d8, d9, d10, d11, d12, d13⟩ := D
  refine xr_ok (fun M G m0 m1 hM hG => yr_ok d12 (fun pa hp hs => ?_))
  exact ⟨N, 0, S, L, ⟨rfl, rfl, by omega, d4, gv_0 hG, m0.trans d6, m1.trans d7, d8, d9, d10, d11, hs, dn_0 S.1 hM hp⟩, C⟩
theorem i_vc_value {k : Nat} {u : SX} {v : SY} (I : i_Rel k u v) (hk : k + 4 ≤ 2048) (v1 : Int32) : wpX_value (fun r => wpY_value (fun r' => r' = r ∧ i_Rel (k + 4) u v) v v1) u v1 := by
  have I' := i_up I
  obtain ⟨N, s, S, L, D, C⟩ := I
  obtain ⟨d1, d2, d3, d4, d5, d6, d7, d8, d9, d10, d11, d12, d13⟩ := D
  obtain ⟨s1, s2, s3, s4, s5, s6, s7, s8, s9, s10, s11⟩ := S
  have hN := s1.1
  show wpX_value (fun r => wpY_value (fun r' => r' = r ∧ i_Rel (k + 4) u v) (sy_n v, sy_steps v, sy_size v, sy_coefficients v, sy_kind v, sy_px v, sy_py v, sy_kept v, sy_past v, sy_now v, sy_before v, sy_outputs v, sy_inputs v) v1) (sx_nodeCount u, sx_filterCount u, sx_levelNow u, sx_compiled u, sx_needed u, sx_pinned u, sx_listEnd u, sx_wordCount u, sx_accumulator u, sx_dueCount u, sx_stepCount u, sx_listLength u, sx_listValue u, sx_kindOf u, sx_partX u, sx_partY u, sx_filterOf u, sx_tapCount u, sx_taps u, sx_outputNode u, sx_same u, sx_holds u, sx_registerOf u, sx_isSaved u, sx_op u, sx_into u, sx_first u, sx_second u, sx_number u, sx_wordOf u, sx_words u, sx_memory u, sx_ringAt u, sx_register u, sx_dueRegister u, sx_dueValue u, sx_dueWord u) v1
  unfold wpX_value wpY_value
  dsimp only
  refine br_c (fun h => yi_ok (fun a _ => absurd h a) (fun _ => br_t rfl ⟨rfl, I'⟩)) (fun h => br_c (fun h' => yi_ok (fun _ a => absurd h' a) (fun _ => br_t rfl ⟨rfl, I'⟩)) (fun h' => ?_))
  have h3 : v1 ≤ 3 := Int32.not_lt.mp h'
  obtain ⟨o, ho, e⟩ := nI_of2 (x := v1) (M := 3) (n := 3) (by decide) h h3
  subst e
  have i4 : vp_in (nI o) 4 := vp_in_nI (by omega) (by omega)
  rw [nI_clamp (n := o) (by omega), show (2 : Int32) + nI o = nI (2 + o) from nI_add 2 o, nI_clamp (n := 2 + o) (by omega), s8]
  refine ⟨i4, ?_⟩
  have yy : ∀ {p : Int32 → Prop} {w : SY}, p 1 → wpY_in p w (nI o) 0 3 := fun h1 => yi_ok (fun _ _ => h1) (fun z => z.elim (fun z => absurd z h) (fun z => absurd z h'))
  rcases s9 o (by omega) with e | ⟨q, hq, e⟩
  · rw [e]
    refine br_f (by decide) (yy (br_f (by decide) ⟨i4, br_t (by decide) ⟨rfl, I'⟩⟩))
  · rw [e]
    refine br_t (nI_pos' (by omega)) ⟨vp_in_nI (by omega) (by omega), yy (br_f (by decide) ⟨i4, br_f (nI_pos (by omega)) ?_⟩)⟩
    rw [d2, nI_clamp (n := q) (by omega), d13.2.2 o (by omega) q hq e]
    refine pk_le s 0 (fun h => ?_) (fun h => ⟨i4, vp_in_nI (by omega) (by omega), ?_⟩)
    · rw [if_pos (by omega)]; exact ⟨rfl, I'⟩
    · rw [if_neg (by omega)]; exact ⟨rfl, I'⟩
theorem i_vc_level {k : Nat} {u : SX} {v : SY} (I : i_Rel k u v) (hk : k + 4 ≤ 2048) (v1 : Int32) : wpX_level (fun r u' => wpY_level (fun r' => r' = r ∧ i_Rel (k + 4) u' v) v v1) u v1 := by
  have I' := i_up I
  obtain ⟨N, s, S, L, D, C⟩ := I
  obtain ⟨d1, d2, d3, d4, d5⟩ := D
  show wpX_level (fun r u' => wpY_level (fun r' => r' = r ∧ i_Rel (k + 4) u' v) (sy_n v, sy_steps v, sy_size v, sy_coefficients v, sy_kind v, sy_px v, sy_py v, sy_kept v, sy_past v, sy_now v, sy_before v, sy_outputs v, sy_inputs v) v1) (sx_nodeCount u, sx_filterCount u, sx_levelNow u, sx_compiled u, sx_needed u, sx_pinned u, sx_listEnd u, sx_wordCount u, sx_accumulator u, sx_dueCount u, sx_stepCount u, sx_listLength u, sx_listValue u, sx_kindOf u, sx_partX u, sx_partY u, sx_filterOf u, sx_tapCount u, sx_taps u, sx_outputNode u, sx_same u, sx_holds u, sx_registerOf u, sx_isSaved u, sx_op u, sx_into u, sx_first u, sx_second u, sx_number u, sx_wordOf u, sx_words u, sx_memory u, sx_ringAt u, sx_register u, sx_dueRegister u, sx_dueValue u, sx_dueWord u) v1
  unfold wpX_level wpY_level
  dsimp only
  have no : v1 < 0 ∨ 2 < v1 → wpY_in (fun r_1 => narrow .boolean (.int r_1) = .int r_1 ∧ r_1 = 0 ∧ i_Rel (k + 4) u v) (sy_n v, sy_steps v, sy_size v, sy_coefficients v, sy_kind v, sy_px v, sy_py v, sy_kept v, sy_past v, sy_now v, sy_before v, sy_outputs v, sy_inputs v) v1 0 2 := by
    intro h
    exact yi_ok (fun a b => by rcases h with h | h; exact absurd h a; exact absurd h b) (fun _ => ⟨rfl, rfl, I'⟩)
  have yes : ∀ {P : Prop}, ¬ v1 < 0 → ¬ 2 < v1 → P → wpY_in (fun r_1 => narrow .boolean (.int r_1) = .int r_1 ∧ r_1 = 1 ∧ P) (sy_n v, sy_steps v, sy_size v, sy_coefficients v, sy_kind v, sy_px v, sy_py v, sy_kept v, sy_past v, sy_now v, sy_before v, sy_outputs v, sy_inputs v) v1 0 2 := by
    intro P a b h
    exact yi_ok (fun _ _ => ⟨rfl, rfl, h⟩) (fun z => z.elim (fun z => absurd z a) (fun z => absurd z b))
  refine br_c (fun h => no (Or.inl h)) (fun h => br_c (fun h2 => ?_) (fun h2 => no (Or.inr (Int32.not_le.mp h2))))
  obtain ⟨lv, hlv, e⟩ := nI_of2 (x := v1) (M := 2) (n := 2) (by decide) h h2
  have D' : ∀ cm, rl_D (k + 4) (sx_nodeCount u, sx_filterCount u, v1, cm, sx_needed u, sx_pinned u, sx_listEnd u, sx_wordCount u, sx_accumulator u, sx_dueCount u, sx_stepCount u, sx_listLength u, sx_listValue u, sx_kindOf u, sx_partX u, sx_partY u, sx_filterOf u, sx_tapCount u, sx_taps u, sx_outputNode u, sx_same u, sx_holds u, sx_registerOf u, sx_isSaved u, sx_op u, sx_into u, sx_first u, sx_second u, sx_number u, sx_wordOf u, sx_words u, sx_memory u, sx_ringAt u, sx_register u, sx_dueRegister u, sx_dueValue u, sx_dueWord u) v N s := fun cm => ⟨d1, d2, by omega, ⟨lv, hlv, e⟩, d5⟩
  refine br_c (fun h3 => ?_) (fun h3 => ?_)
  · exact yes h (Int32.not_lt.mpr h2) ⟨N, s, S, L, D' _, C⟩
  · exact yes h (Int32.not_lt.mpr h2) ⟨N, s, S, L, D' _, Or.inl rfl⟩
theorem dn_M {g : sg_T} {ou M M' G : Nat → Int32} {N s : Nat} {nw bf pa : Nat → Int32} (h : ∀ i, 2 ≤ i → M' i = M i) (d : dn_ok g ou M G N s nw bf pa) : dn_ok g ou M' G N s nw bf pa := by
  obtain ⟨a, b, c⟩ := d
  exact ⟨fun n hn k l => by rw [h _ (by omega)]; exact a n hn k l, fun n hn k l l' a' h0 h6 ha ht hG j hj => by rw [h _ (by omega)]; exact b n hn k l l' a' h0 h6 ha ht hG j hj, fun o ho q hq e => by rw [h _ (by omega)]; exact c o ho q hq e⟩
theorem i_vc_input {k : Nat} {u : SX} {v : SY} (I : i_Rel k u v) (hk : k + 4 ≤ 2048) (v1 : Int32) (v2 : Int32) : wpX_input (fun r u' => wpY_input (fun r' v' => r' = r ∧ i_Rel (k + 4) u' v') v v1 v2) u v1 v2 := by
  have I' := i_up I
  obtain ⟨N, s, S, L, D, C⟩ := I
  obtain ⟨d1, d2, d3, d4, d5, d6, d7, d8, d9, d10, d11, d12, d13⟩ := D
  show wpX_input (fun r u' => wpY_input (fun r' v' => r' = r ∧ i_Rel (k + 4) u' v') (sy_n v, sy_steps v, sy_size v, sy_coefficients v, sy_kind v, sy_px v, sy_py v, sy_kept v, sy_past v, sy_now v, sy_before v, sy_outputs v, sy_inputs v) v1 v2) (sx_nodeCount u, sx_filterCount u, sx_levelNow u, sx_compiled u, sx_needed u, sx_pinned u, sx_listEnd u, sx_wordCount u, sx_accumulator u, sx_dueCount u, sx_stepCount u, sx_listLength u, sx_listValue u, sx_kindOf u, sx_partX u, sx_partY u, sx_filterOf u, sx_tapCount u, sx_taps u, sx_outputNode u, sx_same u, sx_holds u, sx_registerOf u, sx_isSaved u, sx_op u, sx_into u, sx_first u, sx_second u, sx_number u, sx_wordOf u, sx_words u, sx_memory u, sx_ringAt u, sx_register u, sx_dueRegister u, sx_dueValue u, sx_dueWord u) v1 v2
  unfold wpX_input wpY_input
  dsimp only
  refine br_c (fun h => yi_ok (fun a _ => absurd h a) (fun _ => br_t rfl ⟨rfl, I'⟩)) (fun h => br_c (fun h2 => yi_ok (fun _ a => absurd h2 a) (fun _ => br_t rfl ⟨rfl, I'⟩)) (fun h2 => ?_))
  have yy : ∀ {p : Int32 → Prop}, p 1 → wpY_in p (sy_n v, sy_steps v, sy_size v, sy_coefficients v, sy_kind v, sy_px v, sy_py v, sy_kept v, sy_past v, sy_now v, sy_before v, sy_outputs v, sy_inputs v) v1 0 1 := fun h1 => yi_ok (fun _ _ => h1) (fun z => z.elim (fun z => absurd z h) (fun z => absurd z h2))
  refine xi_ok (fun h3 => br_f (by decide) ?_) (fun h3 => br_t rfl (yy (br_f (by decide) (ys_ok (fun z => absurd z h3) (fun _ => br_t rfl ⟨rfl, I'⟩)))))
  obtain ⟨i, hi, e⟩ := nI_of2 (x := v1) (M := 1) (n := 1) (by decide) h (Int32.not_lt.mp h2)
  subst e
  refine ⟨vp_in_nI (by omega) (by omega), nm_e (yy (br_f (by decide) (ys_ok (fun _ => br_f (by decide) ⟨vp_in_nI (by omega) (by omega), nm_e ⟨rfl, ?_⟩⟩) (fun z => absurd h3 z))))⟩
  rw [nI_clamp (n := i) (by omega)]
  refine ⟨N, s, S, L, ⟨d1, d2, by omega, d4, d5, ?_, ?_, ?_, ?_, d10, d11, d12, dn_M (fun j hj => pk_un (by omega)) d13⟩, C⟩
  · show upd (sx_memory u) i v2 0 = upd (sy_inputs v) i v2 0
    by_cases e : 0 = i
    · subst e; rw [pk_us, pk_us]
    · rw [pk_un e, pk_un e]; exact d6
  · show upd (sx_memory u) i v2 1 = upd (sy_inputs v) i v2 1
    by_cases e : 1 = i
    · subst e; rw [pk_us, pk_us]
    · rw [pk_un e, pk_un e]; exact d7
  · show smp (upd (sy_inputs v) i v2 0)
    by_cases e : 0 = i
    · subst e; rw [pk_us]; exact h3
    · rw [pk_un e]; exact d8
  · show smp (upd (sy_inputs v) i v2 1)
    by_cases e : 1 = i
    · subst e; rw [pk_us]; exact h3
    · rw [pk_un e]; exact d9
/-! valid -/
theorem xv_ok {u : SX} {N : Nat} {post : Int32 → Prop} (hs : so_ok (sg_of u) N) (hc : sx_nodeCount u = nI N) (h1 : vd_ok (sg_of u) N → post 1) (h0 : ¬ vd_ok (sg_of u) N → post 0) : wpX_valid post u := by
  have hN := hs.1
  have L : ∀ (d n : Nat), n + d = N → (∀ m, m < n → kn (sg_of u) m = 5 → xn (sg_of u) m < N) → ∀ f, d < f → wX_valid_2 post (sx_nodeCount u) (sx_filterCount u) (sx_levelNow u) (sx_compiled u) (sx_needed u) (sx_pinned u) (sx_listEnd u) (sx_wordCount u) (sx_accumulator u) (sx_dueCount u) (sx_stepCount u) (sx_listLength u) (sx_listValue u) (sx_kindOf u) (sx_partX u) (sx_partY u) (sx_filterOf u) (sx_tapCount u) (sx_taps u) (sx_outputNode u) (sx_same u) (sx_holds u) (sx_registerOf u) (sx_isSaved u) (sx_op u) (sx_into u) (sx_first u) (sx_second u) (sx_number u) (sx_wordOf u) (sx_words u) (sx_memory u) (sx_ringAt u) (sx_register u) (sx_dueRegister u) (sx_dueValue u) (sx_dueWord u) f (nI n) := by
    intro d
    induction d with
    | zero =>
      intro n hd hz f hf
      obtain ⟨f, rfl⟩ : ∃ m, f = m + 1 := ⟨f - 1, by omega⟩
      have : n = N := by omega
      subst this
      rw [wX_valid_2]
      exact br_t (by rw [hc]; exact nI_le (by omega) (by omega)) (h1 (fun m hm => hz m hm))
    | succ d ih =>
      intro n hd hz f hf
      obtain ⟨f, rfl⟩ : ∃ m, f = m + 1 := ⟨f - 1, by omega⟩
      have s1 := hs.2.1 n (by omega)
      have k10 := s1.2.1
      rw [wX_valid_2]
      refine br_f (by rw [hc]; exact nI_ge (by omega) (by omega)) ⟨vp_in_nI (by omega) (by omega), ?_⟩
      rw [nI_clamp (n := n) (by omega), show sx_kindOf u n = nI (kn (sg_of u) n) from s1.1, hc]
      have nx : (kn (sg_of u) n = 5 → xn (sg_of u) n < N) → ∀ y, y = nI n + 1 → wX_valid_2 post (sx_nodeCount u) (sx_filterCount u) (sx_levelNow u) (sx_compiled u) (sx_needed u) (sx_pinned u) (sx_listEnd u) (sx_wordCount u) (sx_accumulator u) (sx_dueCount u) (sx_stepCount u) (sx_listLength u) (sx_listValue u) (sx_kindOf u) (sx_partX u) (sx_partY u) (sx_filterOf u) (sx_tapCount u) (sx_taps u) (sx_outputNode u) (sx_same u) (sx_holds u) (sx_registerOf u) (sx_isSaved u) (sx_op u) (sx_into u) (sx_first u) (sx_second u) (sx_number u) (sx_wordOf u) (sx_words u) (sx_memory u) (sx_ringAt u) (sx_register u) (sx_dueRegister u) (sx_dueValue u) (sx_dueWord u) f y := by
        intro h
        refine nm_r (e' := nI (n + 1)) (nI_1 _) (ih (n + 1) (by omega) (fun m hm k5 => ?_) f (by omega))
        by_cases e : m = n
        · subst e; exact h k5
        · exact hz m (by omega) k5
      rw [hc] at nx
      refine pk_eq (kn (sg_of u) n) 5 (fun k5 => ⟨vp_in_nI (by omega) (by omega), ?_⟩) (fun k5 => nx (fun z => absurd z k5))
      obtain ⟨xe, x24, _⟩ := s1.2.2.2.1 (by omega)
      rw [show sx_partX u n = nI (xn (sg_of u) n) from xe]
      exact pk_lt (xn (sg_of u) n) N (fun h => nx (fun _ => h)) (fun h => h0 (fun z => by have := z n (by omega) k5; omega))
  show wpX_valid post (sx_nodeCount u, sx_filterCount u, sx_levelNow u, sx_compiled u, sx_needed u, sx_pinned u, sx_listEnd u, sx_wordCount u, sx_accumulator u, sx_dueCount u, sx_stepCount u, sx_listLength u, sx_listValue u, sx_kindOf u, sx_partX u, sx_partY u, sx_filterOf u, sx_tapCount u, sx_taps u, sx_outputNode u, sx_same u, sx_holds u, sx_registerOf u, sx_isSaved u, sx_op u, sx_into u, sx_first u, sx_second u, sx_number u, sx_wordOf u, sx_words u, sx_memory u, sx_ringAt u, sx_register u, sx_dueRegister u, sx_dueValue u, sx_dueWord u)
  unfold wpX_valid
  exact ⟨N + 1, L N 0 (by omega) (fun m h => absurd h (by omega)) (N + 1) (by omega)⟩
theorem yv_ok {u : SX} {v : SY} {N : Nat} {post : Int32 → Prop} (hs : so_ok (sg_of u) N) (hc : sy_n v = nI N) (ek : sy_kind v = sx_kindOf u) (ex : sy_px v = sx_partX u) (h1 : vd_ok (sg_of u) N → post 1) (h0 : ¬ vd_ok (sg_of u) N → post 0) : wpY_valid post v := by
  have hN := hs.1
  have L : ∀ (d n : Nat), n + d = N → (∀ m, m < n → kn (sg_of u) m = 5 → xn (sg_of u) m < N) → ∀ f, d < f → wY_valid_2 post (sy_n v) (sy_steps v) (sy_size v) (sy_coefficients v) (sy_kind v) (sy_px v) (sy_py v) (sy_kept v) (sy_past v) (sy_now v) (sy_before v) (sy_outputs v) (sy_inputs v) f (nI n) := by
    intro d
    induction d with
    | zero =>
      intro n hd hz f hf
      obtain ⟨f, rfl⟩ : ∃ m, f = m + 1 := ⟨f - 1, by omega⟩
      have : n = N := by omega
      subst this
      rw [wY_valid_2]
      exact br_t (by rw [hc]; exact nI_le (by omega) (by omega)) (h1 (fun m hm => hz m hm))
    | succ d ih =>
      intro n hd hz f hf
      obtain ⟨f, rfl⟩ : ∃ m, f = m + 1 := ⟨f - 1, by omega⟩
      have s1 := hs.2.1 n (by omega)
      have k10 := s1.2.1
      rw [wY_valid_2]
      refine br_f (by rw [hc]; exact nI_ge (by omega) (by omega)) ⟨vp_in_nI (by omega) (by omega), ?_⟩
      have nx : (kn (sg_of u) n = 5 → xn (sg_of u) n < N) → ∀ y, y = nI n + 1 → wY_valid_2 post (sy_n v) (sy_steps v) (sy_size v) (sy_coefficients v) (sy_kind v) (sy_px v) (sy_py v) (sy_kept v) (sy_past v) (sy_now v) (sy_before v) (sy_outputs v) (sy_inputs v) f y := by
        intro h
        refine nm_r (e' := nI (n + 1)) (nI_1 _) (ih (n + 1) (by omega) (fun m hm k5 => ?_) f (by omega))
        by_cases e : m = n
        · subst e; exact h k5
        · exact hz m (by omega) k5
      rw [hc, ek, ex] at nx ⊢
      rw [nI_clamp (n := n) (by omega), show sx_kindOf u n = nI (kn (sg_of u) n) from s1.1]
      refine pk_eq (kn (sg_of u) n) 5 (fun k5 => ⟨vp_in_nI (by omega) (by omega), ?_⟩) (fun k5 => nx (fun z => absurd z k5))
      obtain ⟨xe, x24, _⟩ := s1.2.2.2.1 (by omega)
      rw [show sx_partX u n = nI (xn (sg_of u) n) from xe]
      exact pk_lt (xn (sg_of u) n) N (fun h => nx (fun _ => h)) (fun h => h0 (fun z => by have := z n (by omega) k5; omega))
  show wpY_valid post (sy_n v, sy_steps v, sy_size v, sy_coefficients v, sy_kind v, sy_px v, sy_py v, sy_kept v, sy_past v, sy_now v, sy_before v, sy_outputs v, sy_inputs v)
  unfold wpY_valid
  exact ⟨N + 1, L N 0 (by omega) (fun m h => absurd h (by omega)) (N + 1) (by omega)⟩
theorem i_vc_valid {k : Nat} {u : SX} {v : SY} (I : i_Rel k u v) (hk : k + 4 ≤ 2048) : wpX_valid (fun r => wpY_valid (fun r' => r' = r ∧ i_Rel (k + 4) u v) v) u := by
  have I' := i_up I
  obtain ⟨N, s, S, L, D, C⟩ := I
  obtain ⟨s1, s2, s3, s4, s5, s6, s7, s8⟩ := S
  exact xv_ok s1 s2 (fun h => yv_ok s1 s3 s5 s6 (fun _ => ⟨rfl, I'⟩) (fun z => absurd h z)) (fun h => yv_ok s1 s3 s5 s6 (fun z => absurd z h) (fun _ => ⟨rfl, I'⟩))
end
section
/-! ===== coefficient ===== -/
def zz (l : Nat) : Nat → Nat → (Nat → Int32) → (Nat → Int32)
  | 0, _, a => a
  | d + 1, i, a => zz l d (i + 1) (upd a (6 * l + i) 0)
theorem zz_s (l : Nat) : ∀ d i a, (∀ j, smp (a j)) → ∀ j, smp (zz l d i a j) := by
  intro d
  induction d with
  | zero => intro i a h j; exact h j
  | succ d ih =>
    intro i a h j
    refine ih (i + 1) _ (fun j => ?_) j
    by_cases e : j = 6 * l + i
    · subst e; rw [pk_us]; exact sm_0
    · rw [pk_un e]; exact h j
theorem ix6 {l i : Nat} : (6 * nI l) + nI i = nI (6 * l + i) := by rw [show (6 : Int32) * nI l = nI (6 * l) from pk_mul 6 l, nI_add]
theorem xz_ok {u : SX} {post : Int32 → SX → Prop} {l k : Nat} {c : Int32} (hl : l < 4) (hk : k < 6) :
    ∀ (d i : Nat) (a : Nat → Int32), (i + d = k ∨ (k ≤ i ∧ i ≤ 6 ∧ d = 0)) → post 1 (sx_nodeCount u, sx_filterCount u, sx_levelNow u, sx_compiled u, sx_needed u, sx_pinned u, sx_listEnd u, sx_wordCount u, sx_accumulator u, sx_dueCount u, sx_stepCount u, upd (sx_listLength u) l (nI (k + 1)), upd (zz l d i a) (6 * l + k) c, sx_kindOf u, sx_partX u, sx_partY u, sx_filterOf u, sx_tapCount u, sx_taps u, sx_outputNode u, sx_same u, sx_holds u, sx_registerOf u, sx_isSaved u, sx_op u, sx_into u, sx_first u, sx_second u, sx_number u, sx_wordOf u, sx_words u, sx_memory u, sx_ringAt u, sx_register u, sx_dueRegister u, sx_dueValue u, sx_dueWord u) → ∀ n, d < n →
      wX_coefficient_36 post (nI l) (nI k) c (sx_nodeCount u) (sx_filterCount u) (sx_levelNow u) (sx_compiled u) (sx_needed u) (sx_pinned u) (sx_listEnd u) (sx_wordCount u) (sx_accumulator u) (sx_dueCount u) (sx_stepCount u) n (nI i) (sx_listLength u) (a) (sx_kindOf u) (sx_partX u) (sx_partY u) (sx_filterOf u) (sx_tapCount u) (sx_taps u) (sx_outputNode u) (sx_same u) (sx_holds u) (sx_registerOf u) (sx_isSaved u) (sx_op u) (sx_into u) (sx_first u) (sx_second u) (sx_number u) (sx_wordOf u) (sx_words u) (sx_memory u) (sx_ringAt u) (sx_register u) (sx_dueRegister u) (sx_dueValue u) (sx_dueWord u) := by
  intro d
  induction d with
  | zero =>
    intro i a hi K n hn
    obtain ⟨n, rfl⟩ : ∃ m, n = m + 1 := ⟨n - 1, by omega⟩
    rw [wX_coefficient_36]
    refine br_t (nI_le (by omega) (by omega)) ?_
    rw [ix6, nI_clamp (n := 6 * l + k) (by omega), nI_clamp (n := l) (by omega)]
    exact ⟨vp_in_nI (by omega) (by omega), nm_e ⟨vp_in_nI (by omega) (by omega), nm_r (e' := upd (sx_listLength u) l (nI (k + 1))) (by rw [nI_1, sn_vb (by omega)]) K⟩⟩
  | succ d ih =>
    intro i a hi K n hn
    obtain ⟨n, rfl⟩ : ∃ m, n = m + 1 := ⟨n - 1, by omega⟩
    rw [wX_coefficient_36]
    refine br_f (nI_ge (by omega) (by omega)) ?_
    rw [ix6, nI_clamp (n := 6 * l + i) (by omega)]
    exact ⟨vp_in_nI (by omega) (by omega), nm_e (nm_r (e' := nI (i + 1)) (nI_1 _) (ih (i + 1) _ (Or.inl (by omega)) K n (by omega)))⟩
theorem yz_ok {v : SY} {post : Int32 → SY → Prop} {l k : Nat} {c : Int32} (hl : l < 4) (hk : k < 6) :
    ∀ (d i : Nat) (a : Nat → Int32), (i + d = k ∨ (k ≤ i ∧ i ≤ 6 ∧ d = 0)) → post 1 (sy_n v, sy_steps v, upd (sy_size v) l (nI (k + 1)), upd (zz l d i a) (6 * l + k) c, sy_kind v, sy_px v, sy_py v, sy_kept v, sy_past v, sy_now v, sy_before v, sy_outputs v, sy_inputs v) → ∀ n, d < n →
      wY_coefficient_38 post (nI l) (nI k) c (sy_n v) (sy_steps v) n (nI i) (sy_size v) (a) (sy_kind v) (sy_px v) (sy_py v) (sy_kept v) (sy_past v) (sy_now v) (sy_before v) (sy_outputs v) (sy_inputs v) := by
  intro d
  induction d with
  | zero =>
    intro i a hi K n hn
    obtain ⟨n, rfl⟩ : ∃ m, n = m + 1 := ⟨n - 1, by omega⟩
    rw [wY_coefficient_38]
    refine br_t (nI_le (by omega) (by omega)) ?_
    rw [ix6, nI_clamp (n := 6 * l + k) (by omega), nI_clamp (n := l) (by omega)]
    exact ⟨vp_in_nI (by omega) (by omega), nm_e ⟨vp_in_nI (by omega) (by omega), nm_r (e' := upd (sy_size v) l (nI (k + 1))) (by rw [nI_1]) K⟩⟩
  | succ d ih =>
    intro i a hi K n hn
    obtain ⟨n, rfl⟩ : ∃ m, n = m + 1 := ⟨n - 1, by omega⟩
    rw [wY_coefficient_38]
    refine br_f (nI_ge (by omega) (by omega)) ?_
    rw [ix6, nI_clamp (n := 6 * l + i) (by omega)]
    exact ⟨vp_in_nI (by omega) (by omega), nm_e (nm_r (e' := nI (i + 1)) (nI_1 _) (ih (i + 1) _ (Or.inl (by omega)) K n (by omega)))⟩
theorem i_vc_coefficient {k : Nat} {u : SX} {v : SY} (I : i_Rel k u v) (hk : k + 4 ≤ 2048) (v1 : Int32) (v2 : Int32) (v3 : Int32) : wpX_coefficient (fun r u' => wpY_coefficient (fun r' v' => r' = r ∧ i_Rel (k + 4) u' v') v v1 v2 v3) u v1 v2 v3 := by
  have I' := i_up I
  obtain ⟨N, s, S, L, D, C⟩ := I
  obtain ⟨l1, l2, l3, l4, l5⟩ := L
  obtain ⟨d1, d2, d3, d4⟩ := D
  show wpX_coefficient (fun r u' => wpY_coefficient (fun r' v' => r' = r ∧ i_Rel (k + 4) u' v') (sy_n v, sy_steps v, sy_size v, sy_coefficients v, sy_kind v, sy_px v, sy_py v, sy_kept v, sy_past v, sy_now v, sy_before v, sy_outputs v, sy_inputs v) v1 v2 v3) (sx_nodeCount u, sx_filterCount u, sx_levelNow u, sx_compiled u, sx_needed u, sx_pinned u, sx_listEnd u, sx_wordCount u, sx_accumulator u, sx_dueCount u, sx_stepCount u, sx_listLength u, sx_listValue u, sx_kindOf u, sx_partX u, sx_partY u, sx_filterOf u, sx_tapCount u, sx_taps u, sx_outputNode u, sx_same u, sx_holds u, sx_registerOf u, sx_isSaved u, sx_op u, sx_into u, sx_first u, sx_second u, sx_number u, sx_wordOf u, sx_words u, sx_memory u, sx_ringAt u, sx_register u, sx_dueRegister u, sx_dueValue u, sx_dueWord u) v1 v2 v3
  unfold wpX_coefficient wpY_coefficient
  dsimp only
  refine br_c (fun h => yi_ok (fun a _ => absurd h a) (fun _ => br_t rfl ⟨rfl, I'⟩)) (fun h => br_c (fun h' => yi_ok (fun _ a => absurd h' a) (fun _ => br_t rfl ⟨rfl, I'⟩)) (fun h' => ?_))
  have y1 : ∀ {p : Int32 → Prop} {w : SY}, p 1 → wpY_in p w v1 0 3 := fun h1 => yi_ok (fun _ _ => h1) (fun z => z.elim (fun z => absurd z h) (fun z => absurd z h'))
  refine br_c (fun g => y1 (br_f (by decide) (yi_ok (fun a _ => absurd g a) (fun _ => br_t rfl ⟨rfl, I'⟩)))) (fun g => br_c (fun g' => y1 (br_f (by decide) (yi_ok (fun _ a => absurd g' a) (fun _ => br_t rfl ⟨rfl, I'⟩)))) (fun g' => ?_))
  have y2 : ∀ {p : Int32 → Prop} {w : SY}, p 1 → wpY_in p w v2 0 5 := fun h1 => yi_ok (fun _ _ => h1) (fun z => z.elim (fun z => absurd z g) (fun z => absurd z g'))
  refine xi_ok (fun h3 => br_f (by decide) ?_) (fun h3 => br_t rfl (y1 (br_f (by decide) (y2 (br_f (by decide) (ys_ok (fun z => absurd z h3) (fun _ => br_t rfl ⟨rfl, I'⟩)))))))
  obtain ⟨l, hl, e⟩ := nI_of2 (x := v1) (M := 3) (n := 3) (by decide) h (Int32.not_lt.mp h')
  obtain ⟨j, hj, e'⟩ := nI_of2 (x := v2) (M := 5) (n := 5) (by decide) g (Int32.not_lt.mp g')
  subst e
  subst e'
  obtain ⟨Ln, L0, L6, eL⟩ := l3 l (by omega)
  rw [nI_clamp (n := l) (by omega)]
  refine ⟨vp_in_nI (by omega) (by omega), nm_r (e' := nI Ln) eL ⟨j + 1, ?_⟩⟩
  refine xz_ok (u := u) (by omega) (by omega) (j - Ln) Ln (sx_listValue u) (by omega) ?_ (j + 1) (by omega)
  refine y1 (br_f (by decide) (y2 (br_f (by decide) (ys_ok (fun _ => br_f (by decide) ⟨vp_in_nI (by omega) (by omega), ?_⟩) (fun z => absurd h3 z)))))
  refine nm_r (e' := nI Ln) (by rw [l1]; exact eL) ⟨j + 1, ?_⟩
  refine yz_ok (v := v) (by omega) (by omega) (j - Ln) Ln (sy_coefficients v) (by omega) ⟨rfl, ?_⟩ (j + 1) (by omega)
  refine ⟨N, s, S, ⟨?_, ?_, ?_, ?_, l5⟩, ⟨d1, d2, by omega, d4⟩, C⟩
  · show upd (sy_size v) l _ = upd (sx_listLength u) l _
    rw [l1]
  · show upd (zz l (j - Ln) Ln (sy_coefficients v)) _ _ = upd (zz l (j - Ln) Ln (sx_listValue u)) _ _
    rw [l2]
  · intro l' hl'
    show ∃ L, 0 < L ∧ L ≤ 6 ∧ upd (sx_listLength u) l (nI (j + 1)) l' = nI L
    by_cases e : l' = l
    · subst e; exact ⟨j + 1, by omega, by omega, pk_us⟩
    · rw [pk_un e]; exact l3 l' hl'
  · intro i
    show smp (upd (zz l (j - Ln) Ln (sx_listValue u)) (6 * l + j) v3 i)
    by_cases e : i = 6 * l + j
    · subst e; rw [pk_us]; exact h3
    · rw [pk_un e]; exact zz_s l _ _ _ l4 i
/-! ===== behind a change ===== -/
/-- changed nodes, all set back -/
theorem rel_ch {k N : Nat} {u : SX} {v : SY} {M G pa : Nat → Int32} (S : rl_S u v N) (L : rl_L u v) (hlv : ∃ lv, lv ≤ 2 ∧ sx_levelNow u = nI lv)
    (m0 : M 0 = sy_inputs v 0) (m1 : M 1 = sy_inputs v 1) (i0 : smp (sy_inputs v 0)) (i1 : smp (sy_inputs v 1)) (n1 : ∀ i, smp (sy_now v i)) (n2 : ∀ i, smp (sy_before v i))
    (hM : ∀ i, 2 ≤ i → i < 96 → M i = 0) (hG : ∀ f, f < 4 → G f = 0) (hp : ∀ i, i < 144 → pa i = 0) (hs : ∀ i, smp (pa i)) :
    i_Rel k (sx_nodeCount u, sx_filterCount u, sx_levelNow u, 0, sx_needed u, sx_pinned u, sx_listEnd u, sx_wordCount u, sx_accumulator u, sx_dueCount u, 0, sx_listLength u, sx_listValue u, sx_kindOf u, sx_partX u, sx_partY u, sx_filterOf u, sx_tapCount u, sx_taps u, sx_outputNode u, sx_same u, sx_holds u, sx_registerOf u, sx_isSaved u, sx_op u, sx_into u, sx_first u, sx_second u, sx_number u, sx_wordOf u, sx_words u, M, G, sx_register u, sx_dueRegister u, sx_dueValue u, sx_dueWord u) (sy_n v, 0, sy_size v, sy_coefficients v, sy_kind v, sy_px v, sy_py v, sy_kept v, pa, sy_now v, sy_before v, sy_outputs v, sy_inputs v) :=
  ⟨N, 0, S, L, ⟨rfl, rfl, by omega, hlv, gv_0 hG, m0, m1, i0, i1, n1, n2, hs, dn_0 S.1 hM hp⟩, Or.inl rfl⟩
theorem rk_cg {g g' : sg_T} : ∀ n, (∀ m, m < n → kn g m = kn g' m) → rk g n = rk g' n := by
  intro n
  induction n with
  | zero => intro _; rfl
  | succ n ih =>
    intro h
    show rk g n + (if kn g n = 6 then 1 else 0) = rk g' n + (if kn g' n = 6 then 1 else 0)
    rw [ih (fun m hm => h m (by omega)), h n (by omega)]
/-! ===== output ===== -/
theorem i_vc_output {k : Nat} {u : SX} {v : SY} (I : i_Rel k u v) (hk : k + 4 ≤ 2048) (v1 : Int32) (v2 : Int32) : wpX_output (fun r u' => wpY_output (fun r' v' => r' = r ∧ i_Rel (k + 4) u' v') v v1 v2) u v1 v2 := by
  have I' := i_up I
  obtain ⟨N, s, S, L, D, C⟩ := I
  obtain ⟨s1, s2, s3, s4, s5, s6, s7, s8, s9, s10, s11⟩ := S
  obtain ⟨d1, d2, d3, d4, d5, d6, d7, d8, d9, d10, d11, d12, d13⟩ := D
  have hN := s1.1
  show wpX_output (fun r u' => wpY_output (fun r' v' => r' = r ∧ i_Rel (k + 4) u' v') (sy_n v, sy_steps v, sy_size v, sy_coefficients v, sy_kind v, sy_px v, sy_py v, sy_kept v, sy_past v, sy_now v, sy_before v, sy_outputs v, sy_inputs v) v1 v2) (sx_nodeCount u, sx_filterCount u, sx_levelNow u, sx_compiled u, sx_needed u, sx_pinned u, sx_listEnd u, sx_wordCount u, sx_accumulator u, sx_dueCount u, sx_stepCount u, sx_listLength u, sx_listValue u, sx_kindOf u, sx_partX u, sx_partY u, sx_filterOf u, sx_tapCount u, sx_taps u, sx_outputNode u, sx_same u, sx_holds u, sx_registerOf u, sx_isSaved u, sx_op u, sx_into u, sx_first u, sx_second u, sx_number u, sx_wordOf u, sx_words u, sx_memory u, sx_ringAt u, sx_register u, sx_dueRegister u, sx_dueValue u, sx_dueWord u) v1 v2
  unfold wpX_output wpY_output
  dsimp only
  refine br_c (fun h => yi_ok (fun a _ => absurd h a) (fun _ => br_t rfl ⟨rfl, I'⟩)) (fun h => br_c (fun h' => yi_ok (fun _ a => absurd h' a) (fun _ => br_t rfl ⟨rfl, I'⟩)) (fun h' => ?_))
  have y1 : ∀ {p : Int32 → Prop} {w : SY}, p 1 → wpY_in p w v1 0 3 := fun h1 => yi_ok (fun _ _ => h1) (fun z => z.elim (fun z => absurd z h) (fun z => absurd z h'))
  obtain ⟨o, ho, e⟩ := nI_of2 (x := v1) (M := 3) (n := 3) (by decide) h (Int32.not_lt.mp h')
  subst e
  have zm : (-1 : Int32).toInt = -1 := by decide
  have key : (v2 = -1 ∨ ∃ q, q < N ∧ v2 = nI q) ∨ ((v2 < -1 ∨ ¬ v2 < sx_nodeCount u) ∧ v2 ≠ -1 ∧ ∀ q, q < N → v2 ≠ nI q) := by
    by_cases e : v2 = -1
    · exact Or.inl (Or.inl e)
    · rcases pk_ix v2 (n := N) (by omega) with z | z | ⟨j, hj, e'⟩
      · refine Or.inr ⟨Or.inl ?_, e, fun q hq e' => ?_⟩
        · have z' := i3_lt.mp z
          rw [show (0 : Int32).toInt = 0 from by decide] at z'
          have : v2.toInt ≠ -1 := fun w => e (Int32.toInt_inj.mp (by rw [w, zm]))
          exact i3_lt.mpr (by rw [zm]; omega)
        · subst e'; exact nI_pos (by omega) z
      · refine Or.inr ⟨Or.inr (by rw [s2]; exact Int32.not_lt.mpr z), e, fun q hq e' => ?_⟩
        subst e'
        exact nI_ge hq (by omega) z
      · exact Or.inl (Or.inr ⟨j, hj, e'⟩)
  rcases key with hset | ⟨hbad, hne, hnn⟩
  · have b1 : ¬ v2 < -1 := by
      rcases hset with e | ⟨q, hq, e⟩
      · rw [e]; decide
      · rw [e, i3_lt, zm, nI_toInt (by omega)]; omega
    have b2 : v2 < sx_nodeCount u := by
      rw [s2]
      rcases hset with e | ⟨q, hq, e⟩
      · rw [e, i3_lt, zm, nI_toInt (by omega)]; omega
      · rw [e]; exact nI_lt hq (by omega)
    have b3 : vp_nar .byte v2.toInt8.toInt32 = v2 := by
      rcases hset with e | ⟨q, hq, e⟩
      · rw [e, sn_vbm]
      · rw [e, sn_vb (by omega)]
    refine br_f b1 (br_t b2 ⟨vp_in_nI (by omega) (by omega), nm_r (e' := upd (sx_outputNode u) o v2) (by rw [nI_clamp (by omega), b3]) ?_⟩)
    refine xc_ok (u := (sx_nodeCount u, sx_filterCount u, sx_levelNow u, sx_compiled u, sx_needed u, sx_pinned u, sx_listEnd u, sx_wordCount u, sx_accumulator u, sx_dueCount u, sx_stepCount u, sx_listLength u, sx_listValue u, sx_kindOf u, sx_partX u, sx_partY u, sx_filterOf u, sx_tapCount u, sx_taps u, upd (sx_outputNode u) o v2, sx_same u, sx_holds u, sx_registerOf u, sx_isSaved u, sx_op u, sx_into u, sx_first u, sx_second u, sx_number u, sx_wordOf u, sx_words u, sx_memory u, sx_ringAt u, sx_register u, sx_dueRegister u, sx_dueValue u, sx_dueWord u)) (fun M G m0 m1 hM hG => ?_)
    have fin : wY_output_25 (fun r' v' => r' = 1 ∧ i_Rel (k + 4) (sx_nodeCount u, sx_filterCount u, sx_levelNow u, 0, sx_needed u, sx_pinned u, sx_listEnd u, sx_wordCount u, sx_accumulator u, sx_dueCount u, 0, sx_listLength u, sx_listValue u, sx_kindOf u, sx_partX u, sx_partY u, sx_filterOf u, sx_tapCount u, sx_taps u, upd (sx_outputNode u) o v2, sx_same u, sx_holds u, sx_registerOf u, sx_isSaved u, sx_op u, sx_into u, sx_first u, sx_second u, sx_number u, sx_wordOf u, sx_words u, M, G, sx_register u, sx_dueRegister u, sx_dueValue u, sx_dueWord u) v') (nI o) v2 (sy_n v) (sy_steps v) (sy_size v) (sy_coefficients v) (sy_kind v) (sy_px v) (sy_py v) (sy_kept v) (sy_past v) (sy_now v) (sy_before v) (sy_outputs v) (sy_inputs v) := by
      unfold wY_output_25
      refine ⟨vp_in_nI (by omega) (by omega), nm_r (e' := upd (sy_outputs v) o v2) (by rw [nI_clamp (by omega)]) ?_⟩
      refine yr_ok (v := (sy_n v, sy_steps v, sy_size v, sy_coefficients v, sy_kind v, sy_px v, sy_py v, sy_kept v, sy_past v, sy_now v, sy_before v, upd (sy_outputs v) o v2, sy_inputs v)) d12 (fun pa hp hs => ⟨rfl, ?_⟩)
      refine rel_ch (N := N) (u := (sx_nodeCount u, sx_filterCount u, sx_levelNow u, sx_compiled u, sx_needed u, sx_pinned u, sx_listEnd u, sx_wordCount u, sx_accumulator u, sx_dueCount u, sx_stepCount u, sx_listLength u, sx_listValue u, sx_kindOf u, sx_partX u, sx_partY u, sx_filterOf u, sx_tapCount u, sx_taps u, upd (sx_outputNode u) o v2, sx_same u, sx_holds u, sx_registerOf u, sx_isSaved u, sx_op u, sx_into u, sx_first u, sx_second u, sx_number u, sx_wordOf u, sx_words u, sx_memory u, sx_ringAt u, sx_register u, sx_dueRegister u, sx_dueValue u, sx_dueWord u)) (v := (sy_n v, sy_steps v, sy_size v, sy_coefficients v, sy_kind v, sy_px v, sy_py v, sy_kept v, sy_past v, sy_now v, sy_before v, upd (sy_outputs v) o v2, sy_inputs v)) ⟨s1, s2, s3, s4, s5, s6, s7, ?_, ?_, s10, s11⟩ L d4 (m0.trans d6) (m1.trans d7) d8 d9 d10 d11 hM hG hp hs
      · show upd (sy_outputs v) o v2 = upd (sx_outputNode u) o v2
        rw [s8]
      · intro o' ho'
        show upd (sx_outputNode u) o v2 o' = -1 ∨ ∃ q, q < N ∧ upd (sx_outputNode u) o v2 o' = nI q
        by_cases e : o' = o
        · subst e; rw [pk_us]; exact hset
        · rw [pk_un e]; exact s9 o' ho'
    refine y1 (br_f (by decide) ?_)
    rcases hset with e | ⟨q, hq, e⟩
    · exact br_t e fin
    · refine br_f (by rw [e]; exact sn_ne (by omega)) (yn_ok (v := v) s3 hN (fun _ _ _ => br_f (by decide) fin) (fun z => absurd e (z q hq)))
  · have no : wpY_in (fun r_1 => ((r_1 = 0 → (0 : Int32) = 0 ∧ i_Rel (k + 4) u v) ∧ (¬ r_1 = 0 → ((v2 = -1 → wY_output_25 (fun r' v' => r' = 0 ∧ i_Rel (k + 4) u v') (nI o) v2 (sy_n v) (sy_steps v) (sy_size v) (sy_coefficients v) (sy_kind v) (sy_px v) (sy_py v) (sy_kept v) (sy_past v) (sy_now v) (sy_before v) (sy_outputs v) (sy_inputs v)) ∧ (¬ v2 = -1 → wpY_isNode (fun r_33 => ((r_33 = 0 → (0 : Int32) = 0 ∧ i_Rel (k + 4) u v) ∧ (¬ r_33 = 0 → wY_output_25 (fun r' v' => r' = 0 ∧ i_Rel (k + 4) u v') (nI o) v2 (sy_n v) (sy_steps v) (sy_size v) (sy_coefficients v) (sy_kind v) (sy_px v) (sy_py v) (sy_kept v) (sy_past v) (sy_now v) (sy_before v) (sy_outputs v) (sy_inputs v)))) (sy_n v, sy_steps v, sy_size v, sy_coefficients v, sy_kind v, sy_px v, sy_py v, sy_kept v, sy_past v, sy_now v, sy_before v, sy_outputs v, sy_inputs v) v2))))) (sy_n v, sy_steps v, sy_size v, sy_coefficients v, sy_kind v, sy_px v, sy_py v, sy_kept v, sy_past v, sy_now v, sy_before v, sy_outputs v, sy_inputs v) (nI o) 0 3 :=
      y1 (br_f (by decide) (br_f hne (yn_ok (v := v) s3 hN (fun n hn e => absurd e (hnn n hn)) (fun _ => br_t rfl ⟨rfl, I'⟩))))
    rcases hbad with hb | hb
    · exact br_t hb no
    · refine br_c (fun _ => no) (fun _ => br_f hb no)
/-! ===== tie ===== -/
theorem i_vc_tie {k : Nat} {u : SX} {v : SY} (I : i_Rel k u v) (hk : k + 4 ≤ 2048) (v1 : Int32) (v2 : Int32) : wpX_tie (fun r u' => wpY_tie (fun r' v' => r' = r ∧ i_Rel (k + 4) u' v') v v1 v2) u v1 v2 := by
  have I' := i_up I
  obtain ⟨N, s, S, L, D, C⟩ := I
  obtain ⟨s1, s2, s3, s4, s5, s6, s7, s8, s9, s10, s11⟩ := S
  obtain ⟨d1, d2, d3, d4, d5, d6, d7, d8, d9, d10, d11, d12, d13⟩ := D
  have hN := s1.1
  show wpX_tie (fun r u' => wpY_tie (fun r' v' => r' = r ∧ i_Rel (k + 4) u' v') (sy_n v, sy_steps v, sy_size v, sy_coefficients v, sy_kind v, sy_px v, sy_py v, sy_kept v, sy_past v, sy_now v, sy_before v, sy_outputs v, sy_inputs v) v1 v2) (sx_nodeCount u, sx_filterCount u, sx_levelNow u, sx_compiled u, sx_needed u, sx_pinned u, sx_listEnd u, sx_wordCount u, sx_accumulator u, sx_dueCount u, sx_stepCount u, sx_listLength u, sx_listValue u, sx_kindOf u, sx_partX u, sx_partY u, sx_filterOf u, sx_tapCount u, sx_taps u, sx_outputNode u, sx_same u, sx_holds u, sx_registerOf u, sx_isSaved u, sx_op u, sx_into u, sx_first u, sx_second u, sx_number u, sx_wordOf u, sx_words u, sx_memory u, sx_ringAt u, sx_register u, sx_dueRegister u, sx_dueValue u, sx_dueWord u) v1 v2
  unfold wpX_tie wpY_tie
  dsimp only
  refine xn_ok (u := u) s2 hN (fun n hn e => br_f (by decide) ?_) (fun hnn => br_t rfl (yn_ok (v := v) s3 hN (fun n hn e => absurd e (hnn n hn)) (fun _ => br_t rfl ⟨rfl, I'⟩)))
  subst e
  have i24 : vp_in (nI n) 24 := vp_in_nI (by omega) (by omega)
  have yy : ∀ {p : Int32 → Prop}, p 1 → wpY_isNode p v (nI n) := fun h1 => yn_ok (v := v) s3 hN (fun _ _ _ => h1) (fun z => absurd rfl (z n hn))
  have t1 := s1.2.1 n hn
  have k10 := t1.2.1
  have ek : sx_kindOf u n = nI (kn (sg_of u) n) := t1.1
  have ek' : sy_kind v n = nI (kn (sg_of u) n) := by rw [s5]; exact ek
  rw [nI_clamp (n := n) (by omega), ek, ek']
  refine ⟨i24, pk_eq (kn (sg_of u) n) 5 (fun k5 => ?_) (fun k5 => yy (br_f (by decide) ⟨i24, pk_eq (kn (sg_of u) n) 5 (fun z => absurd z k5) (fun _ => ⟨rfl, I'⟩)⟩))⟩
  have y3 : ∀ {p : Prop}, p → ((nI (kn (sg_of u) n) = 5 → p) ∧ (¬ nI (kn (sg_of u) n) = 5 → (0 : Int32) = 0 ∧ i_Rel (k + 4) u v)) := fun h => pk_eq (kn (sg_of u) n) 5 (fun _ => h) (fun z => absurd k5 z)
  refine br_c (fun h => yy (br_f (by decide) ⟨i24, y3 (yi_ok (fun a _ => absurd h a) (fun _ => br_t rfl ⟨rfl, I'⟩))⟩)) (fun h => br_c (fun h2 => ?_) (fun h2 => yy (br_f (by decide) ⟨i24, y3 (yi_ok (fun _ a => ?_) (fun _ => br_t rfl ⟨rfl, I'⟩))⟩)))
  · obtain ⟨x, hx, e⟩ : ∃ x, x < 24 ∧ v2 = nI x := by
      rcases pk_ix v2 (n := 24) (by omega) with z | z | ⟨j, hj, e'⟩
      · exact absurd z h
      · exact absurd h2 (Int32.not_lt.mpr z)
      · exact ⟨j, hj, e'⟩
    subst e
    refine ⟨i24, nm_e ?_⟩
    refine xc_ok (u := (sx_nodeCount u, sx_filterCount u, sx_levelNow u, sx_compiled u, sx_needed u, sx_pinned u, sx_listEnd u, sx_wordCount u, sx_accumulator u, sx_dueCount u, sx_stepCount u, sx_listLength u, sx_listValue u, sx_kindOf u, upd (sx_partX u) n (nI x), sx_partY u, sx_filterOf u, sx_tapCount u, sx_taps u, sx_outputNode u, sx_same u, sx_holds u, sx_registerOf u, sx_isSaved u, sx_op u, sx_into u, sx_first u, sx_second u, sx_number u, sx_wordOf u, sx_words u, sx_memory u, sx_ringAt u, sx_register u, sx_dueRegister u, sx_dueValue u, sx_dueWord u)) (fun M G m0 m1 hM hG => ?_)
    refine yy (br_f (by decide) ⟨i24, ?_⟩)
    refine pk_eq (kn (sg_of u) n) 5 (fun _ => yi_ok (fun _ _ => br_f (by decide) ⟨i24, nm_e ?_⟩) (fun z => ?_)) (fun z => absurd k5 z)
    · refine yr_ok (v := (sy_n v, sy_steps v, sy_size v, sy_coefficients v, sy_kind v, upd (sy_px v) n (nI x), sy_py v, sy_kept v, sy_past v, sy_now v, sy_before v, sy_outputs v, sy_inputs v)) d12 (fun pa hp hs => ⟨rfl, ?_⟩)
      have hkn : ∀ m, kn (sg_of (sx_nodeCount u, sx_filterCount u, sx_levelNow u, sx_compiled u, sx_needed u, sx_pinned u, sx_listEnd u, sx_wordCount u, sx_accumulator u, sx_dueCount u, sx_stepCount u, sx_listLength u, sx_listValue u, sx_kindOf u, upd (sx_partX u) n (nI x), sx_partY u, sx_filterOf u, sx_tapCount u, sx_taps u, sx_outputNode u, sx_same u, sx_holds u, sx_registerOf u, sx_isSaved u, sx_op u, sx_into u, sx_first u, sx_second u, sx_number u, sx_wordOf u, sx_words u, sx_memory u, sx_ringAt u, sx_register u, sx_dueRegister u, sx_dueValue u, sx_dueWord u)) m = kn (sg_of u) m := fun m => rfl
      have hyn : ∀ m, yn (sg_of (sx_nodeCount u, sx_filterCount u, sx_levelNow u, sx_compiled u, sx_needed u, sx_pinned u, sx_listEnd u, sx_wordCount u, sx_accumulator u, sx_dueCount u, sx_stepCount u, sx_listLength u, sx_listValue u, sx_kindOf u, upd (sx_partX u) n (nI x), sx_partY u, sx_filterOf u, sx_tapCount u, sx_taps u, sx_outputNode u, sx_same u, sx_holds u, sx_registerOf u, sx_isSaved u, sx_op u, sx_into u, sx_first u, sx_second u, sx_number u, sx_wordOf u, sx_words u, sx_memory u, sx_ringAt u, sx_register u, sx_dueRegister u, sx_dueValue u, sx_dueWord u)) m = yn (sg_of u) m := fun m => rfl
      have hrk : ∀ m, rk (sg_of (sx_nodeCount u, sx_filterCount u, sx_levelNow u, sx_compiled u, sx_needed u, sx_pinned u, sx_listEnd u, sx_wordCount u, sx_accumulator u, sx_dueCount u, sx_stepCount u, sx_listLength u, sx_listValue u, sx_kindOf u, upd (sx_partX u) n (nI x), sx_partY u, sx_filterOf u, sx_tapCount u, sx_taps u, sx_outputNode u, sx_same u, sx_holds u, sx_registerOf u, sx_isSaved u, sx_op u, sx_into u, sx_first u, sx_second u, sx_number u, sx_wordOf u, sx_words u, sx_memory u, sx_ringAt u, sx_register u, sx_dueRegister u, sx_dueValue u, sx_dueWord u)) m = rk (sg_of u) m := fun m => rk_cg m (fun j _ => rfl)
      have hxn : ∀ m, m ≠ n → xn (sg_of (sx_nodeCount u, sx_filterCount u, sx_levelNow u, sx_compiled u, sx_needed u, sx_pinned u, sx_listEnd u, sx_wordCount u, sx_accumulator u, sx_dueCount u, sx_stepCount u, sx_listLength u, sx_listValue u, sx_kindOf u, upd (sx_partX u) n (nI x), sx_partY u, sx_filterOf u, sx_tapCount u, sx_taps u, sx_outputNode u, sx_same u, sx_holds u, sx_registerOf u, sx_isSaved u, sx_op u, sx_into u, sx_first u, sx_second u, sx_number u, sx_wordOf u, sx_words u, sx_memory u, sx_ringAt u, sx_register u, sx_dueRegister u, sx_dueValue u, sx_dueWord u)) m = xn (sg_of u) m := fun m hm => by
        show (upd (sx_partX u) n (nI x) m).toNatClampNeg = _
        rw [pk_un hm]; rfl
      have hx1 : ∀ m, m ≠ n → sg_x (sg_of (sx_nodeCount u, sx_filterCount u, sx_levelNow u, sx_compiled u, sx_needed u, sx_pinned u, sx_listEnd u, sx_wordCount u, sx_accumulator u, sx_dueCount u, sx_stepCount u, sx_listLength u, sx_listValue u, sx_kindOf u, upd (sx_partX u) n (nI x), sx_partY u, sx_filterOf u, sx_tapCount u, sx_taps u, sx_outputNode u, sx_same u, sx_holds u, sx_registerOf u, sx_isSaved u, sx_op u, sx_into u, sx_first u, sx_second u, sx_number u, sx_wordOf u, sx_words u, sx_memory u, sx_ringAt u, sx_register u, sx_dueRegister u, sx_dueValue u, sx_dueWord u)) m = sg_x (sg_of u) m := fun m hm => pk_un hm
      refine rel_ch (N := N) (u := (sx_nodeCount u, sx_filterCount u, sx_levelNow u, sx_compiled u, sx_needed u, sx_pinned u, sx_listEnd u, sx_wordCount u, sx_accumulator u, sx_dueCount u, sx_stepCount u, sx_listLength u, sx_listValue u, sx_kindOf u, upd (sx_partX u) n (nI x), sx_partY u, sx_filterOf u, sx_tapCount u, sx_taps u, sx_outputNode u, sx_same u, sx_holds u, sx_registerOf u, sx_isSaved u, sx_op u, sx_into u, sx_first u, sx_second u, sx_number u, sx_wordOf u, sx_words u, sx_memory u, sx_ringAt u, sx_register u, sx_dueRegister u, sx_dueValue u, sx_dueWord u)) (v := (sy_n v, sy_steps v, sy_size v, sy_coefficients v, sy_kind v, upd (sy_px v) n (nI x), sy_py v, sy_kept v, sy_past v, sy_now v, sy_before v, sy_outputs v, sy_inputs v)) ⟨⟨hN, fun m hm => ?_, ?_⟩, s2, s3, ?_, s5, ?_, s7, s8, s9, fun m hm => ?_, fun m hm k6 => ?_⟩ L d4 (m0.trans d6) (m1.trans d7) d8 d9 d10 d11 hM hG hp hs
      · have t := s1.2.1 m hm
        unfold sn_ok
        rw [hkn, hyn, hrk]
        by_cases e : m = n
        · subst e
          have ex1 : sg_x (sg_of (sx_nodeCount u, sx_filterCount u, sx_levelNow u, sx_compiled u, sx_needed u, sx_pinned u, sx_listEnd u, sx_wordCount u, sx_accumulator u, sx_dueCount u, sx_stepCount u, sx_listLength u, sx_listValue u, sx_kindOf u, upd (sx_partX u) m (nI x), sx_partY u, sx_filterOf u, sx_tapCount u, sx_taps u, sx_outputNode u, sx_same u, sx_holds u, sx_registerOf u, sx_isSaved u, sx_op u, sx_into u, sx_first u, sx_second u, sx_number u, sx_wordOf u, sx_words u, sx_memory u, sx_ringAt u, sx_register u, sx_dueRegister u, sx_dueValue u, sx_dueWord u)) m = nI x := pk_us
          have ex2 : xn (sg_of (sx_nodeCount u, sx_filterCount u, sx_levelNow u, sx_compiled u, sx_needed u, sx_pinned u, sx_listEnd u, sx_wordCount u, sx_accumulator u, sx_dueCount u, sx_stepCount u, sx_listLength u, sx_listValue u, sx_kindOf u, upd (sx_partX u) m (nI x), sx_partY u, sx_filterOf u, sx_tapCount u, sx_taps u, sx_outputNode u, sx_same u, sx_holds u, sx_registerOf u, sx_isSaved u, sx_op u, sx_into u, sx_first u, sx_second u, sx_number u, sx_wordOf u, sx_words u, sx_memory u, sx_ringAt u, sx_register u, sx_dueRegister u, sx_dueValue u, sx_dueWord u)) m = x := by
            show (upd (sx_partX u) m (nI x) m).toNatClampNeg = _
            rw [pk_us, nI_clamp (by omega)]
          rw [ex1, ex2]
          exact ⟨t.1, t.2.1, fun z => by omega, fun _ => ⟨rfl, hx, fun z => absurd k5 z⟩, t.2.2.2.2.1, t.2.2.2.2.2⟩
        · rw [hx1 m e, hxn m e]
          exact t
      · rw [hrk]; exact s1.2.2
      · rw [hrk]; exact s4
      · show upd (sy_px v) n (nI x) = upd (sx_partX u) n (nI x)
        rw [s6]
      · have t := s10 m hm
        unfold sv_ok
        rw [hkn]
        by_cases e : m = n
        · subst e
          exact ⟨fun z => by omega, t.2⟩
        · rw [hx1 m e]; exact t
      · have t := s11 m hm k6
        unfold tp_ok
        rw [hrk]
        exact t
    · rcases z with z | z
      · exact absurd z h
      · have := i3_lt.mp z
        rw [nI_toInt (by omega), show (23 : Int32).toInt = 23 from by decide] at this
        omega
  · have a' : ¬ _ < _ := fun z => a (i3_lt.mpr z)
    have h' : ¬ _ < _ := fun z => h2 (i3_lt.mpr z)
    rw [show (23 : Int32).toInt = 23 from by decide] at a'
    rw [show (24 : Int32).toInt = 24 from by decide] at h'
    omega
end
section
/-! ===== retract ===== -/
def rz (m : Int32) : Nat → (Nat → Int32) → (Nat → Int32)
  | 0, a => a
  | o + 1, a => if rz m o a o = m then upd (rz m o a) o (-1) else rz m o a
theorem rz_hi (m : Int32) (a : Nat → Int32) : ∀ o i, o ≤ i → rz m o a i = a i := by
  intro o
  induction o with
  | zero => intro i _; rfl
  | succ o ih =>
    intro i hi
    show (if rz m o a o = m then upd (rz m o a) o (-1) else rz m o a) i = _
    by_cases h : rz m o a o = m
    · rw [if_pos h, pk_un (by omega)]; exact ih i (by omega)
    · rw [if_neg h]; exact ih i (by omega)
theorem rz_lo (m : Int32) (a : Nat → Int32) : ∀ o i, i < o → rz m o a i = if a i = m then -1 else a i := by
  intro o
  induction o with
  | zero => intro i h; omega
  | succ o ih =>
    intro i hi
    show (if rz m o a o = m then upd (rz m o a) o (-1) else rz m o a) i = _
    have e0 := rz_hi m a o o (Nat.le_refl _)
    by_cases h : rz m o a o = m
    · rw [if_pos h]
      by_cases e : i = o
      · subst e; rw [pk_us, if_pos (by rw [← e0]; exact h)]
      · rw [pk_un e]; exact ih i (by omega)
    · rw [if_neg h]
      by_cases e : i = o
      · subst e; rw [e0, if_neg (by rw [← e0]; exact h)]
      · exact ih i (by omega)
theorem xt_46 {u : SX} {post : Int32 → SX → Prop} {nc fc : Int32} (K : wpX_change (fun w => post (sx_nodeCount w) w) (nc, fc, sx_levelNow u, sx_compiled u, sx_needed u, sx_pinned u, sx_listEnd u, sx_wordCount u, sx_accumulator u, sx_dueCount u, sx_stepCount u, sx_listLength u, sx_listValue u, sx_kindOf u, sx_partX u, sx_partY u, sx_filterOf u, sx_tapCount u, sx_taps u, rz nc 4 (sx_outputNode u), sx_same u, sx_holds u, sx_registerOf u, sx_isSaved u, sx_op u, sx_into u, sx_first u, sx_second u, sx_number u, sx_wordOf u, sx_words u, sx_memory u, sx_ringAt u, sx_register u, sx_dueRegister u, sx_dueValue u, sx_dueWord u)) :
    ∀ (d o : Nat), o + d = 4 → ∀ n, d < n → wX_retract_46 post (nc) (fc) (sx_levelNow u) (sx_compiled u) (sx_needed u) (sx_pinned u) (sx_listEnd u) (sx_wordCount u) (sx_accumulator u) (sx_dueCount u) (sx_stepCount u) n (nI o) (sx_listLength u) (sx_listValue u) (sx_kindOf u) (sx_partX u) (sx_partY u) (sx_filterOf u) (sx_tapCount u) (sx_taps u) (rz nc o (sx_outputNode u)) (sx_same u) (sx_holds u) (sx_registerOf u) (sx_isSaved u) (sx_op u) (sx_into u) (sx_first u) (sx_second u) (sx_number u) (sx_wordOf u) (sx_words u) (sx_memory u) (sx_ringAt u) (sx_register u) (sx_dueRegister u) (sx_dueValue u) (sx_dueWord u) := by
  intro d
  induction d with
  | zero =>
    intro o hd n hn
    obtain ⟨n, rfl⟩ : ∃ m, n = m + 1 := ⟨n - 1, by omega⟩
    have : o = 4 := by omega
    subst this
    rw [wX_retract_46]
    exact br_t (nI_le (a := 4) (by omega) (by omega)) K
  | succ d ih =>
    intro o hd n hn
    obtain ⟨n, rfl⟩ : ∃ m, n = m + 1 := ⟨n - 1, by omega⟩
    have i4 : vp_in (nI o) 4 := vp_in_nI (by omega) (by omega)
    rw [wX_retract_46]
    refine br_f (nI_ge (b := 4) (by omega) (by omega)) ⟨i4, ?_⟩
    rw [nI_clamp (n := o) (by omega)]
    have nx := ih (o + 1) (by omega) n (by omega)
    refine br_c (fun h => ⟨i4, ?_⟩) (fun h => nm_r (e' := nI (o + 1)) (nI_1 _) ?_)
    · refine nm_r (e' := rz nc (o + 1) (sx_outputNode u)) ?_ (nm_r (e' := nI (o + 1)) (nI_1 _) nx)
      show _ = if rz nc o (sx_outputNode u) o = nc then upd (rz nc o (sx_outputNode u)) o (-1) else rz nc o (sx_outputNode u)
      rw [if_pos h, sn_vbm1]
    · have e : rz nc (o + 1) (sx_outputNode u) = rz nc o (sx_outputNode u) := if_neg h
      rw [e] at nx
      exact nx
theorem yt_22 {v : SY} {post : Int32 → SY → Prop} {nc : Int32} (K : wpY_reset (fun w => post (sy_n w) w) (nc, sy_steps v, sy_size v, sy_coefficients v, sy_kind v, sy_px v, sy_py v, sy_kept v, sy_past v, sy_now v, sy_before v, rz nc 4 (sy_outputs v), sy_inputs v)) :
    ∀ (d o : Nat), o + d = 4 → ∀ n, d < n → wY_retract_22 post nc (sy_steps v) n (nI o) (sy_size v) (sy_coefficients v) (sy_kind v) (sy_px v) (sy_py v) (sy_kept v) (sy_past v) (sy_now v) (sy_before v) (rz nc o (sy_outputs v)) (sy_inputs v) := by
  intro d
  induction d with
  | zero =>
    intro o hd n hn
    obtain ⟨n, rfl⟩ : ∃ m, n = m + 1 := ⟨n - 1, by omega⟩
    have : o = 4 := by omega
    subst this
    rw [wY_retract_22]
    exact br_t (nI_le (a := 4) (by omega) (by omega)) K
  | succ d ih =>
    intro o hd n hn
    obtain ⟨n, rfl⟩ : ∃ m, n = m + 1 := ⟨n - 1, by omega⟩
    have i4 : vp_in (nI o) 4 := vp_in_nI (by omega) (by omega)
    rw [wY_retract_22]
    refine br_f (nI_ge (b := 4) (by omega) (by omega)) ⟨i4, ?_⟩
    rw [nI_clamp (n := o) (by omega)]
    have nx := ih (o + 1) (by omega) n (by omega)
    refine br_c (fun h => ⟨i4, ?_⟩) (fun h => nm_r (e' := nI (o + 1)) (nI_1 _) ?_)
    · refine nm_r (e' := rz nc (o + 1) (sy_outputs v)) ?_ (nm_r (e' := nI (o + 1)) (nI_1 _) nx)
      show _ = if rz nc o (sy_outputs v) o = nc then upd (rz nc o (sy_outputs v)) o (-1) else rz nc o (sy_outputs v)
      rw [if_pos h]
    · have e : rz nc (o + 1) (sy_outputs v) = rz nc o (sy_outputs v) := if_neg h
      rw [e] at nx
      exact nx
theorem rt_S {u : SX} {v : SY} {N : Nat} {nc nc' fc : Int32} (S : rl_S u v (N + 1)) (hnc : nc = nI N) (hnc' : nc' = nI N) (hfc : fc = nI (rk (sg_of u) N)) : rl_S (nc, fc, sx_levelNow u, sx_compiled u, sx_needed u, sx_pinned u, sx_listEnd u, sx_wordCount u, sx_accumulator u, sx_dueCount u, sx_stepCount u, sx_listLength u, sx_listValue u, sx_kindOf u, sx_partX u, sx_partY u, sx_filterOf u, sx_tapCount u, sx_taps u, rz nc 4 (sx_outputNode u), sx_same u, sx_holds u, sx_registerOf u, sx_isSaved u, sx_op u, sx_into u, sx_first u, sx_second u, sx_number u, sx_wordOf u, sx_words u, sx_memory u, sx_ringAt u, sx_register u, sx_dueRegister u, sx_dueValue u, sx_dueWord u) (nc', sy_steps v, sy_size v, sy_coefficients v, sy_kind v, sy_px v, sy_py v, sy_kept v, sy_past v, sy_now v, sy_before v, rz nc' 4 (sy_outputs v), sy_inputs v) N := by
  obtain ⟨s1, s2, s3, s4, s5, s6, s7, s8, s9, s10, s11⟩ := S
  have hN := s1.1
  refine ⟨⟨by omega, fun n hn => s1.2.1 n (by omega), ?_⟩, hnc, hnc', hfc, s5, s6, s7, ?_, fun o ho => ?_, fun n hn => s10 n (by omega), fun n hn => s11 n (by omega)⟩
  · have := s1.2.2
    have h2 : rk (sg_of u) N ≤ rk (sg_of u) (N + 1) := rk_mono (sg_of u) 1 N
    show rk (sg_of u) N ≤ 4
    omega
  · show rz nc' 4 (sy_outputs v) = rz nc 4 (sx_outputNode u)
    rw [s8, hnc, hnc']
  · show rz nc 4 (sx_outputNode u) o = -1 ∨ ∃ q, q < N ∧ rz nc 4 (sx_outputNode u) o = nI q
    rw [hnc, rz_lo (nI N) (sx_outputNode u) 4 o ho]
    rcases s9 o ho with e | ⟨q, hq, e⟩
    · rw [e, if_neg (fun z => sn_ne (by omega) z.symm)]; exact Or.inl rfl
    · rw [e]
      by_cases z : q = N
      · subst z; rw [if_pos rfl]; exact Or.inl rfl
      · rw [if_neg (fun z' => z (sn_inj (by omega) (by omega) z'))]
        exact Or.inr ⟨q, by omega, rfl⟩
theorem i_vc_retract {k : Nat} {u : SX} {v : SY} (I : i_Rel k u v) (hk : k + 4 ≤ 2048) : wpX_retract (fun r u' => wpY_retract (fun r' v' => r' = r ∧ i_Rel (k + 4) u' v') v) u := by
  have I' := i_up I
  obtain ⟨N, s, S, L, D, C⟩ := I
  have S0 := S
  obtain ⟨s1, s2, s3, s4, s5, s6, s7, s8, s9, s10, s11⟩ := S
  obtain ⟨d1, d2, d3, d4, d5, d6, d7, d8, d9, d10, d11, d12, d13⟩ := D
  have hN := s1.1
  show wpX_retract (fun r u' => wpY_retract (fun r' v' => r' = r ∧ i_Rel (k + 4) u' v') (sy_n v, sy_steps v, sy_size v, sy_coefficients v, sy_kind v, sy_px v, sy_py v, sy_kept v, sy_past v, sy_now v, sy_before v, sy_outputs v, sy_inputs v)) (sx_nodeCount u, sx_filterCount u, sx_levelNow u, sx_compiled u, sx_needed u, sx_pinned u, sx_listEnd u, sx_wordCount u, sx_accumulator u, sx_dueCount u, sx_stepCount u, sx_listLength u, sx_listValue u, sx_kindOf u, sx_partX u, sx_partY u, sx_filterOf u, sx_tapCount u, sx_taps u, sx_outputNode u, sx_same u, sx_holds u, sx_registerOf u, sx_isSaved u, sx_op u, sx_into u, sx_first u, sx_second u, sx_number u, sx_wordOf u, sx_words u, sx_memory u, sx_ringAt u, sx_register u, sx_dueRegister u, sx_dueValue u, sx_dueWord u)
  unfold wpX_retract wpY_retract
  dsimp only
  cases N with
  | zero =>
    refine br_t (by rw [s2]; rfl) (br_t (by rw [s3]; rfl) ⟨rfl, I'⟩)
  | succ N =>
    have ne1 : ¬ sx_nodeCount u = 0 := by rw [s2]; exact nI_ne0 (by omega) (by omega)
    have ne2 : ¬ sy_n v = 0 := by rw [s3]; exact nI_ne0 (by omega) (by omega)
    have t1 := s1.2.1 N (by omega)
    have k10 := t1.2.1
    have ek : sx_kindOf u N = nI (kn (sg_of u) N) := t1.1
    have fin : ∀ nc fc, nc = nI N → fc = nI (rk (sg_of u) N) → ∃ n46, wX_retract_46 (fun r u' => (sy_n v = 0 → (-100000 : Int32) = r ∧ i_Rel (k + 4) u' (sy_n v, sy_steps v, sy_size v, sy_coefficients v, sy_kind v, sy_px v, sy_py v, sy_kept v, sy_past v, sy_now v, sy_before v, sy_outputs v, sy_inputs v)) ∧ (¬ sy_n v = 0 → ∀ f_n_2 : Int32, f_n_2 = sy_n v - 1 → ∃ n22, wY_retract_22 (fun r' v' => r' = r ∧ i_Rel (k + 4) u' v') f_n_2 (sy_steps v) n22 0 (sy_size v) (sy_coefficients v) (sy_kind v) (sy_px v) (sy_py v) (sy_kept v) (sy_past v) (sy_now v) (sy_before v) (sy_outputs v) (sy_inputs v))) (nc) (fc) (sx_levelNow u) (sx_compiled u) (sx_needed u) (sx_pinned u) (sx_listEnd u) (sx_wordCount u) (sx_accumulator u) (sx_dueCount u) (sx_stepCount u) n46 0 (sx_listLength u) (sx_listValue u) (sx_kindOf u) (sx_partX u) (sx_partY u) (sx_filterOf u) (sx_tapCount u) (sx_taps u) (sx_outputNode u) (sx_same u) (sx_holds u) (sx_registerOf u) (sx_isSaved u) (sx_op u) (sx_into u) (sx_first u) (sx_second u) (sx_number u) (sx_wordOf u) (sx_words u) (sx_memory u) (sx_ringAt u) (sx_register u) (sx_dueRegister u) (sx_dueValue u) (sx_dueWord u) := by
      intro nc fc hnc hfc
      refine ⟨5, xt_46 (u := u) ?_ 4 0 (by omega) 5 (by omega)⟩
      refine xc_ok (u := (nc, fc, sx_levelNow u, sx_compiled u, sx_needed u, sx_pinned u, sx_listEnd u, sx_wordCount u, sx_accumulator u, sx_dueCount u, sx_stepCount u, sx_listLength u, sx_listValue u, sx_kindOf u, sx_partX u, sx_partY u, sx_filterOf u, sx_tapCount u, sx_taps u, rz nc 4 (sx_outputNode u), sx_same u, sx_holds u, sx_registerOf u, sx_isSaved u, sx_op u, sx_into u, sx_first u, sx_second u, sx_number u, sx_wordOf u, sx_words u, sx_memory u, sx_ringAt u, sx_register u, sx_dueRegister u, sx_dueValue u, sx_dueWord u)) (fun M G m0 m1 hM hG => ?_)
      refine br_f ne2 ?_
      intro nc' hnc'
      rw [s3, nI_pred] at hnc'
      refine ⟨5, yt_22 (v := v) ?_ 4 0 (by omega) 5 (by omega)⟩
      refine yr_ok (v := (nc', sy_steps v, sy_size v, sy_coefficients v, sy_kind v, sy_px v, sy_py v, sy_kept v, sy_past v, sy_now v, sy_before v, rz nc' 4 (sy_outputs v), sy_inputs v)) d12 (fun pa hp hs => ⟨hnc'.trans hnc.symm, ?_⟩)
      exact rel_ch (N := N) (u := (nc, fc, sx_levelNow u, sx_compiled u, sx_needed u, sx_pinned u, sx_listEnd u, sx_wordCount u, sx_accumulator u, sx_dueCount u, sx_stepCount u, sx_listLength u, sx_listValue u, sx_kindOf u, sx_partX u, sx_partY u, sx_filterOf u, sx_tapCount u, sx_taps u, rz nc 4 (sx_outputNode u), sx_same u, sx_holds u, sx_registerOf u, sx_isSaved u, sx_op u, sx_into u, sx_first u, sx_second u, sx_number u, sx_wordOf u, sx_words u, sx_memory u, sx_ringAt u, sx_register u, sx_dueRegister u, sx_dueValue u, sx_dueWord u)) (v := (nc', sy_steps v, sy_size v, sy_coefficients v, sy_kind v, sy_px v, sy_py v, sy_kept v, sy_past v, sy_now v, sy_before v, rz nc' 4 (sy_outputs v), sy_inputs v)) (rt_S S0 hnc hnc' hfc) L d4 (m0.trans d6) (m1.trans d7) d8 d9 d10 d11 hM hG hp hs
    refine br_f ne1 ?_
    intro nc hnc
    rw [s2, nI_pred] at hnc
    have hcl : nc.toNatClampNeg = N := by rw [hnc, nI_clamp (by omega)]
    refine ⟨by rw [hnc]; exact vp_in_nI (by omega) (by omega), ?_⟩
    rw [hcl, ek]
    have hrk : rk (sg_of u) (N + 1) = rk (sg_of u) N + if kn (sg_of u) N = 6 then 1 else 0 := rfl
    refine pk_eq (kn (sg_of u) N) 6 (fun k6 => ?_) (fun k6 => fin nc _ hnc ?_)
    · intro fc hfc
      refine fin nc fc hnc ?_
      rw [hfc, s4, hrk, if_pos k6, nI_pred]
    · rw [s4, hrk, if_neg k6]; rfl
end
section
/-! ===== a new node: what fits ===== -/
def nd_in (N : Nat) (x : Int32) : Prop := ∃ p, p < N ∧ x = nI p
def of_2 (N κ : Nat) (y : Int32) : Prop := if κ = 4 then smp y else if κ = 6 then nd_in 4 y else if κ = 7 then nd_in 32768 y else if κ = 8 then True else nd_in N y
def of_ok (N κ : Nat) (x y : Int32) : Prop :=
  if κ = 0 then x = 0 ∨ x = 1 else if κ = 1 then smp x else if κ = 5 then nd_in 24 x else nd_in N x ∧ of_2 N κ y
theorem ni_no {N : Nat} {x : Int32} (hN : N < 2 ^ 31) (h : x < 0 ∨ nI N ≤ x) : ¬ nd_in N x := by
  intro ⟨n, hn, e⟩
  subst e
  rcases h with h | h
  · exact nI_pos (by omega) h
  · exact nI_ge hn (by omega) h
theorem ni_ys {N : Nat} {x : Int32} (hN : N < 2 ^ 31) (h : ¬ x < 0) (h' : ¬ nI N ≤ x) : nd_in N x := by
  rcases pk_ix x (n := N) hN with z | z | z
  · exact absurd z h
  · exact absurd z h'
  · exact z
theorem ni_c {M : Nat} {c x : Int32} (hM : M + 1 < 2 ^ 31) (hc : c = nI M) : (c < x) ↔ nI (M + 1) ≤ x := by
  rw [i3_lt, i3_le, hc, nI_toInt (by omega), nI_toInt (by omega)]
  omega
section
variable {u : SX} {v : SY} {post : Int32 → Prop} {N κ : Nat} {x y : Int32}
theorem xf_ok (hc : sx_nodeCount u = nI N) (hN : N ≤ 24) (hκ : κ ≤ 10) (h1 : of_ok N κ x y → post 1) (h0 : ¬ of_ok N κ x y → post 0) : wpX_operandsFit post u (nI κ) x y := by
  show wpX_operandsFit post (sx_nodeCount u, sx_filterCount u, sx_levelNow u, sx_compiled u, sx_needed u, sx_pinned u, sx_listEnd u, sx_wordCount u, sx_accumulator u, sx_dueCount u, sx_stepCount u, sx_listLength u, sx_listValue u, sx_kindOf u, sx_partX u, sx_partY u, sx_filterOf u, sx_tapCount u, sx_taps u, sx_outputNode u, sx_same u, sx_holds u, sx_registerOf u, sx_isSaved u, sx_op u, sx_into u, sx_first u, sx_second u, sx_number u, sx_wordOf u, sx_words u, sx_memory u, sx_ringAt u, sx_register u, sx_dueRegister u, sx_dueValue u, sx_dueWord u) (nI κ) x y
  unfold wpX_operandsFit
  dsimp only
  refine pk_eq κ 0 (fun k0 => ?_) (fun k0 => ?_)
  · have e : of_ok N κ x y = (x = 0 ∨ x = 1) := by unfold of_ok; rw [if_pos k0]
    rw [e] at h1 h0
    exact br_c (fun z => h1 (Or.inl z)) (fun z => br_c (fun z' => h1 (Or.inr z')) (fun z' => h0 (fun w => w.elim z z')))
  refine pk_eq κ 1 (fun k1 => ?_) (fun k1 => ?_)
  · have e : of_ok N κ x y = smp x := by unfold of_ok; rw [if_neg k0, if_pos k1]
    rw [e] at h1 h0
    exact xi_ok (fun z => ⟨rfl, h1 z⟩) (fun z => ⟨rfl, h0 z⟩)
  refine pk_eq κ 5 (fun k5 => ?_) (fun k5 => ?_)
  · have e : of_ok N κ x y = nd_in 24 x := by unfold of_ok; rw [if_neg k0, if_neg k1, if_pos k5]
    rw [e] at h1 h0
    exact br_c (fun z => h0 (ni_no (by omega) (Or.inl z))) (fun z => br_c (fun z' => h0 (ni_no (by omega) (Or.inr z'))) (fun z' => h1 (ni_ys (by omega) z z')))
  have e : of_ok N κ x y = (nd_in N x ∧ of_2 N κ y) := by unfold of_ok; rw [if_neg k0, if_neg k1, if_neg k5]
  rw [e] at h1 h0
  refine xn_ok (u := u) hc hN (fun n hn ex => br_f (by decide) ?_) (fun hx => br_t rfl (h0 (fun ⟨⟨n, hn, ex⟩, _⟩ => hx n hn ex)))
  have hx : nd_in N x := ⟨n, hn, ex⟩
  have h1' : of_2 N κ y → post 1 := fun z => h1 ⟨hx, z⟩
  have h0' : ¬ of_2 N κ y → post 0 := fun z => h0 (fun w => z w.2)
  refine pk_eq κ 4 (fun k4 => ?_) (fun k4 => ?_)
  · have e : of_2 N κ y = smp y := by unfold of_2; rw [if_pos k4]
    rw [e] at h1' h0'
    exact xi_ok (fun z => ⟨rfl, h1' z⟩) (fun z => ⟨rfl, h0' z⟩)
  refine pk_eq κ 6 (fun k6 => ?_) (fun k6 => ?_)
  · have e : of_2 N κ y = nd_in 4 y := by unfold of_2; rw [if_neg k4, if_pos k6]
    rw [e] at h1' h0'
    exact br_c (fun z => h0' (ni_no (by omega) (Or.inl z))) (fun z => br_c (fun z' => h0' (ni_no (by omega) (Or.inr ((ni_c (M := 3) (by omega) rfl).mp z')))) (fun z' => h1' (ni_ys (by omega) z (fun w => z' ((ni_c (M := 3) (by omega) rfl).mpr w)))))
  refine pk_eq κ 7 (fun k7 => ?_) (fun k7 => ?_)
  · have e : of_2 N κ y = nd_in 32768 y := by unfold of_2; rw [if_neg k4, if_neg k6, if_pos k7]
    rw [e] at h1' h0'
    exact br_c (fun z => h0' (ni_no (by omega) (Or.inl z))) (fun z => br_c (fun z' => h0' (ni_no (by omega) (Or.inr ((ni_c (M := 32767) (by omega) rfl).mp z')))) (fun z' => h1' (ni_ys (by omega) z (fun w => z' ((ni_c (M := 32767) (by omega) rfl).mpr w)))))
  refine pk_eq κ 8 (fun k8 => ?_) (fun k8 => ?_)
  · have e : of_2 N κ y = True := by unfold of_2; rw [if_neg k4, if_neg k6, if_neg k7, if_pos k8]
    rw [e] at h1'
    exact h1' trivial
  have e : of_2 N κ y = nd_in N y := by unfold of_2; rw [if_neg k4, if_neg k6, if_neg k7, if_neg k8]
  rw [e] at h1' h0'
  exact xn_ok (u := u) hc hN (fun n hn ey => br_f (by decide) (h1' ⟨n, hn, ey⟩)) (fun hy => br_t rfl (h0' (fun ⟨n, hn, ey⟩ => hy n hn ey)))
theorem y45 (hc : sy_n v = nI N) (hN : N ≤ 24) (h1 : nd_in N x ∧ nd_in N y → post 1) (h0 : ¬ (nd_in N x ∧ nd_in N y) → post 0) : wY_fits_45 post x y (sy_n v) (sy_steps v) (sy_size v) (sy_coefficients v) (sy_kind v) (sy_px v) (sy_py v) (sy_kept v) (sy_past v) (sy_now v) (sy_before v) (sy_outputs v) (sy_inputs v) := by
  unfold wY_fits_45
  refine yn_ok (v := v) hc hN (fun n hn ex => br_f (by decide) ?_) (fun hx => br_t rfl (h0 (fun ⟨⟨n, hn, ex⟩, _⟩ => hx n hn ex)))
  exact yn_ok (v := v) hc hN (fun m hm ey => br_f (by decide) (h1 ⟨⟨n, hn, ex⟩, ⟨m, hm, ey⟩⟩)) (fun hy => br_t rfl (h0 (fun ⟨_, ⟨m, hm, ey⟩⟩ => hy m hm ey)))
theorem yf_ok (hc : sy_n v = nI N) (hN : N ≤ 24) (hκ : κ ≤ 10) (h1 : of_ok N κ x y → post 1) (h0 : ¬ of_ok N κ x y → post 0) : wpY_fits post v (nI κ) x y := by
  show wpY_fits post (sy_n v, sy_steps v, sy_size v, sy_coefficients v, sy_kind v, sy_px v, sy_py v, sy_kept v, sy_past v, sy_now v, sy_before v, sy_outputs v, sy_inputs v) (nI κ) x y
  unfold wpY_fits
  dsimp only
  refine pk_eq κ 0 (fun k0 => ?_) (fun k0 => ?_)
  · have e : of_ok N κ x y = (x = 0 ∨ x = 1) := by unfold of_ok; rw [if_pos k0]
    rw [e] at h1 h0
    refine yi_ok (fun a b => ⟨rfl, h1 ?_⟩) (fun z => ⟨rfl, h0 (fun w => ?_)⟩)
    · obtain ⟨j, hj, e⟩ := nI_of2 (x := x) (M := 1) (n := 1) (by decide) a (Int32.not_lt.mp b)
      have : j = 0 ∨ j = 1 := by omega
      rcases this with h | h <;> subst h
      · exact Or.inl e
      · exact Or.inr e
    · rcases w with w | w <;> subst w <;> rcases z with z | z <;> exact absurd z (by decide)
  refine pk_eq κ 1 (fun k1 => ?_) (fun k1 => ?_)
  · have e : of_ok N κ x y = smp x := by unfold of_ok; rw [if_neg k0, if_pos k1]
    rw [e] at h1 h0
    exact ys_ok (v := v) (fun z => ⟨rfl, h1 z⟩) (fun z => ⟨rfl, h0 z⟩)
  have tw' : tw κ → of_ok N κ x y = (nd_in N x ∧ nd_in N y) := by
    intro ht
    unfold tw at ht
    unfold of_ok of_2
    rw [if_neg k0, if_neg k1, if_neg (by omega), if_neg (by omega), if_neg (by omega), if_neg (by omega), if_neg (by omega)]
  have t45 : tw κ → wY_fits_45 post x y (sy_n v) (sy_steps v) (sy_size v) (sy_coefficients v) (sy_kind v) (sy_px v) (sy_py v) (sy_kept v) (sy_past v) (sy_now v) (sy_before v) (sy_outputs v) (sy_inputs v) := by
    intro ht
    rw [tw' ht] at h1 h0
    exact y45 hc hN h1 h0
  refine pk_eq κ 2 (fun k => t45 (Or.inl k)) (fun k2 => ?_)
  refine pk_eq κ 3 (fun k => t45 (Or.inr (Or.inl k))) (fun k3 => ?_)
  refine pk_eq κ 9 (fun k => t45 (Or.inr (Or.inr (Or.inl k)))) (fun k9 => ?_)
  refine pk_eq κ 10 (fun k => t45 (Or.inr (Or.inr (Or.inr k)))) (fun kt => ?_)
  refine pk_eq κ 4 (fun k4 => ?_) (fun k4 => ?_)
  · have e : of_ok N κ x y = (nd_in N x ∧ smp y) := by unfold of_ok of_2; rw [if_neg k0, if_neg k1, if_neg (by omega), if_pos k4]
    rw [e] at h1 h0
    refine yn_ok (v := v) hc hN (fun n hn ex => br_f (by decide) ?_) (fun hx => br_t rfl (h0 (fun ⟨⟨n, hn, ex⟩, _⟩ => hx n hn ex)))
    exact ys_ok (v := v) (fun z => br_f (by decide) (h1 ⟨⟨n, hn, ex⟩, z⟩)) (fun z => br_t rfl (h0 (fun w => z w.2)))
  refine pk_eq κ 5 (fun k5 => ?_) (fun k5 => ?_)
  · have e : of_ok N κ x y = nd_in 24 x := by unfold of_ok; rw [if_neg k0, if_neg k1, if_pos k5]
    rw [e] at h1 h0
    exact yi_ok (fun a b => ⟨rfl, h1 (ni_ys (by omega) a (fun w => b ((ni_c (M := 23) (by omega) rfl).mpr w)))⟩) (fun z => ⟨rfl, h0 (ni_no (by omega) (z.imp id (fun z => (ni_c (M := 23) (by omega) rfl).mp z)))⟩)
  refine pk_eq κ 6 (fun k6 => ?_) (fun k6 => ?_)
  · have e : of_ok N κ x y = (nd_in N x ∧ nd_in 4 y) := by unfold of_ok of_2; rw [if_neg k0, if_neg k1, if_neg k5, if_neg k4, if_pos k6]
    rw [e] at h1 h0
    refine yn_ok (v := v) hc hN (fun n hn ex => br_f (by decide) ?_) (fun hx => br_t rfl (h0 (fun ⟨⟨n, hn, ex⟩, _⟩ => hx n hn ex)))
    exact yi_ok (fun a b => br_f (by decide) (h1 ⟨⟨n, hn, ex⟩, ni_ys (by omega) a (fun w => b ((ni_c (M := 3) (by omega) rfl).mpr w))⟩)) (fun z => br_t rfl (h0 (fun w => ni_no (by omega) (z.imp id (fun z => (ni_c (M := 3) (by omega) rfl).mp z)) w.2)))
  refine pk_eq κ 7 (fun k7 => ?_) (fun k7 => ?_)
  · have e : of_ok N κ x y = (nd_in N x ∧ nd_in 32768 y) := by unfold of_ok of_2; rw [if_neg k0, if_neg k1, if_neg k5, if_neg k4, if_neg k6, if_pos k7]
    rw [e] at h1 h0
    refine yn_ok (v := v) hc hN (fun n hn ex => br_f (by decide) ?_) (fun hx => br_t rfl (h0 (fun ⟨⟨n, hn, ex⟩, _⟩ => hx n hn ex)))
    exact yi_ok (fun a b => br_f (by decide) (h1 ⟨⟨n, hn, ex⟩, ni_ys (by omega) a (fun w => b ((ni_c (M := 32767) (by omega) rfl).mpr w))⟩)) (fun z => br_t rfl (h0 (fun w => ni_no (by omega) (z.imp id (fun z => (ni_c (M := 32767) (by omega) rfl).mp z)) w.2)))
  have e : of_ok N κ x y = (nd_in N x ∧ True) := by unfold of_ok of_2; rw [if_neg k0, if_neg k1, if_neg k5, if_neg k4, if_neg k6, if_neg k7, if_pos (by omega)]
  rw [e] at h1 h0
  exact yn_ok (v := v) hc hN (fun n hn ex => ⟨rfl, h1 ⟨⟨n, hn, ex⟩, trivial⟩⟩) (fun hx => ⟨rfl, h0 (fun ⟨⟨n, hn, ex⟩, _⟩ => hx n hn ex)⟩)
end
/-- how many filters the reference counts -/
theorem yc_ok {u : SX} {v : SY} {N : Nat} {post : Int32 → Prop} (hs : so_ok (sg_of u) N) (hc : sy_n v = nI N) (ek : sy_kind v = sx_kindOf u) (K : post (nI (rk (sg_of u) N))) : wpY_filters post v := by
  have hN := hs.1
  have L : ∀ (d n : Nat), n + d = N → ∀ f, d < f → wY_filters_4 post (sy_n v) (sy_steps v) (sy_size v) (sy_coefficients v) (sy_kind v) (sy_px v) (sy_py v) (sy_kept v) (sy_past v) (sy_now v) (sy_before v) (sy_outputs v) (sy_inputs v) f (nI (rk (sg_of u) n)) (nI n) := by
    intro d
    induction d with
    | zero =>
      intro n hd f hf
      obtain ⟨f, rfl⟩ : ∃ m, f = m + 1 := ⟨f - 1, by omega⟩
      have : n = N := by omega
      subst this
      rw [wY_filters_4]
      exact br_t (by rw [hc]; exact nI_le (by omega) (by omega)) K
    | succ d ih =>
      intro n hd f hf
      obtain ⟨f, rfl⟩ : ∃ m, f = m + 1 := ⟨f - 1, by omega⟩
      have s1 := hs.2.1 n (by omega)
      have k10 := s1.2.1
      have e1 : sy_kind v n = nI (kn (sg_of u) n) := by rw [ek]; exact s1.1
      have nx := ih (n + 1) (by omega) f (by omega)
      have hr : rk (sg_of u) (n + 1) = rk (sg_of u) n + if kn (sg_of u) n = 6 then 1 else 0 := rfl
      rw [wY_filters_4]
      refine br_f (by rw [hc]; exact nI_ge (by omega) (by omega)) ⟨vp_in_nI (by omega) (by omega), ?_⟩
      rw [nI_clamp (n := n) (by omega), e1]
      refine pk_eq (kn (sg_of u) n) 6 (fun k6 => ?_) (fun k6 => nm_r (e' := nI (n + 1)) (nI_1 _) ?_)
      · rw [if_pos k6] at hr
        exact nm_r (e' := nI (rk (sg_of u) n + 1)) (nI_1 _) (nm_r (e' := nI (n + 1)) (nI_1 _) (by rw [← hr]; exact nx))
      · rw [if_neg k6] at hr
        rw [hr] at nx
        exact nx
  show wpY_filters post (sy_n v, sy_steps v, sy_size v, sy_coefficients v, sy_kind v, sy_px v, sy_py v, sy_kept v, sy_past v, sy_now v, sy_before v, sy_outputs v, sy_inputs v)
  unfold wpY_filters
  exact ⟨N + 1, L N 0 (by omega) (N + 1) (by omega)⟩
end
section
/-! ===== a new node ===== -/
def tz (f l : Nat) (lv : Nat → Int32) : Nat → (Nat → Int32) → (Nat → Int32)
  | 0, a => a
  | k + 1, a => upd (tz f l lv k a) (6 * f + k) (lv (6 * l + k))
theorem tz_v (f l : Nat) (lv a : Nat → Int32) : ∀ k j, j < k → tz f l lv k a (6 * f + j) = lv (6 * l + j) := by
  intro k
  induction k with
  | zero => intro j h; omega
  | succ k ih =>
    intro j h
    show upd (tz f l lv k a) (6 * f + k) (lv (6 * l + k)) (6 * f + j) = _
    by_cases e : j = k
    · subst e; exact pk_us
    · rw [pk_un (by omega)]; exact ih j (by omega)
theorem tz_o (f l : Nat) (lv a : Nat → Int32) : ∀ k i, (i < 6 * f ∨ 6 * f + k ≤ i) → tz f l lv k a i = a i := by
  intro k
  induction k with
  | zero => intro i _; rfl
  | succ k ih =>
    intro i h
    show upd (tz f l lv k a) (6 * f + k) (lv (6 * l + k)) i = _
    rw [pk_un (by omega)]; exact ih i (by omega)
def kz (n : Nat) (w : Nat → Int32) : Nat → (Nat → Int32) → (Nat → Int32)
  | 0, a => a
  | k + 1, a => upd (kz n w k a) (6 * n + k) (w k)
theorem kz_v (n : Nat) (w a : Nat → Int32) : ∀ k j, j < k → kz n w k a (6 * n + j) = w j := by
  intro k
  induction k with
  | zero => intro j h; omega
  | succ k ih =>
    intro j h
    show upd (kz n w k a) (6 * n + k) (w k) (6 * n + j) = _
    by_cases e : j = k
    · subst e; exact pk_us
    · rw [pk_un (by omega)]; exact ih j (by omega)
theorem kz_o (n : Nat) (w a : Nat → Int32) : ∀ k i, (i < 6 * n ∨ 6 * n + k ≤ i) → kz n w k a i = a i := by
  intro k
  induction k with
  | zero => intro i _; rfl
  | succ k ih =>
    intro i h
    show upd (kz n w k a) (6 * n + k) (w k) i = _
    rw [pk_un (by omega)]; exact ih i (by omega)
theorem kz_s (n : Nat) (w a : Nat → Int32) (hw : ∀ j, smp (w j)) (ha : ∀ i, smp (a i)) : ∀ k i, smp (kz n w k a i) := by
  intro k
  induction k with
  | zero => intro i; exact ha i
  | succ k ih =>
    intro i
    show smp (upd (kz n w k a) (6 * n + k) (w k) i)
    by_cases e : i = 6 * n + k
    · subst e; rw [pk_us]; exact hw k
    · rw [pk_un e]; exact ih i
theorem xk_ok {u : SX} {post : SX → Prop} {n l f L : Nat} (hn : n < 24) (hl : l < 4) (hf : f < 4) (h6 : L ≤ 6) (hc : sx_filterCount u = nI f) (hL : sx_listLength u l = nI L)
    (K : post (sx_nodeCount u, nI (f + 1), sx_levelNow u, sx_compiled u, sx_needed u, sx_pinned u, sx_listEnd u, sx_wordCount u, sx_accumulator u, sx_dueCount u, sx_stepCount u, sx_listLength u, sx_listValue u, sx_kindOf u, sx_partX u, sx_partY u, upd (sx_filterOf u) n (nI f), upd (sx_tapCount u) f (nI L), tz f l (sx_listValue u) L (sx_taps u), sx_outputNode u, sx_same u, sx_holds u, sx_registerOf u, sx_isSaved u, sx_op u, sx_into u, sx_first u, sx_second u, sx_number u, sx_wordOf u, sx_words u, sx_memory u, sx_ringAt u, sx_register u, sx_dueRegister u, sx_dueValue u, sx_dueWord u)) : wpX_takeList post u (nI n) (nI l) := by
  have Lp : ∀ (d k : Nat), k + d = L → ∀ m, d < m → wX_takeList_38 post (nI l) (nI f) (sx_nodeCount u) (nI (f + 1)) (sx_levelNow u) (sx_compiled u) (sx_needed u) (sx_pinned u) (sx_listEnd u) (sx_wordCount u) (sx_accumulator u) (sx_dueCount u) (sx_stepCount u) m (nI k) (sx_listLength u) (sx_listValue u) (sx_kindOf u) (sx_partX u) (sx_partY u) (upd (sx_filterOf u) n (nI f)) (upd (sx_tapCount u) f (nI L)) (tz f l (sx_listValue u) k (sx_taps u)) (sx_outputNode u) (sx_same u) (sx_holds u) (sx_registerOf u) (sx_isSaved u) (sx_op u) (sx_into u) (sx_first u) (sx_second u) (sx_number u) (sx_wordOf u) (sx_words u) (sx_memory u) (sx_ringAt u) (sx_register u) (sx_dueRegister u) (sx_dueValue u) (sx_dueWord u) := by
    intro d
    induction d with
    | zero =>
      intro k hd m hm
      obtain ⟨m, rfl⟩ : ∃ m', m = m' + 1 := ⟨m - 1, by omega⟩
      have : k = L := by omega
      subst this
      rw [wX_takeList_38]
      dsimp only
      rw [nI_clamp (n := f) (by omega), pk_us]
      exact ⟨vp_in_nI (by omega) (by omega), br_t (nI_le (by omega) (by omega)) K⟩
    | succ d ih =>
      intro k hd m hm
      obtain ⟨m, rfl⟩ : ∃ m', m = m' + 1 := ⟨m - 1, by omega⟩
      rw [wX_takeList_38]
      dsimp only
      rw [nI_clamp (n := f) (by omega), pk_us, ix6, ix6, nI_clamp (n := 6 * l + k) (by omega), nI_clamp (n := 6 * f + k) (by omega)]
      refine ⟨vp_in_nI (by omega) (by omega), br_f (nI_ge (by omega) (by omega)) ⟨vp_in_nI (by omega) (by omega), vp_in_nI (by omega) (by omega), nm_e (nm_r (e' := nI (k + 1)) (nI_1 _) ?_)⟩⟩
      exact ih (k + 1) (by omega) m (by omega)
  show wpX_takeList post (sx_nodeCount u, sx_filterCount u, sx_levelNow u, sx_compiled u, sx_needed u, sx_pinned u, sx_listEnd u, sx_wordCount u, sx_accumulator u, sx_dueCount u, sx_stepCount u, sx_listLength u, sx_listValue u, sx_kindOf u, sx_partX u, sx_partY u, sx_filterOf u, sx_tapCount u, sx_taps u, sx_outputNode u, sx_same u, sx_holds u, sx_registerOf u, sx_isSaved u, sx_op u, sx_into u, sx_first u, sx_second u, sx_number u, sx_wordOf u, sx_words u, sx_memory u, sx_ringAt u, sx_register u, sx_dueRegister u, sx_dueValue u, sx_dueWord u) (nI n) (nI l)
  unfold wpX_takeList
  dsimp only
  rw [hc, nI_clamp (n := n) (by omega), nI_clamp (n := l) (by omega), nI_clamp (n := f) (by omega), hL, sn_vb (by omega), sn_vb1 (by omega)]
  exact nm_r (e' := nI (f + 1)) (nI_1 _) ⟨vp_in_nI (by omega) (by omega), nm_e ⟨vp_in_nI (by omega) (by omega), vp_in_nI (by omega) (by omega), nm_e ⟨L + 1, Lp L 0 (by omega) (L + 1) (by omega)⟩⟩⟩
/-- the reference's list of a new node -/
def kw (κ l L : Nat) (co : Nat → Int32) (k : Nat) : Int32 := if κ = 6 ∧ k < L then co (6 * l + k) else 0
theorem yk_83 {v : SY} {post : Int32 → SY → Prop} {n κ l L : Nat} {y : Int32} (hn : n < 24) (hκ : κ ≤ 10) (h6 : κ = 6 → l < 4 ∧ y = nI l ∧ L ≤ 6 ∧ sy_size v l = nI L) (hs : ∀ i, smp (sy_past v i))
    (K : ∀ nc pa, nc = nI (n + 1) → (∀ i, i < 144 → pa i = 0) → (∀ i, smp (pa i)) → post (nI n) (nc, 0, sy_size v, sy_coefficients v, sy_kind v, sy_px v, sy_py v, kz n (kw κ l L (sy_coefficients v)) 6 (sy_kept v), pa, sy_now v, sy_before v, sy_outputs v, sy_inputs v)) :
    ∀ (d k : Nat), k + d = 6 → ∀ m, d < m → wY_node_83 post (nI κ) y (nI n) (sy_steps v) m (nI k) (sy_size v) (sy_coefficients v) (sy_kind v) (sy_px v) (sy_py v) (kz n (kw κ l L (sy_coefficients v)) k (sy_kept v)) (sy_past v) (sy_now v) (sy_before v) (sy_outputs v) (sy_inputs v) := by
  intro d
  induction d with
  | zero =>
    intro k hd m hm
    obtain ⟨m, rfl⟩ : ∃ m', m = m' + 1 := ⟨m - 1, by omega⟩
    have : k = 6 := by omega
    subst this
    rw [wY_node_83]
    refine br_t (nI_le (a := 6) (by omega) (by omega)) ?_
    intro nc hnc
    rw [nI_1] at hnc
    refine yr_ok (v := (nc, sy_steps v, sy_size v, sy_coefficients v, sy_kind v, sy_px v, sy_py v, kz n (kw κ l L (sy_coefficients v)) 6 (sy_kept v), sy_past v, sy_now v, sy_before v, sy_outputs v, sy_inputs v)) hs (fun pa hp hsm => ?_)
    show post (nc - 1) _
    rw [show nc - 1 = nI n by rw [hnc, nI_pred]]
    exact K nc pa hnc hp hsm
  | succ d ih =>
    intro k hd m hm
    obtain ⟨m, rfl⟩ : ∃ m', m = m' + 1 := ⟨m - 1, by omega⟩
    have nx := ih (k + 1) (by omega) m (by omega)
    have i144 : vp_in (nI (6 * n + k)) 144 := vp_in_nI (by omega) (by omega)
    rw [wY_node_83]
    refine br_f (nI_ge (b := 6) (by omega) (by omega)) ?_
    rw [ix6, nI_clamp (n := 6 * n + k) (by omega)]
    have ek : kz n (kw κ l L (sy_coefficients v)) (k + 1) (sy_kept v) = upd (kz n (kw κ l L (sy_coefficients v)) k (sy_kept v)) (6 * n + k) (kw κ l L (sy_coefficients v) k) := rfl
    refine pk_eq κ 6 (fun k6 => ?_) (fun k6 => ⟨i144, nm_r (e' := kz n (kw κ l L (sy_coefficients v)) (k + 1) (sy_kept v)) ?_ (nm_r (e' := nI (k + 1)) (nI_1 _) nx)⟩)
    · obtain ⟨hl, ey, hL6, eL⟩ := h6 k6
      have ea : y &&& 3 = nI l := by
        rw [ey, pk_andN (n := l) (by omega) 2 (by decide)]
        exact congrArg nI (by omega)
      rw [ea, nI_clamp (n := l) (by omega), eL, ix6, nI_clamp (n := 6 * l + k) (by omega)]
      refine ⟨vp_in_nI (by omega) (by omega), ?_⟩
      refine pk_le L k (fun h => ⟨i144, nm_r (e' := kz n (kw κ l L (sy_coefficients v)) (k + 1) (sy_kept v)) ?_ (nm_r (e' := nI (k + 1)) (nI_1 _) nx)⟩) (fun h => ⟨vp_in_nI (by omega) (by omega), i144, nm_r (e' := kz n (kw κ l L (sy_coefficients v)) (k + 1) (sy_kept v)) ?_ (nm_r (e' := nI (k + 1)) (nI_1 _) nx)⟩)
      · rw [ek]; unfold kw; rw [if_neg (fun z => by omega)]
      · rw [ek]
        have : kw κ l L (sy_coefficients v) k = sy_coefficients v (6 * l + k) := by unfold kw; rw [if_pos ⟨k6, h⟩]
        rw [this]
    · rw [ek]; unfold kw; rw [if_neg (fun z => k6 z.1)]
/-- the nodes with a new one -/
def nw_E (g g' : sg_T) (N κ L : Nat) (x y : Int32) : Prop :=
  sg_k g' = upd (sg_k g) N (nI κ) ∧ sg_x g' = upd (sg_x g) N x ∧ sg_y g' = upd (sg_y g) N y ∧
  (κ = 6 → rk g N < 4 ∧ sg_f g' = upd (sg_f g) N (nI (rk g N)) ∧ 0 < L ∧ L ≤ 6 ∧ sg_t g' = upd (sg_t g) (rk g N) (nI L)) ∧ (κ ≠ 6 → sg_f g' = sg_f g ∧ sg_t g' = sg_t g)
section
variable {g g' : sg_T} {N κ L : Nat} {x y : Int32}
theorem nw_k (E : nw_E g g' N κ L x y) (hκ : κ ≤ 10) : (∀ m, m ≠ N → kn g' m = kn g m ∧ sg_k g' m = sg_k g m ∧ xn g' m = xn g m ∧ sg_x g' m = sg_x g m ∧ yn g' m = yn g m ∧ sg_y g' m = sg_y g m) ∧ kn g' N = κ ∧ sg_k g' N = nI κ ∧ sg_x g' N = x ∧ sg_y g' N = y ∧ (∀ m, m ≤ N → rk g' m = rk g m) := by
  obtain ⟨e1, e2, e3, _, _⟩ := E
  have A : ∀ m, m ≠ N → kn g' m = kn g m ∧ sg_k g' m = sg_k g m ∧ xn g' m = xn g m ∧ sg_x g' m = sg_x g m ∧ yn g' m = yn g m ∧ sg_y g' m = sg_y g m := by
    intro m hm
    unfold kn xn yn
    rw [e1, e2, e3, pk_un hm, pk_un hm, pk_un hm]
    exact ⟨rfl, rfl, rfl, rfl, rfl, rfl⟩
  refine ⟨A, ?_, ?_, ?_, ?_, fun m hm => rk_cg m (fun j hj => (A j (by omega)).1)⟩
  · unfold kn; rw [e1, pk_us, nI_clamp (by omega)]
  · rw [e1, pk_us]
  · rw [e2, pk_us]
  · rw [e3, pk_us]
theorem nw_so (hs : so_ok g N) (hN : N < 24) (hκ : κ ≤ 10) (of : of_ok N κ x y) (E : nw_E g g' N κ L x y) : so_ok g' (N + 1) := by
  obtain ⟨A, b1, b2, b3, b4, b5⟩ := nw_k E hκ
  obtain ⟨e1, e2, e3, e6, en⟩ := E
  refine ⟨by omega, fun n hn => ?_, ?_⟩
  · by_cases e : n = N
    · subst e
      unfold sn_ok
      have ex : xn g' n = x.toNatClampNeg := by unfold xn; rw [b3]
      have ey : yn g' n = y.toNatClampNeg := by unfold yn; rw [b4]
      rw [b1, b2, b3, b4, ex, ey, b5 n (Nat.le_refl _)]
      refine ⟨rfl, hκ, fun k0 => ?_, fun k2 => ?_, fun ht => ?_, fun k6 => ?_⟩
      · have : x = 0 ∨ x = 1 := by unfold of_ok at of; rw [if_pos k0] at of; exact of
        rcases this with h | h <;> subst h <;> decide
      · by_cases k5 : κ = 5
        · have : nd_in 24 x := by unfold of_ok at of; rw [if_neg (by omega), if_neg (by omega), if_pos k5] at of; exact of
          obtain ⟨p, hp, e⟩ := this
          subst e
          rw [nI_clamp (by omega)]
          exact ⟨rfl, hp, fun z => absurd k5 z⟩
        · have : nd_in n x := by unfold of_ok at of; rw [if_neg (by omega), if_neg (by omega), if_neg k5] at of; exact of.1
          obtain ⟨p, hp, e⟩ := this
          subst e
          rw [nI_clamp (by omega)]
          exact ⟨rfl, by omega, fun _ => hp⟩
      · have : nd_in n y := by
          unfold tw at ht
          unfold of_ok of_2 at of
          rw [if_neg (by omega), if_neg (by omega), if_neg (by omega), if_neg (by omega), if_neg (by omega), if_neg (by omega), if_neg (by omega)] at of
          exact of.2
        obtain ⟨p, hp, e⟩ := this
        subst e
        rw [nI_clamp (by omega)]
        exact ⟨rfl, hp⟩
      · obtain ⟨f1, f2, f3, f4, f5⟩ := e6 k6
        rw [f2, f5, pk_us, pk_us]
        exact ⟨rfl, f1, L, f3, f4, rfl⟩
    · have hn' : n < N := by omega
      have t := hs.2.1 n hn'
      obtain ⟨a1, a2, a3, a4, a5, a6⟩ := A n e
      unfold sn_ok
      rw [a1, a2, a3, a4, a5, a6, b5 n (by omega)]
      refine ⟨t.1, t.2.1, t.2.2.1, t.2.2.2.1, t.2.2.2.2.1, fun k6 => ?_⟩
      obtain ⟨q1, q2, q3⟩ := t.2.2.2.2.2 k6
      by_cases k : κ = 6
      · obtain ⟨f1, f2, f3, f4, f5⟩ := e6 k
        have := rk_lt hn' k6
        rw [f2, f5, pk_un e, pk_un (by omega)]
        exact ⟨q1, q2, q3⟩
      · rw [(en k).1, (en k).2]
        exact ⟨q1, q2, q3⟩
  · show rk g' N + (if kn g' N = 6 then 1 else 0) ≤ 4
    rw [b5 N (Nat.le_refl _), b1]
    have := hs.2.2
    by_cases k : κ = 6
    · rw [if_pos k]; have := (e6 k).1; omega
    · rw [if_neg k]; omega
theorem sm_neg {y : Int32} (h : nd_in 32768 y) : smp y ∧ smp (-y) := by
  obtain ⟨j, hj, e⟩ := h
  subst e
  unfold smp
  rw [nI_toInt (by omega), sb_negT (by omega)]
  omega
theorem nw_sv (hκ : κ ≤ 10) (of : of_ok N κ x y) (E : nw_E g g' N κ L x y) (h : ∀ n, n < N → sv_ok g n) : ∀ n, n < N + 1 → sv_ok g' n := by
  obtain ⟨A, b1, b2, b3, b4, b5⟩ := nw_k E hκ
  intro n hn
  unfold sv_ok
  by_cases e : n = N
  · subst e
    rw [b1, b3, b4]
    refine ⟨fun k1 => ?_, fun k7 => ?_⟩
    · unfold of_ok at of; rw [if_neg (by omega), if_pos k1] at of; exact of
    · unfold of_ok of_2 at of
      rw [if_neg (by omega), if_neg (by omega), if_neg (by omega), if_neg (by omega), if_neg (by omega), if_pos k7] at of
      exact sm_neg of.2
  · obtain ⟨a1, a2, a3, a4, a5, a6⟩ := A n e
    rw [a1, a4, a6]
    exact h n (by omega)
theorem nw_tp {l : Nat} {co kp : Nat → Int32} (hs : so_ok g N) (hκ : κ ≤ 10) (E : nw_E g g' N κ L x y) (hp6 : κ = 6 → sg_p g' = tz (rk g N) l co L (sg_p g)) (hpn : κ ≠ 6 → sg_p g' = sg_p g)
    (h : ∀ n, n < N → kn g n = 6 → tp_ok g kp n) : ∀ n, n < N + 1 → kn g' n = 6 → tp_ok g' (kz N (kw κ l L co) 6 kp) n := by
  obtain ⟨A, b1, b2, b3, b4, b5⟩ := nw_k E hκ
  obtain ⟨e1, e2, e3, e6, en⟩ := E
  intro n hn k6 l' hl' hl6 j hj
  rw [b5 n (by omega)] at hl' ⊢
  by_cases e : n = N
  · subst e
    rw [b1] at k6
    obtain ⟨f1, f2, f3, f4, f5⟩ := e6 k6
    rw [f5, pk_us] at hl'
    have : L = l' := sn_inj (by omega) (by omega) hl'
    subst this
    rw [kz_v _ _ _ _ j hj, hp6 k6]
    unfold kw
    by_cases hjL : j < L
    · rw [if_pos ⟨k6, hjL⟩, if_pos hjL, tz_v _ _ _ _ _ j hjL]
    · rw [if_neg (fun z => hjL z.2), if_neg hjL]
  · have hn' : n < N := by omega
    rw [(A n e).1] at k6
    rw [kz_o _ _ _ _ _ (by omega)]
    by_cases k : κ = 6
    · obtain ⟨f1, f2, f3, f4, f5⟩ := e6 k
      have hlt := rk_lt hn' k6
      rw [f5, pk_un (by omega)] at hl'
      rw [hp6 k, tz_o _ _ _ _ _ _ (Or.inl (by omega))]
      exact h n hn' k6 l' hl' hl6 j hj
    · rw [(en k).2] at hl'
      rw [hpn k]
      exact h n hn' k6 l' hl' hl6 j hj
end
end
section
def xn_T (u : SX) (nc : Int32) (N κ : Nat) (x y fc : Int32) (fo tc tp : Nat → Int32) : SX :=
  (nc, fc, sx_levelNow u, sx_compiled u, sx_needed u, sx_pinned u, sx_listEnd u, sx_wordCount u, sx_accumulator u, sx_dueCount u, sx_stepCount u, sx_listLength u, sx_listValue u, upd (sx_kindOf u) N (nI κ), upd (sx_partX u) N x, upd (sx_partY u) N y, fo, tc, tp, sx_outputNode u, sx_same u, sx_holds u, sx_registerOf u, sx_isSaved u, sx_op u, sx_into u, sx_first u, sx_second u, sx_number u, sx_wordOf u, sx_words u, sx_memory u, sx_ringAt u, sx_register u, sx_dueRegister u, sx_dueValue u, sx_dueWord u)
def ch_T (w : SX) (M G : Nat → Int32) : SX := (sx_nodeCount w, sx_filterCount w, sx_levelNow w, 0, sx_needed w, sx_pinned w, sx_listEnd w, sx_wordCount w, sx_accumulator w, sx_dueCount w, 0, sx_listLength w, sx_listValue w, sx_kindOf w, sx_partX w, sx_partY w, sx_filterOf w, sx_tapCount w, sx_taps w, sx_outputNode w, sx_same w, sx_holds w, sx_registerOf w, sx_isSaved w, sx_op w, sx_into w, sx_first w, sx_second w, sx_number w, sx_wordOf w, sx_words w, M, G, sx_register w, sx_dueRegister w, sx_dueValue w, sx_dueWord w)
def yn_T (v : SY) (nc : Int32) (N κ : Nat) (x y : Int32) (kp pa : Nat → Int32) : SY :=
  (nc, 0, sy_size v, sy_coefficients v, upd (sy_kind v) N (nI κ), upd (sy_px v) N x, upd (sy_py v) N y, kp, pa, sy_now v, sy_before v, sy_outputs v, sy_inputs v)
def nf_P (u : SX) (N κ : Nat) (y fc : Int32) (fo tc tp : Nat → Int32) (L l : Nat) : Prop :=
  (κ = 6 → l < 4 ∧ y = nI l ∧ 0 < L ∧ L ≤ 6 ∧ sx_listLength u l = nI L ∧ rk (sg_of u) N < 4 ∧ fc = nI (rk (sg_of u) N + 1) ∧ fo = upd (sx_filterOf u) N (nI (rk (sg_of u) N)) ∧ tc = upd (sx_tapCount u) (rk (sg_of u) N) (nI L) ∧ tp = tz (rk (sg_of u) N) l (sx_listValue u) L (sx_taps u)) ∧
  (κ ≠ 6 → fc = sx_filterCount u ∧ fo = sx_filterOf u ∧ tc = sx_tapCount u ∧ tp = sx_taps u)
theorem x103 {w : SX} {post : Int32 → SX → Prop} {r : Int32} (K : ∀ M G, M 0 = sx_memory w 0 → M 1 = sx_memory w 1 → (∀ i, 2 ≤ i → i < 96 → M i = 0) → (∀ f, f < 4 → G f = 0) → post r (ch_T w M G)) : wX_node_103 post r (sx_nodeCount w) (sx_filterCount w) (sx_levelNow w) (sx_compiled w) (sx_needed w) (sx_pinned w) (sx_listEnd w) (sx_wordCount w) (sx_accumulator w) (sx_dueCount w) (sx_stepCount w) (sx_listLength w) (sx_listValue w) (sx_kindOf w) (sx_partX w) (sx_partY w) (sx_filterOf w) (sx_tapCount w) (sx_taps w) (sx_outputNode w) (sx_same w) (sx_holds w) (sx_registerOf w) (sx_isSaved w) (sx_op w) (sx_into w) (sx_first w) (sx_second w) (sx_number w) (sx_wordOf w) (sx_words w) (sx_memory w) (sx_ringAt w) (sx_register w) (sx_dueRegister w) (sx_dueValue w) (sx_dueWord w) := by
  unfold wX_node_103
  exact xc_ok (u := w) (post := fun z => post r z) K
theorem x26 {u : SX} {N : Nat} {post : Int32 → SX → Prop} {x1 x2 x3 : Int32} (hc : sx_nodeCount u = nI N) (hN : N < 24) (hfc : sx_filterCount u = nI (rk (sg_of u) N)) (h6 : x1 = 6 → rk (sg_of u) N < 4) (hln : ln_ok (sx_listLength u))
    (Kb : (∀ κ, κ ≤ 10 → x1 = nI κ → ¬ of_ok N κ x2 x3) → post (-100000) u)
    (Kg : ∀ (nc : Int32) (κ : Nat) (fc : Int32) (fo tc tp : Nat → Int32) (L l : Nat) (M G : Nat → Int32), nc = nI (N + 1) → κ ≤ 10 → x1 = nI κ → of_ok N κ x2 x3 → nf_P u N κ x3 fc fo tc tp L l → M 0 = sx_memory u 0 → M 1 = sx_memory u 1 → (∀ i, 2 ≤ i → i < 96 → M i = 0) → (∀ f, f < 4 → G f = 0) →
      post (nI N) (ch_T (xn_T u nc N κ x2 x3 fc fo tc tp) M G)) : wX_node_26 post x1 x2 x3 (sx_nodeCount u) (sx_filterCount u) (sx_levelNow u) (sx_compiled u) (sx_needed u) (sx_pinned u) (sx_listEnd u) (sx_wordCount u) (sx_accumulator u) (sx_dueCount u) (sx_stepCount u) (sx_listLength u) (sx_listValue u) (sx_kindOf u) (sx_partX u) (sx_partY u) (sx_filterOf u) (sx_tapCount u) (sx_taps u) (sx_outputNode u) (sx_same u) (sx_holds u) (sx_registerOf u) (sx_isSaved u) (sx_op u) (sx_into u) (sx_first u) (sx_second u) (sx_number u) (sx_wordOf u) (sx_words u) (sx_memory u) (sx_ringAt u) (sx_register u) (sx_dueRegister u) (sx_dueValue u) (sx_dueWord u) := by
  have bad : (x1 < 0 ∨ 10 < x1) → post (-100000) u := by
    intro h
    refine Kb (fun κ hκ e _ => ?_)
    subst e
    rcases h with h | h
    · exact nI_pos (by omega) h
    · have := i3_lt.mp h
      rw [nI_toInt (by omega), show (10 : Int32).toInt = 10 from by decide] at this
      omega
  unfold wX_node_26
  refine br_c (fun h => bad (Or.inl h)) (fun h => br_c (fun h' => bad (Or.inr h')) (fun h' => ?_))
  obtain ⟨κ, hκ, e⟩ := nI_of2 (x := x1) (M := 10) (n := 10) (by decide) h (Int32.not_lt.mp h')
  subst e
  refine xf_ok (u := u) hc (by omega) hκ (fun of => br_f (by decide) ?_) (fun of => br_t rfl (Kb (fun κ' hκ' e => ?_)))
  · rw [hc, nI_clamp (n := N) (by omega), sn_vb (by omega)]
    have i24 : vp_in (nI N) 24 := vp_in_nI hN (by omega)
    intro nc hnc
    rw [nI_1] at hnc
    refine ⟨i24, nm_e ⟨i24, nm_e ⟨i24, nm_e ?_⟩⟩⟩
    refine pk_eq κ 6 (fun k6 => ?_) (fun k6 => ?_)
    · have hr := h6 (by rw [k6]; rfl)
      have : nd_in 4 x3 := by unfold of_ok of_2 at of; rw [if_neg (by omega), if_neg (by omega), if_neg (by omega), if_neg (by omega), if_pos k6] at of; exact of.2
      obtain ⟨l, hl, e⟩ := this
      subst e
      obtain ⟨L, L0, L6, eL⟩ := hln l hl
      refine xk_ok (u := xn_T u nc N κ x2 (nI l) (sx_filterCount u) (sx_filterOf u) (sx_tapCount u) (sx_taps u)) (n := N) (l := l) (f := rk (sg_of u) N) (L := L) hN hl hr L6 hfc eL ?_
      exact x103 (w := xn_T u nc N κ x2 (nI l) (nI (rk (sg_of u) N + 1)) (upd (sx_filterOf u) N (nI (rk (sg_of u) N))) (upd (sx_tapCount u) (rk (sg_of u) N) (nI L)) (tz (rk (sg_of u) N) l (sx_listValue u) L (sx_taps u))) (fun M G m0 m1 hM hG => Kg nc κ _ _ _ _ L l M G hnc hκ rfl of ⟨fun _ => ⟨hl, rfl, L0, L6, eL, hr, rfl, rfl, rfl, rfl⟩, fun z => absurd k6 z⟩ m0 m1 hM hG)
    · exact x103 (w := xn_T u nc N κ x2 x3 (sx_filterCount u) (sx_filterOf u) (sx_tapCount u) (sx_taps u)) (fun M G m0 m1 hM hG => Kg nc κ _ _ _ _ 0 0 M G hnc hκ rfl of ⟨fun z => absurd z k6, fun _ => ⟨rfl, rfl, rfl, rfl⟩⟩ m0 m1 hM hG)
  · have : κ' = κ := sn_inj (by omega) (by omega) e.symm
    subst this
    exact of
theorem y26 {v : SY} {N : Nat} {post : Int32 → SY → Prop} {x1 x2 x3 : Int32} (hc : sy_n v = nI N) (hN : N < 24) (hs : ∀ i, smp (sy_past v i))
    (Kb : (∀ κ, κ ≤ 10 → x1 = nI κ → ¬ of_ok N κ x2 x3) → post (-100000) v)
    (Kg : ∀ (κ : Nat), κ ≤ 10 → x1 = nI κ → of_ok N κ x2 x3 → ∃ L l, (κ = 6 → l < 4 ∧ x3 = nI l ∧ L ≤ 6 ∧ sy_size v l = nI L) ∧ ∀ nc pa, nc = nI (N + 1) → (∀ i, i < 144 → pa i = 0) → (∀ i, smp (pa i)) → post (nI N) (yn_T v nc N κ x2 x3 (kz N (kw κ l L (sy_coefficients v)) 6 (sy_kept v)) pa)) : wY_node_26 post x1 x2 x3 (sy_n v) (sy_steps v) (sy_size v) (sy_coefficients v) (sy_kind v) (sy_px v) (sy_py v) (sy_kept v) (sy_past v) (sy_now v) (sy_before v) (sy_outputs v) (sy_inputs v) := by
  have bad : (x1 < 0 ∨ 10 < x1) → post (-100000) v := by
    intro h
    refine Kb (fun κ hκ e _ => ?_)
    subst e
    rcases h with h | h
    · exact nI_pos (by omega) h
    · have := i3_lt.mp h
      rw [nI_toInt (by omega), show (10 : Int32).toInt = 10 from by decide] at this
      omega
  unfold wY_node_26
  refine yi_ok (fun h h' => br_f (by decide) ?_) (fun h => br_t rfl (bad h))
  obtain ⟨κ, hκ, e⟩ := nI_of2 (x := x1) (M := 10) (n := 10) (by decide) h (Int32.not_lt.mp h')
  subst e
  refine yf_ok (v := v) hc (by omega) hκ (fun of => br_f (by decide) ?_) (fun of => br_t rfl (Kb (fun κ' hκ' e => ?_)))
  · obtain ⟨L, l, h6, K⟩ := Kg κ hκ rfl of
    have i24 : vp_in (nI N) 24 := vp_in_nI hN (by omega)
    rw [hc, nI_clamp (n := N) (by omega)]
    refine ⟨i24, nm_e ⟨i24, nm_e ⟨i24, nm_e ⟨7, ?_⟩⟩⟩⟩
    exact yk_83 (v := (sy_n v, sy_steps v, sy_size v, sy_coefficients v, upd (sy_kind v) N (nI κ), upd (sy_px v) N x2, upd (sy_py v) N x3, sy_kept v, sy_past v, sy_now v, sy_before v, sy_outputs v, sy_inputs v)) (l := l) (L := L) hN hκ h6 hs (fun nc pa hnc hp hsm => K nc pa hnc hp hsm) 6 0 (by omega) 7 (by omega)
  · have : κ' = κ := sn_inj (by omega) (by omega) e.symm
    subst this
    exact of
theorem nd_S {u : SX} {v : SY} {N κ : Nat} {nc nc' x y fc : Int32} {fo tc tp : Nat → Int32} {L l : Nat} {pa : Nat → Int32} (S : rl_S u v N) (hN : N < 24) (hκ : κ ≤ 10) (of : of_ok N κ x y) (F : nf_P u N κ y fc fo tc tp L l) (hco : sy_coefficients v = sx_listValue u) (hnc : nc = nI (N + 1)) (hnc' : nc' = nI (N + 1)) :
    rl_S (xn_T u nc N κ x y fc fo tc tp) (yn_T v nc' N κ x y (kz N (kw κ l L (sy_coefficients v)) 6 (sy_kept v)) pa) (N + 1) := by
  obtain ⟨s1, s2, s3, s4, s5, s6, s7, s8, s9, s10, s11⟩ := S
  have E : nw_E (sg_of u) (sg_of (xn_T u nc N κ x y fc fo tc tp)) N κ L x y := by
    refine ⟨rfl, rfl, rfl, fun k6 => ?_, fun k6 => ?_⟩
    · obtain ⟨f1, f2, f3, f4, f5, f6, f7, f8, f9, f10⟩ := F.1 k6
      exact ⟨f6, f8, f3, f4, f9⟩
    · obtain ⟨f1, f2, f3, f4⟩ := F.2 k6
      exact ⟨f2, f3⟩
  have B := nw_k E hκ
  refine ⟨nw_so s1 hN hκ of E, hnc, hnc', ?_, ?_, ?_, ?_, s8, ?_, nw_sv hκ of E s10, ?_⟩
  · show fc = nI (rk (sg_of (xn_T u nc N κ x y fc fo tc tp)) N + (if kn (sg_of (xn_T u nc N κ x y fc fo tc tp)) N = 6 then 1 else 0))
    rw [B.2.2.2.2.2 N (Nat.le_refl _), B.2.1]
    by_cases k6 : κ = 6
    · rw [if_pos k6]; exact (F.1 k6).2.2.2.2.2.2.1
    · rw [if_neg k6]; exact (F.2 k6).1.trans s4
  · show upd (sy_kind v) N (nI κ) = upd (sx_kindOf u) N (nI κ)
    rw [s5]
  · show upd (sy_px v) N x = upd (sx_partX u) N x
    rw [s6]
  · show upd (sy_py v) N y = upd (sx_partY u) N y
    rw [s7]
  · intro o ho
    rcases s9 o ho with e | ⟨q, hq, e⟩
    · exact Or.inl e
    · exact Or.inr ⟨q, by omega, e⟩
  · refine nw_tp (l := l) (co := sy_coefficients v) s1 hκ E (fun k6 => ?_) (fun k6 => (F.2 k6).2.2.2) s11
    rw [hco]
    exact (F.1 k6).2.2.2.2.2.2.2.2.2
theorem kw_s {κ l L : Nat} {co : Nat → Int32} (h : ∀ i, smp (co i)) : ∀ k, smp (kw κ l L co k) := by
  intro k
  unfold kw
  split
  · exact h _
  · exact sm_0
theorem ch_S {w : SX} {z : SY} {N : Nat} {M G : Nat → Int32} (h : rl_S w z N) : rl_S (ch_T w M G) z N := h
theorem ch_L {w : SX} {z : SY} {M G : Nat → Int32} (h : rl_L w z) : rl_L (ch_T w M G) z := h
theorem ch_R {k N : Nat} {w : SX} {z : SY} {M G : Nat → Int32} (S : rl_S w z N) (hL : rl_L w z) (hlv : ∃ lv, lv ≤ 2 ∧ sx_levelNow w = nI lv) (e0 : sy_steps z = nI 0)
    (m0 : M 0 = sy_inputs z 0) (m1 : M 1 = sy_inputs z 1) (i0 : smp (sy_inputs z 0)) (i1 : smp (sy_inputs z 1)) (n1 : ∀ i, smp (sy_now z i)) (n2 : ∀ i, smp (sy_before z i)) (n3 : ∀ i, smp (sy_past z i))
    (hM : ∀ i, 2 ≤ i → i < 96 → M i = 0) (hG : ∀ f, f < 4 → G f = 0) (hp : ∀ i, i < 144 → sy_past z i = 0) : i_Rel k (ch_T w M G) z := by
  have S1 := S.1
  exact ⟨N, 0, ch_S S, ch_L hL, ⟨rfl, e0, Nat.zero_le _, hlv, gv_0 hG, m0, m1, i0, i1, n1, n2, n3, dn_0 S1 hM hp⟩, Or.inl rfl⟩
theorem xn_L {u : SX} {v : SY} {N κ : Nat} {nc nc' x y fc : Int32} {fo tc tp kp pa : Nat → Int32} (h : rl_L u v) (hk : ∀ i, smp (kp i)) : rl_L (xn_T u nc N κ x y fc fo tc tp) (yn_T v nc' N κ x y kp pa) := by
  obtain ⟨l1, l2, l3, l4, l5⟩ := h
  exact ⟨l1, l2, l3, l4, hk⟩
theorem yn_i {v : SY} {N κ : Nat} {nc' x y : Int32} {kp pa : Nat → Int32} : sy_inputs (yn_T v nc' N κ x y kp pa) = sy_inputs v := rfl
theorem yn_n {v : SY} {N κ : Nat} {nc' x y : Int32} {kp pa : Nat → Int32} : sy_now (yn_T v nc' N κ x y kp pa) = sy_now v := rfl
theorem yn_b {v : SY} {N κ : Nat} {nc' x y : Int32} {kp pa : Nat → Int32} : sy_before (yn_T v nc' N κ x y kp pa) = sy_before v := rfl
theorem yn_p {v : SY} {N κ : Nat} {nc' x y : Int32} {kp pa : Nat → Int32} : sy_past (yn_T v nc' N κ x y kp pa) = pa := rfl
theorem yn_s {v : SY} {N κ : Nat} {nc' x y : Int32} {kp pa : Nat → Int32} : sy_steps (yn_T v nc' N κ x y kp pa) = 0 := rfl
theorem xn_v {u : SX} {N κ : Nat} {nc x y fc : Int32} {fo tc tp : Nat → Int32} : sx_levelNow (xn_T u nc N κ x y fc fo tc tp) = sx_levelNow u := rfl
theorem nd_rel {k : Nat} {u : SX} {v : SY} {N κ : Nat} {nc nc' x y fc : Int32} {fo tc tp : Nat → Int32} {L l s : Nat} {M G pa : Nat → Int32} (S : rl_S u v N) (hL : rl_L u v) (D : rl_D k u v N s) (hN : N < 24) (hκ : κ ≤ 10) (of : of_ok N κ x y) (F : nf_P u N κ y fc fo tc tp L l)
    (m0 : M 0 = sx_memory u 0) (m1 : M 1 = sx_memory u 1) (hM : ∀ i, 2 ≤ i → i < 96 → M i = 0) (hG : ∀ f, f < 4 → G f = 0) (hp : ∀ i, i < 144 → pa i = 0) (hsm : ∀ i, smp (pa i)) (hnc : nc = nI (N + 1)) (hnc' : nc' = nI (N + 1)) :
    i_Rel (k + 4) (ch_T (xn_T u nc N κ x y fc fo tc tp) M G) (yn_T v nc' N κ x y (kz N (kw κ l L (sy_coefficients v)) 6 (sy_kept v)) pa) := by
  obtain ⟨d1, d2, d3, d4, d5, d6, d7, d8, d9, d10, d11, d12, d13⟩ := D
  have S' := nd_S (pa := pa) S hN hκ of F hL.2.1 hnc hnc'
  have hkp : ∀ i, smp (kz N (kw κ l L (sy_coefficients v)) 6 (sy_kept v) i) := kz_s N _ _ (kw_s (by rw [hL.2.1]; exact hL.2.2.2.1)) hL.2.2.2.2 6
  generalize kz N (kw κ l L (sy_coefficients v)) 6 (sy_kept v) = kp at S' hkp ⊢
  have L' : rl_L (xn_T u nc N κ x y fc fo tc tp) (yn_T v nc' N κ x y kp pa) := xn_L hL hkp
  refine ch_R S' L' ?_ ?_ ?_ ?_ ?_ ?_ ?_ ?_ ?_ hM hG ?_
  · rw [xn_v]; exact d4
  · rw [yn_s]; rfl
  · rw [yn_i]; exact m0.trans d6
  · rw [yn_i]; exact m1.trans d7
  · rw [yn_i]; exact d8
  · rw [yn_i]; exact d9
  · rw [yn_n]; exact d10
  · rw [yn_b]; exact d11
  · rw [yn_p]; exact hsm
  · rw [yn_p]; exact hp
end
section
theorem i_vc_node {k : Nat} {u : SX} {v : SY} (I : i_Rel k u v) (hk : k + 4 ≤ 2048) (v1 : Int32) (v2 : Int32) (v3 : Int32) : wpX_node (fun r u' => wpY_node (fun r' v' => r' = r ∧ i_Rel (k + 4) u' v') v v1 v2 v3) u v1 v2 v3 := by
  have I' := i_up I
  obtain ⟨N, s, S, L, D, C⟩ := I
  have S0 := S
  obtain ⟨s1, s2, s3, s4, s5, s6, s7, s8, s9, s10, s11⟩ := S
  have hN := s1.1
  have hr4 := s1.2.2
  have yN : ∀ {post : Int32 → SY → Prop}, N < 24 → (v1 = 6 → rk (sg_of u) N < 4) → wY_node_26 post v1 v2 v3 (sy_n v) (sy_steps v) (sy_size v) (sy_coefficients v) (sy_kind v) (sy_px v) (sy_py v) (sy_kept v) (sy_past v) (sy_now v) (sy_before v) (sy_outputs v) (sy_inputs v) → wpY_node post v v1 v2 v3 := by
    intro post h24 h6 h
    show wpY_node post (sy_n v, sy_steps v, sy_size v, sy_coefficients v, sy_kind v, sy_px v, sy_py v, sy_kept v, sy_past v, sy_now v, sy_before v, sy_outputs v, sy_inputs v) v1 v2 v3
    unfold wpY_node
    refine br_f (by rw [s3]; exact fun z => by have := sn_inj (a := N) (b := 24) (by omega) (by omega) z; omega) (br_c (fun z => ?_) (fun _ => h))
    refine yc_ok (u := u) (v := v) s1 s3 s5 (br_f (fun z' => ?_) h)
    have := sn_inj (a := rk (sg_of u) N) (b := 4) (by omega) (by omega) z'
    have := h6 z
    omega
  have yF : ∀ {post : Int32 → SY → Prop}, (N = 24 ∨ (v1 = 6 ∧ rk (sg_of u) N = 4)) → post (-100001) v → wpY_node post v v1 v2 v3 := by
    intro post h hp
    show wpY_node post (sy_n v, sy_steps v, sy_size v, sy_coefficients v, sy_kind v, sy_px v, sy_py v, sy_kept v, sy_past v, sy_now v, sy_before v, sy_outputs v, sy_inputs v) v1 v2 v3
    unfold wpY_node
    refine br_c (fun _ => hp) (fun h24 => ?_)
    rcases h with h | ⟨e6, e4⟩
    · exact absurd (by rw [s3, h]; rfl) h24
    · refine br_t e6 (yc_ok (u := u) (v := v) s1 s3 s5 (br_t (by rw [e4]; rfl) hp))
  have main : N < 24 → (v1 = 6 → rk (sg_of u) N < 4) → wX_node_26 (fun r u' => wpY_node (fun r' v' => r' = r ∧ i_Rel (k + 4) u' v') v v1 v2 v3) v1 v2 v3 (sx_nodeCount u) (sx_filterCount u) (sx_levelNow u) (sx_compiled u) (sx_needed u) (sx_pinned u) (sx_listEnd u) (sx_wordCount u) (sx_accumulator u) (sx_dueCount u) (sx_stepCount u) (sx_listLength u) (sx_listValue u) (sx_kindOf u) (sx_partX u) (sx_partY u) (sx_filterOf u) (sx_tapCount u) (sx_taps u) (sx_outputNode u) (sx_same u) (sx_holds u) (sx_registerOf u) (sx_isSaved u) (sx_op u) (sx_into u) (sx_first u) (sx_second u) (sx_number u) (sx_wordOf u) (sx_words u) (sx_memory u) (sx_ringAt u) (sx_register u) (sx_dueRegister u) (sx_dueValue u) (sx_dueWord u) := by
    intro h24 h6
    have hp := D.2.2.2.2.2.2.2.2.2.2.2.1
    refine x26 (u := u) s2 h24 s4 h6 L.2.2.1 (fun hb => yN h24 h6 (y26 (v := v) s3 h24 hp (fun _ => ⟨rfl, I'⟩) (fun κ hκ e of => absurd of (hb κ hκ e)))) ?_
    intro nc κ fc fo tc tp L' l M G hnc hκ e of F m0 m1 hM hG
    refine yN h24 h6 (y26 (v := v) s3 h24 hp (fun hb => absurd of (hb κ hκ e)) (fun κ' hκ' e' of' => ?_))
    have : κ' = κ := sn_inj (by omega) (by omega) (e'.symm.trans e)
    subst this
    refine ⟨L', l, fun k6 => ?_, fun nc' pa hnc' hpa hsm => ⟨rfl, nd_rel S0 L D h24 hκ of F m0 m1 hM hG hpa hsm hnc hnc'⟩⟩
    obtain ⟨f1, f2, f3, f4, f5, _⟩ := F.1 k6
    exact ⟨f1, f2, f4, by rw [L.1]; exact f5⟩
  show wpX_node _ (sx_nodeCount u, sx_filterCount u, sx_levelNow u, sx_compiled u, sx_needed u, sx_pinned u, sx_listEnd u, sx_wordCount u, sx_accumulator u, sx_dueCount u, sx_stepCount u, sx_listLength u, sx_listValue u, sx_kindOf u, sx_partX u, sx_partY u, sx_filterOf u, sx_tapCount u, sx_taps u, sx_outputNode u, sx_same u, sx_holds u, sx_registerOf u, sx_isSaved u, sx_op u, sx_into u, sx_first u, sx_second u, sx_number u, sx_wordOf u, sx_words u, sx_memory u, sx_ringAt u, sx_register u, sx_dueRegister u, sx_dueValue u, sx_dueWord u) v1 v2 v3
  unfold wpX_node
  refine br_c (fun h => ?_) (fun h => ?_)
  · refine yF (Or.inl ?_) ⟨rfl, I'⟩
    rw [s2] at h
    have h' := i3_le.mp h
    rw [nI_toInt (by omega), show (24 : Int32).toInt = 24 from by decide] at h'
    omega
  · have h24 : N < 24 := by
      rcases Nat.lt_or_ge N 24 with z | z
      · exact z
      · exact absurd (by rw [s2]; exact nI_le (a := 24) z (by omega)) h
    refine br_c (fun e6 => br_c (fun hf => main h24 (fun _ => ?_)) (fun hf => yF (Or.inr ⟨e6, ?_⟩) ⟨rfl, I'⟩)) (fun e6 => main h24 (fun z => absurd z e6))
    · rw [s4] at hf
      have h' := i3_lt.mp hf
      rw [nI_toInt (by omega), show (4 : Int32).toInt = 4 from by decide] at h'
      omega
    · rcases Nat.lt_or_ge (rk (sg_of u) N) 4 with z | z
      · exact absurd (by rw [s4]; exact nI_lt (b := 4) z (by omega)) hf
      · omega
end
section
/-! ===== arithmetic of samples ===== -/
theorem i6_s (z : Int32) : (z >>> ((15 : Int32) &&& 31)).toInt64 = z.toInt64 >>> ((15 : Int32).toInt64 &&& 63) := by
  apply Int64.toInt_inj.mp
  have hD : (((15 : Int32).toInt64 &&& 63).toBitVec.smod 64).toNat = 15 := by decide
  have e : (z.toInt64 >>> ((15 : Int32).toInt64 &&& 63)).toInt = z.toInt64.toInt >>> 15 := by
    show (z.toInt64.toBitVec.sshiftRight (((15 : Int32).toInt64 &&& 63).toBitVec.smod 64).toNat).toInt = _
    rw [hD, BitVec.toInt_sshiftRight]
    rfl
  rw [Int32.toInt_toInt64, pk_shr z _ 15 (by decide), e, Int32.toInt_toInt64]
theorem i6_b {a b : Int} (ha : -32768 ≤ a ∧ a ≤ 32767) (hb : -32768 ≤ b ∧ b ≤ 32767) : -1073741824 ≤ a * b ∧ a * b ≤ 1073741824 := by
  have h1 : (a * b).natAbs = a.natAbs * b.natAbs := Int.natAbs_mul a b
  have h2 : a.natAbs * b.natAbs ≤ 32768 * 32768 := Nat.mul_le_mul (by omega) (by omega)
  omega
theorem i6_m {a b : Int32} (ha : smp a) (hb : smp b) : (a * b).toInt64 = a.toInt64 * b.toInt64 := by
  have h := i6_b ha hb
  apply Int64.toInt_inj.mp
  rw [Int32.toInt_toInt64, Int32.toInt_mul, Int64.toInt_mul, Int32.toInt_toInt64, Int32.toInt_toInt64, Int.bmod_eq_of_le (by omega) (by omega), Int.bmod_eq_of_le (by omega) (by omega)]
theorem cl_s (p : Int64) : smp (cl_v p) := by
  unfold cl_v smp
  by_cases h1 : -32768 ≤ p
  · rw [if_pos h1]
    by_cases h2 : p ≤ 32767
    · rw [if_pos h2]
      have a := Int64.le_iff_toInt_le.mp h1
      have b := Int64.le_iff_toInt_le.mp h2
      rw [show (-32768 : Int64).toInt = -32768 from by decide] at a
      rw [show (32767 : Int64).toInt = 32767 from by decide] at b
      rw [Int64.toInt_toInt32, Int.bmod_eq_of_le (by omega) (by omega)]
      omega
    · rw [if_neg h2]; decide
  · rw [if_neg h1]; decide
theorem yp_ok {v : SY} {post : Int32 → Prop} {p : Int64} (h : post (cl_v p)) : wpY_clip post v p := by
  unfold wpY_clip
  unfold cl_v at h
  by_cases h1 : -32768 ≤ p
  · rw [if_pos h1] at h
    refine br_t h1 ?_
    by_cases h2 : p ≤ 32767
    · rw [if_pos h2] at h; exact br_t h2 h
    · rw [if_neg h2] at h; exact br_f h2 h
  · rw [if_neg h1] at h; exact br_f h1 h
theorem yd_ok {v : SY} {post : Int32 → Prop} {x y : Int32} (h : post (ca_v 10 y x y 0)) : wpY_product post v x y := by
  show wpY_product post (sy_n v, sy_steps v, sy_size v, sy_coefficients v, sy_kind v, sy_px v, sy_py v, sy_kept v, sy_past v, sy_now v, sy_before v, sy_outputs v, sy_inputs v) x y
  unfold wpY_product
  refine yp_ok ?_
  rw [cv_10, i6_s] at h
  exact h
/-! ===== a ring and what came before ===== -/
theorem md_0 {a l : Nat} (h : a < l) : (a + l) % l = a := by rw [Nat.add_mod_right, Nat.mod_eq_of_lt h]
theorem md_j {a l j : Nat} (h : a < l) (hj : 0 < j) (hjl : j < l) (h6 : l ≤ 6) : (a + l - j) % l ≠ a := by
  have : l = 1 ∨ l = 2 ∨ l = 3 ∨ l = 4 ∨ l = 5 ∨ l = 6 := by omega
  rcases this with e | e | e | e | e | e <;> subst e <;> omega
theorem md_s {a l j : Nat} (h : a < l) (hjl : j < l) (h6 : l ≤ 6) : ((a + 1) % l + l - 1 - j) % l = (a + l - j) % l := by
  have : l = 1 ∨ l = 2 ∨ l = 3 ∨ l = 4 ∨ l = 5 ∨ l = 6 := by omega
  rcases this with e | e | e | e | e | e <;> subst e <;> omega
/-- the ring with the new value reads as what came before, moved by one -/
theorem ft_hj {tc M G pa pa' : Nat → Int32} {n f l a : Nat} {x : Int32} (hf : f < 4) (h0 : 0 < l) (h6 : l ≤ 6) (ha : a < l) (ht : tc f = nI l) (hG : G f = nI a) (hr : hr_ok tc M G pa n f) (p0 : pa' (6 * n) = x) (pj : ∀ j, j < 5 → pa' (6 * n + j + 1) = pa (6 * n + j)) :
    ∀ j, j < l → ft_h tc M G f x j = pa' (6 * n + j) := by
  intro j hj
  unfold ft_h
  have e0 : rp_a tc G (nI (8 * f)) = 32 + 8 * f + (a + l - 0) % l := rp_ev (k := 0) hf h0 h6 ht ha hG
  rw [e0, rp_ev hf hj h6 ht ha hG, show a + l - 0 = a + l from rfl, md_0 ha]
  by_cases e : j = 0
  · subst e
    rw [show a + l - 0 = a + l from rfl, md_0 ha, pk_us]
    exact p0.symm
  · have hne := md_j ha (by omega : 0 < j) hj h6
    rw [pk_un (by omega)]
    obtain ⟨i, rfl⟩ : ∃ i, j = i + 1 := ⟨j - 1, by omega⟩
    rw [show 6 * n + (i + 1) = 6 * n + i + 1 from rfl, pj i (by omega), hr l a h0 h6 ha ht hG i (by omega)]
    rw [show a + l - 1 - i = a + l - (i + 1) by omega]
def ys_s (pa kp : Nat → Int32) (n : Nat) : Nat → Int64
  | 0 => 16384
  | j + 1 => ys_s pa kp n j + (pa (6 * n + j)).toInt64 * (kp (6 * n + j)).toInt64
theorem ys_e {tc tp M G pa kp : Nat → Int32} {n f l : Nat} {x : Int32} (h6 : l ≤ 6) (hh : ∀ j, j < l → ft_h tc M G f x j = pa (6 * n + j)) (hk : ∀ j, j < 6 → kp (6 * n + j) = if j < l then tp (6 * f + j) else 0) (sp : ∀ i, smp (pa i)) (sk : ∀ i, smp (kp i)) :
    ys_s pa kp n 6 = ft_a tc tp M G f x l + 16384 := by
  have A : ∀ j, j ≤ l → ys_s pa kp n j = ft_a tc tp M G f x j + 16384 := by
    intro j
    induction j with
    | zero => intro _; show (16384 : Int64) = 0 + 16384; rw [Int64.zero_add]
    | succ j ih =>
      intro hj
      show ys_s pa kp n j + (pa (6 * n + j)).toInt64 * (kp (6 * n + j)).toInt64 = ft_a tc tp M G f x j + (ft_h tc M G f x j * tp (6 * f + j)).toInt64 + 16384
      have e2 : kp (6 * n + j) = tp (6 * f + j) := by rw [hk j (by omega), if_pos (by omega)]
      rw [ih (by omega), hh j (by omega), ← e2, i6_m (sp _) (sk _), Int64.add_assoc, Int64.add_assoc, Int64.add_comm 16384]
  have B : ∀ d j, j = l + d → j ≤ 6 → ys_s pa kp n j = ys_s pa kp n l := by
    intro d
    induction d with
    | zero => intro j hj _; rw [hj]; rfl
    | succ d ih =>
      intro j hj h6'
      subst hj
      show ys_s pa kp n (l + d) + (pa (6 * n + (l + d))).toInt64 * (kp (6 * n + (l + d))).toInt64 = _
      rw [hk (l + d) (by omega), if_neg (by omega), ih (l + d) rfl (by omega), show (0 : Int32).toInt64 = 0 from by decide, Int64.mul_zero, Int64.add_zero]
  rw [B (6 - l) 6 (by omega) (by omega), A l (Nat.le_refl _)]
end
section
/-! ===== the reference's node ===== -/
section
variable {w : SY}
theorem y67 {post : Int32 → SY → Prop} {n : Nat} (hn : n < 24) (K : post (cl_v (ys_s (sy_past w) (sy_kept w) n 6 >>> ((15 : Int32).toInt64 &&& 63))) w) :
    ∀ (d j : Nat), j + d = 6 → ∀ f, d < f → wY_filter_67 post (nI n) (sy_n w) (sy_steps w) (sy_size w) (sy_coefficients w) (sy_kind w) (sy_px w) (sy_py w) (sy_kept w) (sy_past w) (sy_now w) (sy_before w) (sy_outputs w) (sy_inputs w) f (ys_s (sy_past w) (sy_kept w) n j) (nI j) := by
  intro d
  induction d with
  | zero =>
    intro j hj f hf
    obtain ⟨f, rfl⟩ : ∃ m, f = m + 1 := ⟨f - 1, by omega⟩
    have : j = 6 := by omega
    subst this
    rw [wY_filter_67]
    exact br_t (nI_le (a := 6) (by omega) (by omega)) (yp_ok K)
  | succ d ih =>
    intro j hj f hf
    obtain ⟨f, rfl⟩ : ∃ m, f = m + 1 := ⟨f - 1, by omega⟩
    rw [wY_filter_67]
    refine br_f (nI_ge (b := 6) (by omega) (by omega)) ?_
    rw [ix6, nI_clamp (n := 6 * n + j) (by omega)]
    exact ⟨vp_in_nI (by omega) (by omega), vp_in_nI (by omega) (by omega), nm_r (e' := ys_s (sy_past w) (sy_kept w) n (j + 1)) rfl (nm_r (e' := nI (j + 1)) (nI_1 _) (ih (j + 1) (by omega) f (by omega)))⟩
/-- what came before, moved by one -/
def pm_ok (pa0 pa : Nat → Int32) (n j : Nat) : Prop :=
  (∀ i, j ≤ i → i < 5 → pa (6 * n + i + 1) = pa0 (6 * n + i)) ∧ (∀ i, i ≤ j → pa (6 * n + i) = pa0 (6 * n + i)) ∧ (∀ i, (i < 6 * n ∨ 6 * n + 6 ≤ i) → pa i = pa0 i) ∧ (∀ i, smp (pa i))
def pf_ok (pa0 pa nw : Nat → Int32) (n x : Nat) : Prop :=
  pa (6 * n) = nw x ∧ (∀ j, j < 5 → pa (6 * n + j + 1) = pa0 (6 * n + j)) ∧ (∀ i, (i < 6 * n ∨ 6 * n + 6 ≤ i) → pa i = pa0 i) ∧ (∀ i, smp (pa i))
theorem y7 {post : Int32 → SY → Prop} {n x : Nat} (hn : n < 24) (hx : x < 24) (ex : sy_px w n = nI x) (hnw : ∀ i, smp (sy_now w i))
    (K : ∀ pa, pf_ok (sy_past w) pa (sy_now w) n x → post (cl_v (ys_s pa (sy_kept w) n 6 >>> ((15 : Int32).toInt64 &&& 63))) (sy_n w, sy_steps w, sy_size w, sy_coefficients w, sy_kind w, sy_px w, sy_py w, sy_kept w, pa, sy_now w, sy_before w, sy_outputs w, sy_inputs w)) :
    ∀ (j : Nat) (pa : Nat → Int32), j ≤ 5 → pm_ok (sy_past w) pa n j → ∀ f, j < f → wY_filter_7 post (nI n) 16384 (sy_n w) (sy_steps w) f (nI j) (sy_size w) (sy_coefficients w) (sy_kind w) (sy_px w) (sy_py w) (sy_kept w) (pa) (sy_now w) (sy_before w) (sy_outputs w) (sy_inputs w) := by
  intro j
  induction j with
  | zero =>
    intro pa hj P f hf
    obtain ⟨f, rfl⟩ : ∃ m, f = m + 1 := ⟨f - 1, by omega⟩
    obtain ⟨p1, p2, p3, p4⟩ := P
    rw [wY_filter_7]
    refine br_t (by decide) ?_
    rw [nI_clamp (n := n) (by omega), ex, nI_clamp (n := x) (by omega), show (6 : Int32) * nI n = nI (6 * n) from pk_mul 6 n, nI_clamp (n := 6 * n) (by omega)]
    refine ⟨vp_in_nI (by omega) (by omega), vp_in_nI (by omega) (by omega), vp_in_nI (by omega) (by omega), nm_e ⟨7, ?_⟩⟩
    refine y67 (w := (sy_n w, sy_steps w, sy_size w, sy_coefficients w, sy_kind w, sy_px w, sy_py w, sy_kept w, upd pa (6 * n) (sy_now w x), sy_now w, sy_before w, sy_outputs w, sy_inputs w)) hn (K _ ⟨pk_us, fun j hj' => ?_, fun i hi => ?_, fun i => ?_⟩) 6 0 (by omega) 7 (by omega)
    · rw [pk_un (by omega)]; exact p1 j (by omega) hj'
    · rw [pk_un (by omega)]; exact p3 i hi
    · by_cases e : i = 6 * n
      · subst e; rw [pk_us]; exact hnw x
      · rw [pk_un e]; exact p4 i
  | succ j ih =>
    intro pa hj P f hf
    obtain ⟨f, rfl⟩ : ∃ m, f = m + 1 := ⟨f - 1, by omega⟩
    obtain ⟨p1, p2, p3, p4⟩ := P
    rw [wY_filter_7]
    refine br_f (nI_nle (by omega) (by omega)) ?_
    have e1 : (6 * nI n) + nI (j + 1) - 1 = nI (6 * n + j) := by rw [ix6, show 6 * n + (j + 1) = 6 * n + j + 1 from rfl, nI_pred]
    rw [e1, ix6, nI_clamp (n := 6 * n + j) (by omega), nI_clamp (n := 6 * n + (j + 1)) (by omega)]
    refine ⟨vp_in_nI (by omega) (by omega), vp_in_nI (by omega) (by omega), nm_e (nm_r (e' := nI j) (pk_m1 j) ?_)⟩
    refine ih _ (by omega) ⟨fun i h1 h2 => ?_, fun i h1 => ?_, fun i hi => ?_, fun i => ?_⟩ f (by omega)
    · by_cases e : i = j
      · subst e
        show upd pa (6 * n + (i + 1)) (pa (6 * n + i)) (6 * n + (i + 1)) = _
        rw [pk_us]
        exact p2 i (by omega)
      · rw [pk_un (by omega)]; exact p1 i (by omega) h2
    · rw [pk_un (by omega)]; exact p2 i (by omega)
    · rw [pk_un (by omega)]; exact p3 i hi
    · by_cases e : i = 6 * n + (j + 1)
      · subst e; rw [pk_us]; exact p4 _
      · rw [pk_un e]; exact p4 i
theorem yl_ok {post : Int32 → SY → Prop} {n x : Nat} (hn : n < 24) (hx : x < 24) (ex : sy_px w n = nI x) (hnw : ∀ i, smp (sy_now w i)) (hpa : ∀ i, smp (sy_past w i))
    (K : ∀ pa, pf_ok (sy_past w) pa (sy_now w) n x → post (cl_v (ys_s pa (sy_kept w) n 6 >>> ((15 : Int32).toInt64 &&& 63))) (sy_n w, sy_steps w, sy_size w, sy_coefficients w, sy_kind w, sy_px w, sy_py w, sy_kept w, pa, sy_now w, sy_before w, sy_outputs w, sy_inputs w)) : wpY_filter post w (nI n) := by
  show wpY_filter post (sy_n w, sy_steps w, sy_size w, sy_coefficients w, sy_kind w, sy_px w, sy_py w, sy_kept w, sy_past w, sy_now w, sy_before w, sy_outputs w, sy_inputs w) (nI n)
  unfold wpY_filter
  exact ⟨6, y7 hn hx ex hnw K 5 (sy_past w) (by omega) ⟨fun i h1 h2 => by omega, fun _ _ => rfl, fun _ _ => rfl, hpa⟩ 6 (by omega)⟩
/-- what a node's work leaves of the past -/
def pw_ok (g : sg_T) (pa0 pa nw : Nat → Int32) (n : Nat) : Prop := (kn g n = 6 → pf_ok pa0 pa nw n (xn g n)) ∧ (kn g n ≠ 6 → pa = pa0)
theorem mx_s {x y : Int32} (hx : smp x) (hy : smp y) : smp (if x ≤ y then y else x) := by
  by_cases h : x ≤ y
  · rw [if_pos h]; exact hy
  · rw [if_neg h]; exact hx
/-- a value that answers and is a sample -/
theorem yw_ok {g : sg_T} {ou M G : Nat → Int32} {N s n : Nat} {post : Int32 → SY → Prop} (hs : so_ok g N) (hv : vd_ok g N) (hn : n < N) (ek : sy_kind w = sg_k g) (ex : sy_px w = sg_x g) (ey : sy_py w = sg_y g) (est : sy_steps w = nI s) (hs3 : s < 2 ^ 31)
    (sv : sv_ok g n) (tp : kn g n = 6 → tp_ok g (sy_kept w) n) (sk : ∀ i, smp (sy_kept w i)) (gv : gv_ok (sg_t g) G)
    (i0 : M 0 = sy_inputs w 0) (i1 : M 1 = sy_inputs w 1) (si0 : smp (sy_inputs w 0)) (si1 : smp (sy_inputs w 1)) (snw : ∀ i, smp (sy_now w i)) (sbf : ∀ i, smp (sy_before w i)) (spa : ∀ i, smp (sy_past w i))
    (hd : kn g n = 5 → li_ok g ou N n → M (8 + n) = if s = 0 then 0 else sy_before w (xn g n))
    (hr : kn g n = 6 → li_ok g ou N n → hr_ok (sg_t g) M G (sy_past w) n (rk g n))
    (hnw : ∀ m, m < n → li_ok g ou N m → sy_now w m = vx g M G m)
    (K : ∀ (r : Int32) (pa : Nat → Int32), (li_ok g ou N n → r = vx g M G n) → smp r → pw_ok g (sy_past w) pa (sy_now w) n → (∀ i, smp (pa i)) → post r (sy_n w, sy_steps w, sy_size w, sy_coefficients w, sy_kind w, sy_px w, sy_py w, sy_kept w, pa, sy_now w, sy_before w, sy_outputs w, sy_inputs w)) : wpY_work post w (nI n) := by
  have hN := hs.1
  have s1 := hs.2.1 n hn
  have k10 := s1.2.1
  have i24 : vp_in (nI n) 24 := vp_in_nI (by omega) (by omega)
  have K0 : ∀ r, kn g n ≠ 6 → (li_ok g ou N n → r = vx g M G n) → smp r → post r w := fun r h6 h1 h2 => K r (sy_past w) h1 h2 ⟨fun z => absurd z h6, fun _ => rfl⟩ spa
  have lx : 2 ≤ kn g n → li_ok g ou N n → li_ok g ou N (xn g n) := fun h2 h S a b => (b n hn (h S a b) h2).1
  have ly : tw (kn g n) → li_ok g ou N n → li_ok g ou N (yn g n) := fun ht h S a b => (b n hn (h S a b) (by unfold tw at ht; omega)).2 ht
  have ek' : sy_kind w n = nI (kn g n) := by rw [ek]; exact s1.1
  show wpY_work post (sy_n w, sy_steps w, sy_size w, sy_coefficients w, sy_kind w, sy_px w, sy_py w, sy_kept w, sy_past w, sy_now w, sy_before w, sy_outputs w, sy_inputs w) (nI n)
  unfold wpY_work
  dsimp only
  rw [nI_clamp (n := n) (by omega), ek']
  refine ⟨i24, nm_e ?_⟩
  refine pk_eq (kn g n) 0 (fun k0 => ⟨i24, ?_⟩) (fun k0 => ?_)
  · obtain ⟨e1, e2⟩ := s1.2.2.1 k0
    have e3 : sy_px w n = nI (xn g n) := by rw [ex]; exact e1
    rw [e3, nI_clamp (n := xn g n) (by omega)]
    refine ⟨vp_in_nI e2 (by omega), K0 _ (by omega) (fun _ => ?_) ?_⟩
    · rw [vx_eq s1]
      unfold nd_v
      rw [if_pos k0]
      have : xn g n = 0 ∨ xn g n = 1 := by omega
      rcases this with h | h <;> rw [h]
      · exact i0.symm
      · exact i1.symm
    · have : xn g n = 0 ∨ xn g n = 1 := by omega
      rcases this with h | h <;> rw [h]
      · exact si0
      · exact si1
  refine pk_eq (kn g n) 1 (fun k1 => ⟨i24, ?_⟩) (fun k1 => ?_)
  · rw [show sy_px w n = sg_x g n by rw [ex]]
    refine K0 _ (by omega) (fun _ => ?_) (sv.1 k1)
    rw [vx_eq s1]
    unfold nd_v
    rw [if_neg k0, if_pos k1]
  obtain ⟨xe, x24, xlt⟩ := s1.2.2.2.1 (by omega)
  have e3 : sy_px w n = nI (xn g n) := by rw [ex]; exact xe
  refine pk_eq (kn g n) 5 (fun k5 => ?_) (fun k5 => ?_)
  · have vd : li_ok g ou N n → vx g M G n = if s = 0 then 0 else sy_before w (xn g n) := by
      intro h
      rw [vx_eq s1]
      unfold nd_v
      rw [if_neg k0, if_neg k1, if_pos k5]
      exact hd k5 h
    rw [e3, nI_clamp (n := xn g n) (by omega)]
    exact pk_eq s 0 (fun z => K0 0 (by omega) (fun h => by rw [vd h, if_pos z]) sm_0) (fun z => ⟨i24, vp_in_nI x24 (by omega), K0 _ (by omega) (fun h => by rw [vd h, if_neg z]) (sbf _)⟩) est rfl
  have hxn := xlt k5
  refine pk_eq (kn g n) 6 (fun k6 => ?_) (fun k6 => ?_)
  · obtain ⟨fe, hf, l, h0, h6, ht⟩ := s1.2.2.2.2.2 k6
    obtain ⟨a, ha, hG⟩ := gv _ l hf h0 h6 ht
    refine yl_ok (w := w) (by omega) x24 e3 snw spa (fun pa P => K _ pa (fun h => ?_) (cl_s _) ⟨fun _ => P, fun z => absurd k6 z⟩ P.2.2.2)
    rw [vx_eq s1]
    unfold nd_v
    rw [if_neg k0, if_neg k1, if_neg k5, if_pos k6]
    unfold ft_v
    rw [ht, nI_clamp (by omega)]
    have hx := hnw (xn g n) hxn (lx (by omega) h)
    rw [ys_e (x := vx g M G (xn g n)) h6 (ft_hj hf h0 h6 ha ht hG (hr k6 h) (P.1.trans hx) P.2.1) (tp k6 l ht h6) P.2.2.2 sk]
  have vn : nd_v g M G (vx g M G) n = if kn g n = 4 then ca_v 10 (sg_y g n) (vx g M G (xn g n)) (sg_y g n) 0 else ca_v (sg_k g n) (sg_y g n) (vx g M G (xn g n)) (vx g M G (yn g n)) 0 := by
    unfold nd_v
    rw [if_neg k0, if_neg k1, if_neg k5, if_neg k6]
  have eqx : li_ok g ou N n → vx g M G (xn g n) = sy_now w (xn g n) := fun h => (hnw _ hxn (lx (by omega) h)).symm
  rw [e3, nI_clamp (n := xn g n) (by omega), show sy_py w n = sg_y g n by rw [ey]]
  refine ⟨i24, vp_in_nI x24 (by omega), nm_e ⟨i24, nm_e ?_⟩⟩
  have sx := snw (xn g n)
  refine pk_eq (kn g n) 4 (fun k4 => ?_) (fun k4 => ?_)
  · refine yd_ok (v := w) (K0 _ k6 (fun h => ?_) ?_)
    · rw [vx_eq s1, vn, if_pos k4, eqx h]
    · rw [cv_10]; exact cl_s _
  rw [if_neg k4] at vn
  have ekk : sg_k g n = nI (kn g n) := s1.1
  refine pk_eq (kn g n) 7 (fun k7 => ?_) (fun k7 => ?_)
  · have e7 : li_ok g ou N n → vx g M G n = if -(sg_y g n) ≤ sy_now w (xn g n) then (if sy_now w (xn g n) ≤ sg_y g n then sy_now w (xn g n) else sg_y g n) else -(sg_y g n) := by
      intro h
      rw [vx_eq s1, vn, ekk, k7, eqx h]
      exact cv_7
    refine br_c (fun a => br_c (fun b => K0 _ k6 (fun h => by rw [e7 h, if_pos a, if_pos b]) sx) (fun b => K0 _ k6 (fun h => by rw [e7 h, if_pos a, if_neg b]) (sv.2 k7).1)) (fun a => K0 _ k6 (fun h => by rw [e7 h, if_neg a]) (sv.2 k7).2)
  refine pk_eq (kn g n) 8 (fun k8 => ?_) (fun k8 => ?_)
  · have e8 : li_ok g ou N n → vx g M G n = if 0 ≤ sy_now w (xn g n) then cl_v (sy_now w (xn g n)).toInt64 else cl_v ((-(sy_now w (xn g n))).toInt64) := by
      intro h
      rw [vx_eq s1, vn, ekk, k8, eqx h]
      exact cv_8
    refine br_c (fun a => ?_) (fun a => ?_)
    · unfold wY_work_159
      exact yp_ok (K0 _ k6 (fun h => by rw [e8 h, if_pos a]) (cl_s _))
    · unfold wY_work_159
      exact yp_ok (K0 _ k6 (fun h => by rw [e8 h, if_neg a]) (cl_s _))
  have ht : tw (kn g n) := by unfold tw; omega
  obtain ⟨ye, ylt⟩ := s1.2.2.2.2.1 ht
  have eqy : li_ok g ou N n → vx g M G (yn g n) = sy_now w (yn g n) := fun h => (hnw _ ylt (ly ht h)).symm
  rw [ye, nI_clamp (n := yn g n) (by omega)]
  refine ⟨vp_in_nI (by omega) (by omega), nm_e ?_⟩
  have sy := snw (yn g n)
  have ev : li_ok g ou N n → vx g M G n = ca_v (nI (kn g n)) (sg_y g n) (sy_now w (xn g n)) (sy_now w (yn g n)) 0 := by
    intro h
    rw [vx_eq s1, vn, ekk, eqx h, eqy h]
  refine pk_eq (kn g n) 2 (fun k2 => ?_) (fun k2 => ?_)
  · rw [k2] at ev
    exact yp_ok (K0 _ k6 (fun h => by rw [ev h]; exact cv_2.symm) (cl_s _))
  refine pk_eq (kn g n) 3 (fun k3 => ?_) (fun k3 => ?_)
  · rw [k3] at ev
    exact yp_ok (K0 _ k6 (fun h => by rw [ev h]; exact cv_3.symm) (cl_s _))
  refine pk_eq (kn g n) 9 (fun k9 => ?_) (fun k9 => ?_)
  · rw [k9] at ev
    have e9 : li_ok g ou N n → vx g M G n = if sy_now w (xn g n) ≤ sy_now w (yn g n) then sy_now w (yn g n) else sy_now w (xn g n) := fun h => (ev h).trans cv_9
    exact br_c (fun a => K0 _ k6 (fun h => by rw [e9 h, if_pos a]) sy) (fun a => K0 _ k6 (fun h => by rw [e9 h, if_neg a]) sx)
  · have k10' : kn g n = 10 := by unfold tw at ht; omega
    rw [k10'] at ev
    refine yd_ok (v := w) (K0 _ k6 (fun h => ?_) ?_)
    · rw [ev h]
      show ca_v 10 _ _ _ _ = ca_v 10 _ _ _ _
      rw [cv_10, cv_10]
    · rw [cv_10]; exact cl_s _
end
end
section
/-! ===== the reference's step ===== -/
def yh_S (g : sg_T) (N : Nat) (v : SY) : Prop :=
  so_ok g N ∧ vd_ok g N ∧ sy_n v = nI N ∧ sy_kind v = sg_k g ∧ sy_px v = sg_x g ∧ sy_py v = sg_y g ∧ (∀ n, n < N → sv_ok g n) ∧ (∀ n, n < N → kn g n = 6 → tp_ok g (sy_kept v) n) ∧ (∀ i, smp (sy_kept v i)) ∧ smp (sy_inputs v 0) ∧ smp (sy_inputs v 1)
def yh_D (g : sg_T) (ou M G : Nat → Int32) (N s : Nat) (v : SY) : Prop :=
  gv_ok (sg_t g) G ∧ M 0 = sy_inputs v 0 ∧ M 1 = sy_inputs v 1 ∧ sy_steps v = nI s ∧ s < 1000000 ∧ (∀ i, smp (sy_now v i)) ∧ (∀ i, smp (sy_before v i)) ∧ (∀ i, smp (sy_past v i)) ∧ dn_ok g ou M G N s (sy_now v) (sy_before v) (sy_past v)
def yI (g : sg_T) (ou M G : Nat → Int32) (N : Nat) (pa0 : Nat → Int32) (k : Nat) (nw pa : Nat → Int32) : Prop :=
  (∀ m, m < k → li_ok g ou N m → nw m = vx g M G m) ∧ (∀ i, smp (nw i)) ∧ (∀ i, smp (pa i)) ∧ (∀ m, k ≤ m → m < N → ∀ j, j < 6 → pa (6 * m + j) = pa0 (6 * m + j)) ∧
  (∀ m, m < k → kn g m = 6 → pa (6 * m) = nw (xn g m) ∧ ∀ j, j < 5 → pa (6 * m + j + 1) = pa0 (6 * m + j))
def yq_T (v : SY) (st : Int32) (pa nw bf : Nat → Int32) : SY := (sy_n v, st, sy_size v, sy_coefficients v, sy_kind v, sy_px v, sy_py v, sy_kept v, pa, nw, bf, sy_outputs v, sy_inputs v)
section
variable {g : sg_T} {ou M G : Nat → Int32} {N s : Nat} {v : SY} {post : SY → Prop}
theorem y29 (hn : sy_n v = nI N) (hN : N ≤ 24) {nw pa : Nat → Int32} (sn : ∀ i, smp (nw i))
    (K : ∀ bf st, st = sy_steps v + 1 → (∀ m, m < N → bf m = nw m) → (∀ i, smp (bf i)) → post (yq_T v st pa nw bf)) :
    ∀ (d k : Nat) (bf : Nat → Int32), k + d = N → (∀ m, m < k → bf m = nw m) → (∀ i, smp (bf i)) → ∀ f, d < f → wY_step_29 post (sy_n v) (sy_steps v) f (nI k) (sy_size v) (sy_coefficients v) (sy_kind v) (sy_px v) (sy_py v) (sy_kept v) (pa) (nw) (bf) (sy_outputs v) (sy_inputs v) := by
  intro d
  induction d with
  | zero =>
    intro k bf hd hb sb f hf
    obtain ⟨f, rfl⟩ : ∃ m, f = m + 1 := ⟨f - 1, by omega⟩
    have : k = N := by omega
    subst this
    rw [wY_step_29]
    exact br_t (by rw [hn]; exact nI_le (by omega) (by omega)) (fun st e => K bf st e hb sb)
  | succ d ih =>
    intro k bf hd hb sb f hf
    obtain ⟨f, rfl⟩ : ∃ m, f = m + 1 := ⟨f - 1, by omega⟩
    rw [wY_step_29]
    refine br_f (by rw [hn]; exact nI_ge (by omega) (by omega)) ?_
    rw [nI_clamp (n := k) (by omega)]
    refine ⟨vp_in_nI (by omega) (by omega), vp_in_nI (by omega) (by omega), nm_e (nm_r (e' := nI (k + 1)) (nI_1 _) (ih (k + 1) _ (by omega) (fun m hm => ?_) (fun i => ?_) f (by omega)))⟩
    · by_cases e : m = k
      · subst e; exact pk_us
      · rw [pk_un e]; exact hb m (by omega)
    · by_cases e : i = k
      · subst e; rw [pk_us]; exact sn _
      · rw [pk_un e]; exact sb i
theorem yI_s {pa0 nw pa pa' : Nat → Int32} {k : Nat} {r : Int32} (hs : so_ok g N) (hk : k < N) (I : yI g ou M G N pa0 k nw pa) (hr : li_ok g ou N k → r = vx g M G k) (sr : smp r) (P : pw_ok g pa pa' nw k) (sp : ∀ i, smp (pa' i)) : yI g ou M G N pa0 (k + 1) (upd nw k r) pa' := by
  obtain ⟨I1, I2, I3, I4, I5⟩ := I
  have out : ∀ i, (i < 6 * k ∨ 6 * k + 6 ≤ i) → pa' i = pa i := by
    intro i hi
    by_cases k6 : kn g k = 6
    · exact (P.1 k6).2.2.1 i hi
    · rw [P.2 k6]
  refine ⟨fun m hm h => ?_, fun i => ?_, sp, fun m h1 h2 j hj => ?_, fun m hm k6 => ?_⟩
  · by_cases e : m = k
    · subst e; rw [pk_us]; exact hr h
    · rw [pk_un e]; exact I1 m (by omega) h
  · by_cases e : i = k
    · subst e; rw [pk_us]; exact sr
    · rw [pk_un e]; exact I2 i
  · rw [out _ (by omega)]; exact I4 m (by omega) h2 j hj
  · have xl := ((hs.2.1 m (by omega)).2.2.2.1 (by omega)).2.2 (by omega)
    by_cases e : m = k
    · subst e
      obtain ⟨p1, p2, p3, p4⟩ := P.1 k6
      rw [pk_un (by omega)]
      exact ⟨p1, fun j hj => (p2 j hj).trans (I4 m (Nat.le_refl _) hk j (by omega))⟩
    · obtain ⟨q1, q2⟩ := I5 m (by omega) k6
      rw [pk_un (by omega), out _ (by omega)]
      exact ⟨q1, fun j hj => by rw [out _ (by omega)]; exact q2 j hj⟩
theorem y2 (S : yh_S g N v) (D : yh_D g ou M G N s v)
    (K : ∀ bf st nw pa, st = sy_steps v + 1 → yI g ou M G N (sy_past v) N nw pa → (∀ m, m < N → bf m = nw m) → (∀ i, smp (bf i)) → post (yq_T v st pa nw bf)) :
    ∀ (d k : Nat) (nw pa : Nat → Int32), k + d = N → yI g ou M G N (sy_past v) k nw pa → ∀ f, d < f → wY_step_2 post f (nI k) (sy_n v) (sy_steps v) (sy_size v) (sy_coefficients v) (sy_kind v) (sy_px v) (sy_py v) (sy_kept v) (pa) (nw) (sy_before v) (sy_outputs v) (sy_inputs v) := by
  obtain ⟨s1, s2, s3, s4, s5, s6, s7, s8, s9, s10, s11⟩ := S
  obtain ⟨d1, d2, d3, d4, d5, d6, d7, d8, d9⟩ := D
  have hN := s1.1
  intro d
  induction d with
  | zero =>
    intro k nw pa hd I f hf
    obtain ⟨f, rfl⟩ : ∃ m, f = m + 1 := ⟨f - 1, by omega⟩
    have : k = N := by omega
    subst this
    rw [wY_step_2]
    exact br_t (by rw [s3]; exact nI_le (by omega) (by omega)) ⟨k + 1, y29 s3 hN I.2.1 (fun bf st e hb sb => K bf st nw pa e I hb sb) k 0 (sy_before v) (by omega) (fun m h => absurd h (by omega)) d7 (k + 1) (by omega)⟩
  | succ d ih =>
    intro k nw pa hd I f hf
    obtain ⟨f, rfl⟩ : ∃ m, f = m + 1 := ⟨f - 1, by omega⟩
    have hk : k < N := by omega
    rw [wY_step_2]
    refine br_f (by rw [s3]; exact nI_ge (by omega) (by omega)) ?_
    refine yw_ok (w := (sy_n v, sy_steps v, sy_size v, sy_coefficients v, sy_kind v, sy_px v, sy_py v, sy_kept v, pa, nw, sy_before v, sy_outputs v, sy_inputs v)) (g := g) (ou := ou) (M := M) (G := G) (N := N) (s := s) s1 s2 hk s4 s5 s6 d4 (by omega) (s7 k hk) (s8 k hk) s9 d1 d2 d3 s10 s11 I.2.1 d7 I.2.2.1 (fun k5 h => d9.1 k hk k5 h) (fun k6 h => ?_) I.1 (fun r pa' hr sr P sp => ?_)
    · intro l a l0 l6 al ht hG j hj
      exact (I.2.2.2.1 k (Nat.le_refl _) hk j (by omega)).trans (d9.2.1 k hk k6 h l a l0 l6 al ht hG j hj)
    · show vp_in (nI k) 24 ∧ _
      refine ⟨vp_in_nI (by omega) (by omega), ?_⟩
      rw [nI_clamp (n := k) (by omega)]
      refine nm_e (nm_r (e' := nI (k + 1)) (nI_1 _) ?_)
      exact ih (k + 1) _ _ (by omega) (yI_s s1 hk I hr sr P sp) f (by omega)
theorem yst_ok (S : yh_S g N v) (D : yh_D g ou M G N s v)
    (K : ∀ bf st nw pa, st = sy_steps v + 1 → yI g ou M G N (sy_past v) N nw pa → (∀ m, m < N → bf m = nw m) → (∀ i, smp (bf i)) → post (yq_T v st pa nw bf)) : wpY_step post v := by
  show wpY_step post (sy_n v, sy_steps v, sy_size v, sy_coefficients v, sy_kind v, sy_px v, sy_py v, sy_kept v, sy_past v, sy_now v, sy_before v, sy_outputs v, sy_inputs v)
  unfold wpY_step
  exact ⟨N + 1, y2 S D K N 0 (sy_now v) (sy_past v) (by omega) ⟨fun m h => absurd h (by omega), D.2.2.2.2.2.1, D.2.2.2.2.2.2.2.1, fun _ _ _ _ _ => rfl, fun m h => absurd h (by omega)⟩ (N + 1) (by omega)⟩
/-- one step of the component's memory -/
def xs2 (g : sg_T) (ou : Nat → Int32) (N : Nat) (M G M' G' : Nat → Int32) : Prop := xs_ok g ou N (fun _ => 0, 0, M, G) (fun _ => 0, 0, M', G')
theorem dn_nx {M' G' nw bf pa : Nat → Int32} (S : yh_S g N v) (D : yh_D g ou M G N s v) (X : xs2 g ou N M G M' G') (I : yI g ou M G N (sy_past v) N nw pa) (hb : ∀ m, m < N → bf m = nw m) : dn_ok g ou M' G' N (s + 1) nw bf pa := by
  obtain ⟨s1, s2, s3, s4, s5, s6, s7, s8, s9, s10, s11⟩ := S
  obtain ⟨d1, d2, d3, d4, d5, d6, d7, d8, d9⟩ := D
  obtain ⟨x1, x2, x3, x4, x5, x6⟩ := X
  have lx : ∀ n, n < N → 2 ≤ kn g n → li_ok g ou N n → li_ok g ou N (xn g n) := fun n hn h2 h S a b => (b n hn (h S a b) h2).1
  refine ⟨fun n hn k5 h => ?_, fun n hn k6 h => ?_, fun o ho q hq e => ?_⟩
  · rw [if_neg (by omega)]
    have xl := s2 n hn k5
    have : M' (8 + n) = vx g M G (xn g n) := x4 n hn k5 h
    rw [this, hb _ xl, I.1 _ xl (lx n hn (by omega) h)]
  · intro l a l0 l6 al ht hG' j hj
    obtain ⟨fe, hf, _⟩ := (s1.2.1 n hn).2.2.2.2.2 k6
    have xl := ((s1.2.1 n hn).2.2.2.1 (by omega)).2.2 (by omega)
    obtain ⟨a0, ha0, hG⟩ := d1 _ l hf l0 l6 ht
    obtain ⟨r1, r2⟩ := x5 n hn k6 h
    have r1' : G' (rk g n) = rp_g (sg_t g) G (nI (8 * rk g n)) := r1
    have r2' : ∀ y, y < 8 → M' (32 + 8 * rk g n + y) = upd M (rp_a (sg_t g) G (nI (8 * rk g n))) (vx g M G (xn g n)) (32 + 8 * rk g n + y) := r2
    have eg : rp_g (sg_t g) G (nI (8 * rk g n)) = nI ((a0 + 1) % l) := rp_gv (k := 0) hf l0 l6 ht ha0 hG
    have ea : rp_a (sg_t g) G (nI (8 * rk g n)) = 32 + 8 * rk g n + (a0 + l - 0) % l := rp_ev (k := 0) hf l0 l6 ht ha0 hG
    have hm0 := Nat.mod_lt (a0 + 1) l0
    have : a = (a0 + 1) % l := sn_inj (by omega) (by omega) (hG'.symm.trans (r1'.trans eg))
    subst this
    rw [md_s ha0 hj l6]
    have hm1 := Nat.mod_lt (a0 + l - j) l0
    rw [r2' _ (by omega), ea, show a0 + l - 0 = a0 + l from rfl, md_0 ha0]
    obtain ⟨i1, i2⟩ := I.2.2.2.2 n hn k6
    by_cases e : j = 0
    · subst e
      rw [show a0 + l - 0 = a0 + l from rfl, md_0 ha0, pk_us]
      show pa (6 * n) = _
      rw [i1, I.1 _ (by omega) (lx n hn (by omega) h)]
    · have hne := md_j ha0 (by omega : 0 < j) hj l6
      rw [pk_un (by omega)]
      obtain ⟨i, rfl⟩ : ∃ i, j = i + 1 := ⟨j - 1, by omega⟩
      rw [show 6 * n + (i + 1) = 6 * n + i + 1 from rfl, i2 i (by omega), d9.2.1 n hn k6 h l a0 l0 l6 ha0 ht hG i (by omega), show a0 + l - 1 - i = a0 + l - (i + 1) by omega]
  · rw [if_neg (by omega)]
    have : M' (2 + o) = vx g M G q := x3 o ho q hq e
    rw [this, I.1 q hq (fun S a b => a o q ho hq e)]
end
end
section
/-! ===== runs of steps ===== -/
def xs_n (g : sg_T) (ou : Nat → Int32) (N : Nat) : Nat → (Nat → Int32) → (Nat → Int32) → (Nat → Int32) → (Nat → Int32) → Prop
  | 0, M, G, M', G' => M' = M ∧ G' = G
  | d + 1, M, G, M', G' => ∃ M1 G1, xs2 g ou N M G M1 G1 ∧ xs_n g ou N d M1 G1 M' G'
def xq_T (w : SX) (A : Int64) (dc : Int32) (M G R dr dv dw : Nat → Int32) (sc : Int32) : SX := (sx_nodeCount w, sx_filterCount w, sx_levelNow w, sx_compiled w, sx_needed w, sx_pinned w, sx_listEnd w, sx_wordCount w, A, dc, sc, sx_listLength w, sx_listValue w, sx_kindOf w, sx_partX w, sx_partY w, sx_filterOf w, sx_tapCount w, sx_taps w, sx_outputNode w, sx_same w, sx_holds w, sx_registerOf w, sx_isSaved w, sx_op w, sx_into w, sx_first w, sx_second w, sx_number w, sx_wordOf w, sx_words w, M, G, R, dr, dv, dw)
theorem xr_xr {w : SX} {A A' : Int64} {dc dc' : Int32} {M G R dr dv dw M' G' R' dr' dv' dw' : Nat → Int32} : xr_T (xr_T w A dc M G R dr dv dw) A' dc' M' G' R' dr' dv' dw' = xr_T w A' dc' M' G' R' dr' dv' dw' := rfl
theorem xs_pt {g : sg_T} {ou M' G' : Nat → Int32} {N : Nat} {s0 s : ms_T} (hs : so_ok g N) (X : xs_ok g ou N s0 s) (hM : ∀ x, x < 96 → M' x = ms_M s x) (hG : ∀ f, f < 4 → G' f = ms_G s f) : xs2 g ou N (ms_M s0) (ms_G s0) M' G' := by
  have hN := hs.1
  obtain ⟨x1, x2, x3, x4, x5, x6⟩ := X
  refine ⟨(hM 0 (by omega)).trans x1, (hM 1 (by omega)).trans x2, fun o ho q hq e => (hM _ (by omega)).trans (x3 o ho q hq e), fun n hn k h => (hM _ (by omega)).trans (x4 n hn k h), fun n hn k h => ?_, fun f l hf h0 h6 ht => ?_⟩
  · have hf := ((hs.2.1 n hn).2.2.2.2.2 k).2.1
    obtain ⟨r1, r2⟩ := x5 n hn k h
    exact ⟨(hG _ hf).trans r1, fun y hy => (hM _ (by omega)).trans (r2 y hy)⟩
  · obtain ⟨a, ha, e⟩ := x6 f l hf h0 h6 ht
    exact ⟨a, ha, (hG f hf).trans e⟩
theorem x44 {w : SX} {N cnt : Nat} {post : Int32 → SX → Prop} (hs : so_ok (sg_of w) N) (ck : ck_ok w N) (hc : cnt ≤ 50) :
    ∀ (d i : Nat) (A : Int64) (dc : Int32) (M G R dr dv dw : Nat → Int32), i + d = cnt → gv_ok (sx_tapCount w) G →
      (∀ (A' : Int64) (dc' : Int32) (M' G' R' dr' dv' dw' : Nat → Int32), xs_n (sg_of w) (sx_outputNode w) N d M G M' G' → post (nI cnt) (xq_T w A' dc' M' G' R' dr' dv' dw' (sx_stepCount w + nI cnt))) → ∀ n, d < n →
      wX_run_44 post (nI cnt) n (nI i) (sx_nodeCount w) (sx_filterCount w) (sx_levelNow w) (sx_compiled w) (sx_needed w) (sx_pinned w) (sx_listEnd w) (sx_wordCount w) (A) (dc) (sx_stepCount w) (sx_listLength w) (sx_listValue w) (sx_kindOf w) (sx_partX w) (sx_partY w) (sx_filterOf w) (sx_tapCount w) (sx_taps w) (sx_outputNode w) (sx_same w) (sx_holds w) (sx_registerOf w) (sx_isSaved w) (sx_op w) (sx_into w) (sx_first w) (sx_second w) (sx_number w) (sx_wordOf w) (sx_words w) (M) (G) (R) (dr) (dv) (dw) := by
  obtain ⟨le, wo, wc, hp, hx⟩ := ck
  intro d
  induction d with
  | zero =>
    intro i A dc M G R dr dv dw hd gv K n hn
    obtain ⟨n, rfl⟩ : ∃ m, n = m + 1 := ⟨n - 1, by omega⟩
    have : i = cnt := by omega
    subst this
    rw [wX_run_44]
    exact br_t (nI_le (by omega) (by omega)) (nm_e (K A dc M G R dr dv dw ⟨rfl, rfl⟩))
  | succ d ih =>
    intro i A dc M G R dr dv dw hd gv K n hn
    obtain ⟨n, rfl⟩ : ∃ m, n = m + 1 := ⟨n - 1, by omega⟩
    rw [wX_run_44]
    refine br_f (nI_ge (by omega) (by omega)) ?_
    refine st_ok (u := xr_T w A dc M G R dr dv dw) (le := le) (wo := wo) (wc := wc) hp gv (fun A' dc' M' G' R' dr' dv' dw' hM hG => ?_)
    have X : xs2 (sg_of w) (sx_outputNode w) N M G M' G' := xs_pt hs (hx (R, A, M, G) gv) hM hG
    rw [xr_xr]
    refine nm_r (e' := nI (i + 1)) (nI_1 _) ?_
    exact ih (i + 1) A' dc' M' G' R' dr' dv' dw' (by omega) X.2.2.2.2.2 (fun A2 dc2 M2 G2 R2 dr2 dv2 dw2 h => K A2 dc2 M2 G2 R2 dr2 dv2 dw2 ⟨M', G', X, h⟩) n (by omega)
theorem yq_yq {v : SY} {st st' : Int32} {pa nw bf pa' nw' bf' : Nat → Int32} : yq_T (yq_T v st pa nw bf) st' pa' nw' bf' = yq_T v st' pa' nw' bf' := rfl
theorem yq_S {g : sg_T} {N : Nat} {v : SY} {st : Int32} {pa nw bf : Nat → Int32} (h : yh_S g N v) : yh_S g N (yq_T v st pa nw bf) := h
theorem y33 {g : sg_T} {ou M' G' : Nat → Int32} {N cnt : Nat} {v : SY} {post : Int32 → SY → Prop} (S : yh_S g N v) (hc : cnt ≤ 50) :
    ∀ (d i s : Nat) (M G : Nat → Int32) (st : Int32) (pa nw bf : Nat → Int32), i + d = cnt → s + d < 1000000 → yh_D g ou M G N s (yq_T v st pa nw bf) → xs_n g ou N d M G M' G' →
      (∀ (st' : Int32) (pa' nw' bf' : Nat → Int32), yh_D g ou M' G' N (s + d) (yq_T v st' pa' nw' bf') → post (nI cnt) (yq_T v st' pa' nw' bf')) → ∀ n, d < n →
      wY_run_33 post (nI cnt) n (nI i) (sy_n v) (st) (sy_size v) (sy_coefficients v) (sy_kind v) (sy_px v) (sy_py v) (sy_kept v) (pa) (nw) (bf) (sy_outputs v) (sy_inputs v) := by
  intro d
  induction d with
  | zero =>
    intro i s M G st pa nw bf hd h6 D X K n hn
    obtain ⟨n, rfl⟩ : ∃ m, n = m + 1 := ⟨n - 1, by omega⟩
    have : i = cnt := by omega
    subst this
    obtain ⟨e1, e2⟩ := X
    rw [wY_run_33]
    exact br_t (nI_le (by omega) (by omega)) (K st pa nw bf (by rw [e1, e2]; exact D))
  | succ d ih =>
    intro i s M G st pa nw bf hd h6 D X K n hn
    obtain ⟨n, rfl⟩ : ∃ m, n = m + 1 := ⟨n - 1, by omega⟩
    obtain ⟨M1, G1, X1, X2⟩ := X
    rw [wY_run_33]
    refine br_f (nI_ge (by omega) (by omega)) ?_
    refine yst_ok (v := yq_T v st pa nw bf) (yq_S S) D (fun bf' st' nw' pa' est I hb sb => ?_)
    rw [yq_yq]
    refine nm_r (e' := nI (i + 1)) (nI_1 _) ?_
    have dn := dn_nx (yq_S S) D X1 I hb
    obtain ⟨d1, d2, d3, d4, d5, d6, d7, d8, d9⟩ := D
    refine ih (i + 1) (s + 1) M1 G1 st' pa' nw' bf' (by omega) (by omega) ⟨X1.2.2.2.2.2, X1.1.trans d2, X1.2.1.trans d3, ?_, by omega, I.2.1, sb, I.2.2.1, dn⟩ X2 (fun a b c e h => K a b c e ?_) n (by omega)
    · show st' = nI (s + 1)
      rw [est, d4, nI_1]
    · rw [show s + 1 + d = s + (d + 1) by omega] at h
      exact h
end
section
def cn_ok (v1 : Int32) (cnt : Nat) : Prop := (0 ≤ v1 ∧ v1 ≤ 50 ∧ v1 = nI cnt ∧ cnt ≤ 50) ∨ (0 ≤ v1 ∧ ¬ v1 ≤ 50 ∧ cnt = 50) ∨ (¬ 0 ≤ v1 ∧ cnt = 0)
theorem cn_50 {v1 : Int32} {cnt : Nat} (h : cn_ok v1 cnt) : cnt ≤ 50 := by
  rcases h with ⟨_, _, _, h⟩ | ⟨_, _, h⟩ | ⟨_, h⟩ <;> omega
theorem yrun {u : SX} {v : SY} {N cnt : Nat} {v1 : Int32} {post : Int32 → SY → Prop} (hs : so_ok (sg_of u) N) (hv : vd_ok (sg_of u) N) (hn : sy_n v = nI N) (ek : sy_kind v = sx_kindOf u) (ex : sy_px v = sx_partX u) (hc : cn_ok v1 cnt)
    (K : ∃ n, wY_run_33 post (nI cnt) n 0 (sy_n v) (sy_steps v) (sy_size v) (sy_coefficients v) (sy_kind v) (sy_px v) (sy_py v) (sy_kept v) (sy_past v) (sy_now v) (sy_before v) (sy_outputs v) (sy_inputs v)) : wpY_run post v v1 := by
  show wpY_run post (sy_n v, sy_steps v, sy_size v, sy_coefficients v, sy_kind v, sy_px v, sy_py v, sy_kept v, sy_past v, sy_now v, sy_before v, sy_outputs v, sy_inputs v) v1
  unfold wpY_run
  refine yv_ok (u := u) (v := v) hs hn ek ex (fun _ => br_f (by decide) ?_) (fun z => absurd hv z)
  rcases hc with ⟨h0, h1, e, _⟩ | ⟨h0, h1, e⟩ | ⟨h0, e⟩
  · subst e; exact br_t h0 (br_t h1 K)
  · subst e; exact br_t h0 (br_f h1 K)
  · subst e; exact br_f h0 K
end
section
theorem xq_S {w : SX} {v : SY} {N : Nat} {A : Int64} {dc : Int32} {M G R dr dv dw : Nat → Int32} {sc st : Int32} {pa nw bf : Nat → Int32} (h : rl_S w v N) : rl_S (xq_T w A dc M G R dr dv dw sc) (yq_T v st pa nw bf) N := h
theorem xq_L {w : SX} {v : SY} {A : Int64} {dc : Int32} {M G R dr dv dw : Nat → Int32} {sc st : Int32} {pa nw bf : Nat → Int32} (h : rl_L w v) : rl_L (xq_T w A dc M G R dr dv dw sc) (yq_T v st pa nw bf) := h
theorem xq_C {w : SX} {N : Nat} {A : Int64} {dc : Int32} {M G R dr dv dw : Nat → Int32} {sc : Int32} (h : ck_ok w N) : ck_ok (xq_T w A dc M G R dr dv dw sc) N := h
theorem xq_D {k k' N s : Nat} {w : SX} {v : SY} {A : Int64} {dc : Int32} {M G R dr dv dw : Nat → Int32} {sc st : Int32} {pa nw bf : Nat → Int32} (hsc : sc = nI s) (hk : s ≤ 50 * k') (hlv : ∃ lv, lv ≤ 2 ∧ sx_levelNow w = nI lv) (si0 : smp (sy_inputs v 0)) (si1 : smp (sy_inputs v 1))
    (D : yh_D (sg_of w) (sx_outputNode w) M G N s (yq_T v st pa nw bf)) : rl_D k' (xq_T w A dc M G R dr dv dw sc) (yq_T v st pa nw bf) N s := by
  obtain ⟨d1, d2, d3, d4, d5, d6, d7, d8, d9⟩ := D
  exact ⟨hsc, d4, hk, hlv, d1, d2, d3, si0, si1, d6, d7, d8, d9⟩
theorem t1_S {u : SX} {v : SY} {N : Nat} (h : rl_S u v N) : rl_S (st_1 u) v N := h
theorem t2_S {u : SX} {v : SY} {N : Nat} {sa : Nat → Int32} (h : rl_S u v N) : rl_S (st_2 u sa) v N := h
theorem t3_S {u : SX} {v : SY} {N : Nat} {nd : Int32} (h : rl_S u v N) : rl_S (st_3 u nd) v N := h
theorem tc_S {u : SX} {v : SY} {N : Nat} {c : cd_T} {pn wc : Int32} {ho rg sv wf ws : Nat → Int32} (h : rl_S u v N) : rl_S (xc_T u c pn ho rg sv wc wf ws) v N := h
theorem t1_L {u : SX} {v : SY} (h : rl_L u v) : rl_L (st_1 u) v := h
theorem t2_L {u : SX} {v : SY} {sa : Nat → Int32} (h : rl_L u v) : rl_L (st_2 u sa) v := h
theorem t3_L {u : SX} {v : SY} {nd : Int32} (h : rl_L u v) : rl_L (st_3 u nd) v := h
theorem tc_L {u : SX} {v : SY} {c : cd_T} {pn wc : Int32} {ho rg sv wf ws : Nat → Int32} (h : rl_L u v) : rl_L (xc_T u c pn ho rg sv wc wf ws) v := h
theorem t1_D {k N s : Nat} {u : SX} {v : SY} (h : rl_D k u v N s) : rl_D k (st_1 u) v N s := h
theorem t2_D {k N s : Nat} {u : SX} {v : SY} {sa : Nat → Int32} (h : rl_D k u v N s) : rl_D k (st_2 u sa) v N s := h
theorem t3_D {k N s : Nat} {u : SX} {v : SY} {nd : Int32} (h : rl_D k u v N s) : rl_D k (st_3 u nd) v N s := h
theorem tc_D {k N s : Nat} {u : SX} {v : SY} {c : cd_T} {pn wc : Int32} {ho rg sv wf ws : Nat → Int32} (h : rl_D k u v N s) : rl_D k (xc_T u c pn ho rg sv wc wf ws) v N s := h
theorem sg_c (u : SX) (c : cd_T) (pn wc : Int32) (ho rg sv wf ws : Nat → Int32) : sg_of (xc_T u c pn ho rg sv wc wf ws) = sg_of u := rfl
end
section
theorem runW {k N s cnt : Nat} {w : SX} {v : SY} {v1 : Int32} (S : rl_S w v N) (L : rl_L w v) (D : rl_D k w v N s) (ck : ck_ok w N) (hv : vd_ok (sg_of w) N) (hc : cn_ok v1 cnt) (hk : k + 4 ≤ 2048) :
    ∃ n, wX_run_44 (fun r u' => wpY_run (fun r' v' => r' = r ∧ i_Rel (k + 4) u' v') v v1) (nI cnt) n 0 (sx_nodeCount w) (sx_filterCount w) (sx_levelNow w) (sx_compiled w) (sx_needed w) (sx_pinned w) (sx_listEnd w) (sx_wordCount w) (sx_accumulator w) (sx_dueCount w) (sx_stepCount w) (sx_listLength w) (sx_listValue w) (sx_kindOf w) (sx_partX w) (sx_partY w) (sx_filterOf w) (sx_tapCount w) (sx_taps w) (sx_outputNode w) (sx_same w) (sx_holds w) (sx_registerOf w) (sx_isSaved w) (sx_op w) (sx_into w) (sx_first w) (sx_second w) (sx_number w) (sx_wordOf w) (sx_words w) (sx_memory w) (sx_ringAt w) (sx_register w) (sx_dueRegister w) (sx_dueValue w) (sx_dueWord w) := by
  have S0 := S
  have L0 := L
  obtain ⟨s1, s2, s3, s4, s5, s6, s7, s8, s9, s10, s11⟩ := S
  obtain ⟨d1, d2, d3, d4, d5, d6, d7, d8, d9, d10, d11, d12, d13⟩ := D
  obtain ⟨l1, l2, l3, l4, l5⟩ := L
  have h50 := cn_50 hc
  refine ⟨cnt + 1, x44 (w := w) s1 ck h50 cnt 0 (sx_accumulator w) (sx_dueCount w) (sx_memory w) (sx_ringAt w) (sx_register w) (sx_dueRegister w) (sx_dueValue w) (sx_dueWord w) (by omega) d5 (fun A' dc' M' G' R' dr' dv' dw' X => ?_) (cnt + 1) (by omega)⟩
  refine yrun (u := w) (v := v) s1 hv s3 s5 s6 hc ⟨cnt + 1, ?_⟩
  refine y33 (g := sg_of w) (ou := sx_outputNode w) (v := v) ⟨s1, hv, s3, s5, s6, s7, s10, s11, l5, d8, d9⟩ h50 cnt 0 s (sx_memory w) (sx_ringAt w) (sy_steps v) (sy_past v) (sy_now v) (sy_before v) (by omega) (by omega) ⟨d5, d6, d7, d2, by omega, d10, d11, d12, d13⟩ X (fun st' pa' nw' bf' D' => ⟨rfl, ?_⟩) (cnt + 1) (by omega)
  refine ⟨N, s + cnt, xq_S S0, xq_L L0, xq_D (k := k) (by rw [d1, nI_add]) (by omega) d4 d8 d9 D', Or.inr (xq_C ck)⟩
end
section
theorem run30 {k N s cnt : Nat} {u : SX} {v : SY} {v1 : Int32} (S : rl_S u v N) (L : rl_L u v) (D : rl_D k u v N s) (C : rl_C u N) (hv : vd_ok (sg_of u) N) (hc : cn_ok v1 cnt) (hk : k + 4 ≤ 2048) :
    wX_run_30 (fun r u' => wpY_run (fun r' v' => r' = r ∧ i_Rel (k + 4) u' v') v v1) (nI cnt) (sx_nodeCount u) (sx_filterCount u) (sx_levelNow u) (sx_compiled u) (sx_needed u) (sx_pinned u) (sx_listEnd u) (sx_wordCount u) (sx_accumulator u) (sx_dueCount u) (sx_stepCount u) (sx_listLength u) (sx_listValue u) (sx_kindOf u) (sx_partX u) (sx_partY u) (sx_filterOf u) (sx_tapCount u) (sx_taps u) (sx_outputNode u) (sx_same u) (sx_holds u) (sx_registerOf u) (sx_isSaved u) (sx_op u) (sx_into u) (sx_first u) (sx_second u) (sx_number u) (sx_wordOf u) (sx_words u) (sx_memory u) (sx_ringAt u) (sx_register u) (sx_dueRegister u) (sx_dueValue u) (sx_dueWord u) := by
  have H : sx_compiled u = 0 → wpX_compile (fun w => ∃ n, wX_run_44 (fun r u' => wpY_run (fun r' v' => r' = r ∧ i_Rel (k + 4) u' v') v v1) (nI cnt) n 0 (sx_nodeCount w) (sx_filterCount w) (sx_levelNow w) (sx_compiled w) (sx_needed w) (sx_pinned w) (sx_listEnd w) (sx_wordCount w) (sx_accumulator w) (sx_dueCount w) (sx_stepCount w) (sx_listLength w) (sx_listValue w) (sx_kindOf w) (sx_partX w) (sx_partY w) (sx_filterOf w) (sx_tapCount w) (sx_taps w) (sx_outputNode w) (sx_same w) (sx_holds w) (sx_registerOf w) (sx_isSaved w) (sx_op w) (sx_into w) (sx_first w) (sx_second w) (sx_number w) (sx_wordOf w) (sx_words w) (sx_memory w) (sx_ringAt w) (sx_register w) (sx_dueRegister w) (sx_dueValue w) (sx_dueWord w)) u := by
    intro h0
    obtain ⟨lv, hlv, el⟩ := D.2.2.2.1
    refine cm_ok (u := u) (N := N) (lv := lv) S.1 hv S.2.1 el hlv S.2.2.2.2.2.2.2.2.1 (fun sa nd c ho rg sv wc wf ws ck => ?_)
    exact runW (tc_S (t3_S (t2_S (t1_S S)))) (tc_L (t3_L (t2_L (t1_L L)))) (tc_D (t3_D (t2_D (t1_D D)))) ck (by rw [sg_c, sg_3, sg_2, sg_1]; exact hv) hc hk
  have H2 : ¬ sx_compiled u = 0 → ∃ n, wX_run_44 (fun r u' => wpY_run (fun r' v' => r' = r ∧ i_Rel (k + 4) u' v') v v1) (nI cnt) n 0 (sx_nodeCount u) (sx_filterCount u) (sx_levelNow u) (sx_compiled u) (sx_needed u) (sx_pinned u) (sx_listEnd u) (sx_wordCount u) (sx_accumulator u) (sx_dueCount u) (sx_stepCount u) (sx_listLength u) (sx_listValue u) (sx_kindOf u) (sx_partX u) (sx_partY u) (sx_filterOf u) (sx_tapCount u) (sx_taps u) (sx_outputNode u) (sx_same u) (sx_holds u) (sx_registerOf u) (sx_isSaved u) (sx_op u) (sx_into u) (sx_first u) (sx_second u) (sx_number u) (sx_wordOf u) (sx_words u) (sx_memory u) (sx_ringAt u) (sx_register u) (sx_dueRegister u) (sx_dueValue u) (sx_dueWord u) := by
    intro h0
    rcases C with C | C
    · exact absurd C h0
    · exact runW S L D C hv hc hk
  unfold wX_run_30
  exact ⟨H, H2⟩
end
section
theorem i_vc_run {k : Nat} {u : SX} {v : SY} (I : i_Rel k u v) (hk : k + 4 ≤ 2048) (v1 : Int32) : wpX_run (fun r u' => wpY_run (fun r' v' => r' = r ∧ i_Rel (k + 4) u' v') v v1) u v1 := by
  have I' := i_up I
  obtain ⟨N, s, S, L, D, C⟩ := I
  have no : ¬ vd_ok (sg_of u) N → wpY_run (fun r' v' => r' = -100002 ∧ i_Rel (k + 4) u v') v v1 := by
    intro h
    show wpY_run _ (sy_n v, sy_steps v, sy_size v, sy_coefficients v, sy_kind v, sy_px v, sy_py v, sy_kept v, sy_past v, sy_now v, sy_before v, sy_outputs v, sy_inputs v) v1
    unfold wpY_run
    exact yv_ok (u := u) (v := v) S.1 S.2.2.1 S.2.2.2.2.1 S.2.2.2.2.2.1 (fun z => absurd z h) (fun _ => br_t rfl ⟨rfl, I'⟩)
  show wpX_run _ (sx_nodeCount u, sx_filterCount u, sx_levelNow u, sx_compiled u, sx_needed u, sx_pinned u, sx_listEnd u, sx_wordCount u, sx_accumulator u, sx_dueCount u, sx_stepCount u, sx_listLength u, sx_listValue u, sx_kindOf u, sx_partX u, sx_partY u, sx_filterOf u, sx_tapCount u, sx_taps u, sx_outputNode u, sx_same u, sx_holds u, sx_registerOf u, sx_isSaved u, sx_op u, sx_into u, sx_first u, sx_second u, sx_number u, sx_wordOf u, sx_words u, sx_memory u, sx_ringAt u, sx_register u, sx_dueRegister u, sx_dueValue u, sx_dueWord u) v1
  unfold wpX_run
  refine xv_ok (u := u) S.1 S.2.1 (fun hv => br_f (by decide) ?_) (fun hv => br_t rfl (no hv))
  refine br_c (fun h0 => br_c (fun h1 => ?_) (fun h1 => ?_)) (fun h0 => ?_)
  · obtain ⟨c, hc, e⟩ := nI_of2 (x := v1) (M := 50) (n := 50) (by decide) (Int32.not_lt.mpr h0) h1
    have R := run30 S L D C hv (cnt := c) (v1 := v1) (Or.inl ⟨h0, h1, e, hc⟩) hk
    rw [← e] at R
    exact R
  · exact run30 S L D C hv (cnt := 50) (v1 := v1) (Or.inr (Or.inl ⟨h0, h1, rfl⟩)) hk
  · exact run30 S L D C hv (cnt := 0) (v1 := v1) (Or.inr (Or.inr ⟨h0, rfl⟩)) hk
end
