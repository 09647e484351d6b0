section
/-! pure rows to paste: stores, nI and lN arithmetic, masks, shifts, narrowing, branches by naturals (pk_le, pk_lt, pk_eq), loops (lp1 .. lp16: the measure of the state; rp1 ..: recursion), negatives. Take what you need -/
theorem pk_us {f : Nat → Int32} {k : Nat} {x : Int32} : upd f k x k = x := if_pos rfl
theorem pk_un {f : Nat → Int32} {k j : Nat} {x : Int32} (h : j ≠ k) : upd f k x j = f j := if_neg h
theorem pk_uLs {f : Nat → Int64} {k : Nat} {x : Int64} : vp_updL f k x k = x := if_pos rfl
theorem pk_uLn {f : Nat → Int64} {k j : Nat} {x : Int64} (h : j ≠ k) : vp_updL f k x j = f j := if_neg h
theorem pk_sub {a b : Nat} (h : b ≤ a) : nI a - nI b = nI (a - b) := by
  obtain ⟨c, rfl⟩ : ∃ c, a = c + b := ⟨a - b, by omega⟩
  rw [← nI_add, Int32.add_sub_cancel, Nat.add_sub_cancel]
theorem pk_m1 (n : Nat) : nI (n + 1) + (-1) = nI n := by
  rw [← nI_1, Int32.add_assoc, show (1 : Int32) + (-1) = 0 from rfl, Int32.add_zero]
theorem pk_mul (a b : Nat) : nI a * nI b = nI (a * b) := (Int32.ofNat_mul a b).symm
theorem pk_div {a d : Nat} (ha : a < 2 ^ 31) (h0 : 0 < d) (hd : d < 2 ^ 31) : nI a / nI d = nI (a / d) := by
  apply Int32.toInt_inj.mp
  rw [lg_idiv_nonneg (by rw [nI_toInt ha]; omega) (by rw [nI_toInt hd]; omega), nI_toInt ha, nI_toInt hd, nI_toInt (Nat.lt_of_le_of_lt (Nat.div_le_self a d) ha)]
  first | rfl | exact (Int.natCast_ediv _ _).symm
theorem pk_rem {a d : Nat} (ha : a < 2 ^ 31) (h0 : 0 < d) (hd : d < 2 ^ 31) : nI a - nI a / nI d * nI d = nI (a % d) := by
  rw [pk_div ha h0 hd, pk_mul, pk_sub (Nat.div_mul_le_self a d)]
  exact congrArg nI (by have := Nat.div_add_mod' a d; omega)
theorem pk_sub_toInt {a b : Nat} (ha : a < 2 ^ 30) (hb : b < 2 ^ 30) : (nI a - nI b).toInt = (a : Int) - b := by
  rw [Int32.toInt_sub, nI_toInt (by omega), nI_toInt (by omega)]
  exact Int.bmod_eq_of_le (by omega) (by omega)
theorem pk_sneg {a b : Nat} (hb : b < 2 ^ 30) (h : a < b) : nI a - nI b < 0 := by
  rw [Int32.lt_iff_toInt_lt, pk_sub_toInt (by omega) hb, show (0 : Int32).toInt = 0 from by decide]
  omega
theorem pk_ix (x : Int32) {n : Nat} (hn : n < 2 ^ 31) : x < 0 ∨ nI n ≤ x ∨ ∃ j : Nat, j < n ∧ x = nI j := by
  by_cases h : x < 0
  · exact Or.inl h
  · obtain ⟨j, hj, rfl⟩ := nI_of h
    by_cases h2 : j < n
    · exact Or.inr (Or.inr ⟨j, h2, rfl⟩)
    · exact Or.inr (Or.inl (nI_le (by omega) hj))
theorem pk_le {x y : Int32} {A B : Prop} (a b : Nat) (f : a ≤ b → A) (g : b < a → B) (hx : x = nI a := by rfl) (hy : y = nI b := by rfl) (ha : a < 2 ^ 31 := by omega) (hb : b < 2 ^ 31 := by omega) : (x ≤ y → A) ∧ (¬ x ≤ y → B) := by
  subst hx hy
  rw [nI_leI ha hb]
  exact ⟨f, fun z => g (by omega)⟩
theorem pk_lt {x y : Int32} {A B : Prop} (a b : Nat) (f : a < b → A) (g : b ≤ a → B) (hx : x = nI a := by rfl) (hy : y = nI b := by rfl) (ha : a < 2 ^ 31 := by omega) (hb : b < 2 ^ 31 := by omega) : (x < y → A) ∧ (¬ x < y → B) := by
  subst hx hy
  rw [nI_ltI ha hb]
  exact ⟨f, fun z => g (by omega)⟩
theorem pk_eq {x y : Int32} {A B : Prop} (a b : Nat) (f : a = b → A) (g : a ≠ b → B) (hx : x = nI a := by rfl) (hy : y = nI b := by rfl) (ha : a < 2 ^ 31 := by omega) (hb : b < 2 ^ 31 := by omega) : (x = y → A) ∧ (¬ x = y → B) := by
  subst hx hy
  rw [nI_eq ha hb]
  exact ⟨f, g⟩
theorem pk_in {x : Int32} (n N : Nat) (h : n < N) (hx : x = nI n := by rfl) (hN : N < 2 ^ 31 := by omega) : vp_in x N := by
  subst hx
  exact vp_in_nI h hN
theorem pk_cl {x : Int32} (n : Nat) (hx : x = nI n := by rfl) (h : n < 2 ^ 31 := by omega) : x.toNatClampNeg = n := by
  subst hx
  exact nI_clamp h
theorem pk_tn {n : Nat} (h : n < 2 ^ 32) : (nI n).toBitVec.toNat = n := Nat.mod_eq_of_lt h
theorem pk_and (x : Int32) {m : Int32} (k : Nat) (hm : m.toBitVec.toNat = 2 ^ k - 1) : x &&& m = nI (x.toBitVec.toNat % 2 ^ k) := by
  apply Int32.toBitVec_inj.mp
  apply BitVec.eq_of_toNat_eq
  rw [Int32.toBitVec_and, BitVec.toNat_and, hm, Nat.and_two_pow_sub_one_eq_mod]
  show _ = (BitVec.ofNat 32 _).toNat
  rw [BitVec.toNat_ofNat]
  exact (Nat.mod_eq_of_lt (Nat.lt_of_le_of_lt (Nat.mod_le _ _) x.toBitVec.isLt)).symm
theorem pk_andN {n : Nat} (h : n < 2 ^ 32) {m : Int32} (k : Nat) (hm : m.toBitVec.toNat = 2 ^ k - 1) : nI n &&& m = nI (n % 2 ^ k) := by
  rw [pk_and _ k hm, pk_tn h]
theorem pk_andE (x : Int32) {m : Int32} (k : Nat) (hm : m.toBitVec.toNat = 2 ^ k - 1) : ∃ j : Nat, j < 2 ^ k ∧ x &&& m = nI j := ⟨_, Nat.mod_lt _ (Nat.two_pow_pos k), pk_and x k hm⟩
theorem pk_andIn (x : Int32) {m : Int32} (k : Nat) (hm : m.toBitVec.toNat = 2 ^ k - 1) (hk : k ≤ 30) : vp_in (x &&& m) (2 ^ k) := by
  obtain ⟨j, hj, e⟩ := pk_andE x k hm
  rw [e]
  exact vp_in_nI hj (Nat.lt_of_le_of_lt (Nat.pow_le_pow_right (by decide) hk) (by decide))
theorem pk_shl (a s : Int32) (k : Nat) (hs : (s.toBitVec.smod 32).toNat = k) : (a <<< s).toBitVec.toNat = a.toBitVec.toNat * 2 ^ k % 2 ^ 32 := by
  show (a.toBitVec <<< (s.toBitVec.smod 32).toNat).toNat = _
  rw [hs, BitVec.toNat_shiftLeft, Nat.shiftLeft_eq]
theorem pk_shlN {n : Nat} (s : Int32) (k : Nat) (hs : (s.toBitVec.smod 32).toNat = k) (h : n * 2 ^ k < 2 ^ 32) : nI n <<< s = nI (n * 2 ^ k) := by
  apply Int32.toBitVec_inj.mp
  apply BitVec.eq_of_toNat_eq
  have hn : n < 2 ^ 32 := Nat.lt_of_le_of_lt (Nat.le_mul_of_pos_right n (Nat.two_pow_pos k)) h
  rw [pk_shl _ _ k hs, pk_tn hn, pk_tn h, Nat.mod_eq_of_lt h]
theorem pk_shr (a s : Int32) (k : Nat) (hs : (s.toBitVec.smod 32).toNat = k) : (a >>> s).toInt = a.toInt >>> k := by
  show (a.toBitVec.sshiftRight (s.toBitVec.smod 32).toNat).toInt = _
  rw [hs, BitVec.toInt_sshiftRight]
  rfl
theorem pk_shrN {n : Nat} (h : n < 2 ^ 31) (s : Int32) (k : Nat) (hs : (s.toBitVec.smod 32).toNat = k) : nI n >>> s = nI (n / 2 ^ k) := by
  apply Int32.toInt_inj.mp
  have h2 : n / 2 ^ k ≤ n := Nat.div_le_self _ _
  rw [pk_shr _ _ k hs, nI_toInt h, nI_toInt (by omega), Int.shiftRight_eq_div_pow]
  rfl
theorem pk_ushr (x s : Int32) (k : Nat) (hs : ((s.toUInt32 &&& Int32.toUInt32 31).toBitVec % 32).toNat = k) : (x.toUInt32 >>> (s.toUInt32 &&& Int32.toUInt32 31)).toInt32.toBitVec.toNat = x.toBitVec.toNat / 2 ^ k := by
  have e : (x.toUInt32 >>> (s.toUInt32 &&& Int32.toUInt32 31)).toInt32.toBitVec = x.toBitVec >>> k := by
    rw [← hs]
    exact UInt32.toBitVec_shiftRight _ _
  rw [e, BitVec.toNat_ushiftRight, Nat.shiftRight_eq_div_pow]
theorem pk_ushrN {n : Nat} (hn : n < 2 ^ 32) (s : Int32) (k : Nat) (hs : ((s.toUInt32 &&& Int32.toUInt32 31).toBitVec % 32).toNat = k) : ((nI n).toUInt32 >>> (s.toUInt32 &&& Int32.toUInt32 31)).toInt32 = nI (n / 2 ^ k) := by
  apply Int32.toBitVec_inj.mp
  apply BitVec.eq_of_toNat_eq
  rw [pk_ushr _ s k hs, pk_tn hn, pk_tn (Nat.lt_of_le_of_lt (Nat.div_le_self _ _) hn)]
theorem pk_nb (z : Int32) : narrow .byte (.int z.toInt8.toInt32) = .int z.toInt8.toInt32 := congrArg Value.int (by simp)
theorem pk_ns (z : Int32) : narrow .short (.int z.toInt16.toInt32) = .int z.toInt16.toInt32 := congrArg Value.int (by simp)
theorem pk_fb (r : Int32) : fits .byte (.int r.toInt8.toInt32) = true := by
  have ⟨a, b⟩ := lg_i2b_range r
  have h1 : (-128 : Int32).toInt = -128 := by decide
  have h2 : (127 : Int32).toInt = 127 := by decide
  simp only [fits, Bool.and_eq_true, decide_eq_true_eq, Int32.le_iff_toInt_le, h1, h2]
  omega
theorem pk_fs (r : Int32) : fits .short (.int r.toInt16.toInt32) = true := by
  have ⟨a, b⟩ := lg_i2s_range r
  have h1 : (-32768 : Int32).toInt = -32768 := by decide
  have h2 : (32767 : Int32).toInt = 32767 := by decide
  simp only [fits, Bool.and_eq_true, decide_eq_true_eq, Int32.le_iff_toInt_le, h1, h2]
  omega
theorem pk_charN {q : Nat} (hq : q < 65536) : narrow .char (.int (nI q)) = .int (nI q) ∧ fits .char (.int (nI q)) = true := by
  constructor
  · have e : (nI q).toUInt32.toUInt16.toUInt32.toInt32 = nI q := by
      apply Int32.toBitVec_inj.mp
      apply BitVec.eq_of_toNat_eq
      show (nI q).toUInt32.toUInt16.toUInt32.toNat = q % 2 ^ 32
      rw [UInt16.toNat_toUInt32, UInt32.toNat_toUInt16, show (nI q).toUInt32.toNat = q % 2 ^ 32 from rfl]
      omega
    exact congrArg Value.int e
  · have a : (0 : Int32) ≤ nI q := nI_pos' (by omega)
    have b : nI q ≤ 65535 := nI_le (b := 65535) (by omega) (by decide)
    show (decide ((0 : Int32) ≤ nI q) && decide (nI q ≤ 65535)) = true
    rw [decide_eq_true a, decide_eq_true b]
    rfl
theorem pk_char (x : Int32) : (x.toUInt32 % 65536).toInt32 = nI (x.toBitVec.toNat % 65536) := by
  apply Int32.toBitVec_inj.mp
  apply BitVec.eq_of_toNat_eq
  rw [pk_tn (by omega)]
  show (x.toUInt32 % 65536).toNat = _
  rw [UInt32.toNat_mod]
  rfl
theorem pk_nc (x : Int32) : narrow .char (.int (x.toUInt32 % 65536).toInt32) = .int (x.toUInt32 % 65536).toInt32 := by
  rw [pk_char]
  exact (pk_charN (Nat.mod_lt _ (by decide))).1
theorem pk_fc (x : Int32) : fits .char (.int (x.toUInt32 % 65536).toInt32) = true := by
  rw [pk_char]
  exact (pk_charN (Nat.mod_lt _ (by decide))).2
theorem pk_vb (z : Int32) : vp_nar .byte z.toInt8.toInt32 = z.toInt8.toInt32 := by rw [vp_nar_byte]; simp
theorem pk_vs (z : Int32) : vp_nar .short z.toInt16.toInt32 = z.toInt16.toInt32 := by rw [vp_nar_short]; simp
theorem pk_vc (z : Int32) : vp_nar .char (z.toUInt32 % 65536).toInt32 = (z.toUInt32 % 65536).toInt32 := Value.int.inj (pk_nc z)
theorem pk_lT {n : Nat} (h : n < 2 ^ 63) : (lN n).toInt = (n : Int) := lg_ofNat_toInt h
theorem pk_lLT {a b : Nat} (ha : a < 2 ^ 63) (hb : b < 2 ^ 63) : lN a < lN b ↔ a < b := by
  rw [Int64.lt_iff_toInt_lt, pk_lT ha, pk_lT hb]; omega
theorem pk_lLE {a b : Nat} (ha : a < 2 ^ 63) (hb : b < 2 ^ 63) : lN a ≤ lN b ↔ a ≤ b := by
  rw [Int64.le_iff_toInt_le, pk_lT ha, pk_lT hb]; omega
theorem pk_lEQ {a b : Nat} (ha : a < 2 ^ 63) (hb : b < 2 ^ 63) : lN a = lN b ↔ a = b := by
  rw [← Int64.toInt_inj, pk_lT ha, pk_lT hb]; omega
theorem pk_lOf {x : Int64} (h : ¬ x < 0) : ∃ k : Nat, k < 2 ^ 63 ∧ x = lN k := by
  rw [Int64.lt_iff_toInt_lt] at h
  have h0 : (0 : Int64).toInt = 0 := by decide
  have hx := Int64.toInt_lt x
  refine ⟨x.toInt.toNat, by omega, Int64.toInt_inj.mp ?_⟩
  rw [pk_lT (by omega)]
  omega
theorem pk_lDiv {a b : Nat} (ha : a < 2 ^ 63) (h0 : 0 < b) (hb : b < 2 ^ 63) : lN a / lN b = lN (a / b) := by
  apply Int64.toInt_inj.mp
  rw [lg_ldiv_nonneg (by rw [pk_lT ha]; omega) (by rw [pk_lT hb]; omega), pk_lT ha, pk_lT hb, pk_lT (Nat.lt_of_le_of_lt (Nat.div_le_self a b) ha)]
  rfl
theorem pk_lRem {a b : Nat} (ha : a < 2 ^ 63) (h0 : 0 < b) (hb : b < 2 ^ 63) : lN a - lN a / lN b * lN b = lN (a % b) := by
  rw [pk_lDiv ha h0 hb, lN_mul, lN_sub (Nat.div_mul_le_self a b)]
  exact congrArg lN (by have := Nat.div_add_mod' a b; omega)
theorem pk_loop {σ : Type} (W : Nat → Nat → σ → Prop) (I : Nat → σ → Prop) (e i0 : Nat) (s : σ) (hi : i0 ≤ e) (h0 : I i0 s) (hx : ∀ n s, I e s → W (n + 1) e s)
    (hs : ∀ n i s, i < e → I i s → (∀ s', I (i + 1) s' → W n (i + 1) s') → W (n + 1) i s) : ∃ n, W n i0 s :=
  ⟨e + 1, loop_i W I e hx hs (e + 1) i0 s hi (by omega) h0⟩
theorem pk_loopD {σ : Type} (W : Nat → Nat → σ → Prop) (I : Nat → σ → Prop) (hx : ∀ n s, I 0 s → W (n + 1) 0 s)
    (hs : ∀ n i s, I (i + 1) s → (∀ s', I i s' → W n i s') → W (n + 1) (i + 1) s) : ∀ (e : Nat) (s : σ), I e s → W (e + 1) e s := by
  intro e
  induction e with
  | zero => exact fun s h => hx 0 s h
  | succ e ih => exact fun s h => hs (e + 1) e s h (fun s' h' => ih s' h')
theorem lp1 {A1 : Type} (W : Nat → A1 → Prop) (I : A1 → Prop) (μ : A1 → Nat) (hs : ∀ (n : Nat) (a1 : A1), I a1 → (∀ (b1 : A1), I b1 → μ b1 < μ a1 → W n b1) → W (n + 1) a1) (a1 : A1) (h : I a1) : ∃ n, W n a1 :=
  loop_m (σ := A1) (fun n s => W n s) (fun s => I s) (fun s => μ s) (fun n s hI hk => hs n s hI (fun b1 h9 hm => hk b1 h9 hm)) a1 h
theorem lp2 {A1 A2 : Type} (W : Nat → A1 → A2 → Prop) (I : A1 → A2 → Prop) (μ : A1 → A2 → Nat) (hs : ∀ (n : Nat) (a1 : A1) (a2 : A2), I a1 a2 → (∀ (b1 : A1) (b2 : A2), I b1 b2 → μ b1 b2 < μ a1 a2 → W n b1 b2) → W (n + 1) a1 a2) (a1 : A1) (a2 : A2) (h : I a1 a2) : ∃ n, W n a1 a2 :=
  loop_m (σ := A1 × A2) (fun n s => W n s.1 s.2) (fun s => I s.1 s.2) (fun s => μ s.1 s.2) (fun n s hI hk => hs n s.1 s.2 hI (fun b1 b2 h9 hm => hk (b1, b2) h9 hm)) (a1, a2) h
theorem lp3 {A1 A2 A3 : Type} (W : Nat → A1 → A2 → A3 → Prop) (I : A1 → A2 → A3 → Prop) (μ : A1 → A2 → A3 → Nat) (hs : ∀ (n : Nat) (a1 : A1) (a2 : A2) (a3 : A3), I a1 a2 a3 → (∀ (b1 : A1) (b2 : A2) (b3 : A3), I b1 b2 b3 → μ b1 b2 b3 < μ a1 a2 a3 → W n b1 b2 b3) → W (n + 1) a1 a2 a3) (a1 : A1) (a2 : A2) (a3 : A3) (h : I a1 a2 a3) : ∃ n, W n a1 a2 a3 :=
  loop_m (σ := A1 × A2 × A3) (fun n s => W n s.1 s.2.1 s.2.2) (fun s => I s.1 s.2.1 s.2.2) (fun s => μ s.1 s.2.1 s.2.2) (fun n s hI hk => hs n s.1 s.2.1 s.2.2 hI (fun b1 b2 b3 h9 hm => hk (b1, b2, b3) h9 hm)) (a1, a2, a3) h
theorem lp4 {A1 A2 A3 A4 : Type} (W : Nat → A1 → A2 → A3 → A4 → Prop) (I : A1 → A2 → A3 → A4 → Prop) (μ : A1 → A2 → A3 → A4 → Nat) (hs : ∀ (n : Nat) (a1 : A1) (a2 : A2) (a3 : A3) (a4 : A4), I a1 a2 a3 a4 → (∀ (b1 : A1) (b2 : A2) (b3 : A3) (b4 : A4), I b1 b2 b3 b4 → μ b1 b2 b3 b4 < μ a1 a2 a3 a4 → W n b1 b2 b3 b4) → W (n + 1) a1 a2 a3 a4) (a1 : A1) (a2 : A2) (a3 : A3) (a4 : A4) (h : I a1 a2 a3 a4) : ∃ n, W n a1 a2 a3 a4 :=
  loop_m (σ := A1 × A2 × A3 × A4) (fun n s => W n s.1 s.2.1 s.2.2.1 s.2.2.2) (fun s => I s.1 s.2.1 s.2.2.1 s.2.2.2) (fun s => μ s.1 s.2.1 s.2.2.1 s.2.2.2) (fun n s hI hk => hs n s.1 s.2.1 s.2.2.1 s.2.2.2 hI (fun b1 b2 b3 b4 h9 hm => hk (b1, b2, b3, b4) h9 hm)) (a1, a2, a3, a4) h
theorem lp5 {A1 A2 A3 A4 A5 : Type} (W : Nat → A1 → A2 → A3 → A4 → A5 → Prop) (I : A1 → A2 → A3 → A4 → A5 → Prop) (μ : A1 → A2 → A3 → A4 → A5 → Nat) (hs : ∀ (n : Nat) (a1 : A1) (a2 : A2) (a3 : A3) (a4 : A4) (a5 : A5), I a1 a2 a3 a4 a5 → (∀ (b1 : A1) (b2 : A2) (b3 : A3) (b4 : A4) (b5 : A5), I b1 b2 b3 b4 b5 → μ b1 b2 b3 b4 b5 < μ a1 a2 a3 a4 a5 → W n b1 b2 b3 b4 b5) → W (n + 1) a1 a2 a3 a4 a5) (a1 : A1) (a2 : A2) (a3 : A3) (a4 : A4) (a5 : A5) (h : I a1 a2 a3 a4 a5) : ∃ n, W n a1 a2 a3 a4 a5 :=
  loop_m (σ := A1 × A2 × A3 × A4 × A5) (fun n s => W n s.1 s.2.1 s.2.2.1 s.2.2.2.1 s.2.2.2.2) (fun s => I s.1 s.2.1 s.2.2.1 s.2.2.2.1 s.2.2.2.2) (fun s => μ s.1 s.2.1 s.2.2.1 s.2.2.2.1 s.2.2.2.2) (fun n s hI hk => hs n s.1 s.2.1 s.2.2.1 s.2.2.2.1 s.2.2.2.2 hI (fun b1 b2 b3 b4 b5 h9 hm => hk (b1, b2, b3, b4, b5) h9 hm)) (a1, a2, a3, a4, a5) h
theorem lp6 {A1 A2 A3 A4 A5 A6 : Type} (W : Nat → A1 → A2 → A3 → A4 → A5 → A6 → Prop) (I : A1 → A2 → A3 → A4 → A5 → A6 → Prop) (μ : A1 → A2 → A3 → A4 → A5 → A6 → Nat) (hs : ∀ (n : Nat) (a1 : A1) (a2 : A2) (a3 : A3) (a4 : A4) (a5 : A5) (a6 : A6), I a1 a2 a3 a4 a5 a6 → (∀ (b1 : A1) (b2 : A2) (b3 : A3) (b4 : A4) (b5 : A5) (b6 : A6), I b1 b2 b3 b4 b5 b6 → μ b1 b2 b3 b4 b5 b6 < μ a1 a2 a3 a4 a5 a6 → W n b1 b2 b3 b4 b5 b6) → W (n + 1) a1 a2 a3 a4 a5 a6) (a1 : A1) (a2 : A2) (a3 : A3) (a4 : A4) (a5 : A5) (a6 : A6) (h : I a1 a2 a3 a4 a5 a6) : ∃ n, W n a1 a2 a3 a4 a5 a6 :=
  loop_m (σ := A1 × A2 × A3 × A4 × A5 × A6) (fun n s => W n s.1 s.2.1 s.2.2.1 s.2.2.2.1 s.2.2.2.2.1 s.2.2.2.2.2) (fun s => I s.1 s.2.1 s.2.2.1 s.2.2.2.1 s.2.2.2.2.1 s.2.2.2.2.2) (fun s => μ s.1 s.2.1 s.2.2.1 s.2.2.2.1 s.2.2.2.2.1 s.2.2.2.2.2) (fun n s hI hk => hs n s.1 s.2.1 s.2.2.1 s.2.2.2.1 s.2.2.2.2.1 s.2.2.2.2.2 hI (fun b1 b2 b3 b4 b5 b6 h9 hm => hk (b1, b2, b3, b4, b5, b6) h9 hm)) (a1, a2, a3, a4, a5, a6) h
theorem lp7 {A1 A2 A3 A4 A5 A6 A7 : Type} (W : Nat → A1 → A2 → A3 → A4 → A5 → A6 → A7 → Prop) (I : A1 → A2 → A3 → A4 → A5 → A6 → A7 → Prop) (μ : A1 → A2 → A3 → A4 → A5 → A6 → A7 → Nat) (hs : ∀ (n : Nat) (a1 : A1) (a2 : A2) (a3 : A3) (a4 : A4) (a5 : A5) (a6 : A6) (a7 : A7), I a1 a2 a3 a4 a5 a6 a7 → (∀ (b1 : A1) (b2 : A2) (b3 : A3) (b4 : A4) (b5 : A5) (b6 : A6) (b7 : A7), I b1 b2 b3 b4 b5 b6 b7 → μ b1 b2 b3 b4 b5 b6 b7 < μ a1 a2 a3 a4 a5 a6 a7 → W n b1 b2 b3 b4 b5 b6 b7) → W (n + 1) a1 a2 a3 a4 a5 a6 a7) (a1 : A1) (a2 : A2) (a3 : A3) (a4 : A4) (a5 : A5) (a6 : A6) (a7 : A7) (h : I a1 a2 a3 a4 a5 a6 a7) : ∃ n, W n a1 a2 a3 a4 a5 a6 a7 :=
  loop_m (σ := A1 × A2 × A3 × A4 × A5 × A6 × A7) (fun n s => W n s.1 s.2.1 s.2.2.1 s.2.2.2.1 s.2.2.2.2.1 s.2.2.2.2.2.1 s.2.2.2.2.2.2) (fun s => I s.1 s.2.1 s.2.2.1 s.2.2.2.1 s.2.2.2.2.1 s.2.2.2.2.2.1 s.2.2.2.2.2.2) (fun s => μ s.1 s.2.1 s.2.2.1 s.2.2.2.1 s.2.2.2.2.1 s.2.2.2.2.2.1 s.2.2.2.2.2.2) (fun n s hI hk => hs n s.1 s.2.1 s.2.2.1 s.2.2.2.1 s.2.2.2.2.1 s.2.2.2.2.2.1 s.2.2.2.2.2.2 hI (fun b1 b2 b3 b4 b5 b6 b7 h9 hm => hk (b1, b2, b3, b4, b5, b6, b7) h9 hm)) (a1, a2, a3, a4, a5, a6, a7) h
theorem lp8 {A1 A2 A3 A4 A5 A6 A7 A8 : Type} (W : Nat → A1 → A2 → A3 → A4 → A5 → A6 → A7 → A8 → Prop) (I : A1 → A2 → A3 → A4 → A5 → A6 → A7 → A8 → Prop) (μ : A1 → A2 → A3 → A4 → A5 → A6 → A7 → A8 → Nat) (hs : ∀ (n : Nat) (a1 : A1) (a2 : A2) (a3 : A3) (a4 : A4) (a5 : A5) (a6 : A6) (a7 : A7) (a8 : A8), I a1 a2 a3 a4 a5 a6 a7 a8 → (∀ (b1 : A1) (b2 : A2) (b3 : A3) (b4 : A4) (b5 : A5) (b6 : A6) (b7 : A7) (b8 : A8), I b1 b2 b3 b4 b5 b6 b7 b8 → μ b1 b2 b3 b4 b5 b6 b7 b8 < μ a1 a2 a3 a4 a5 a6 a7 a8 → W n b1 b2 b3 b4 b5 b6 b7 b8) → W (n + 1) a1 a2 a3 a4 a5 a6 a7 a8) (a1 : A1) (a2 : A2) (a3 : A3) (a4 : A4) (a5 : A5) (a6 : A6) (a7 : A7) (a8 : A8) (h : I a1 a2 a3 a4 a5 a6 a7 a8) : ∃ n, W n a1 a2 a3 a4 a5 a6 a7 a8 :=
  loop_m (σ := A1 × A2 × A3 × A4 × A5 × A6 × A7 × A8) (fun n s => W n s.1 s.2.1 s.2.2.1 s.2.2.2.1 s.2.2.2.2.1 s.2.2.2.2.2.1 s.2.2.2.2.2.2.1 s.2.2.2.2.2.2.2) (fun s => I s.1 s.2.1 s.2.2.1 s.2.2.2.1 s.2.2.2.2.1 s.2.2.2.2.2.1 s.2.2.2.2.2.2.1 s.2.2.2.2.2.2.2) (fun s => μ s.1 s.2.1 s.2.2.1 s.2.2.2.1 s.2.2.2.2.1 s.2.2.2.2.2.1 s.2.2.2.2.2.2.1 s.2.2.2.2.2.2.2) (fun n s hI hk => hs n s.1 s.2.1 s.2.2.1 s.2.2.2.1 s.2.2.2.2.1 s.2.2.2.2.2.1 s.2.2.2.2.2.2.1 s.2.2.2.2.2.2.2 hI (fun b1 b2 b3 b4 b5 b6 b7 b8 h9 hm => hk (b1, b2, b3, b4, b5, b6, b7, b8) h9 hm)) (a1, a2, a3, a4, a5, a6, a7, a8) h
theorem lp9 {A1 A2 A3 A4 A5 A6 A7 A8 A9 : Type} (W : Nat → A1 → A2 → A3 → A4 → A5 → A6 → A7 → A8 → A9 → Prop) (I : A1 → A2 → A3 → A4 → A5 → A6 → A7 → A8 → A9 → Prop) (μ : A1 → A2 → A3 → A4 → A5 → A6 → A7 → A8 → A9 → Nat) (hs : ∀ (n : Nat) (a1 : A1) (a2 : A2) (a3 : A3) (a4 : A4) (a5 : A5) (a6 : A6) (a7 : A7) (a8 : A8) (a9 : A9), I a1 a2 a3 a4 a5 a6 a7 a8 a9 → (∀ (b1 : A1) (b2 : A2) (b3 : A3) (b4 : A4) (b5 : A5) (b6 : A6) (b7 : A7) (b8 : A8) (b9 : A9), I b1 b2 b3 b4 b5 b6 b7 b8 b9 → μ b1 b2 b3 b4 b5 b6 b7 b8 b9 < μ a1 a2 a3 a4 a5 a6 a7 a8 a9 → W n b1 b2 b3 b4 b5 b6 b7 b8 b9) → W (n + 1) a1 a2 a3 a4 a5 a6 a7 a8 a9) (a1 : A1) (a2 : A2) (a3 : A3) (a4 : A4) (a5 : A5) (a6 : A6) (a7 : A7) (a8 : A8) (a9 : A9) (h : I a1 a2 a3 a4 a5 a6 a7 a8 a9) : ∃ n, W n a1 a2 a3 a4 a5 a6 a7 a8 a9 :=
  loop_m (σ := A1 × A2 × A3 × A4 × A5 × A6 × A7 × A8 × A9) (fun n s => W n s.1 s.2.1 s.2.2.1 s.2.2.2.1 s.2.2.2.2.1 s.2.2.2.2.2.1 s.2.2.2.2.2.2.1 s.2.2.2.2.2.2.2.1 s.2.2.2.2.2.2.2.2) (fun s => I s.1 s.2.1 s.2.2.1 s.2.2.2.1 s.2.2.2.2.1 s.2.2.2.2.2.1 s.2.2.2.2.2.2.1 s.2.2.2.2.2.2.2.1 s.2.2.2.2.2.2.2.2) (fun s => μ s.1 s.2.1 s.2.2.1 s.2.2.2.1 s.2.2.2.2.1 s.2.2.2.2.2.1 s.2.2.2.2.2.2.1 s.2.2.2.2.2.2.2.1 s.2.2.2.2.2.2.2.2) (fun n s hI hk => hs n s.1 s.2.1 s.2.2.1 s.2.2.2.1 s.2.2.2.2.1 s.2.2.2.2.2.1 s.2.2.2.2.2.2.1 s.2.2.2.2.2.2.2.1 s.2.2.2.2.2.2.2.2 hI (fun b1 b2 b3 b4 b5 b6 b7 b8 b9 h9 hm => hk (b1, b2, b3, b4, b5, b6, b7, b8, b9) h9 hm)) (a1, a2, a3, a4, a5, a6, a7, a8, a9) h
theorem lp10 {A1 A2 A3 A4 A5 A6 A7 A8 A9 A10 : Type} (W : Nat → A1 → A2 → A3 → A4 → A5 → A6 → A7 → A8 → A9 → A10 → Prop) (I : A1 → A2 → A3 → A4 → A5 → A6 → A7 → A8 → A9 → A10 → Prop) (μ : A1 → A2 → A3 → A4 → A5 → A6 → A7 → A8 → A9 → A10 → Nat) (hs : ∀ (n : Nat) (a1 : A1) (a2 : A2) (a3 : A3) (a4 : A4) (a5 : A5) (a6 : A6) (a7 : A7) (a8 : A8) (a9 : A9) (a10 : A10), I a1 a2 a3 a4 a5 a6 a7 a8 a9 a10 → (∀ (b1 : A1) (b2 : A2) (b3 : A3) (b4 : A4) (b5 : A5) (b6 : A6) (b7 : A7) (b8 : A8) (b9 : A9) (b10 : A10), I b1 b2 b3 b4 b5 b6 b7 b8 b9 b10 → μ b1 b2 b3 b4 b5 b6 b7 b8 b9 b10 < μ a1 a2 a3 a4 a5 a6 a7 a8 a9 a10 → W n b1 b2 b3 b4 b5 b6 b7 b8 b9 b10) → W (n + 1) a1 a2 a3 a4 a5 a6 a7 a8 a9 a10) (a1 : A1) (a2 : A2) (a3 : A3) (a4 : A4) (a5 : A5) (a6 : A6) (a7 : A7) (a8 : A8) (a9 : A9) (a10 : A10) (h : I a1 a2 a3 a4 a5 a6 a7 a8 a9 a10) : ∃ n, W n a1 a2 a3 a4 a5 a6 a7 a8 a9 a10 :=
  loop_m (σ := A1 × A2 × A3 × A4 × A5 × A6 × A7 × A8 × A9 × A10) (fun n s => W n s.1 s.2.1 s.2.2.1 s.2.2.2.1 s.2.2.2.2.1 s.2.2.2.2.2.1 s.2.2.2.2.2.2.1 s.2.2.2.2.2.2.2.1 s.2.2.2.2.2.2.2.2.1 s.2.2.2.2.2.2.2.2.2) (fun s => I s.1 s.2.1 s.2.2.1 s.2.2.2.1 s.2.2.2.2.1 s.2.2.2.2.2.1 s.2.2.2.2.2.2.1 s.2.2.2.2.2.2.2.1 s.2.2.2.2.2.2.2.2.1 s.2.2.2.2.2.2.2.2.2) (fun s => μ s.1 s.2.1 s.2.2.1 s.2.2.2.1 s.2.2.2.2.1 s.2.2.2.2.2.1 s.2.2.2.2.2.2.1 s.2.2.2.2.2.2.2.1 s.2.2.2.2.2.2.2.2.1 s.2.2.2.2.2.2.2.2.2) (fun n s hI hk => hs n s.1 s.2.1 s.2.2.1 s.2.2.2.1 s.2.2.2.2.1 s.2.2.2.2.2.1 s.2.2.2.2.2.2.1 s.2.2.2.2.2.2.2.1 s.2.2.2.2.2.2.2.2.1 s.2.2.2.2.2.2.2.2.2 hI (fun b1 b2 b3 b4 b5 b6 b7 b8 b9 b10 h9 hm => hk (b1, b2, b3, b4, b5, b6, b7, b8, b9, b10) h9 hm)) (a1, a2, a3, a4, a5, a6, a7, a8, a9, a10) h
theorem lp11 {A1 A2 A3 A4 A5 A6 A7 A8 A9 A10 A11 : Type} (W : Nat → A1 → A2 → A3 → A4 → A5 → A6 → A7 → A8 → A9 → A10 → A11 → Prop) (I : A1 → A2 → A3 → A4 → A5 → A6 → A7 → A8 → A9 → A10 → A11 → Prop) (μ : A1 → A2 → A3 → A4 → A5 → A6 → A7 → A8 → A9 → A10 → A11 → Nat) (hs : ∀ (n : Nat) (a1 : A1) (a2 : A2) (a3 : A3) (a4 : A4) (a5 : A5) (a6 : A6) (a7 : A7) (a8 : A8) (a9 : A9) (a10 : A10) (a11 : A11), I a1 a2 a3 a4 a5 a6 a7 a8 a9 a10 a11 → (∀ (b1 : A1) (b2 : A2) (b3 : A3) (b4 : A4) (b5 : A5) (b6 : A6) (b7 : A7) (b8 : A8) (b9 : A9) (b10 : A10) (b11 : A11), I b1 b2 b3 b4 b5 b6 b7 b8 b9 b10 b11 → μ b1 b2 b3 b4 b5 b6 b7 b8 b9 b10 b11 < μ a1 a2 a3 a4 a5 a6 a7 a8 a9 a10 a11 → W n b1 b2 b3 b4 b5 b6 b7 b8 b9 b10 b11) → W (n + 1) a1 a2 a3 a4 a5 a6 a7 a8 a9 a10 a11) (a1 : A1) (a2 : A2) (a3 : A3) (a4 : A4) (a5 : A5) (a6 : A6) (a7 : A7) (a8 : A8) (a9 : A9) (a10 : A10) (a11 : A11) (h : I a1 a2 a3 a4 a5 a6 a7 a8 a9 a10 a11) : ∃ n, W n a1 a2 a3 a4 a5 a6 a7 a8 a9 a10 a11 :=
  loop_m (σ := A1 × A2 × A3 × A4 × A5 × A6 × A7 × A8 × A9 × A10 × A11) (fun n s => W n s.1 s.2.1 s.2.2.1 s.2.2.2.1 s.2.2.2.2.1 s.2.2.2.2.2.1 s.2.2.2.2.2.2.1 s.2.2.2.2.2.2.2.1 s.2.2.2.2.2.2.2.2.1 s.2.2.2.2.2.2.2.2.2.1 s.2.2.2.2.2.2.2.2.2.2) (fun s => I s.1 s.2.1 s.2.2.1 s.2.2.2.1 s.2.2.2.2.1 s.2.2.2.2.2.1 s.2.2.2.2.2.2.1 s.2.2.2.2.2.2.2.1 s.2.2.2.2.2.2.2.2.1 s.2.2.2.2.2.2.2.2.2.1 s.2.2.2.2.2.2.2.2.2.2) (fun s => μ s.1 s.2.1 s.2.2.1 s.2.2.2.1 s.2.2.2.2.1 s.2.2.2.2.2.1 s.2.2.2.2.2.2.1 s.2.2.2.2.2.2.2.1 s.2.2.2.2.2.2.2.2.1 s.2.2.2.2.2.2.2.2.2.1 s.2.2.2.2.2.2.2.2.2.2) (fun n s hI hk => hs n s.1 s.2.1 s.2.2.1 s.2.2.2.1 s.2.2.2.2.1 s.2.2.2.2.2.1 s.2.2.2.2.2.2.1 s.2.2.2.2.2.2.2.1 s.2.2.2.2.2.2.2.2.1 s.2.2.2.2.2.2.2.2.2.1 s.2.2.2.2.2.2.2.2.2.2 hI (fun b1 b2 b3 b4 b5 b6 b7 b8 b9 b10 b11 h9 hm => hk (b1, b2, b3, b4, b5, b6, b7, b8, b9, b10, b11) h9 hm)) (a1, a2, a3, a4, a5, a6, a7, a8, a9, a10, a11) h
theorem lp12 {A1 A2 A3 A4 A5 A6 A7 A8 A9 A10 A11 A12 : Type} (W : Nat → A1 → A2 → A3 → A4 → A5 → A6 → A7 → A8 → A9 → A10 → A11 → A12 → Prop) (I : A1 → A2 → A3 → A4 → A5 → A6 → A7 → A8 → A9 → A10 → A11 → A12 → Prop) (μ : A1 → A2 → A3 → A4 → A5 → A6 → A7 → A8 → A9 → A10 → A11 → A12 → Nat) (hs : ∀ (n : Nat) (a1 : A1) (a2 : A2) (a3 : A3) (a4 : A4) (a5 : A5) (a6 : A6) (a7 : A7) (a8 : A8) (a9 : A9) (a10 : A10) (a11 : A11) (a12 : A12), I a1 a2 a3 a4 a5 a6 a7 a8 a9 a10 a11 a12 → (∀ (b1 : A1) (b2 : A2) (b3 : A3) (b4 : A4) (b5 : A5) (b6 : A6) (b7 : A7) (b8 : A8) (b9 : A9) (b10 : A10) (b11 : A11) (b12 : A12), I b1 b2 b3 b4 b5 b6 b7 b8 b9 b10 b11 b12 → μ b1 b2 b3 b4 b5 b6 b7 b8 b9 b10 b11 b12 < μ a1 a2 a3 a4 a5 a6 a7 a8 a9 a10 a11 a12 → W n b1 b2 b3 b4 b5 b6 b7 b8 b9 b10 b11 b12) → W (n + 1) a1 a2 a3 a4 a5 a6 a7 a8 a9 a10 a11 a12) (a1 : A1) (a2 : A2) (a3 : A3) (a4 : A4) (a5 : A5) (a6 : A6) (a7 : A7) (a8 : A8) (a9 : A9) (a10 : A10) (a11 : A11) (a12 : A12) (h : I a1 a2 a3 a4 a5 a6 a7 a8 a9 a10 a11 a12) : ∃ n, W n a1 a2 a3 a4 a5 a6 a7 a8 a9 a10 a11 a12 :=
  loop_m (σ := A1 × A2 × A3 × A4 × A5 × A6 × A7 × A8 × A9 × A10 × A11 × A12) (fun n s => W n s.1 s.2.1 s.2.2.1 s.2.2.2.1 s.2.2.2.2.1 s.2.2.2.2.2.1 s.2.2.2.2.2.2.1 s.2.2.2.2.2.2.2.1 s.2.2.2.2.2.2.2.2.1 s.2.2.2.2.2.2.2.2.2.1 s.2.2.2.2.2.2.2.2.2.2.1 s.2.2.2.2.2.2.2.2.2.2.2) (fun s => I s.1 s.2.1 s.2.2.1 s.2.2.2.1 s.2.2.2.2.1 s.2.2.2.2.2.1 s.2.2.2.2.2.2.1 s.2.2.2.2.2.2.2.1 s.2.2.2.2.2.2.2.2.1 s.2.2.2.2.2.2.2.2.2.1 s.2.2.2.2.2.2.2.2.2.2.1 s.2.2.2.2.2.2.2.2.2.2.2) (fun s => μ s.1 s.2.1 s.2.2.1 s.2.2.2.1 s.2.2.2.2.1 s.2.2.2.2.2.1 s.2.2.2.2.2.2.1 s.2.2.2.2.2.2.2.1 s.2.2.2.2.2.2.2.2.1 s.2.2.2.2.2.2.2.2.2.1 s.2.2.2.2.2.2.2.2.2.2.1 s.2.2.2.2.2.2.2.2.2.2.2) (fun n s hI hk => hs n s.1 s.2.1 s.2.2.1 s.2.2.2.1 s.2.2.2.2.1 s.2.2.2.2.2.1 s.2.2.2.2.2.2.1 s.2.2.2.2.2.2.2.1 s.2.2.2.2.2.2.2.2.1 s.2.2.2.2.2.2.2.2.2.1 s.2.2.2.2.2.2.2.2.2.2.1 s.2.2.2.2.2.2.2.2.2.2.2 hI (fun b1 b2 b3 b4 b5 b6 b7 b8 b9 b10 b11 b12 h9 hm => hk (b1, b2, b3, b4, b5, b6, b7, b8, b9, b10, b11, b12) h9 hm)) (a1, a2, a3, a4, a5, a6, a7, a8, a9, a10, a11, a12) h
theorem lp13 {A1 A2 A3 A4 A5 A6 A7 A8 A9 A10 A11 A12 A13 : Type} (W : Nat → A1 → A2 → A3 → A4 → A5 → A6 → A7 → A8 → A9 → A10 → A11 → A12 → A13 → Prop) (I : A1 → A2 → A3 → A4 → A5 → A6 → A7 → A8 → A9 → A10 → A11 → A12 → A13 → Prop) (μ : A1 → A2 → A3 → A4 → A5 → A6 → A7 → A8 → A9 → A10 → A11 → A12 → A13 → Nat) (hs : ∀ (n : Nat) (a1 : A1) (a2 : A2) (a3 : A3) (a4 : A4) (a5 : A5) (a6 : A6) (a7 : A7) (a8 : A8) (a9 : A9) (a10 : A10) (a11 : A11) (a12 : A12) (a13 : A13), I a1 a2 a3 a4 a5 a6 a7 a8 a9 a10 a11 a12 a13 → (∀ (b1 : A1) (b2 : A2) (b3 : A3) (b4 : A4) (b5 : A5) (b6 : A6) (b7 : A7) (b8 : A8) (b9 : A9) (b10 : A10) (b11 : A11) (b12 : A12) (b13 : A13), I b1 b2 b3 b4 b5 b6 b7 b8 b9 b10 b11 b12 b13 → μ b1 b2 b3 b4 b5 b6 b7 b8 b9 b10 b11 b12 b13 < μ a1 a2 a3 a4 a5 a6 a7 a8 a9 a10 a11 a12 a13 → W n b1 b2 b3 b4 b5 b6 b7 b8 b9 b10 b11 b12 b13) → W (n + 1) a1 a2 a3 a4 a5 a6 a7 a8 a9 a10 a11 a12 a13) (a1 : A1) (a2 : A2) (a3 : A3) (a4 : A4) (a5 : A5) (a6 : A6) (a7 : A7) (a8 : A8) (a9 : A9) (a10 : A10) (a11 : A11) (a12 : A12) (a13 : A13) (h : I a1 a2 a3 a4 a5 a6 a7 a8 a9 a10 a11 a12 a13) : ∃ n, W n a1 a2 a3 a4 a5 a6 a7 a8 a9 a10 a11 a12 a13 :=
  loop_m (σ := A1 × A2 × A3 × A4 × A5 × A6 × A7 × A8 × A9 × A10 × A11 × A12 × A13) (fun n s => W n s.1 s.2.1 s.2.2.1 s.2.2.2.1 s.2.2.2.2.1 s.2.2.2.2.2.1 s.2.2.2.2.2.2.1 s.2.2.2.2.2.2.2.1 s.2.2.2.2.2.2.2.2.1 s.2.2.2.2.2.2.2.2.2.1 s.2.2.2.2.2.2.2.2.2.2.1 s.2.2.2.2.2.2.2.2.2.2.2.1 s.2.2.2.2.2.2.2.2.2.2.2.2) (fun s => I s.1 s.2.1 s.2.2.1 s.2.2.2.1 s.2.2.2.2.1 s.2.2.2.2.2.1 s.2.2.2.2.2.2.1 s.2.2.2.2.2.2.2.1 s.2.2.2.2.2.2.2.2.1 s.2.2.2.2.2.2.2.2.2.1 s.2.2.2.2.2.2.2.2.2.2.1 s.2.2.2.2.2.2.2.2.2.2.2.1 s.2.2.2.2.2.2.2.2.2.2.2.2) (fun s => μ s.1 s.2.1 s.2.2.1 s.2.2.2.1 s.2.2.2.2.1 s.2.2.2.2.2.1 s.2.2.2.2.2.2.1 s.2.2.2.2.2.2.2.1 s.2.2.2.2.2.2.2.2.1 s.2.2.2.2.2.2.2.2.2.1 s.2.2.2.2.2.2.2.2.2.2.1 s.2.2.2.2.2.2.2.2.2.2.2.1 s.2.2.2.2.2.2.2.2.2.2.2.2) (fun n s hI hk => hs n s.1 s.2.1 s.2.2.1 s.2.2.2.1 s.2.2.2.2.1 s.2.2.2.2.2.1 s.2.2.2.2.2.2.1 s.2.2.2.2.2.2.2.1 s.2.2.2.2.2.2.2.2.1 s.2.2.2.2.2.2.2.2.2.1 s.2.2.2.2.2.2.2.2.2.2.1 s.2.2.2.2.2.2.2.2.2.2.2.1 s.2.2.2.2.2.2.2.2.2.2.2.2 hI (fun b1 b2 b3 b4 b5 b6 b7 b8 b9 b10 b11 b12 b13 h9 hm => hk (b1, b2, b3, b4, b5, b6, b7, b8, b9, b10, b11, b12, b13) h9 hm)) (a1, a2, a3, a4, a5, a6, a7, a8, a9, a10, a11, a12, a13) h
theorem lp14 {A1 A2 A3 A4 A5 A6 A7 A8 A9 A10 A11 A12 A13 A14 : Type} (W : Nat → A1 → A2 → A3 → A4 → A5 → A6 → A7 → A8 → A9 → A10 → A11 → A12 → A13 → A14 → Prop) (I : A1 → A2 → A3 → A4 → A5 → A6 → A7 → A8 → A9 → A10 → A11 → A12 → A13 → A14 → Prop) (μ : A1 → A2 → A3 → A4 → A5 → A6 → A7 → A8 → A9 → A10 → A11 → A12 → A13 → A14 → Nat) (hs : ∀ (n : Nat) (a1 : A1) (a2 : A2) (a3 : A3) (a4 : A4) (a5 : A5) (a6 : A6) (a7 : A7) (a8 : A8) (a9 : A9) (a10 : A10) (a11 : A11) (a12 : A12) (a13 : A13) (a14 : A14), I a1 a2 a3 a4 a5 a6 a7 a8 a9 a10 a11 a12 a13 a14 → (∀ (b1 : A1) (b2 : A2) (b3 : A3) (b4 : A4) (b5 : A5) (b6 : A6) (b7 : A7) (b8 : A8) (b9 : A9) (b10 : A10) (b11 : A11) (b12 : A12) (b13 : A13) (b14 : A14), I b1 b2 b3 b4 b5 b6 b7 b8 b9 b10 b11 b12 b13 b14 → μ b1 b2 b3 b4 b5 b6 b7 b8 b9 b10 b11 b12 b13 b14 < μ a1 a2 a3 a4 a5 a6 a7 a8 a9 a10 a11 a12 a13 a14 → W n b1 b2 b3 b4 b5 b6 b7 b8 b9 b10 b11 b12 b13 b14) → W (n + 1) a1 a2 a3 a4 a5 a6 a7 a8 a9 a10 a11 a12 a13 a14) (a1 : A1) (a2 : A2) (a3 : A3) (a4 : A4) (a5 : A5) (a6 : A6) (a7 : A7) (a8 : A8) (a9 : A9) (a10 : A10) (a11 : A11) (a12 : A12) (a13 : A13) (a14 : A14) (h : I a1 a2 a3 a4 a5 a6 a7 a8 a9 a10 a11 a12 a13 a14) : ∃ n, W n a1 a2 a3 a4 a5 a6 a7 a8 a9 a10 a11 a12 a13 a14 :=
  loop_m (σ := A1 × A2 × A3 × A4 × A5 × A6 × A7 × A8 × A9 × A10 × A11 × A12 × A13 × A14) (fun n s => W n s.1 s.2.1 s.2.2.1 s.2.2.2.1 s.2.2.2.2.1 s.2.2.2.2.2.1 s.2.2.2.2.2.2.1 s.2.2.2.2.2.2.2.1 s.2.2.2.2.2.2.2.2.1 s.2.2.2.2.2.2.2.2.2.1 s.2.2.2.2.2.2.2.2.2.2.1 s.2.2.2.2.2.2.2.2.2.2.2.1 s.2.2.2.2.2.2.2.2.2.2.2.2.1 s.2.2.2.2.2.2.2.2.2.2.2.2.2) (fun s => I s.1 s.2.1 s.2.2.1 s.2.2.2.1 s.2.2.2.2.1 s.2.2.2.2.2.1 s.2.2.2.2.2.2.1 s.2.2.2.2.2.2.2.1 s.2.2.2.2.2.2.2.2.1 s.2.2.2.2.2.2.2.2.2.1 s.2.2.2.2.2.2.2.2.2.2.1 s.2.2.2.2.2.2.2.2.2.2.2.1 s.2.2.2.2.2.2.2.2.2.2.2.2.1 s.2.2.2.2.2.2.2.2.2.2.2.2.2) (fun s => μ s.1 s.2.1 s.2.2.1 s.2.2.2.1 s.2.2.2.2.1 s.2.2.2.2.2.1 s.2.2.2.2.2.2.1 s.2.2.2.2.2.2.2.1 s.2.2.2.2.2.2.2.2.1 s.2.2.2.2.2.2.2.2.2.1 s.2.2.2.2.2.2.2.2.2.2.1 s.2.2.2.2.2.2.2.2.2.2.2.1 s.2.2.2.2.2.2.2.2.2.2.2.2.1 s.2.2.2.2.2.2.2.2.2.2.2.2.2) (fun n s hI hk => hs n s.1 s.2.1 s.2.2.1 s.2.2.2.1 s.2.2.2.2.1 s.2.2.2.2.2.1 s.2.2.2.2.2.2.1 s.2.2.2.2.2.2.2.1 s.2.2.2.2.2.2.2.2.1 s.2.2.2.2.2.2.2.2.2.1 s.2.2.2.2.2.2.2.2.2.2.1 s.2.2.2.2.2.2.2.2.2.2.2.1 s.2.2.2.2.2.2.2.2.2.2.2.2.1 s.2.2.2.2.2.2.2.2.2.2.2.2.2 hI (fun b1 b2 b3 b4 b5 b6 b7 b8 b9 b10 b11 b12 b13 b14 h9 hm => hk (b1, b2, b3, b4, b5, b6, b7, b8, b9, b10, b11, b12, b13, b14) h9 hm)) (a1, a2, a3, a4, a5, a6, a7, a8, a9, a10, a11, a12, a13, a14) h
theorem lp15 {A1 A2 A3 A4 A5 A6 A7 A8 A9 A10 A11 A12 A13 A14 A15 : Type} (W : Nat → A1 → A2 → A3 → A4 → A5 → A6 → A7 → A8 → A9 → A10 → A11 → A12 → A13 → A14 → A15 → Prop) (I : A1 → A2 → A3 → A4 → A5 → A6 → A7 → A8 → A9 → A10 → A11 → A12 → A13 → A14 → A15 → Prop) (μ : A1 → A2 → A3 → A4 → A5 → A6 → A7 → A8 → A9 → A10 → A11 → A12 → A13 → A14 → A15 → Nat) (hs : ∀ (n : Nat) (a1 : A1) (a2 : A2) (a3 : A3) (a4 : A4) (a5 : A5) (a6 : A6) (a7 : A7) (a8 : A8) (a9 : A9) (a10 : A10) (a11 : A11) (a12 : A12) (a13 : A13) (a14 : A14) (a15 : A15), I a1 a2 a3 a4 a5 a6 a7 a8 a9 a10 a11 a12 a13 a14 a15 → (∀ (b1 : A1) (b2 : A2) (b3 : A3) (b4 : A4) (b5 : A5) (b6 : A6) (b7 : A7) (b8 : A8) (b9 : A9) (b10 : A10) (b11 : A11) (b12 : A12) (b13 : A13) (b14 : A14) (b15 : A15), I b1 b2 b3 b4 b5 b6 b7 b8 b9 b10 b11 b12 b13 b14 b15 → μ b1 b2 b3 b4 b5 b6 b7 b8 b9 b10 b11 b12 b13 b14 b15 < μ a1 a2 a3 a4 a5 a6 a7 a8 a9 a10 a11 a12 a13 a14 a15 → W n b1 b2 b3 b4 b5 b6 b7 b8 b9 b10 b11 b12 b13 b14 b15) → W (n + 1) a1 a2 a3 a4 a5 a6 a7 a8 a9 a10 a11 a12 a13 a14 a15) (a1 : A1) (a2 : A2) (a3 : A3) (a4 : A4) (a5 : A5) (a6 : A6) (a7 : A7) (a8 : A8) (a9 : A9) (a10 : A10) (a11 : A11) (a12 : A12) (a13 : A13) (a14 : A14) (a15 : A15) (h : I a1 a2 a3 a4 a5 a6 a7 a8 a9 a10 a11 a12 a13 a14 a15) : ∃ n, W n a1 a2 a3 a4 a5 a6 a7 a8 a9 a10 a11 a12 a13 a14 a15 :=
  loop_m (σ := A1 × A2 × A3 × A4 × A5 × A6 × A7 × A8 × A9 × A10 × A11 × A12 × A13 × A14 × A15) (fun n s => W n s.1 s.2.1 s.2.2.1 s.2.2.2.1 s.2.2.2.2.1 s.2.2.2.2.2.1 s.2.2.2.2.2.2.1 s.2.2.2.2.2.2.2.1 s.2.2.2.2.2.2.2.2.1 s.2.2.2.2.2.2.2.2.2.1 s.2.2.2.2.2.2.2.2.2.2.1 s.2.2.2.2.2.2.2.2.2.2.2.1 s.2.2.2.2.2.2.2.2.2.2.2.2.1 s.2.2.2.2.2.2.2.2.2.2.2.2.2.1 s.2.2.2.2.2.2.2.2.2.2.2.2.2.2) (fun s => I s.1 s.2.1 s.2.2.1 s.2.2.2.1 s.2.2.2.2.1 s.2.2.2.2.2.1 s.2.2.2.2.2.2.1 s.2.2.2.2.2.2.2.1 s.2.2.2.2.2.2.2.2.1 s.2.2.2.2.2.2.2.2.2.1 s.2.2.2.2.2.2.2.2.2.2.1 s.2.2.2.2.2.2.2.2.2.2.2.1 s.2.2.2.2.2.2.2.2.2.2.2.2.1 s.2.2.2.2.2.2.2.2.2.2.2.2.2.1 s.2.2.2.2.2.2.2.2.2.2.2.2.2.2) (fun s => μ s.1 s.2.1 s.2.2.1 s.2.2.2.1 s.2.2.2.2.1 s.2.2.2.2.2.1 s.2.2.2.2.2.2.1 s.2.2.2.2.2.2.2.1 s.2.2.2.2.2.2.2.2.1 s.2.2.2.2.2.2.2.2.2.1 s.2.2.2.2.2.2.2.2.2.2.1 s.2.2.2.2.2.2.2.2.2.2.2.1 s.2.2.2.2.2.2.2.2.2.2.2.2.1 s.2.2.2.2.2.2.2.2.2.2.2.2.2.1 s.2.2.2.2.2.2.2.2.2.2.2.2.2.2) (fun n s hI hk => hs n s.1 s.2.1 s.2.2.1 s.2.2.2.1 s.2.2.2.2.1 s.2.2.2.2.2.1 s.2.2.2.2.2.2.1 s.2.2.2.2.2.2.2.1 s.2.2.2.2.2.2.2.2.1 s.2.2.2.2.2.2.2.2.2.1 s.2.2.2.2.2.2.2.2.2.2.1 s.2.2.2.2.2.2.2.2.2.2.2.1 s.2.2.2.2.2.2.2.2.2.2.2.2.1 s.2.2.2.2.2.2.2.2.2.2.2.2.2.1 s.2.2.2.2.2.2.2.2.2.2.2.2.2.2 hI (fun b1 b2 b3 b4 b5 b6 b7 b8 b9 b10 b11 b12 b13 b14 b15 h9 hm => hk (b1, b2, b3, b4, b5, b6, b7, b8, b9, b10, b11, b12, b13, b14, b15) h9 hm)) (a1, a2, a3, a4, a5, a6, a7, a8, a9, a10, a11, a12, a13, a14, a15) h
theorem lp16 {A1 A2 A3 A4 A5 A6 A7 A8 A9 A10 A11 A12 A13 A14 A15 A16 : Type} (W : Nat → A1 → A2 → A3 → A4 → A5 → A6 → A7 → A8 → A9 → A10 → A11 → A12 → A13 → A14 → A15 → A16 → Prop) (I : A1 → A2 → A3 → A4 → A5 → A6 → A7 → A8 → A9 → A10 → A11 → A12 → A13 → A14 → A15 → A16 → Prop) (μ : A1 → A2 → A3 → A4 → A5 → A6 → A7 → A8 → A9 → A10 → A11 → A12 → A13 → A14 → A15 → A16 → Nat) (hs : ∀ (n : Nat) (a1 : A1) (a2 : A2) (a3 : A3) (a4 : A4) (a5 : A5) (a6 : A6) (a7 : A7) (a8 : A8) (a9 : A9) (a10 : A10) (a11 : A11) (a12 : A12) (a13 : A13) (a14 : A14) (a15 : A15) (a16 : A16), I a1 a2 a3 a4 a5 a6 a7 a8 a9 a10 a11 a12 a13 a14 a15 a16 → (∀ (b1 : A1) (b2 : A2) (b3 : A3) (b4 : A4) (b5 : A5) (b6 : A6) (b7 : A7) (b8 : A8) (b9 : A9) (b10 : A10) (b11 : A11) (b12 : A12) (b13 : A13) (b14 : A14) (b15 : A15) (b16 : A16), I b1 b2 b3 b4 b5 b6 b7 b8 b9 b10 b11 b12 b13 b14 b15 b16 → μ b1 b2 b3 b4 b5 b6 b7 b8 b9 b10 b11 b12 b13 b14 b15 b16 < μ a1 a2 a3 a4 a5 a6 a7 a8 a9 a10 a11 a12 a13 a14 a15 a16 → W n b1 b2 b3 b4 b5 b6 b7 b8 b9 b10 b11 b12 b13 b14 b15 b16) → W (n + 1) a1 a2 a3 a4 a5 a6 a7 a8 a9 a10 a11 a12 a13 a14 a15 a16) (a1 : A1) (a2 : A2) (a3 : A3) (a4 : A4) (a5 : A5) (a6 : A6) (a7 : A7) (a8 : A8) (a9 : A9) (a10 : A10) (a11 : A11) (a12 : A12) (a13 : A13) (a14 : A14) (a15 : A15) (a16 : A16) (h : I a1 a2 a3 a4 a5 a6 a7 a8 a9 a10 a11 a12 a13 a14 a15 a16) : ∃ n, W n a1 a2 a3 a4 a5 a6 a7 a8 a9 a10 a11 a12 a13 a14 a15 a16 :=
  loop_m (σ := A1 × A2 × A3 × A4 × A5 × A6 × A7 × A8 × A9 × A10 × A11 × A12 × A13 × A14 × A15 × A16) (fun n s => W n s.1 s.2.1 s.2.2.1 s.2.2.2.1 s.2.2.2.2.1 s.2.2.2.2.2.1 s.2.2.2.2.2.2.1 s.2.2.2.2.2.2.2.1 s.2.2.2.2.2.2.2.2.1 s.2.2.2.2.2.2.2.2.2.1 s.2.2.2.2.2.2.2.2.2.2.1 s.2.2.2.2.2.2.2.2.2.2.2.1 s.2.2.2.2.2.2.2.2.2.2.2.2.1 s.2.2.2.2.2.2.2.2.2.2.2.2.2.1 s.2.2.2.2.2.2.2.2.2.2.2.2.2.2.1 s.2.2.2.2.2.2.2.2.2.2.2.2.2.2.2) (fun s => I s.1 s.2.1 s.2.2.1 s.2.2.2.1 s.2.2.2.2.1 s.2.2.2.2.2.1 s.2.2.2.2.2.2.1 s.2.2.2.2.2.2.2.1 s.2.2.2.2.2.2.2.2.1 s.2.2.2.2.2.2.2.2.2.1 s.2.2.2.2.2.2.2.2.2.2.1 s.2.2.2.2.2.2.2.2.2.2.2.1 s.2.2.2.2.2.2.2.2.2.2.2.2.1 s.2.2.2.2.2.2.2.2.2.2.2.2.2.1 s.2.2.2.2.2.2.2.2.2.2.2.2.2.2.1 s.2.2.2.2.2.2.2.2.2.2.2.2.2.2.2) (fun s => μ s.1 s.2.1 s.2.2.1 s.2.2.2.1 s.2.2.2.2.1 s.2.2.2.2.2.1 s.2.2.2.2.2.2.1 s.2.2.2.2.2.2.2.1 s.2.2.2.2.2.2.2.2.1 s.2.2.2.2.2.2.2.2.2.1 s.2.2.2.2.2.2.2.2.2.2.1 s.2.2.2.2.2.2.2.2.2.2.2.1 s.2.2.2.2.2.2.2.2.2.2.2.2.1 s.2.2.2.2.2.2.2.2.2.2.2.2.2.1 s.2.2.2.2.2.2.2.2.2.2.2.2.2.2.1 s.2.2.2.2.2.2.2.2.2.2.2.2.2.2.2) (fun n s hI hk => hs n s.1 s.2.1 s.2.2.1 s.2.2.2.1 s.2.2.2.2.1 s.2.2.2.2.2.1 s.2.2.2.2.2.2.1 s.2.2.2.2.2.2.2.1 s.2.2.2.2.2.2.2.2.1 s.2.2.2.2.2.2.2.2.2.1 s.2.2.2.2.2.2.2.2.2.2.1 s.2.2.2.2.2.2.2.2.2.2.2.1 s.2.2.2.2.2.2.2.2.2.2.2.2.1 s.2.2.2.2.2.2.2.2.2.2.2.2.2.1 s.2.2.2.2.2.2.2.2.2.2.2.2.2.2.1 s.2.2.2.2.2.2.2.2.2.2.2.2.2.2.2 hI (fun b1 b2 b3 b4 b5 b6 b7 b8 b9 b10 b11 b12 b13 b14 b15 b16 h9 hm => hk (b1, b2, b3, b4, b5, b6, b7, b8, b9, b10, b11, b12, b13, b14, b15, b16) h9 hm)) (a1, a2, a3, a4, a5, a6, a7, a8, a9, a10, a11, a12, a13, a14, a15, a16) h
theorem pk_least (P : Nat → Prop) (h : ∃ k, P k) : ∃ k, P k ∧ ∀ j, j < k → ¬ P j := by
  obtain ⟨k, hk⟩ := h
  induction k using Nat.strongRecOn with
  | ind k ih =>
    by_cases e : ∃ j, j < k ∧ P j
    · obtain ⟨j, hj, pj⟩ := e
      exact ih j hj pj
    · exact ⟨k, hk, fun j hj pj => e ⟨j, hj, pj⟩⟩
theorem rp1 {ρ A1 : Type} (W : Nat → (ρ → Prop) → A1 → Prop) (ok : A1 → Prop) (μ : A1 → Nat) (val : A1 → ρ)
    (hs : ∀ (d : Nat) (post : ρ → Prop) (a1 : A1), ok a1 → post (val a1) → (∀ (post' : ρ → Prop) (b1 : A1), ok b1 → μ b1 < μ a1 → post' (val b1) → W d post' b1) → W (d + 1) post a1) :
    ∀ (d : Nat) (post : ρ → Prop) (a1 : A1), ok a1 → μ a1 < d → post (val a1) → W d post a1 := by
  intro d
  induction d with
  | zero => intro post a1 _ h; omega
  | succ d ih =>
    intro post a1 ho hm hp
    exact hs d post a1 ho hp (fun post' b1 ho' hm' hp' => ih post' b1 ho' (by omega) hp')
theorem rp2 {ρ A1 A2 : Type} (W : Nat → (ρ → Prop) → A1 → A2 → Prop) (ok : A1 → A2 → Prop) (μ : A1 → A2 → Nat) (val : A1 → A2 → ρ)
    (hs : ∀ (d : Nat) (post : ρ → Prop) (a1 : A1) (a2 : A2), ok a1 a2 → post (val a1 a2) → (∀ (post' : ρ → Prop) (b1 : A1) (b2 : A2), ok b1 b2 → μ b1 b2 < μ a1 a2 → post' (val b1 b2) → W d post' b1 b2) → W (d + 1) post a1 a2) :
    ∀ (d : Nat) (post : ρ → Prop) (a1 : A1) (a2 : A2), ok a1 a2 → μ a1 a2 < d → post (val a1 a2) → W d post a1 a2 := by
  intro d
  induction d with
  | zero => intro post a1 a2 _ h; omega
  | succ d ih =>
    intro post a1 a2 ho hm hp
    exact hs d post a1 a2 ho hp (fun post' b1 b2 ho' hm' hp' => ih post' b1 b2 ho' (by omega) hp')
theorem rp3 {ρ A1 A2 A3 : Type} (W : Nat → (ρ → Prop) → A1 → A2 → A3 → Prop) (ok : A1 → A2 → A3 → Prop) (μ : A1 → A2 → A3 → Nat) (val : A1 → A2 → A3 → ρ)
    (hs : ∀ (d : Nat) (post : ρ → Prop) (a1 : A1) (a2 : A2) (a3 : A3), ok a1 a2 a3 → post (val a1 a2 a3) → (∀ (post' : ρ → Prop) (b1 : A1) (b2 : A2) (b3 : A3), ok b1 b2 b3 → μ b1 b2 b3 < μ a1 a2 a3 → post' (val b1 b2 b3) → W d post' b1 b2 b3) → W (d + 1) post a1 a2 a3) :
    ∀ (d : Nat) (post : ρ → Prop) (a1 : A1) (a2 : A2) (a3 : A3), ok a1 a2 a3 → μ a1 a2 a3 < d → post (val a1 a2 a3) → W d post a1 a2 a3 := by
  intro d
  induction d with
  | zero => intro post a1 a2 a3 _ h; omega
  | succ d ih =>
    intro post a1 a2 a3 ho hm hp
    exact hs d post a1 a2 a3 ho hp (fun post' b1 b2 b3 ho' hm' hp' => ih post' b1 b2 b3 ho' (by omega) hp')
theorem rp4 {ρ A1 A2 A3 A4 : Type} (W : Nat → (ρ → Prop) → A1 → A2 → A3 → A4 → Prop) (ok : A1 → A2 → A3 → A4 → Prop) (μ : A1 → A2 → A3 → A4 → Nat) (val : A1 → A2 → A3 → A4 → ρ)
    (hs : ∀ (d : Nat) (post : ρ → Prop) (a1 : A1) (a2 : A2) (a3 : A3) (a4 : A4), ok a1 a2 a3 a4 → post (val a1 a2 a3 a4) → (∀ (post' : ρ → Prop) (b1 : A1) (b2 : A2) (b3 : A3) (b4 : A4), ok b1 b2 b3 b4 → μ b1 b2 b3 b4 < μ a1 a2 a3 a4 → post' (val b1 b2 b3 b4) → W d post' b1 b2 b3 b4) → W (d + 1) post a1 a2 a3 a4) :
    ∀ (d : Nat) (post : ρ → Prop) (a1 : A1) (a2 : A2) (a3 : A3) (a4 : A4), ok a1 a2 a3 a4 → μ a1 a2 a3 a4 < d → post (val a1 a2 a3 a4) → W d post a1 a2 a3 a4 := by
  intro d
  induction d with
  | zero => intro post a1 a2 a3 a4 _ h; omega
  | succ d ih =>
    intro post a1 a2 a3 a4 ho hm hp
    exact hs d post a1 a2 a3 a4 ho hp (fun post' b1 b2 b3 b4 ho' hm' hp' => ih post' b1 b2 b3 b4 ho' (by omega) hp')
theorem rp5 {ρ A1 A2 A3 A4 A5 : Type} (W : Nat → (ρ → Prop) → A1 → A2 → A3 → A4 → A5 → Prop) (ok : A1 → A2 → A3 → A4 → A5 → Prop) (μ : A1 → A2 → A3 → A4 → A5 → Nat) (val : A1 → A2 → A3 → A4 → A5 → ρ)
    (hs : ∀ (d : Nat) (post : ρ → Prop) (a1 : A1) (a2 : A2) (a3 : A3) (a4 : A4) (a5 : A5), ok a1 a2 a3 a4 a5 → post (val a1 a2 a3 a4 a5) → (∀ (post' : ρ → Prop) (b1 : A1) (b2 : A2) (b3 : A3) (b4 : A4) (b5 : A5), ok b1 b2 b3 b4 b5 → μ b1 b2 b3 b4 b5 < μ a1 a2 a3 a4 a5 → post' (val b1 b2 b3 b4 b5) → W d post' b1 b2 b3 b4 b5) → W (d + 1) post a1 a2 a3 a4 a5) :
    ∀ (d : Nat) (post : ρ → Prop) (a1 : A1) (a2 : A2) (a3 : A3) (a4 : A4) (a5 : A5), ok a1 a2 a3 a4 a5 → μ a1 a2 a3 a4 a5 < d → post (val a1 a2 a3 a4 a5) → W d post a1 a2 a3 a4 a5 := by
  intro d
  induction d with
  | zero => intro post a1 a2 a3 a4 a5 _ h; omega
  | succ d ih =>
    intro post a1 a2 a3 a4 a5 ho hm hp
    exact hs d post a1 a2 a3 a4 a5 ho hp (fun post' b1 b2 b3 b4 b5 ho' hm' hp' => ih post' b1 b2 b3 b4 b5 ho' (by omega) hp')
theorem rp6 {ρ A1 A2 A3 A4 A5 A6 : Type} (W : Nat → (ρ → Prop) → A1 → A2 → A3 → A4 → A5 → A6 → Prop) (ok : A1 → A2 → A3 → A4 → A5 → A6 → Prop) (μ : A1 → A2 → A3 → A4 → A5 → A6 → Nat) (val : A1 → A2 → A3 → A4 → A5 → A6 → ρ)
    (hs : ∀ (d : Nat) (post : ρ → Prop) (a1 : A1) (a2 : A2) (a3 : A3) (a4 : A4) (a5 : A5) (a6 : A6), ok a1 a2 a3 a4 a5 a6 → post (val a1 a2 a3 a4 a5 a6) → (∀ (post' : ρ → Prop) (b1 : A1) (b2 : A2) (b3 : A3) (b4 : A4) (b5 : A5) (b6 : A6), ok b1 b2 b3 b4 b5 b6 → μ b1 b2 b3 b4 b5 b6 < μ a1 a2 a3 a4 a5 a6 → post' (val b1 b2 b3 b4 b5 b6) → W d post' b1 b2 b3 b4 b5 b6) → W (d + 1) post a1 a2 a3 a4 a5 a6) :
    ∀ (d : Nat) (post : ρ → Prop) (a1 : A1) (a2 : A2) (a3 : A3) (a4 : A4) (a5 : A5) (a6 : A6), ok a1 a2 a3 a4 a5 a6 → μ a1 a2 a3 a4 a5 a6 < d → post (val a1 a2 a3 a4 a5 a6) → W d post a1 a2 a3 a4 a5 a6 := by
  intro d
  induction d with
  | zero => intro post a1 a2 a3 a4 a5 a6 _ h; omega
  | succ d ih =>
    intro post a1 a2 a3 a4 a5 a6 ho hm hp
    exact hs d post a1 a2 a3 a4 a5 a6 ho hp (fun post' b1 b2 b3 b4 b5 b6 ho' hm' hp' => ih post' b1 b2 b3 b4 b5 b6 ho' (by omega) hp')
theorem rec_p {σ ρ : Type} (W : Nat → (ρ → Prop) → σ → Prop) (ok : σ → Prop) (μ : σ → Nat) (val : σ → ρ)
    (hs : ∀ d s post, ok s → post (val s) → (∀ s' post', ok s' → μ s' < μ s → post' (val s') → W d post' s') → W (d + 1) post s) :
    ∀ d s post, ok s → μ s < d → post (val s) → W d post s := by
  intro d
  induction d with
  | zero => intro s post _ h; omega
  | succ d ih =>
    intro s post ho hm hp
    exact hs d s post ho hp (fun s' post' ho' hm' hp' => ih s' post' ho' (by omega) hp')
theorem rec_q {σ ρ : Type} (W : Nat → (ρ → Prop) → σ → Prop) (ok : σ → Prop) (μ : σ → Nat) (Q : σ → ρ → Prop)
    (hs : ∀ d s post, ok s → (∀ r, Q s r → post r) → (∀ s' post', ok s' → μ s' < μ s → (∀ r, Q s' r → post' r) → W d post' s') → W (d + 1) post s) :
    ∀ d s post, ok s → μ s < d → (∀ r, Q s r → post r) → W d post s := by
  intro d
  induction d with
  | zero => intro s post _ h; omega
  | succ d ih =>
    intro s post ho hm hp
    exact hs d s post ho hp (fun s' post' ho' hm' hp' => ih s' post' ho' (by omega) hp')
def bx_sum (f : Nat → Int32) : Nat → Int32
  | 0 => 0
  | n + 1 => bx_sum f n + f n
theorem ek_u {A : Prop} {B : Nat → Prop} {k N : Nat} (hk : k < N) (h : B k) : (some k = none → A) ∧ (∀ y : Nat, some k = some y → (y < N ∧ B y)) :=
  ⟨fun z => absurd z (Option.some_ne_none k), fun _ e => (by cases e; exact ⟨hk, h⟩)⟩
theorem ek_nu {A : Prop} {B : Nat → Prop} (h : A) : ((none : Option Nat) = none → A) ∧ (∀ y : Nat, (none : Option Nat) = some y → B y) :=
  ⟨fun _ => h, fun _ e => (by cases e)⟩
theorem ek_if {c d A B : Prop} (e : c ↔ d) (f : d → A) (g : ¬ d → B) : (c → A) ∧ (¬ c → B) :=
  ⟨fun z => f (e.mp z), fun z => g (fun y => z (e.mpr y))⟩
theorem ek_v {α : Sort _} {P : α → Prop} {a b : α} (e : a = b) (h : P b) : P a := e ▸ h
theorem co_some {x : Option Nat} {A : Prop} {B : Nat → Prop} (i : Nat) (h : B i) (hx : x = some i := by rfl) : (x = none → A) ∧ (∀ y : Nat, x = some y → B y) := by
  subst hx
  exact ⟨fun e => (nomatch e), fun y e => Option.some.inj e ▸ h⟩
theorem co_none {x : Option Nat} {A : Prop} {B : Nat → Prop} (h : A) (hx : x = none := by rfl) : (x = none → A) ∧ (∀ y : Nat, x = some y → B y) := by
  subst hx
  exact ⟨fun _ => h, fun y e => (nomatch e)⟩
theorem co_any {x : Option Nat} {A : Prop} {B : Nat → Prop} (hn : x = none → A) (hs : ∀ i : Nat, x = some i → B i) : (x = none → A) ∧ (∀ y : Nat, x = some y → B y) := ⟨hn, hs⟩
theorem co_2 {P : Nat → Prop} (h0 : P 0) (h1 : P 1) {i : Nat} (hi : i < 2) : P i :=
  match i, hi with
  | 0, _ => h0
  | 1, _ => h1
theorem co_3 {P : Nat → Prop} (h0 : P 0) (h1 : P 1) (h2 : P 2) {i : Nat} (hi : i < 3) : P i :=
  match i, hi with
  | 0, _ => h0
  | 1, _ => h1
  | 2, _ => h2
theorem co_4 {P : Nat → Prop} (h0 : P 0) (h1 : P 1) (h2 : P 2) (h3 : P 3) {i : Nat} (hi : i < 4) : P i :=
  match i, hi with
  | 0, _ => h0
  | 1, _ => h1
  | 2, _ => h2
  | 3, _ => h3
theorem co_dec {N : Nat} {P : Nat → Prop} [DecidablePred P] (h : (List.range N).all (fun i => decide (P i)) = true) {i : Nat} (hi : i < N) : P i := by
  have := List.all_eq_true.mp h i (List.mem_range.mpr hi)
  exact of_decide_eq_true this
theorem co_tab {α : Type} {l : List α} {d : α} {P : α → Prop} (h : ∀ a, a ∈ l → P a) {i : Nat} (hi : i < l.length) : P (l.getD i d) := by
  rw [List.getD_eq_getElem?_getD, List.getElem?_eq_getElem hi]
  exact h _ (List.getElem_mem hi)
theorem pk_mu {x : Int32} {L : Nat} (h0 : ¬ x < 0) (h : ¬ nI L ≤ x) (hL : L < 2 ^ 31) : ∃ j : Nat, j < L ∧ x = nI j ∧ x + 1 = nI (j + 1) ∧ x.toNatClampNeg = j ∧ L - (x + 1).toNatClampNeg < L - x.toNatClampNeg := by
  obtain ⟨j, hj, rfl⟩ := nI_of h0
  have hl : j < L := Nat.not_le.mp fun q => h (nI_le q hj)
  refine ⟨j, hl, rfl, nI_1 j, nI_clamp hj, ?_⟩
  rw [nI_1, nI_clamp (by omega), nI_clamp hj]
  omega
theorem op_s {α : Type} {r : Option α} {A : Prop} {B : α → Prop} {y : α} (h : r = some y) (b : B y) : (r = none → A) ∧ ∀ z, r = some z → B z :=
  ⟨fun e => (by rw [h] at e; cases e), fun z e => (by rw [h] at e; cases e; exact b)⟩
def l_holds {α : Type} (a : Nat → Option Nat) (LP : List Nat) (p : Nat → α) (c : Nat) (b : Nat → α) : Prop :=
  ∀ j, j < c → ∃ y, a j = some y ∧ y ∈ LP ∧ p y = b j
theorem l_holds_0 {α : Type} {a : Nat → Option Nat} {LP : List Nat} {p b : Nat → α} : l_holds a LP p 0 b := fun j h => absurd h (Nat.not_lt_zero j)
theorem l_in_new (LP : List Nat) (q : Nat) : q ∈ LP ++ [q] := List.mem_append.mpr (Or.inr (List.mem_singleton.mpr rfl))
def l_sum (b : Nat → Int32) : Nat → Int32
  | 0 => 0
  | k + 1 => l_sum b k + b k
theorem sb_shr0 (x : Int32) : x >>> ((0 : Int32) &&& 31) = x := by
  rw [show ((0 : Int32) &&& 31) = 0 by decide]
  simp
theorem sb_shl0 (x : Int32) : x <<< ((0 : Int32) &&& 31) = x := by
  rw [show ((0 : Int32) &&& 31) = 0 by decide]
  simp
theorem sb_cl0 : (0 : Int32).toNatClampNeg = 0 := by decide
theorem sb_m1 {p : Nat} (h : 0 < p) : nI p + (-1) = nI (p - 1) := by
  obtain ⟨q, rfl⟩ : ∃ q, p = q + 1 := ⟨p - 1, by omega⟩
  exact pk_m1 q
def sb_b (c : Nat) : Int32 := (nI c).toInt8.toInt32
theorem sb_byte : ∀ c, c < 256 → sb_b c &&& 255 = nI c ∧ ((nI c).toUInt32 % 65536).toInt32 = nI c ∧ nI c ≤ 255 := by decide +kernel
def sb_Fit (a : Nat → Int32) : Prop := ∀ j, fits .byte (.int (a j)) = true
def sb_Lat (t : Nat → Nat) (n : Nat) (a : Nat → Int32) : Prop := ∀ j, j < n → t j < 256 ∧ a j = sb_b (t j)
theorem sb_fitB (c : Nat) : fits .byte (.int (sb_b c)) = true := pk_fb _
theorem sb_fit0 : sb_Fit (fun _ => 0) := fun _ => by
  show fits .byte (.int 0) = true
  decide
theorem sb_fitU {a : Nat → Int32} {k : Nat} {x : Int32} (h : sb_Fit a) (hx : fits .byte (.int x) = true) : sb_Fit (upd a k x) := by
  intro j
  by_cases e : j = k
  · subst e
    rw [pk_us]
    exact hx
  · rw [pk_un e]
    exact h j
def sb_cat (t : Nat → Nat) (n : Nat) (s : Nat → Nat) : Nat → Nat := fun j => if j < n then t j else s (j - n)
theorem sb_cat_lo {t s : Nat → Nat} {n j : Nat} (h : j < n) : sb_cat t n s j = t j := if_pos h
theorem sb_cat_hi {t s : Nat → Nat} {n j : Nat} : sb_cat t n s (n + j) = s j := by
  show (if n + j < n then t (n + j) else s (n + j - n)) = s j
  rw [if_neg (by omega), Nat.add_sub_cancel_left]
theorem sb_latPut {t s : Nat → Nat} {n w : Nat} {a a' : Nat → Int32} (h : sb_Lat t n a) (hk : ∀ j, j < n → a' j = a j) (hs : ∀ i, i < w → s i < 256 ∧ a' (n + i) = sb_b (s i)) : sb_Lat (sb_cat t n s) (n + w) a' := by
  intro j hj
  by_cases e : j < n
  · rw [sb_cat_lo e, hk j e]
    exact h j e
  · obtain ⟨i, rfl⟩ : ∃ i, j = n + i := ⟨j - n, by omega⟩
    rw [sb_cat_hi]
    exact hs i (by omega)
theorem sb_latKeep {t : Nat → Nat} {n : Nat} {a a' : Nat → Int32} (h : sb_Lat t n a) (hk : ∀ j, j < n → a' j = a j) : sb_Lat t n a' := fun j hj => by
  rw [hk j hj]
  exact h j hj
def sb_cap (q m : Nat) : Nat := if q ≤ m then m else if 2 * m + 2 < q then q else 2 * m + 2
def sb_Room (q m mc ms : Nat) : Prop := q ≤ m ∨ (1 ≤ mc ∧ sb_cap q m ≤ ms ∧ sb_cap q m ≤ 65536)
theorem sb_cap_ge (q m : Nat) : q ≤ sb_cap q m := by
  unfold sb_cap
  split
  · omega
  · split <;> omega
theorem sb_cap_gem (q m : Nat) : m ≤ sb_cap q m := by
  unfold sb_cap
  split
  · omega
  · split <;> omega
theorem sb_cap_le {q m mc ms : Nat} (hm : m ≤ 65536) (hr : sb_Room q m mc ms) : sb_cap q m ≤ 65536 := by
  rcases hr with h | h
  · rw [sb_cap, if_pos h]
    exact hm
  · exact h.2.2
theorem sb_at {P : Int32 → Prop} {x y : Int32} (e : x = y) (h : P y) : P x := e ▸ h
def sb_dg (w : Nat) : Nat := if w < 10 then 1 else if w < 100 then 2 else if w < 1000 then 3 else if w < 10000 then 4 else if w < 100000 then 5 else if w < 1000000 then 6 else if w < 10000000 then 7 else if w < 100000000 then 8 else if w < 1000000000 then 9 else 10
def sb_dec (v : Nat) : Nat → Nat := fun i => 48 + v / 10 ^ (sb_dg v - 1 - i) % 10
theorem sb_dg_in (w : Nat) : 1 ≤ sb_dg w ∧ sb_dg w ≤ 10 := by
  unfold sb_dg
  constructor <;> (repeat' split) <;> omega
theorem sb_dg100 {w : Nat} (h : 100 ≤ w) (hw : w < 2 ^ 31) : sb_dg w = sb_dg (w / 100) + 2 := by
  rw [sb_dg, sb_dg, if_neg (show ¬ w < 10 by omega), if_neg (show ¬ w < 100 by omega)]
  by_cases h3 : w < 1000
  · rw [if_pos h3, if_pos (show w / 100 < 10 by omega)]
  rw [if_neg h3, if_neg (show ¬ w / 100 < 10 by omega)]
  by_cases h4 : w < 10000
  · rw [if_pos h4, if_pos (show w / 100 < 100 by omega)]
  rw [if_neg h4, if_neg (show ¬ w / 100 < 100 by omega)]
  by_cases h5 : w < 100000
  · rw [if_pos h5, if_pos (show w / 100 < 1000 by omega)]
  rw [if_neg h5, if_neg (show ¬ w / 100 < 1000 by omega)]
  by_cases h6 : w < 1000000
  · rw [if_pos h6, if_pos (show w / 100 < 10000 by omega)]
  rw [if_neg h6, if_neg (show ¬ w / 100 < 10000 by omega)]
  by_cases h7 : w < 10000000
  · rw [if_pos h7, if_pos (show w / 100 < 100000 by omega)]
  rw [if_neg h7, if_neg (show ¬ w / 100 < 100000 by omega)]
  by_cases h8 : w < 100000000
  · rw [if_pos h8, if_pos (show w / 100 < 1000000 by omega)]
  rw [if_neg h8, if_neg (show ¬ w / 100 < 1000000 by omega)]
  by_cases h9 : w < 1000000000
  · rw [if_pos h9, if_pos (show w / 100 < 10000000 by omega)]
  rw [if_neg h9, if_neg (show ¬ w / 100 < 10000000 by omega)]
  rw [if_pos (show w / 100 < 100000000 by omega)]
theorem sb_negT {w : Nat} (h : w < 2 ^ 31) : (-nI w).toInt = -(w : Int) := by
  rw [Int32.toInt_neg, nI_toInt h]
  exact Int.bmod_eq_of_le (by omega) (by omega)
theorem sb_nle {a b : Nat} (ha : a < 2 ^ 31) (hb : b < 2 ^ 31) : -nI a ≤ -nI b ↔ b ≤ a := by
  rw [Int32.le_iff_toInt_le, sb_negT ha, sb_negT hb]
  omega
theorem sb_nlt {a b : Nat} (ha : a < 2 ^ 31) (hb : b < 2 ^ 31) : -nI a < -nI b ↔ b < a := by
  rw [Int32.lt_iff_toInt_lt, sb_negT ha, sb_negT hb]
  omega
theorem sb_cmp {A B : Prop} {x : Int32} (v c : Nat) (f : c ≤ v → A) (g : v < c → B) (hv : v < 2 ^ 31) (hx : x = -nI c := by rfl) (hc : c < 2 ^ 31 := by omega) : (-nI v ≤ x → A) ∧ (¬ -nI v ≤ x → B) := by
  subst hx
  rw [sb_nle hv hc]
  exact ⟨f, fun z => g (by omega)⟩
theorem sb_ndiv {w : Nat} (hw : w < 2 ^ 31) : (-nI w) / 100 = -nI (w / 100) := by
  apply Int32.toInt_inj.mp
  have h100 : (100 : Int32).toInt = 100 := by decide
  rw [Int32.toInt_div, sb_negT hw, h100, sb_negT (by omega), Int.neg_tdiv, Int.tdiv_eq_ediv_of_nonneg (by omega), Int.bmod_eq_of_le (by omega) (by omega)]
  omega
theorem sb_nrem {w : Nat} (hw : w < 2 ^ 31) : (-nI (w / 100)) * 100 - (-nI w) = nI (w % 100) := by
  have h := pk_rem (a := w) (d := 100) hw (by decide) (by decide)
  rw [pk_div hw (by decide) (by decide)] at h
  rw [← h]
  show (-nI (w / 100)) * nI 100 - (-nI w) = nI w - nI (w / 100) * nI 100
  rw [Int32.neg_mul, Int32.sub_neg, Int32.add_comm, ← Int32.sub_eq_add_neg]
end
section
/-! rows on bits, shifts and unsigned numbers, to paste: each family out of a closed proof of our own, whole with what it rests on; each by itself clean at Lean in its own claim (generation 39, form 5). Take a family whole -/
/-! ===== Int32 by its bits: bt x i ===== -/
def bt (x : Int32) (i : Nat) : Bool := x.toBitVec.getLsbD i
theorem b_ext {x y : Int32} (h : ∀ i, i < 32 → bt x i = bt y i) : x = y := Int32.toBitVec_inj.mp (BitVec.eq_of_getLsbD_eq (fun i hi => h i hi))
theorem b_or (x y : Int32) (i : Nat) : bt (x ||| y) i = (bt x i || bt y i) := by unfold bt; rw [Int32.toBitVec_or, BitVec.getLsbD_or]
theorem b_and (x y : Int32) (i : Nat) : bt (x &&& y) i = (bt x i && bt y i) := by unfold bt; rw [Int32.toBitVec_and, BitVec.getLsbD_and]
theorem b_xor (x y : Int32) (i : Nat) : bt (x ^^^ y) i = (bt x i ^^ bt y i) := by unfold bt; rw [Int32.toBitVec_xor, BitVec.getLsbD_xor]
theorem b_big {x : Int32} {i : Nat} (h : 32 ≤ i) : bt x i = false := BitVec.getLsbD_of_ge _ _ h
theorem b_255 (i : Nat) : bt 255 i = decide (i < 8) := by
  rcases Nat.lt_or_ge i 32 with h | h
  · exact (by decide +kernel : ∀ i, i < 32 → bt 255 i = decide (i < 8)) i h
  · rw [b_big h, decide_eq_false (by omega)]
theorem b_65535 (i : Nat) : bt 65535 i = decide (i < 16) := by
  rcases Nat.lt_or_ge i 32 with h | h
  · exact (by decide +kernel : ∀ i, i < 32 → bt 65535 i = decide (i < 16)) i h
  · rw [b_big h, decide_eq_false (by omega)]
theorem b_m1 : ∀ i, i < 32 → bt (-1) i = true := by decide +kernel
theorem b_0 (i : Nat) : bt 0 i = false := BitVec.getLsbD_zero
theorem s_l : ∀ n, n < 32 → ((nI n &&& 31).toBitVec.smod 32).toNat = n := by decide +kernel
theorem s_u : ∀ n, n < 32 → (((nI n).toUInt32 &&& Int32.toUInt32 31).toBitVec % 32).toNat = n := by decide +kernel
theorem b_shl (n : Nat) (hn : n < 32) (x : Int32) {i : Nat} (hi : i < 32) : bt (x <<< (nI n &&& 31)) i = (decide (n ≤ i) && bt x (i - n)) := by
  unfold bt
  rw [Int32.toBitVec_shiftLeft]
  show (x.toBitVec <<< ((nI n &&& 31).toBitVec.smod 32).toNat).getLsbD i = _
  rw [s_l n hn, BitVec.getLsbD_shiftLeft]
  rcases Nat.lt_or_ge i n with h | h
  · simp [h, Nat.not_le.mpr h]
  · simp [hi, h, Nat.not_lt.mpr h]
theorem b_ushr (n : Nat) (hn : n < 32) (x : Int32) (i : Nat) : bt ((x.toUInt32 >>> ((nI n).toUInt32 &&& Int32.toUInt32 31)).toInt32) i = bt x (n + i) := by
  show (x.toUInt32 >>> ((nI n).toUInt32 &&& Int32.toUInt32 31)).toBitVec.getLsbD i = x.toUInt32.toBitVec.getLsbD (n + i)
  rw [UInt32.toBitVec_shiftRight]
  show (x.toUInt32.toBitVec >>> (((nI n).toUInt32 &&& Int32.toUInt32 31).toBitVec % 32).toNat).getLsbD i = _
  rw [s_u n hn, BitVec.getLsbD_ushiftRight]
theorem b_sshr (n : Nat) (hn : n < 32) (x : Int32) {i : Nat} (hi : i < 32) : bt (x >>> (nI n &&& 31)) i = if n + i < 32 then bt x (n + i) else bt x 31 := by
  unfold bt
  rw [Int32.toBitVec_shiftRight]
  show (x.toBitVec.sshiftRight ((nI n &&& 31).toBitVec.smod 32).toNat).getLsbD i = _
  rw [s_l n hn, BitVec.getLsbD_sshiftRight, BitVec.msb_eq_getLsbD_last]
  simp [hi]
theorem b_shl8 (x : Int32) {i : Nat} (hi : i < 32) : bt (x <<< ((8 : Int32) &&& 31)) i = (decide (8 ≤ i) && bt x (i - 8)) := b_shl 8 (by omega) x hi
theorem b_shl16 (x : Int32) {i : Nat} (hi : i < 32) : bt (x <<< ((16 : Int32) &&& 31)) i = (decide (16 ≤ i) && bt x (i - 16)) := b_shl 16 (by omega) x hi
theorem b_shl24 (x : Int32) {i : Nat} (hi : i < 32) : bt (x <<< ((24 : Int32) &&& 31)) i = (decide (24 ≤ i) && bt x (i - 24)) := b_shl 24 (by omega) x hi
theorem b_sshr8 (x : Int32) {i : Nat} (hi : i < 32) : bt (x >>> ((8 : Int32) &&& 31)) i = if 8 + i < 32 then bt x (8 + i) else bt x 31 := b_sshr 8 (by omega) x hi
/-! ===== nI under and, xor, >>>, one bit, 65535 ===== -/
theorem nx_and (a b : Nat) : nI a &&& nI b = nI (a &&& b) := by
  apply Int32.toBitVec_inj.1
  show BitVec.ofNat 32 a &&& BitVec.ofNat 32 b = BitVec.ofNat 32 (a &&& b)
  apply BitVec.eq_of_getLsbD_eq
  intro i hi
  simp [hi]
theorem nx_xor (a b : Nat) : nI a ^^^ nI b = nI (a ^^^ b) := by
  apply Int32.toBitVec_inj.1
  show BitVec.ofNat 32 a ^^^ BitVec.ofNat 32 b = BitVec.ofNat 32 (a ^^^ b)
  apply BitVec.eq_of_getLsbD_eq
  intro i hi
  simp [hi]
theorem nx_cnt : ∀ j : Fin 32, (UInt32.ofNat j.val &&& Int32.toUInt32 31).toNat % 32 = j.val := by decide +kernel
theorem nx_ush {k j : Nat} (hk : k < 65536) (hj : j < 32) : ((nI k).toUInt32 >>> ((nI j).toUInt32 &&& Int32.toUInt32 31)).toInt32 = nI (k >>> j) := by
  have hs : k >>> j ≤ k := by
    rw [Nat.shiftRight_eq_div_pow]
    exact Nat.div_le_self _ _
  have e2 : UInt32.ofNat k >>> (UInt32.ofNat j &&& Int32.toUInt32 31) = UInt32.ofNat (k >>> j) := by
    apply UInt32.toNat_inj.1
    have h1 : (UInt32.ofNat k).toNat = k := Nat.mod_eq_of_lt (by omega)
    have h2 : (UInt32.ofNat (k >>> j)).toNat = k >>> j := Nat.mod_eq_of_lt (by omega)
    rw [UInt32.toNat_shiftRight, nx_cnt ⟨j, hj⟩, h1, h2]
  show (UInt32.ofNat k >>> (UInt32.ofNat j &&& Int32.toUInt32 31)).toInt32 = _
  rw [e2]
  rfl
theorem nx_bit {k j : Nat} (hk : k < 65536) (hj : j < 16) : (((nI k).toUInt32 >>> ((nI j).toUInt32 &&& Int32.toUInt32 31)).toInt32 &&& 1) = 0 ↔ k.testBit j = false := by
  rw [nx_ush hk (by omega)]
  show nI (k >>> j) &&& nI 1 = 0 ↔ _
  rw [nx_and, Nat.and_one_is_mod, ← nI_0, nI_eq (by omega) (by omega), Nat.testBit_eq_decide_div_mod_eq, Nat.shiftRight_eq_div_pow, decide_eq_false_iff_not]
  generalize k / 2 ^ j = z
  omega
theorem nx_mod (k : Nat) : nI k &&& 65535 = nI (k % 65536) := by
  show nI k &&& nI 65535 = _
  rw [nx_and, show (65535 : Nat) = 2 ^ 16 - 1 from rfl, Nat.and_two_pow_sub_one_eq_mod]
theorem nx_m16 {k : Nat} (h : k < 65536) : nI k &&& 65535 = nI k := by rw [nx_mod, Nat.mod_eq_of_lt h]
theorem nx_mask (x : Int32) : ∃ k, k < 65536 ∧ x &&& 65535 = nI k := by
  have e : x = nI x.toBitVec.toNat := by
    apply Int32.toBitVec_inj.1
    show x.toBitVec = BitVec.ofNat 32 x.toBitVec.toNat
    simp
  refine ⟨x.toBitVec.toNat % 65536, Nat.mod_lt _ (by omega), ?_⟩
  rw [← nx_mod, ← e]
/-! ===== Int32 as a set of bits: test, set ===== -/
def nf_M (m : Int32) : Nat := 4294967296 - m.toBitVec.toNat
theorem nf_sh : ∀ l, l < 32 → ((1 : Int32) <<< (nI l &&& 31)).toBitVec = BitVec.twoPow 32 l := by decide +kernel
theorem nf_sl : ∀ l, l < 32 → (((nI l).toUInt32 &&& Int32.toUInt32 31).toBitVec % 32).toNat = l := by decide +kernel
theorem nf_tp : ∀ l, l < 32 → BitVec.twoPow 32 l ≠ 0#32 := by decide +kernel
theorem nf_bit (m : Int32) (l : Nat) (hl : l < 32) : ((m.toUInt32 >>> ((nI l).toUInt32 &&& Int32.toUInt32 31)).toInt32 &&& 1) = 0 ↔ (m &&& ((1 : Int32) <<< (nI l &&& 31))) = 0 := by
  have e : ((m.toUInt32 >>> ((nI l).toUInt32 &&& Int32.toUInt32 31)).toInt32).toBitVec = m.toBitVec >>> l := by
    show m.toBitVec >>> (((nI l).toUInt32 &&& Int32.toUInt32 31).toBitVec % 32) = m.toBitVec >>> l
    rw [BitVec.ushiftRight_eq', nf_sl l hl]
  rw [← Int32.toBitVec_inj, ← Int32.toBitVec_inj, Int32.toBitVec_and, Int32.toBitVec_and, nf_sh l hl, e, BitVec.and_twoPow]
  show (m.toBitVec >>> l &&& 1#32) = 0#32 ↔ _ = 0#32
  rw [BitVec.and_one_eq_setWidth_ofBool_getLsbD, BitVec.getLsbD_ushiftRight, Nat.add_zero]
  cases hb : m.toBitVec.getLsbD l
  · exact ⟨fun _ => by simp, fun _ => by decide⟩
  · exact ⟨fun z => absurd z (by decide), fun z => absurd ((if_pos rfl).symm.trans z) (nf_tp l hl)⟩
theorem nf_gr (m k : Int32) (h : m &&& k = 0) (hk : k ≠ 0) : nf_M (m ||| k) < nf_M m := by
  have hm := m.toBitVec.isLt
  have hm' := (m ||| k).toBitVec.isLt
  have h1 : m.toBitVec.toNat ≤ (m ||| k).toBitVec.toNat := by
    rw [Int32.toBitVec_or, BitVec.toNat_or]
    exact Nat.left_le_or
  have h2 : m.toBitVec.toNat ≠ (m ||| k).toBitVec.toNat := by
    intro e
    have e2 : m = m ||| k := Int32.toBitVec_inj.mp (BitVec.eq_of_toNat_eq e)
    apply hk
    apply Int32.toBitVec_inj.mp
    show k.toBitVec = 0#32
    apply BitVec.eq_of_getLsbD_eq
    intro i hi
    have a : m.toBitVec.getLsbD i = (m.toBitVec.getLsbD i || k.toBitVec.getLsbD i) := by rw [← BitVec.getLsbD_or, ← Int32.toBitVec_or, ← e2]
    have b : (m.toBitVec.getLsbD i && k.toBitVec.getLsbD i) = false := by
      rw [← BitVec.getLsbD_and, ← Int32.toBitVec_and, h]
      exact BitVec.getLsbD_zero
    rw [BitVec.getLsbD_zero]
    revert a b
    cases m.toBitVec.getLsbD i <;> cases k.toBitVec.getLsbD i <;> simp
  unfold nf_M
  omega
/-! ===== a byte read unsigned ===== -/
theorem bp_b (x : Int32) : x.toInt8.toInt32 &&& 255 = x &&& 255 := by
  apply Int32.toBitVec_inj.mp
  rw [Int32.toBitVec_and, Int32.toBitVec_and, Int8.toBitVec_toInt32, Int32.toBitVec_toInt8]
  apply BitVec.eq_of_getLsbD_eq
  intro i hi
  rw [BitVec.getLsbD_and, BitVec.getLsbD_and]
  have hm : ∀ i < 32, 8 ≤ i → (255 : Int32).toBitVec.getLsbD i = false := by decide
  rcases Nat.lt_or_ge i 8 with z | z
  · rw [BitVec.getLsbD_signExtend, BitVec.getLsbD_signExtend, if_pos z, if_pos hi]
    simp only [z, hi, decide_true, Bool.true_and]
  · rw [hm i hi z]; simp
/-! ===== the char cast and 65535 ===== -/
theorem em_w (v : Int32) : ∃ w : Nat, w < 65536 ∧ (v.toUInt32 % 65536).toInt32 = nI w ∧ v &&& 65535 = nI w := by
  have hr := lw_u16_r v
  have h0 : (0 : Int32).toInt = 0 := by decide
  obtain ⟨w, h1, h2⟩ := nI_of (x := lw_u16 v) (by rw [Int32.lt_iff_toInt_lt]; omega)
  have h3 : (v.toUInt32 % 65536).toInt32 = nI w := h2
  rw [h2, nI_toInt h1] at hr
  exact ⟨w, by omega, h3, by rw [← lg_i2c_mask, ← lg_i2c_nf, h3]⟩
/-! ===== Int64 as a set of bits: test, set, clear ===== -/
theorem ts_nf {x : Bool} (h : ¬ x = false) : x = true := by cases x <;> first | rfl | exact absurd rfl h
theorem ts_nt {x : Bool} (h : ¬ x = true) : x = false := by cases x <;> first | rfl | exact absurd rfl h
theorem ts_bit {w : Int64} {s : UInt64} {j : Nat} (hj : j < 64) (hs : s.toNat = j) : ((w.toUInt64 >>> s).toInt64 &&& 1) = 0 ↔ w.toBitVec.getLsbD j = false := by
  have e : (w.toUInt64 >>> s).toInt64.toBitVec = w.toBitVec >>> j := by
    apply BitVec.eq_of_toNat_eq
    show (w.toUInt64 >>> s).toNat = _
    rw [UInt64.toNat_shiftRight, hs, Nat.mod_eq_of_lt hj, BitVec.toNat_ushiftRight]
    rfl
  rw [← Int64.toBitVec_inj, Int64.toBitVec_and, e]
  show w.toBitVec >>> j &&& 1#64 = 0#64 ↔ _
  constructor
  · intro h
    have t := congrArg (fun x => x.getLsbD 0) h
    simpa using t
  · intro h
    apply BitVec.eq_of_getLsbD_eq
    intro i hi
    cases i with
    | zero => simp [h]
    | succ i => simp
theorem ts_or {w m : Int64} {j : Nat} (hj : j < 64) (hm : m.toBitVec = BitVec.twoPow 64 j) : (w ||| m) = w ↔ w.toBitVec.getLsbD j = true := by
  rw [← Int64.toBitVec_inj, Int64.toBitVec_or, hm]
  constructor
  · intro h
    have t := congrArg (fun x => x.getLsbD j) h
    simp only [BitVec.getLsbD_or, BitVec.getLsbD_twoPow] at t
    simpa [hj] using t.symm
  · intro h
    apply BitVec.eq_of_getLsbD_eq
    intro i hi
    rw [BitVec.getLsbD_or, BitVec.getLsbD_twoPow]
    by_cases e : j = i
    · subst e; rw [h, Bool.true_or]
    · simp [e]
theorem ts_and {w m : Int64} {j : Nat} (hj : j < 64) (hm : m.toBitVec = BitVec.twoPow 64 j) : (w &&& (m ^^^ (-1))) = w ↔ w.toBitVec.getLsbD j = false := by
  have ha : (-1 : Int64).toBitVec = BitVec.allOnes 64 := by decide
  rw [← Int64.toBitVec_inj, Int64.toBitVec_and, Int64.toBitVec_xor, hm, ha]
  constructor
  · intro h
    have t := congrArg (fun x => x.getLsbD j) h
    simp only [BitVec.getLsbD_and, BitVec.getLsbD_xor, BitVec.getLsbD_twoPow, BitVec.getLsbD_allOnes] at t
    simpa [hj] using t.symm
  · intro h
    apply BitVec.eq_of_getLsbD_eq
    intro i hi
    rw [BitVec.getLsbD_and, BitVec.getLsbD_xor, BitVec.getLsbD_twoPow, BitVec.getLsbD_allOnes]
    by_cases e : j = i
    · subst e; rw [h, Bool.false_and]
    · simp [e, hi]
/-! ===== lN n to 2^64: shifts, and, or, masks, one bit ===== -/
theorem wb_tb (n : Nat) : (lN n).toBitVec = BitVec.ofNat 64 n := rfl
theorem wb_inj {a b : Int64} (h : a.toBitVec = b.toBitVec) : a = b := Int64.toBitVec_inj.mp h
theorem wb_tn {n : Nat} (h : n < 2 ^ 64) : (lN n).toBitVec.toNat = n := by rw [wb_tb, BitVec.toNat_ofNat, Nat.mod_eq_of_lt h]
theorem wb_of (x : Int64) : ∃ n, n < 2 ^ 64 ∧ x = lN n := ⟨x.toBitVec.toNat, x.toBitVec.isLt, wb_inj (by rw [wb_tb]; simp)⟩
theorem wb_of32 (x : Int32) : ∃ n, n < 2 ^ 32 ∧ x = nI n := ⟨x.toBitVec.toNat, x.toBitVec.isLt, Int32.toBitVec_inj.mp (by show _ = BitVec.ofNat 32 _; simp)⟩
theorem wb_c : ∀ k, k < 64 → ((nI k).toInt64 &&& 63) = lN k := by decide +kernel
theorem wb_cu : ∀ k, k < 64 → ((nI k).toInt64.toUInt64 &&& Int64.toUInt64 63) = UInt64.ofNat k := by decide +kernel
theorem wb_sm : ∀ k, k < 64 → (BitVec.ofNat 64 k).smod 64 = BitVec.ofNat 64 k := by decide +kernel
theorem wb_pw {a b : Nat} (h : a ≤ b) : 2 ^ b = 2 ^ a * 2 ^ (b - a) := by rw [← Nat.pow_add]; congr 1; omega
theorem wb_lt2 {a b : Nat} (h : a < b) : 2 ^ a < 2 ^ b := Nat.pow_lt_pow_right (by decide) h
theorem wb_mod (n : Nat) : lN n = lN (n % 2 ^ 64) := wb_inj (by rw [wb_tb, wb_tb]; apply BitVec.eq_of_toNat_eq; rw [BitVec.toNat_ofNat, BitVec.toNat_ofNat, Nat.mod_mod])
theorem wb_shr {n k : Nat} (hn : n < 2 ^ 64) (hk : k < 64) : ((lN n).toUInt64 >>> ((nI k).toInt64.toUInt64 &&& Int64.toUInt64 63)).toInt64 = lN (n / 2 ^ k) := by
  rw [wb_cu k hk]
  apply wb_inj
  apply BitVec.eq_of_toNat_eq
  show ((lN n).toUInt64 >>> UInt64.ofNat k).toNat = (BitVec.ofNat 64 _).toNat
  have h1 : (UInt64.ofNat k).toNat = k := by
    show (BitVec.ofNat 64 k).toNat = k
    rw [BitVec.toNat_ofNat, Nat.mod_eq_of_lt (by omega)]
  have h2 : (lN n).toUInt64.toNat = n := wb_tn hn
  rw [UInt64.toNat_shiftRight, h1, h2, Nat.mod_eq_of_lt hk, Nat.shiftRight_eq_div_pow, BitVec.toNat_ofNat, Nat.mod_eq_of_lt (Nat.lt_of_le_of_lt (Nat.div_le_self _ _) hn)]
theorem wb_shl (n : Nat) {k : Nat} (hk : k < 64) : lN n <<< ((nI k).toInt64 &&& 63) = lN (n * 2 ^ k) := by
  rw [wb_c k hk]
  apply wb_inj
  rw [Int64.toBitVec_shiftLeft, wb_tb, wb_tb, wb_tb, wb_sm k hk]
  apply BitVec.eq_of_toNat_eq
  rw [BitVec.shiftLeft_eq', BitVec.toNat_shiftLeft, BitVec.toNat_ofNat, BitVec.toNat_ofNat, BitVec.toNat_ofNat, Nat.mod_eq_of_lt (show k < 2 ^ 64 by omega), Nat.shiftLeft_eq, Nat.mul_mod, Nat.mod_mod, ← Nat.mul_mod]
theorem wb_and {a b : Nat} (ha : a < 2 ^ 64) (hb : b < 2 ^ 64) : lN a &&& lN b = lN (a &&& b) := by
  apply wb_inj
  rw [Int64.toBitVec_and, wb_tb, wb_tb, wb_tb]
  apply BitVec.eq_of_toNat_eq
  rw [BitVec.toNat_and, BitVec.toNat_ofNat, BitVec.toNat_ofNat, BitVec.toNat_ofNat, Nat.mod_eq_of_lt ha, Nat.mod_eq_of_lt hb, Nat.mod_eq_of_lt (Nat.and_lt_two_pow _ hb)]
theorem wb_or {a b : Nat} (ha : a < 2 ^ 64) (hb : b < 2 ^ 64) : lN a ||| lN b = lN (a ||| b) := by
  apply wb_inj
  rw [Int64.toBitVec_or, wb_tb, wb_tb, wb_tb]
  apply BitVec.eq_of_toNat_eq
  rw [BitVec.toNat_or, BitVec.toNat_ofNat, BitVec.toNat_ofNat, BitVec.toNat_ofNat, Nat.mod_eq_of_lt ha, Nat.mod_eq_of_lt hb, Nat.mod_eq_of_lt (Nat.or_lt_two_pow ha hb)]
theorem wb_mask {n k : Nat} (hn : n < 2 ^ 64) (hk : k < 64) : lN n &&& lN (2 ^ k - 1) = lN (n % 2 ^ k) := by
  rw [wb_and hn (by have := wb_lt2 hk; omega), Nat.and_two_pow_sub_one_eq_mod]
theorem wb_a1 {n : Nat} (hn : n < 2 ^ 64) : lN n &&& 1 = lN (n % 2) := wb_mask (k := 1) hn (by decide)
theorem wb_bit {n k : Nat} (hn : n < 2 ^ 64) (hk : k < 64) : ((lN n).toUInt64 >>> ((nI k).toInt64.toUInt64 &&& Int64.toUInt64 63)).toInt64 &&& 1 = lN (n / 2 ^ k % 2) := by
  rw [wb_shr hn hk, wb_a1 (Nat.lt_of_le_of_lt (Nat.div_le_self _ _) hn)]
theorem wb_xor {q k : Nat} (hk : k < 63) (h : 2 ^ k ≤ q) (h2 : q < 2 ^ (k + 1)) : lN q ^^^ lN (2 ^ k) = lN (q - 2 ^ k) := by
  obtain ⟨r, rfl⟩ : ∃ r, q = 2 ^ k + r := ⟨q - 2 ^ k, by omega⟩
  have hr : r < 2 ^ k := by rw [Nat.pow_succ] at h2; omega
  have hx : (2 ^ k + r) ^^^ 2 ^ k = r := by
    apply Nat.eq_of_testBit_eq
    intro i
    rw [Nat.testBit_xor, Nat.testBit_two_pow]
    rcases Nat.lt_trichotomy i k with h | h | h
    · rw [Nat.testBit_two_pow_add_gt h]
      simp [show ¬ k = i by omega]
    · subst h
      rw [Nat.testBit_two_pow_add_eq]
      simp
    · have a1 : 2 ^ (k + 1) ≤ 2 ^ i := Nat.pow_le_pow_right (by decide) h
      rw [Nat.testBit_lt_two_pow (show 2 ^ k + r < 2 ^ i by omega), Nat.testBit_lt_two_pow (show r < 2 ^ i by omega)]
      simp [show ¬ k = i by omega]
  have b1 := wb_lt2 (show k + 1 < 64 by omega)
  have b2 := wb_lt2 (show k < 64 by omega)
  apply wb_inj
  rw [Int64.toBitVec_xor, wb_tb, wb_tb, wb_tb]
  apply BitVec.eq_of_toNat_eq
  rw [BitVec.toNat_xor, BitVec.toNat_ofNat, BitVec.toNat_ofNat, BitVec.toNat_ofNat, Nat.mod_eq_of_lt (by omega : 2 ^ k + r < 2 ^ 64), Nat.mod_eq_of_lt b2, hx, Nat.add_sub_cancel_left, Nat.mod_eq_of_lt (by omega)]
/-! ===== lN: masks, 'or' of parts that don't overlap is a sum ===== -/
theorem u_tn {n : Nat} (h : n < 2 ^ 64) : (UInt64.ofNat n).toNat = n := Nat.mod_eq_of_lt h
theorem g_and {a b c : Nat} (ha : a < 2 ^ 64) (hb : b < 2 ^ 64) (hc : a &&& b = c) : lN a &&& lN b = lN c := by
  subst hc
  have h : UInt64.ofNat a &&& UInt64.ofNat b = UInt64.ofNat (a &&& b) := UInt64.toNat_inj.mp (by rw [UInt64.toNat_and, u_tn ha, u_tn hb, u_tn (Nat.and_lt_two_pow a hb)])
  have h2 := congrArg UInt64.toInt64 h
  exact h2
theorem g_and1 {a : Nat} (ha : a < 2 ^ 64) : lN a &&& 1 = lN (a % 2) := g_and (b := 1) ha (by decide) (Nat.and_two_pow_sub_one_eq_mod a 1)
theorem g_mask {a s p : Nat} (hp : 2 ^ s = p) (hs : s < 64) (ha : a < 2 ^ 64) : lN a &&& lN (p - 1) = lN (a % p) := by
  subst hp
  have := Nat.pow_lt_pow_right (show 1 < 2 by decide) hs
  exact g_and ha (by omega) (Nat.and_two_pow_sub_one_eq_mod a s)
theorem g_or {k p a b : Nat} (hp : 2 ^ k = p) (ha : a < p) (h : b * p + a < 2 ^ 64) : lN (b * p) ||| lN a = lN (b * p + a) := by
  subst hp
  have h1 : b * 2 ^ k ||| a = b * 2 ^ k + a := by rw [← Nat.shiftLeft_eq, Nat.shiftLeft_add_eq_or_of_lt ha]
  have h3 : UInt64.ofNat (b * 2 ^ k) ||| UInt64.ofNat a = UInt64.ofNat (b * 2 ^ k + a) := UInt64.toNat_inj.mp (by rw [UInt64.toNat_or, u_tn (by omega), u_tn (by omega), u_tn h, h1])
  have h2 := congrArg UInt64.toInt64 h3
  exact h2
theorem g_or' {k p a b : Nat} (hp : 2 ^ k = p) (ha : a < p) (h : a + b * p < 2 ^ 64) : lN a ||| lN (b * p) = lN (a + b * p) := by
  rw [Int64.or_comm, g_or hp ha (by omega), Nat.add_comm]
theorem g_ushr {a k p : Nat} {y : UInt64} (hy : y = UInt64.ofNat k) (hk : k < 64) (hp : 2 ^ k = p) (ha : a < 2 ^ 64) : ((lN a).toUInt64 >>> y).toInt64 = lN (a / p) := by
  subst hy hp
  have h : UInt64.ofNat a >>> UInt64.ofNat k = UInt64.ofNat (a / 2 ^ k) := UInt64.toNat_inj.mp (by rw [UInt64.toNat_shiftRight, u_tn ha, u_tn (by omega), u_tn (Nat.lt_of_le_of_lt (Nat.div_le_self _ _) ha), Nat.mod_eq_of_lt hk, Nat.shiftRight_eq_div_pow])
  have h2 := congrArg UInt64.toInt64 h
  exact h2
theorem g_shl {a k p : Nat} {y : Int64} (hy : y.toBitVec.smod 64 = BitVec.ofNat 64 k) (hk : k < 64) (hp : 2 ^ k = p) (ha : a < 2 ^ 64) : lN a <<< y = lN (a * p) := by
  subst hp
  apply Int64.toBitVec_inj.mp
  rw [Int64.toBitVec_shiftLeft, hy]
  apply BitVec.eq_of_toNat_eq
  have hb : (lN a).toBitVec.toNat = a := Nat.mod_eq_of_lt ha
  have hk' : (BitVec.ofNat 64 k).toNat = k := Nat.mod_eq_of_lt (by omega)
  have h : ((lN a).toBitVec <<< BitVec.ofNat 64 k).toNat = (a * 2 ^ k) % 2 ^ 64 := by simp only [BitVec.shiftLeft_eq', BitVec.toNat_shiftLeft, hb, hk', Nat.shiftLeft_eq]
  exact h
/-! ===== lN to 2^62 under >> and >>> ===== -/
theorem pf_lI {a : Nat} (h : a < 2 ^ 63) : (lN a).toInt = (a : Int) := lg_ofNat_toInt h
theorem pf_shr {a d : Nat} {D : Int64} (hD : (D.toBitVec.smod 64).toNat = d) (h : a < 2 ^ 62) : lN a >>> D = lN (a / 2 ^ d) := by
  have hd : a / 2 ^ d ≤ a := Nat.div_le_self _ _
  apply Int64.toInt_inj.mp
  have e : (lN a >>> D).toInt = (lN a).toInt >>> d := by
    rw [← hD]
    exact BitVec.toInt_sshiftRight ..
  rw [e, Int.shiftRight_eq_div_pow, pf_lI (by omega), pf_lI (by omega)]
  rfl
theorem pf_ushr {a d : Nat} {D : UInt64} (hD : D.toNat % 64 = d) (h : a < 2 ^ 62) : ((lN a).toUInt64 >>> D).toInt64 = lN (a / 2 ^ d) := by
  have hd : a / 2 ^ d ≤ a := Nat.div_le_self _ _
  have e : (lN a).toUInt64 >>> D = UInt64.ofNat (a / 2 ^ d) := UInt64.toNat_inj.mp (by
    rw [UInt64.toNat_shiftRight, hD, Nat.shiftRight_eq_div_pow, UInt64.toNat_ofNat']
    show (UInt64.ofNat a).toNat / 2 ^ d = _
    rw [UInt64.toNat_ofNat', Nat.mod_eq_of_lt (by omega), Nat.mod_eq_of_lt (by omega)])
  rw [e]
  rfl
theorem pf_andw (x : Int64) : ∃ m, m < 2 ^ 32 ∧ x &&& 4294967295 = lN m := ⟨x.toBitVec.toNat % 2 ^ 32, Nat.mod_lt _ (by decide), Int64.toBitVec_inj.mp (BitVec.eq_of_toNat_eq (by
  show (x.toBitVec &&& 4294967295#64).toNat = (BitVec.ofNat 64 (x.toBitVec.toNat % 2 ^ 32)).toNat
  rw [BitVec.toNat_and, show (4294967295#64).toNat = 2 ^ 32 - 1 from by decide, Nat.and_two_pow_sub_one_eq_mod, BitVec.toNat_ofNat]
  omega))⟩
/-! ===== Int64 as an unsigned number: uN x ===== -/
def uN (x : Int64) : Nat := x.toUInt64.toNat
theorem uN_lt (x : Int64) : uN x < 18446744073709551616 := x.toUInt64.toNat_lt
theorem uN_inj {x y : Int64} (h : uN x = uN y) : x = y := congrArg UInt64.toInt64 (UInt64.toNat_inj.mp h)
theorem uN_add (x y : Int64) : uN (x + y) = (uN x + uN y) % 18446744073709551616 := by
  show (x.toUInt64 + y.toUInt64).toNat = _
  exact UInt64.toNat_add _ _
theorem uN_mul (x y : Int64) : uN (x * y) = (uN x * uN y) % 18446744073709551616 := by
  show (x.toUInt64 * y.toUInt64).toNat = _
  exact UInt64.toNat_mul _ _
theorem uN_shl (x : Int64) : uN (x <<< ((1 : Int32).toInt64 &&& 63)) = (2 * uN x) % 18446744073709551616 := by
  have h : (((1 : Int32).toInt64 &&& 63).toBitVec.smod 64).toNat = 1 := by decide
  show (x.toBitVec <<< (((1 : Int32).toInt64 &&& 63).toBitVec.smod 64).toNat).toNat = _
  rw [h, BitVec.toNat_shiftLeft, Nat.shiftLeft_eq, Nat.mul_comm]
  rfl
theorem uN_shr (x : Int64) (s : UInt64) : uN (x.toUInt64 >>> s).toInt64 = uN x / 2 ^ (s.toNat % 64) := by
  show (x.toUInt64 >>> s).toNat = _
  rw [UInt64.toNat_shiftRight, Nat.shiftRight_eq_div_pow]
  rfl
theorem uN_s32 (x : Int64) : uN (x.toUInt64 >>> ((32 : Int32).toInt64.toUInt64 &&& Int64.toUInt64 63)).toInt64 = uN x / 4294967296 := by
  have h : ((32 : Int32).toInt64.toUInt64 &&& Int64.toUInt64 63).toNat % 64 = 32 := by decide
  rw [uN_shr, h]
theorem uN_s63 (x : Int64) : uN (x.toUInt64 >>> ((63 : Int32).toInt64.toUInt64 &&& Int64.toUInt64 63)).toInt64 = uN x / 9223372036854775808 := by
  have h : ((63 : Int32).toInt64.toUInt64 &&& Int64.toUInt64 63).toNat % 64 = 63 := by decide
  rw [uN_shr, h]
theorem uN_lo (x : Int64) : uN (x &&& 4294967295) = uN x % 4294967296 := by
  show (x.toUInt64 &&& Int64.toUInt64 4294967295).toNat = _
  rw [UInt64.toNat_and]
  exact Nat.and_two_pow_sub_one_eq_mod _ 32
theorem uN_bit (x : Int64) : (x &&& 1) = 0 ↔ uN x % 2 = 0 := by
  have h : uN (x &&& 1) = uN x % 2 := by
    show (x.toUInt64 &&& Int64.toUInt64 1).toNat = _
    rw [UInt64.toNat_and]
    exact Nat.and_two_pow_sub_one_eq_mod _ 1
  rw [← h]
  exact ⟨fun z => by rw [z]; rfl, fun z => uN_inj (z.trans rfl)⟩
theorem uN_or {x y : Int64} (hy : uN y < 2) : uN ((x <<< ((1 : Int32).toInt64 &&& 63)) ||| y) = (2 * uN x) % 18446744073709551616 + uN y := by
  have h1 : uN ((x <<< ((1 : Int32).toInt64 &&& 63)) ||| y) = uN (x <<< ((1 : Int32).toInt64 &&& 63)) ||| uN y := UInt64.toNat_or _ _
  have h2 : (2 * uN x) % 18446744073709551616 = 2 ^ 1 * (uN x % 9223372036854775808) := by omega
  rw [h1, uN_shl, h2]
  exact (Nat.two_pow_add_eq_or_of_lt (i := 1) hy _).symm
theorem nat_xor {a : Nat} (h : a < 18446744073709551616) : a ^^^ 2 ^ 63 = (a + 9223372036854775808) % 18446744073709551616 := by
  have h1 : (a ^^^ 2 ^ 63) % 2 ^ 63 = a % 2 ^ 63 := by rw [Nat.xor_mod_two_pow, Nat.mod_self, Nat.xor_zero]
  have h2 : (a ^^^ 2 ^ 63) / 2 ^ 63 = (a / 2 ^ 63) ^^^ 1 := by rw [Nat.xor_div_two_pow, Nat.div_self (Nat.two_pow_pos 63)]
  have h3 : a / 2 ^ 63 = 0 ∨ a / 2 ^ 63 = 1 := by omega
  generalize a ^^^ 2 ^ 63 = t at h1 h2
  rcases h3 with h3 | h3
  · rw [h3] at h2
    have h2 : t / 2 ^ 63 = 1 := h2
    omega
  · rw [h3] at h2
    have h2 : t / 2 ^ 63 = 0 := h2
    omega
theorem uN_xor (x : Int64) : uN (x ^^^ (-9223372036854775808)) = (uN x + 9223372036854775808) % 18446744073709551616 := by
  rw [← nat_xor (uN_lt x)]
  exact UInt64.toNat_xor _ _
theorem uN_int (x : Int64) : x.toInt = if 2 * uN x < 18446744073709551616 then (uN x : Int) else (uN x : Int) - 18446744073709551616 := BitVec.toInt_eq_toNat_cond _
theorem uN_le (x y : Int64) : (x ^^^ (-9223372036854775808)) ≤ (y ^^^ (-9223372036854775808)) ↔ uN x ≤ uN y := by
  have hx := uN_lt x
  have hy := uN_lt y
  rw [Int64.le_iff_toInt_le, uN_int, uN_int, uN_xor, uN_xor]
  omega
theorem uN_sk (x : Int64) {k : Nat} (hk : k < 64) : uN (x.toUInt64 >>> ((nI k).toInt64.toUInt64 &&& Int64.toUInt64 63)).toInt64 = uN x / 2 ^ k := by
  have h : ((nI k).toInt64.toUInt64 &&& Int64.toUInt64 63).toNat % 64 = k := by
    rw [nI_l (by omega), UInt64.toNat_and]
    have e : (lN k).toUInt64.toNat = k % 2 ^ 64 := rfl
    have e2 : (Int64.toUInt64 63).toNat = 2 ^ 6 - 1 := by decide
    rw [e, e2, Nat.and_two_pow_sub_one_eq_mod]
    omega
  rw [uN_shr, h]
/-! ===== unsigned comparison by xor with the least ===== -/
theorem lN_bv (n : Nat) : (lN n).toBitVec = BitVec.ofNat 64 n := rfl
theorem lN_nat {n : Nat} (h : n < 2 ^ 64) : (lN n).toBitVec.toNat = n := by rw [lN_bv, BitVec.toNat_ofNat]; exact Nat.mod_eq_of_lt h
theorem lN_xor (a b : Nat) : lN a ^^^ lN b = lN (a ^^^ b) := by
  apply Int64.toBitVec_inj.mp; rw [Int64.toBitVec_xor, lN_bv, lN_bv, lN_bv]; apply BitVec.eq_of_getLsbD_eq; intro i hi; simp [BitVec.getLsbD_ofNat, Nat.testBit_xor, hi]
theorem lN_ti {m : Nat} (h : m < 2 ^ 64) : (lN m).toInt = if m < 2 ^ 63 then (m : Int) else (m : Int) - 2 ^ 64 := by
  have c := BitVec.toInt_eq_toNat_cond (lN m).toBitVec
  rw [lN_nat h] at c
  show (lN m).toBitVec.toInt = _
  rw [c]
  split <;> split <;> omega
theorem xor63 {x : Nat} (h : x < 2 ^ 63) : x ^^^ 2 ^ 63 = 2 ^ 63 + x := by
  apply Nat.eq_of_testBit_eq
  intro i
  rw [Nat.testBit_xor, Nat.testBit_two_pow]
  rcases Nat.lt_trichotomy i 63 with z | z | z
  · rw [Nat.testBit_two_pow_add_gt z, decide_eq_false (by omega)]; simp
  · subst z; rw [Nat.testBit_two_pow_add_eq]; simp
  · have hp : 2 ^ 64 ≤ 2 ^ i := Nat.pow_le_pow_right (by decide) z
    rw [Nat.testBit_lt_two_pow (show x < 2 ^ i by omega), Nat.testBit_lt_two_pow (show 2 ^ 63 + x < 2 ^ i by omega), decide_eq_false (by omega)]; rfl
theorem xorS {a : Nat} (h : a < 2 ^ 64) : (lN a ^^^ (-9223372036854775808)).toInt = (a : Int) - 2 ^ 63 := by
  rw [show (-9223372036854775808 : Int64) = lN (2 ^ 63) from by decide +kernel, lN_xor]
  rcases Nat.lt_or_ge a (2 ^ 63) with z | z
  · rw [xor63 z, lN_ti (by omega), if_neg (by omega)]; omega
  · obtain ⟨x, rfl⟩ : ∃ x, a = 2 ^ 63 + x := ⟨a - 2 ^ 63, by omega⟩
    rw [← xor63 (by omega), Nat.xor_assoc, Nat.xor_self, Nat.xor_zero, lN_ti (by omega), if_pos (by omega), xor63 (by omega)]; omega
theorem ultL {a b : Nat} (ha : a < 2 ^ 64) (hb : b < 2 ^ 64) : ((lN b ^^^ (-9223372036854775808)) ≤ (lN a ^^^ (-9223372036854775808))) ↔ b ≤ a := by
  rw [Int64.le_iff_toInt_le, xorS ha, xorS hb]; omega
/-! ===== Int64 masks of n low bits ===== -/
theorem cr_bits (W U M : BitVec 64) : ((W &&& U) &&& (U &&& (M ^^^ BitVec.allOnes 64))) = 0#64 ↔ (W &&& U) &&& M = W &&& U := by
  constructor
  · intro h
    apply BitVec.eq_of_getLsbD_eq
    intro i hi
    have e := congrArg (fun x => BitVec.getLsbD x i) h
    simp only [BitVec.getLsbD_and, BitVec.getLsbD_xor, BitVec.getLsbD_allOnes, BitVec.getLsbD_zero, hi, decide_true] at e ⊢
    revert e
    cases W.getLsbD i <;> cases U.getLsbD i <;> cases M.getLsbD i <;> decide
  · intro h
    apply BitVec.eq_of_getLsbD_eq
    intro i hi
    have e := congrArg (fun x => BitVec.getLsbD x i) h
    simp only [BitVec.getLsbD_and, BitVec.getLsbD_xor, BitVec.getLsbD_allOnes, BitVec.getLsbD_zero, hi, decide_true] at e ⊢
    revert e
    cases W.getLsbD i <;> cases U.getLsbD i <;> cases M.getLsbD i <;> decide
theorem cr_mask (w U m : Int64) (n : Nat) (hm : m.toBitVec.toNat = 2 ^ n - 1) : ((w &&& U) &&& (U &&& (m ^^^ (-1)))) = 0 ↔ (w &&& U).toBitVec.toNat < 2 ^ n := by
  have e0 : (-1 : Int64).toBitVec = BitVec.allOnes 64 := by decide
  have z0 : (0 : Int64).toBitVec = 0#64 := by decide
  rw [← Int64.toBitVec_inj, z0, Int64.toBitVec_and, Int64.toBitVec_and, Int64.toBitVec_and, Int64.toBitVec_xor, e0, cr_bits]
  generalize w.toBitVec &&& U.toBitVec = T
  rw [← BitVec.toNat_inj, BitVec.toNat_and, hm, Nat.and_two_pow_sub_one_eq_mod]
  constructor
  · intro h
    have t := Nat.mod_lt T.toNat (Nat.two_pow_pos n)
    rw [h] at t
    exact t
  · exact Nat.mod_eq_of_lt
theorem cr_shr (t : Int64) (x : UInt64) (n : Nat) (hx : x.toNat % 64 = n) : (t.toUInt64 >>> x).toInt64 = 0 ↔ t.toBitVec.toNat < 2 ^ n := by
  rw [← Int64.toBitVec_inj, ← BitVec.toNat_inj]
  show (t.toUInt64 >>> x).toNat = 0 ↔ t.toUInt64.toNat < 2 ^ n
  rw [UInt64.toNat_shiftRight, hx, Nat.shiftRight_eq_div_pow]
  constructor
  · intro h
    have d : t.toUInt64.toNat / 2 ^ n < 1 := by
      rw [h]
      decide
    have e := (Nat.div_lt_iff_lt_mul (Nat.two_pow_pos n)).mp d
    rw [Nat.one_mul] at e
    exact e
  · exact Nat.div_eq_of_lt
theorem cr_amt (s : Int64) : ∃ n, n < 64 ∧ s &&& 63 = lN n ∧ (s.toUInt64 &&& Int64.toUInt64 63).toNat % 64 = n := by
  have e : (s.toUInt64 &&& Int64.toUInt64 63).toNat = s.toUInt64.toNat % 2 ^ 6 := by
    rw [UInt64.toNat_and, show (Int64.toUInt64 63).toNat = 2 ^ 6 - 1 from by decide, Nat.and_two_pow_sub_one_eq_mod]
  refine ⟨s.toUInt64.toNat % 2 ^ 6, by omega, ?_, by omega⟩
  rw [← Int64.toBitVec_inj, ← BitVec.toNat_inj]
  show (s.toUInt64 &&& Int64.toUInt64 63).toNat = (BitVec.ofNat 64 (s.toUInt64.toNat % 2 ^ 6)).toNat
  rw [e, BitVec.toNat_ofNat]
  omega
end
section
/-! the search as a pure function: tables are numbers in base 8, a digit a cell (0: open, v + 1: image v) -/
def za_dg (t q : Nat) : Nat := t / 8 ^ q % 8
def za_st (t q v : Nat) : Nat := t + v * 8 ^ q
theorem za_dg_lt (t q : Nat) : za_dg t q < 8 := Nat.mod_lt _ (by decide)
theorem za_dg_0 (q : Nat) : za_dg 0 q = 0 := by unfold za_dg; rw [Nat.zero_div]
theorem za_p8 (q : Nat) : 0 < 8 ^ q := Nat.pow_pos (by decide)
theorem za_dg_st {t q v : Nat} (h0 : za_dg t q = 0) (hv : v < 8) (j : Nat) : za_dg (za_st t q v) j = if j = q then v else za_dg t j := by
  unfold za_dg za_st at *
  by_cases e : j = q
  · subst e
    rw [if_pos rfl, Nat.add_mul_div_right _ _ (za_p8 _)]
    omega
  · rw [if_neg e]
    rcases Nat.lt_or_gt_of_ne e with h | h
    · obtain ⟨d, rfl⟩ : ∃ d, q = j + (d + 1) := ⟨q - j - 1, by omega⟩
      have k : v * 8 ^ (j + (d + 1)) = (8 * (v * 8 ^ d)) * 8 ^ j := by
        rw [Nat.pow_add, Nat.pow_succ]; ac_rfl
      rw [k, Nat.add_mul_div_right _ _ (za_p8 _), Nat.add_mul_mod_self_left]
    · obtain ⟨d, rfl⟩ : ∃ d, j = q + 1 + d := ⟨j - q - 1, by omega⟩
      have k : (t + v * 8 ^ q) / 8 ^ (q + 1) = t / 8 ^ (q + 1) := by
        rw [Nat.pow_succ, ← Nat.div_div_eq_div_mul, ← Nat.div_div_eq_div_mul, Nat.add_mul_div_right _ _ (za_p8 _)]
        omega
      rw [Nat.pow_add, ← Nat.div_div_eq_div_mul, ← Nat.div_div_eq_div_mul, k]
/-- the cell of point i for the inverse of c's letter -/
def za_bk (c i : Nat) : Nat := 4 * i + (c % 4 + 1 - 2 * (c % 4 % 2))
theorem za_bk_ne (c i : Nat) : za_bk c i ≠ c := by unfold za_bk; omega
theorem za_bk_div (c i : Nat) : za_bk c i / 4 = i := by unfold za_bk; omega
theorem za_bk_mod (c i : Nat) : za_bk c i % 4 = c % 4 + 1 - 2 * (c % 4 % 2) := by unfold za_bk; omega
theorem za_bk_bk (c i : Nat) : za_bk (za_bk c i) (c / 4) = c := by unfold za_bk; omega
theorem za_bk_lt {c i n : Nat} (h : i < n) : za_bk c i < 4 * n := by unfold za_bk; omega
def za_put (t c i : Nat) : Nat := za_st (za_st t c (i + 1)) (za_bk c i) (c / 4 + 1)
def za_pt (p i : Nat) : Nat := if i = p then p + 1 else p
theorem za_dg_put {t c i : Nat} (hc : za_dg t c = 0) (hb : za_dg t (za_bk c i) = 0) (hi : i < 7) (h7 : c / 4 < 7) (j : Nat) :
    za_dg (za_put t c i) j = if j = za_bk c i then c / 4 + 1 else if j = c then i + 1 else za_dg t j := by
  unfold za_put
  have h1 := za_dg_st hc (v := i + 1) (by omega)
  rw [za_dg_st (by rw [h1, if_neg (za_bk_ne c i)]; exact hb) (by omega), h1]
def za_fo (t : Nat) : Nat → Nat → Nat
  | 0, q => q
  | d + 1, q => if za_dg t q = 0 then q else za_fo t d (q + 1)
theorem za_fo_sp (t : Nat) : ∀ d q, q ≤ za_fo t d q ∧ za_fo t d q ≤ q + d ∧ (∀ j, q ≤ j → j < za_fo t d q → za_dg t j ≠ 0) ∧ (za_fo t d q < q + d → za_dg t (za_fo t d q) = 0) := by
  intro d
  induction d with
  | zero => intro q; exact ⟨Nat.le_refl _, Nat.le_refl _, fun j a b => absurd b (by show ¬ j < q; omega), fun h => absurd h (by show ¬ q < q + 0; omega)⟩
  | succ d ih =>
    intro q
    show _ ≤ (if za_dg t q = 0 then q else za_fo t d (q + 1)) ∧ (if za_dg t q = 0 then q else za_fo t d (q + 1)) ≤ _ ∧ (∀ j, q ≤ j → j < (if za_dg t q = 0 then q else za_fo t d (q + 1)) → _) ∧ ((if za_dg t q = 0 then q else za_fo t d (q + 1)) < _ → za_dg t (if za_dg t q = 0 then q else za_fo t d (q + 1)) = 0)
    by_cases h : za_dg t q = 0
    · rw [if_pos h]
      exact ⟨Nat.le_refl _, by omega, fun j a b => absurd b (by omega), fun _ => h⟩
    · rw [if_neg h]
      obtain ⟨a, b, e, f⟩ := ih (q + 1)
      refine ⟨by omega, by omega, fun j x y => ?_, fun x => f (by omega)⟩
      by_cases z : j = q
      · subst z; exact h
      · exact e j (by omega) y
def za_b1 (g : Nat → Nat → Bool) (S : Nat → Nat → List Nat) (t p c i : Nat) : List Nat :=
  if i ≤ p ∧ za_dg t (za_bk c i) = 0 then (if g (za_put t c i) (za_pt p i) = true then S (za_put t c i) (za_pt p i) else []) else []
def za_sr (g : Nat → Nat → Bool) (n : Nat) : Nat → Nat → Nat → List Nat
  | 0, _, _ => []
  | f + 1, t, p =>
    if za_fo t (4 * p) 0 = 4 * p then (if p = n then [t] else [])
    else (List.range n).flatMap (za_b1 g (za_sr g n f) t p (za_fo t (4 * p) 0))
theorem za_sr_s (g : Nat → Nat → Bool) (n f t p : Nat) : za_sr g n (f + 1) t p = if za_fo t (4 * p) 0 = 4 * p then (if p = n then [t] else [])
    else (List.range n).flatMap (za_b1 g (za_sr g n f) t p (za_fo t (4 * p) 0)) := rfl
/-! what holds of a table at work: p points are met -/
def za_pi (n t p : Nat) : Prop :=
  0 < p ∧ p ≤ n ∧ (∀ q, za_dg t q ≠ 0 → q < 4 * p ∧ za_dg t q ≤ p) ∧
  (∀ q, za_dg t q ≠ 0 → za_dg t (za_bk q (za_dg t q - 1)) = q / 4 + 1) ∧
  (∀ q u, 0 < u → u + 1 < za_dg t q → ∃ q', q' < q ∧ za_dg t q' = u + 1) ∧
  (∀ u, 0 < u → u < p → ∃ q, q < 4 * u ∧ za_dg t q = u + 1 ∧ ∀ q', q' ≤ q → za_dg t q' ≠ 0)
theorem za_pi_0 {n : Nat} (hn : 0 < n) : za_pi n 0 1 :=
  ⟨by omega, hn, fun q h => absurd (za_dg_0 q) h, fun q h => absurd (za_dg_0 q) h, fun q u _ h => absurd h (by rw [za_dg_0]; omega), fun u a b => absurd a (by omega)⟩
theorem za_pt_ge (p i : Nat) (h : i ≤ p) : p ≤ za_pt p i ∧ i < za_pt p i ∧ za_pt p i ≤ p + 1 ∧ (za_pt p i = p ∨ (i = p ∧ za_pt p i = p + 1)) := by
  unfold za_pt
  by_cases e : i = p
  · rw [if_pos e]; omega
  · rw [if_neg e]; omega
theorem za_pi_put {n t p c i : Nat} (hn : n ≤ 5) (h : za_pi n t p) (hc : za_dg t c = 0) (hf : ∀ j, j < c → za_dg t j ≠ 0) (hcp : c < 4 * p) (hip : i ≤ p) (hin : i < n) (hb : za_dg t (za_bk c i) = 0) :
    za_pi n (za_put t c i) (za_pt p i) := by
  obtain ⟨h1, h2, h3, h4, h5, h6⟩ := h
  obtain ⟨k1, k2, k3, k4⟩ := za_pt_ge p i hip
  have D := za_dg_put hc hb (by omega) (by omega : c / 4 < 7)
  have keep : ∀ j, za_dg t j ≠ 0 → za_dg (za_put t c i) j = za_dg t j := by
    intro j hj
    rw [D, if_neg (fun e => hj (by rw [e]; exact hb)), if_neg (fun e => hj (by rw [e]; exact hc))]
  have Dc : za_dg (za_put t c i) c = i + 1 := by rw [D, if_neg (fun e => za_bk_ne c i e.symm), if_pos rfl]
  have Db : za_dg (za_put t c i) (za_bk c i) = c / 4 + 1 := by rw [D, if_pos rfl]
  have cb : c < za_bk c i := by
    rcases Nat.lt_or_ge (za_bk c i) c with z | z
    · exact absurd hb (hf _ z)
    · have := za_bk_ne c i; omega
  have cs : ∀ q, za_dg (za_put t c i) q ≠ 0 → q = c ∨ q = za_bk c i ∨ za_dg t q ≠ 0 := by
    intro q hq
    by_cases e1 : q = c
    · exact Or.inl e1
    · by_cases e2 : q = za_bk c i
      · exact Or.inr (Or.inl e2)
      · rw [D, if_neg e2, if_neg e1] at hq
        exact Or.inr (Or.inr hq)
  have met : ∀ u, 0 < u → u < p → ∃ q', q' < c ∧ za_dg (za_put t c i) q' = u + 1 := by
    intro u a b
    obtain ⟨q, _, e, f⟩ := h6 u a b
    refine ⟨q, ?_, ?_⟩
    · rcases Nat.lt_or_ge q c with z | z
      · exact z
      · exact absurd hc (f c z)
    · rw [keep q (by rw [e]; omega), e]
  refine ⟨by omega, ?_, ?_, ?_, ?_, ?_⟩
  · rcases k4 with z | z <;> omega
  · intro q hq
    rcases cs q hq with e | e | e
    · subst e; rw [Dc]; omega
    · subst e; rw [Db]; have := za_bk_lt (c := c) k2; omega
    · rw [keep q e]; have := h3 q e; omega
  · intro q hq
    rcases cs q hq with e | e | e
    · subst e; rw [Dc]; exact Db
    · subst e; rw [Db, Nat.add_sub_cancel, za_bk_bk, Dc, za_bk_div]
    · have := h4 q e
      rw [keep q e, keep _ (by omega)]; exact this
  · intro q u hu hq
    rcases cs q (by omega) with e | e | e
    · subst e; rw [Dc] at hq; exact met u hu (by omega)
    · subst e; rw [Db] at hq
      obtain ⟨q', a, b⟩ := met u hu (by omega)
      exact ⟨q', by omega, b⟩
    · rw [keep q e] at hq
      obtain ⟨q', a, b⟩ := h5 q u hu hq
      exact ⟨q', a, by rw [keep q' (by omega), b]⟩
  · intro u hu hq
    rcases Nat.lt_or_ge u p with z | z
    · obtain ⟨q, a, b, d⟩ := h6 u hu z
      exact ⟨q, a, by rw [keep q (by omega), b], fun q' y => by rw [keep q' (d q' y)]; exact d q' y⟩
    · rcases k4 with e | ⟨e, e'⟩
      · omega
      · refine ⟨c, by omega, by rw [Dc]; omega, fun q' y => ?_⟩
        rcases Nat.lt_or_ge q' c with x | x
        · rw [keep q' (hf q' x)]; exact hf q' x
        · have : q' = c := by omega
          rw [this, Dc]; omega
theorem za_put_keep {t c i : Nat} (hc : za_dg t c = 0) (hb : za_dg t (za_bk c i) = 0) (hi : i < 7) (h7 : c / 4 < 7) (j : Nat) (hj : za_dg t j ≠ 0) : za_dg (za_put t c i) j = za_dg t j := by
  rw [za_dg_put hc hb hi h7, if_neg (fun e => hj (by rw [e]; exact hb)), if_neg (fun e => hj (by rw [e]; exact hc))]
theorem za_put_c {t c i : Nat} (hc : za_dg t c = 0) (hb : za_dg t (za_bk c i) = 0) (hi : i < 7) (h7 : c / 4 < 7) : za_dg (za_put t c i) c = i + 1 := by
  rw [za_dg_put hc hb hi h7, if_neg (fun e => za_bk_ne c i e.symm), if_pos rfl]
theorem za_mem_b1 {g : Nat → Nat → Bool} {S : Nat → Nat → List Nat} {t p c i x : Nat} : x ∈ za_b1 g S t p c i ↔ i ≤ p ∧ za_dg t (za_bk c i) = 0 ∧ g (za_put t c i) (za_pt p i) = true ∧ x ∈ S (za_put t c i) (za_pt p i) := by
  unfold za_b1
  by_cases h : i ≤ p ∧ za_dg t (za_bk c i) = 0
  · rw [if_pos h]
    by_cases h' : g (za_put t c i) (za_pt p i) = true
    · rw [if_pos h']; exact ⟨fun a => ⟨h.1, h.2, h', a⟩, fun a => a.2.2.2⟩
    · rw [if_neg h']; exact ⟨fun a => absurd a List.not_mem_nil, fun a => absurd a.2.2.1 h'⟩
  · rw [if_neg h]; exact ⟨fun a => absurd a List.not_mem_nil, fun a => absurd ⟨a.1, a.2.1⟩ h⟩
theorem za_sound (g : Nat → Nat → Bool) {n : Nat} (hn : n ≤ 5) : ∀ f t p x, x ∈ za_sr g n f t p → za_pi n t p → (g t p = true ∨ za_dg t 0 = 0) →
    za_pi n x n ∧ (∀ q, q < 4 * n → za_dg x q ≠ 0) ∧ g x n = true ∧ (∀ q, za_dg t q ≠ 0 → za_dg x q = za_dg t q) := by
  intro f
  induction f with
  | zero => intro t p x h; exact absurd h List.not_mem_nil
  | succ f ih =>
    intro t p x h hp hg
    rw [za_sr_s] at h
    obtain ⟨_, s2, s3, s4⟩ := za_fo_sp t (4 * p) 0
    by_cases e : za_fo t (4 * p) 0 = 4 * p
    · rw [if_pos e] at h
      by_cases e2 : p = n
      · rw [if_pos e2] at h
        have hx : x = t := List.mem_singleton.mp h
        subst hx e2
        have hp0 := hp.1
        refine ⟨hp, fun q hq => s3 q (Nat.zero_le _) (by omega), ?_, fun q _ => rfl⟩
        rcases hg with z | z
        · exact z
        · exact absurd z (s3 0 (Nat.le_refl _) (by omega))
      · rw [if_neg e2] at h
        exact absurd h List.not_mem_nil
    · rw [if_neg e] at h
      obtain ⟨i, hi, hx⟩ := List.mem_flatMap.mp h
      have hin := List.mem_range.mp hi
      obtain ⟨a1, a2, a3, a4⟩ := za_mem_b1.mp hx
      have hc := s4 (by omega)
      have hp2 := hp.2.1
      obtain ⟨b1, b2, b3, b4⟩ := ih _ _ x a4 (za_pi_put hn hp hc (fun j hj => s3 j (Nat.zero_le _) hj) (by omega) a1 hin a2) (Or.inl a3)
      refine ⟨b1, b2, b3, fun q hq => ?_⟩
      have k := za_put_keep hc a2 (by omega) (by omega) q hq
      rw [← k]
      exact b4 q (by rw [k]; exact hq)
/-- the number of open cells below m -/
def za_op (t : Nat) : Nat → Nat
  | 0 => 0
  | m + 1 => za_op t m + (if za_dg t m = 0 then 1 else 0)
theorem za_op_le {t t' : Nat} (h : ∀ j, za_dg t j ≠ 0 → za_dg t' j ≠ 0) : ∀ m, za_op t' m ≤ za_op t m := by
  intro m
  induction m with
  | zero => exact Nat.le_refl _
  | succ m ih =>
    show za_op t' m + _ ≤ za_op t m + _
    by_cases a : za_dg t m = 0
    · rw [if_pos a]; split <;> omega
    · rw [if_neg a, if_neg (h m a)]; omega
theorem za_op_lt {t t' c : Nat} (h : ∀ j, za_dg t j ≠ 0 → za_dg t' j ≠ 0) (hc : za_dg t c = 0) (hc' : za_dg t' c ≠ 0) : ∀ m, c < m → za_op t' m < za_op t m := by
  intro m
  induction m with
  | zero => intro h; omega
  | succ m ih =>
    intro hm
    show za_op t' m + _ < za_op t m + _
    by_cases e : c = m
    · subst e
      rw [if_pos hc, if_neg hc']
      have := za_op_le h c
      omega
    · have := ih (by omega)
      by_cases a : za_dg t m = 0
      · rw [if_pos a]; split <;> omega
      · rw [if_neg a, if_neg (h m a)]; omega
theorem za_op_m (t : Nat) : ∀ m, za_op t m ≤ m := by
  intro m
  induction m with
  | zero => exact Nat.le_refl _
  | succ m ih => show za_op t m + _ ≤ _; split <;> omega
theorem za_op_put {n t c i p : Nat} (hn : n ≤ 5) (h : za_pi n t p) (hc : za_dg t c = 0) (hb : za_dg t (za_bk c i) = 0) (hi : i < n) (hcp : c < 4 * p) : za_op (za_put t c i) (4 * n) < za_op t (4 * n) := by
  have hp := h.2.1
  refine za_op_lt (c := c) (fun j hj => ?_) hc ?_ _ (by omega)
  · rw [za_put_keep hc hb (by omega) (by omega) j hj]; exact hj
  · rw [za_put_c hc hb (by omega) (by omega)]; omega
/-! tables and actions by their images (cell 4 p + l) -/
def za_act (n : Nat) (F : Nat → Nat) : Prop := (∀ q, q < 4 * n → F q < n) ∧ (∀ q, q < 4 * n → F (za_bk q (F q)) = q / 4)
def za_std (n : Nat) (F : Nat → Nat) : Prop :=
  (∀ q, q < 4 * n → ∀ u, 0 < u → u < F q → ∃ q', q' < q ∧ F q' = u) ∧ (∀ p, 0 < p → p < n → ∃ q, q < 4 * p ∧ F q = p)
theorem za_compl (g : Nat → Nat → Bool) {n : Nat} (hn : n ≤ 5) {F : Nat → Nat} (hA : za_act n F) (hS : za_std n F)
    (Hg : ∀ t p, za_pi n t p → (∀ q, za_dg t q ≠ 0 → za_dg t q = F q + 1) → g t p = true) :
    ∀ f t p, za_pi n t p → (∀ q, za_dg t q ≠ 0 → za_dg t q = F q + 1) → za_op t (4 * n) < f → ∃ x, x ∈ za_sr g n f t p ∧ ∀ q, q < 4 * n → za_dg x q = F q + 1 := by
  intro f
  induction f with
  | zero => intro t p _ _ h; omega
  | succ f ih =>
    intro t p hp hE hop
    rw [za_sr_s]
    obtain ⟨_, s2, s3, s4⟩ := za_fo_sp t (4 * p) 0
    have hp' := hp
    obtain ⟨h1, h2, h3, h4, h5, h6⟩ := hp'
    by_cases e : za_fo t (4 * p) 0 = 4 * p
    · rw [if_pos e]
      have epn : p = n := by
        rcases Nat.lt_or_ge p n with z | z
        · obtain ⟨q, hq, eq⟩ := hS.2 p h1 z
          have hd := s3 q (Nat.zero_le _) (by omega)
          have := hE q hd
          have := h3 q hd
          omega
        · omega
      rw [if_pos epn]
      subst epn
      exact ⟨t, List.mem_singleton.mpr rfl, fun q hq => hE q (s3 q (Nat.zero_le _) (by omega))⟩
    · rw [if_neg e]
      generalize hc0 : za_fo t (4 * p) 0 = c at *
      have hc := s4 (by omega)
      have hcp : c < 4 * p := by omega
      have hFc := hA.1 c (by omega)
      have hip : F c ≤ p := by
        rcases Nat.lt_or_ge p (F c) with z | z
        · obtain ⟨q', a, b⟩ := hS.1 c (by omega) p h1 z
          have hd := s3 q' (Nat.zero_le _) a
          have := hE q' hd
          have := h3 q' hd
          omega
        · exact z
      have hb : za_dg t (za_bk c (F c)) = 0 := by
        refine Classical.byContradiction fun z => ?_
        have k1 := hE _ z
        rw [hA.2 c (by omega)] at k1
        have k2 := h4 _ z
        rw [k1, Nat.add_sub_cancel, za_bk_bk, hc] at k2
        omega
      have hE' : ∀ q, za_dg (za_put t c (F c)) q ≠ 0 → za_dg (za_put t c (F c)) q = F q + 1 := by
        intro q hq
        rw [za_dg_put hc hb (by omega) (by omega)] at hq ⊢
        by_cases e1 : q = za_bk c (F c)
        · rw [if_pos e1, e1, hA.2 c (by omega)]
        · rw [if_neg e1] at hq ⊢
          by_cases e2 : q = c
          · rw [if_pos e2, e2]
          · rw [if_neg e2] at hq ⊢
            exact hE q hq
      have hpi := za_pi_put hn hp hc (fun j hj => s3 j (Nat.zero_le _) hj) hcp hip hFc hb
      obtain ⟨x, hx, hx2⟩ := ih _ _ hpi hE' (by have := za_op_put hn hp hc hb hFc hcp; omega)
      exact ⟨x, List.mem_flatMap.mpr ⟨F c, List.mem_range.mpr hFc, za_mem_b1.mpr ⟨hip, hb, Hg _ _ hpi hE', hx⟩⟩, hx2⟩
/-- before in the order of images -/
def za_lx (n x y : Nat) : Prop := ∃ c, c < 4 * n ∧ (∀ j, j < c → za_dg x j = za_dg y j) ∧ za_dg x c < za_dg y c
theorem za_sorted (g : Nat → Nat → Bool) {n : Nat} (hn : n ≤ 5) : ∀ f t p, za_pi n t p → (g t p = true ∨ za_dg t 0 = 0) → List.Pairwise (za_lx n) (za_sr g n f t p) := by
  intro f
  induction f with
  | zero => intro t p _ _; exact List.Pairwise.nil
  | succ f ih =>
    intro t p hp hg
    rw [za_sr_s]
    obtain ⟨_, s2, s3, s4⟩ := za_fo_sp t (4 * p) 0
    by_cases e : za_fo t (4 * p) 0 = 4 * p
    · rw [if_pos e]
      by_cases e2 : p = n
      · rw [if_pos e2]; exact List.pairwise_singleton _ _
      · rw [if_neg e2]; exact List.Pairwise.nil
    · rw [if_neg e]
      have hc := s4 (by omega)
      have hp2 := hp.2.1
      have hpi : ∀ i, i < n → i ≤ p → za_dg t (za_bk (za_fo t (4 * p) 0) i) = 0 → za_pi n (za_put t (za_fo t (4 * p) 0) i) (za_pt p i) :=
        fun i a b d => za_pi_put hn hp hc (fun j hj => s3 j (Nat.zero_le _) hj) (by omega) b a d
      rw [List.pairwise_flatMap]
      constructor
      · intro i hi
        have hin := List.mem_range.mp hi
        unfold za_b1
        by_cases h : i ≤ p ∧ za_dg t (za_bk (za_fo t (4 * p) 0) i) = 0
        · rw [if_pos h]
          by_cases h' : g (za_put t (za_fo t (4 * p) 0) i) (za_pt p i) = true
          · rw [if_pos h']; exact ih _ _ (hpi i hin h.1 h.2) (Or.inl h')
          · rw [if_neg h']; exact List.Pairwise.nil
        · rw [if_neg h]; exact List.Pairwise.nil
      · have key : ∀ i, i < n → ∀ x, x ∈ za_b1 g (za_sr g n f) t p (za_fo t (4 * p) 0) i → za_dg x (za_fo t (4 * p) 0) = i + 1 ∧ ∀ j, j < za_fo t (4 * p) 0 → za_dg x j = za_dg t j := by
          intro i hin x hx
          obtain ⟨a1, a2, a3, a4⟩ := za_mem_b1.mp hx
          obtain ⟨_, _, _, b4⟩ := za_sound g hn _ _ _ x a4 (hpi i hin a1 a2) (Or.inl a3)
          have kc := za_put_c hc a2 (by omega) (by omega)
          refine ⟨by rw [b4 _ (by rw [kc]; omega), kc], fun j hj => ?_⟩
          have hd := s3 j (Nat.zero_le _) hj
          have kk := za_put_keep hc a2 (by omega) (by omega) j hd
          rw [b4 j (by rw [kk]; exact hd), kk]
        refine List.Pairwise.imp_of_mem ?_ List.pairwise_lt_range
        intro i i' hi hi' hlt x hx y hy
        obtain ⟨x1, x2⟩ := key i (List.mem_range.mp hi) x hx
        obtain ⟨y1, y2⟩ := key i' (List.mem_range.mp hi') y hy
        exact ⟨za_fo t (4 * p) 0, by omega, fun j hj => by rw [x2 j hj, y2 j hj], by rw [x1, y1]; omega⟩
/-! how many there are at most -/
def za_fc {α : Type} (n : Nat) (k : Nat → α) : α := match n with
  | 0 => k 0
  | m + 1 => k (m + 1)
theorem za_fc_e {α : Type} (n : Nat) (k : Nat → α) : za_fc n k = k n := by cases n <;> rfl
def za_sm (h : Nat → Nat) : Nat → Nat
  | 0 => 0
  | n + 1 => za_sm h n + h n
def za_cn (n : Nat) : Nat → Nat → Nat → Nat
  | 0, _, _ => 0
  | f + 1, t, p => za_fc t fun t => za_fc p fun p => za_fc (za_fo t (4 * p) 0) fun c =>
    if c = 4 * p then (if p = n then 1 else 0)
    else za_sm (fun i => if i ≤ p ∧ za_dg t (za_bk c i) = 0 then za_cn n f (za_put t c i) (za_pt p i) else 0) n
theorem za_cn_s (n f t p : Nat) : za_cn n (f + 1) t p = if za_fo t (4 * p) 0 = 4 * p then (if p = n then 1 else 0)
    else za_sm (fun i => if i ≤ p ∧ za_dg t (za_bk (za_fo t (4 * p) 0) i) = 0 then za_cn n f (za_put t (za_fo t (4 * p) 0) i) (za_pt p i) else 0) n := by
  show (za_fc t fun t => za_fc p fun p => za_fc (za_fo t (4 * p) 0) fun c => _) = _
  rw [za_fc_e, za_fc_e, za_fc_e]
theorem za_sm_le {h h' : Nat → Nat} : ∀ n, (∀ i, i < n → h i ≤ h' i) → za_sm h n ≤ za_sm h' n := by
  intro n
  induction n with
  | zero => intro _; exact Nat.le_refl _
  | succ n ih =>
    intro H
    have a := ih fun i hi => H i (by omega)
    have b := H n (by omega)
    show za_sm h n + h n ≤ za_sm h' n + h' n
    omega
theorem za_len_fm {α : Type} (h : Nat → List α) : ∀ n, ((List.range n).flatMap h).length = za_sm (fun i => (h i).length) n := by
  intro n
  induction n with
  | zero => rfl
  | succ n ih =>
    rw [List.range_succ, List.flatMap_append, List.length_append, ih]
    show _ = za_sm _ n + _
    simp
theorem za_len (g : Nat → Nat → Bool) (n : Nat) : ∀ f t p, (za_sr g n f t p).length ≤ za_cn n f t p := by
  intro f
  induction f with
  | zero => intro t p; exact Nat.le_refl _
  | succ f ih =>
    intro t p
    rw [za_sr_s, za_cn_s]
    by_cases e : za_fo t (4 * p) 0 = 4 * p
    · rw [if_pos e, if_pos e]
      by_cases e2 : p = n
      · rw [if_pos e2, if_pos e2]; exact Nat.le_refl _
      · rw [if_neg e2, if_neg e2]; exact Nat.le_refl _
    · rw [if_neg e, if_neg e, za_len_fm]
      refine za_sm_le n fun i _ => ?_
      unfold za_b1
      by_cases h : i ≤ p ∧ za_dg t (za_bk (za_fo t (4 * p) 0) i) = 0
      · rw [if_pos h, if_pos h]
        by_cases h' : g (za_put t (za_fo t (4 * p) 0) i) (za_pt p i) = true
        · rw [if_pos h']; exact ih _ _
        · rw [if_neg h']; exact Nat.zero_le _
      · rw [if_neg h, if_neg h]; exact Nat.le_refl _
theorem za_c1 : za_cn 1 21 0 1 = 1 := by decide +kernel
theorem za_c2 : za_cn 2 21 0 1 = 3 := by decide +kernel
theorem za_c3 : za_cn 3 21 0 1 = 13 := by decide +kernel
theorem za_c4 : za_cn 4 21 0 1 = 71 := by decide +kernel
theorem za_c5 : za_cn 5 21 0 1 = 461 := by decide +kernel
end
section
/-! relators in tables -/
def za_wk (F : Nat → Nat) (w : Nat → Nat) : Nat → Nat → Nat
  | 0, p => p
  | m + 1, p => F (4 * za_wk F w m p + w m)
def za_hold (c : Nat) (sz rl : Nat → Nat) (n : Nat) (F : Nat → Nat) : Prop :=
  ∀ k, k < c → ∀ p, p < n → za_wk F (fun i => rl (8 * k + i)) (sz k) p = p
def za_pw (t : Nat) (w : Nat → Nat) : Nat → Nat → Nat
  | 0, p => p + 1
  | m + 1, p => if za_pw t w m p = 0 then 0 else za_dg t (4 * (za_pw t w m p - 1) + w m)
def za_fit (c : Nat) (sz rl : Nat → Nat) (t m : Nat) : Bool :=
  decide (∀ k, k < c → ∀ p, p < m → (za_pw t (fun i => rl (8 * k + i)) (sz k) p = 0 ∨ za_pw t (fun i => rl (8 * k + i)) (sz k) p = p + 1))
theorem za_fit_iff {c : Nat} {sz rl : Nat → Nat} {t m : Nat} : za_fit c sz rl t m = true ↔ ∀ k, k < c → ∀ p, p < m → (za_pw t (fun i => rl (8 * k + i)) (sz k) p = 0 ∨ za_pw t (fun i => rl (8 * k + i)) (sz k) p = p + 1) := by
  unfold za_fit
  exact decide_eq_true_iff
theorem za_pw_ext {t : Nat} {F w : Nat → Nat} (hE : ∀ q, za_dg t q ≠ 0 → za_dg t q = F q + 1) (p : Nat) : ∀ m, za_pw t w m p = 0 ∨ za_pw t w m p = za_wk F w m p + 1 := by
  intro m
  induction m with
  | zero => exact Or.inr rfl
  | succ m ih =>
    show (if za_pw t w m p = 0 then 0 else za_dg t (4 * (za_pw t w m p - 1) + w m)) = 0 ∨ (if za_pw t w m p = 0 then 0 else za_dg t (4 * (za_pw t w m p - 1) + w m)) = F (4 * za_wk F w m p + w m) + 1
    rcases ih with h | h
    · rw [if_pos h]; exact Or.inl rfl
    · rw [if_neg (by omega), h, Nat.add_sub_cancel]
      by_cases z : za_dg t (4 * za_wk F w m p + w m) = 0
      · exact Or.inl z
      · exact Or.inr (hE _ z)
theorem za_wk_lt {n : Nat} {F w : Nat → Nat} (hF : ∀ q, q < 4 * n → F q < n) (hw : ∀ i, w i < 4) {p : Nat} (hp : p < n) : ∀ m, za_wk F w m p < n := by
  intro m
  induction m with
  | zero => exact hp
  | succ m ih => exact hF _ (by have := hw m; omega)
def za_F (x q : Nat) : Nat := za_dg x q - 1
theorem za_pw_full {n x : Nat} {w : Nat → Nat} (hx : ∀ q, q < 4 * n → za_dg x q ≠ 0 ∧ za_dg x q ≤ n) (hw : ∀ i, w i < 4) {p : Nat} (hp : p < n) : ∀ m, za_pw x w m p = za_wk (za_F x) w m p + 1 := by
  intro m
  induction m with
  | zero => rfl
  | succ m ih =>
    have hl := za_wk_lt (F := za_F x) (n := n) (fun q hq => by have := hx q hq; unfold za_F; omega) hw hp m
    have := hw m
    show (if za_pw x w m p = 0 then 0 else za_dg x (4 * (za_pw x w m p - 1) + w m)) = za_F x (4 * za_wk (za_F x) w m p + w m) + 1
    rw [if_neg (by omega), ih, Nat.add_sub_cancel]
    have := hx (4 * za_wk (za_F x) w m p + w m) (by omega)
    show _ = za_dg x _ - 1 + 1
    omega
def za_TL (c : Nat) (sz rl : Nat → Nat) (n : Nat) : List Nat := za_sr (za_fit c sz rl) n 21 0 1
def za_tab (c : Nat) (sz rl : Nat → Nat) (n : Nat) (F : Nat → Nat) : Prop := za_act n F ∧ za_std n F ∧ za_hold c sz rl n F
theorem za_TL1 {c : Nat} {sz rl : Nat → Nat} {n : Nat} (h1 : 0 < n) (hn : n ≤ 5) (hrl : ∀ i, rl i < 4) {x : Nat} (hx : x ∈ za_TL c sz rl n) : za_tab c sz rl n (za_F x) ∧ ∀ q, q < 4 * n → za_dg x q = za_F x q + 1 := by
  obtain ⟨⟨_, _, b3, b4, b5, b6⟩, a2, a3, _⟩ := za_sound (za_fit c sz rl) hn _ _ _ x hx (za_pi_0 h1) (Or.inr (za_dg_0 0))
  have hd : ∀ q, q < 4 * n → za_dg x q = za_F x q + 1 := fun q hq => by have := a2 q hq; unfold za_F; omega
  refine ⟨⟨⟨fun q hq => ?_, fun q hq => ?_⟩, ⟨fun q hq u hu hl => ?_, fun u hu hl => ?_⟩, fun k hk p hp => ?_⟩, hd⟩
  · have := b3 q (a2 q hq); have := a2 q hq; unfold za_F; omega
  · have := b4 q (a2 q hq); show za_dg x (za_bk q (za_dg x q - 1)) - 1 = _; omega
  · obtain ⟨q', a, b⟩ := b5 q u hu (by have := hd q hq; omega)
    exact ⟨q', a, by unfold za_F; omega⟩
  · obtain ⟨q, a, b, _⟩ := b6 u hu hl
    exact ⟨q, a, by unfold za_F; omega⟩
  · have hf := za_fit_iff.mp a3 k hk p hp
    rw [za_pw_full (n := n) (fun q hq => ⟨a2 q hq, (b3 q (a2 q hq)).2⟩) (fun i => hrl _) hp] at hf
    omega
theorem za_TL2 {c : Nat} {sz rl : Nat → Nat} {n : Nat} (h1 : 0 < n) (hn : n ≤ 5) {F : Nat → Nat} (hF : za_tab c sz rl n F) : ∃ x, x ∈ za_TL c sz rl n ∧ ∀ q, q < 4 * n → za_dg x q = F q + 1 := by
  refine za_compl (za_fit c sz rl) hn hF.1 hF.2.1 (fun t p hp hE => ?_) 21 0 1 (za_pi_0 h1) (fun q h => absurd (za_dg_0 q) h) (by have := za_op_m 0 (4 * n); omega)
  rw [za_fit_iff]
  intro k hk q hq
  have h2 := hp.2.1
  rcases za_pw_ext hE (w := fun i => rl (8 * k + i)) q (sz k) with h | h
  · exact Or.inl h
  · rw [hF.2.2 k hk q (by omega)] at h
    exact Or.inr h
theorem za_TL3 {c : Nat} {sz rl : Nat → Nat} {n : Nat} (h1 : 0 < n) (hn : n ≤ 5) : List.Pairwise (za_lx n) (za_TL c sz rl n) :=
  za_sorted (za_fit c sz rl) hn _ _ _ (za_pi_0 h1) (Or.inr (za_dg_0 0))
def za_N (n : Nat) : Nat := if n = 1 then 1 else if n = 2 then 3 else if n = 3 then 13 else if n = 4 then 71 else 461
theorem za_TL4' {c : Nat} {sz rl : Nat → Nat} {n : Nat} (h1 : 0 < n) (hn : n ≤ 5) : (za_TL c sz rl n).length ≤ za_N n := by
  have h := za_len (za_fit c sz rl) n 21 0 1
  have k : za_cn n 21 0 1 = za_N n := by
    rcases (by omega : n = 1 ∨ n = 2 ∨ n = 3 ∨ n = 4 ∨ n = 5) with e | e | e | e | e <;> subst e
    · exact za_c1
    · exact za_c2
    · exact za_c3
    · exact za_c4
    · exact za_c5
  rw [k] at h
  exact h
theorem za_N_le (n : Nat) : za_N n ≤ 461 := by
  unfold za_N
  split
  · omega
  · split
    · omega
    · split
      · omega
      · split <;> omega
theorem za_TL4 {c : Nat} {sz rl : Nat → Nat} {n : Nat} (h1 : 0 < n) (hn : n ≤ 5) : (za_TL c sz rl n).length ≤ 461 := Nat.le_trans (za_TL4' h1 hn) (za_N_le n)
/-! keys -/
def za_pk (b : Nat) (f : Nat → Nat) : Nat → Nat
  | 0 => 0
  | m + 1 => b * za_pk b f m + f m
theorem za_pk_s (b : Nat) (f : Nat → Nat) (m : Nat) : za_pk b f (m + 1) = b * za_pk b f m + f m := rfl
theorem za_pk_lt {b : Nat} {f : Nat → Nat} : ∀ m, (∀ j, j < m → f j < b) → za_pk b f m < b ^ m := by
  intro m
  induction m with
  | zero => intro _; exact Nat.one_pos
  | succ m ih =>
    intro h
    have a := ih fun j hj => h j (by omega)
    have d := h m (by omega)
    have e : b * (za_pk b f m + 1) ≤ b * b ^ m := Nat.mul_le_mul_left b a
    rw [Nat.mul_add] at e
    rw [za_pk_s, Nat.pow_succ, Nat.mul_comm (b ^ m) b]
    omega
theorem za_pk_c {b : Nat} {f g : Nat → Nat} : ∀ m, (∀ j, j < m → f j = g j) → za_pk b f m = za_pk b g m := by
  intro m
  induction m with
  | zero => intro _; rfl
  | succ m ih => intro h; rw [za_pk_s, za_pk_s, ih (fun j hj => h j (by omega)), h m (by omega)]
theorem za_pk_inj {b : Nat} {f g : Nat → Nat} : ∀ m, (∀ j, j < m → f j < b) → (∀ j, j < m → g j < b) → za_pk b f m = za_pk b g m → ∀ j, j < m → f j = g j := by
  intro m
  induction m with
  | zero => intro _ _ _ j hj; omega
  | succ m ih =>
    intro hf hg e
    rw [za_pk_s, za_pk_s] at e
    have a := hf m (by omega)
    have d := hg m (by omega)
    have e1 : za_pk b f m = za_pk b g m := by
      have := congrArg (· / b) e
      simp only [Nat.mul_add_div (show 0 < b by omega), Nat.div_eq_of_lt a, Nat.div_eq_of_lt d] at this
      omega
    rw [e1] at e
    intro j hj
    rcases Nat.lt_or_ge j m with z | z
    · exact ih (fun j hj => hf j (by omega)) (fun j hj => hg j (by omega)) e1 j z
    · have : j = m := by omega
      subst this; omega
theorem za_pk_cmp {b : Nat} {f g : Nat → Nat} : ∀ m, (∀ j, j < m → f j < b) → (∀ j, j < m → g j < b) → (za_pk b f m < za_pk b g m ↔ ∃ c, c < m ∧ (∀ j, j < c → f j = g j) ∧ f c < g c) := by
  intro m
  induction m with
  | zero => intro _ _; exact ⟨fun h => absurd h (Nat.lt_irrefl _), fun ⟨c, h, _⟩ => absurd h (by omega)⟩
  | succ m ih =>
    intro hf hg
    have IH := ih (fun j hj => hf j (by omega)) (fun j hj => hg j (by omega))
    have a := hf m (by omega)
    have d := hg m (by omega)
    rw [za_pk_s, za_pk_s]
    constructor
    · intro h
      rcases Nat.lt_trichotomy (za_pk b f m) (za_pk b g m) with z | z | z
      · obtain ⟨c, x, y⟩ := IH.mp z
        exact ⟨c, by omega, y⟩
      · rw [z] at h
        exact ⟨m, by omega, za_pk_inj m (fun j hj => hf j (by omega)) (fun j hj => hg j (by omega)) z, by omega⟩
      · have e : b * (za_pk b g m + 1) ≤ b * za_pk b f m := Nat.mul_le_mul_left b z
        rw [Nat.mul_add] at e
        omega
    · intro ⟨c, hc, h1, h2⟩
      rcases Nat.lt_or_ge c m with z | z
      · have k := IH.mpr ⟨c, z, h1, h2⟩
        have e : b * (za_pk b f m + 1) ≤ b * za_pk b g m := Nat.mul_le_mul_left b k
        rw [Nat.mul_add] at e
        omega
      · have e : c = m := by omega
        subst e
        rw [za_pk_c c h1]
        omega
theorem za_pk_dg {b : Nat} {f : Nat → Nat} (hb : 0 < b) : ∀ m, (∀ j, j < m → f j < b) → ∀ q, q < m → za_pk b f m / b ^ (m - 1 - q) % b = f q := by
  intro m
  induction m with
  | zero => intro _ q h; omega
  | succ m ih =>
    intro hf q hq
    have a := hf m (by omega)
    rw [za_pk_s]
    rcases Nat.lt_or_ge q m with z | z
    · obtain ⟨d, hd⟩ : ∃ d, m - 1 - q = d := ⟨_, rfl⟩
      rw [show m + 1 - 1 - q = d + 1 by omega, Nat.pow_succ, Nat.mul_comm (b ^ d) b, ← Nat.div_div_eq_div_mul, Nat.mul_add_div hb, Nat.div_eq_of_lt a, Nat.add_zero, ← hd]
      exact ih (fun j hj => hf j (by omega)) q z
    · have e : q = m := by omega
      subst e
      rw [show q + 1 - 1 - q = 0 by omega, Nat.pow_zero, Nat.div_one, Nat.mul_add_mod]
      exact Nat.mod_eq_of_lt a
def za_k8 (n : Nat) (f : Nat → Nat) : Nat := za_pk 8 (fun q => if q < 4 * n then f q else 0) 20
def za_k5 (n : Nat) (f : Nat → Nat) : Nat := za_pk 5 f (4 * n)
theorem za_d8 {n : Nat} {f : Nat → Nat} (hf : ∀ q, q < 4 * n → f q < 5) : ∀ q, q < 20 → (if q < 4 * n then f q else 0) < 8 := by
  intro q _
  by_cases h : q < 4 * n
  · rw [if_pos h]; have := hf q h; omega
  · rw [if_neg h]; omega
theorem za_k8_lt {n : Nat} {f : Nat → Nat} (hf : ∀ q, q < 4 * n → f q < 5) : za_k8 n f < 2 ^ 60 := za_pk_lt (b := 8) 20 (za_d8 hf)
theorem za_k5_lt {n : Nat} (hn : n ≤ 5) {f : Nat → Nat} (hf : ∀ q, q < 4 * n → f q < 5) : za_k5 n f < 2 ^ 60 := by
  have h := za_pk_lt (b := 5) (4 * n) hf
  have : 5 ^ (4 * n) ≤ 5 ^ 20 := Nat.pow_le_pow_right (by decide) (by omega)
  have e : (5 : Nat) ^ 20 < 2 ^ 60 := by decide
  exact Nat.lt_of_lt_of_le h (Nat.le_trans this (Nat.le_of_lt e))
theorem za_k8_cmp {n : Nat} (hn : n ≤ 5) {f g : Nat → Nat} (hf : ∀ q, q < 4 * n → f q < 5) (hg : ∀ q, q < 4 * n → g q < 5) : za_k8 n f < za_k8 n g ↔ ∃ c, c < 4 * n ∧ (∀ j, j < c → f j = g j) ∧ f c < g c := by
  refine Iff.trans (za_pk_cmp 20 (za_d8 hf) (za_d8 hg)) ⟨fun ⟨c, h0, h1, h2⟩ => ?_, fun ⟨c, h0, h1, h2⟩ => ?_⟩
  · by_cases z : c < 4 * n
    · refine ⟨c, z, fun j hj => ?_, ?_⟩
      · have := h1 j hj
        rw [if_pos (by omega), if_pos (by omega)] at this
        exact this
      · rw [if_pos z, if_pos z] at h2; exact h2
    · rw [if_neg z, if_neg z] at h2; omega
  · refine ⟨c, by omega, fun j hj => ?_, ?_⟩
    · rw [if_pos (by omega), if_pos (by omega)]; exact h1 j hj
    · rw [if_pos h0, if_pos h0]; exact h2
theorem za_k58 {n : Nat} (hn : n ≤ 5) {f g : Nat → Nat} (hf : ∀ q, q < 4 * n → f q < 5) (hg : ∀ q, q < 4 * n → g q < 5) : za_k8 n f < za_k8 n g ↔ za_k5 n f < za_k5 n g :=
  (za_k8_cmp hn hf hg).trans (za_pk_cmp (4 * n) hf hg).symm
theorem za_k5_inj {n : Nat} {f g : Nat → Nat} (hf : ∀ q, q < 4 * n → f q < 5) (hg : ∀ q, q < 4 * n → g q < 5) : za_k5 n f = za_k5 n g ↔ ∀ q, q < 4 * n → f q = g q :=
  ⟨za_pk_inj _ hf hg, za_pk_c _⟩
theorem za_k8_c {n : Nat} {f g : Nat → Nat} (h : ∀ q, q < 4 * n → f q = g q) : za_k8 n f = za_k8 n g := by
  refine za_pk_c 20 fun j _ => ?_
  by_cases z : j < 4 * n
  · rw [if_pos z, if_pos z, h j z]
  · rw [if_neg z, if_neg z]
theorem za_k85 {n : Nat} (hn : n ≤ 5) {f g : Nat → Nat} (hf : ∀ q, q < 4 * n → f q < 5) (hg : ∀ q, q < 4 * n → g q < 5) : za_k8 n f = za_k8 n g ↔ za_k5 n f = za_k5 n g := by
  refine ⟨fun e => ?_, fun e => za_k8_c ((za_k5_inj hf hg).mp e)⟩
  have a := za_k58 hn hf hg
  have b := za_k58 hn hg hf
  omega
theorem za_k8_dg {n : Nat} {f : Nat → Nat} (hn : n ≤ 5) (hf : ∀ q, q < 4 * n → f q < 5) {q : Nat} (hq : q < 4 * n) : za_k8 n f / 8 ^ (19 - q) % 8 = f q := by
  have h := za_pk_dg (b := 8) (by decide) 20 (za_d8 hf) q (by omega)
  rw [if_pos hq] at h
  exact h
/-! lists -/
theorem za_srt_eq : ∀ l m : List Nat, l.Pairwise (· < ·) → m.Pairwise (· < ·) → (∀ x, x ∈ l ↔ x ∈ m) → l = m := by
  intro l
  induction l with
  | nil =>
    intro m _ _ h
    cases m with
    | nil => rfl
    | cons b m => exact absurd ((h b).mpr List.mem_cons_self) List.not_mem_nil
  | cons a l ih =>
    intro m hl hm h
    cases m with
    | nil => exact absurd ((h a).mp List.mem_cons_self) List.not_mem_nil
    | cons b m =>
      rw [List.pairwise_cons] at hl hm
      have e : a = b := by
        rcases List.mem_cons.mp ((h a).mp List.mem_cons_self) with z | z
        · exact z
        · rcases List.mem_cons.mp ((h b).mpr List.mem_cons_self) with y | y
          · exact y.symm
          · have := hm.1 a z; have := hl.1 b y; omega
      subst e
      rw [ih m hl.2 hm.2 fun x => ?_]
      constructor
      · intro hx
        rcases List.mem_cons.mp ((h x).mp (List.mem_cons_of_mem _ hx)) with z | z
        · have := hl.1 x hx; omega
        · exact z
      · intro hx
        rcases List.mem_cons.mp ((h x).mpr (List.mem_cons_of_mem _ hx)) with z | z
        · have := hm.1 x hx; omega
        · exact z
theorem za_nsl {α : Type} [BEq α] [LawfulBEq α] : ∀ l m : List α, l.Nodup → (∀ x, x ∈ l → x ∈ m) → l.length ≤ m.length := by
  intro l
  induction l with
  | nil => intro m _ _; exact Nat.zero_le _
  | cons a l ih =>
    intro m hl h
    rw [List.nodup_cons] at hl
    have ha := h a List.mem_cons_self
    have k := ih (m.erase a) hl.2 fun x hx => (List.mem_erase_of_ne (fun e : x = a => hl.1 (e ▸ hx))).mpr (h x (List.mem_cons_of_mem _ hx))
    rw [List.length_erase_of_mem ha] at k
    have := List.length_pos_of_mem ha
    show l.length + 1 ≤ _
    omega
theorem za_srt_nd {l : List Nat} (h : l.Pairwise (· < ·)) : l.Nodup := h.imp fun a => Nat.ne_of_lt a
/-- the keys of the tables, in order -/
theorem za_TL5 {c : Nat} {sz rl : Nat → Nat} {n : Nat} (h1 : 0 < n) (hn : n ≤ 5) (hrl : ∀ i, rl i < 4) : ((za_TL c sz rl n).map fun x => za_k5 n (za_F x)).Pairwise (· < ·) := by
  rw [List.pairwise_map]
  refine List.Pairwise.imp_of_mem ?_ (za_TL3 (c := c) (sz := sz) (rl := rl) h1 hn)
  intro x y hx hy ⟨k, a, b, d⟩
  obtain ⟨⟨hx1, _⟩, hx2⟩ := za_TL1 h1 hn hrl hx
  obtain ⟨⟨hy1, _⟩, hy2⟩ := za_TL1 h1 hn hrl hy
  refine (za_pk_cmp (4 * n) (fun q hq => by have := hx1.1 q hq; omega) (fun q hq => by have := hy1.1 q hq; omega)).mpr ⟨k, a, fun j hj => ?_, ?_⟩
  · have := b j hj; unfold za_F; rw [this]
  · have := hx2 k a; have := hy2 k a; omega
end
section
/-! numbering the points anew from a root -/
theorem zb_gl {o : List Nat} {i : Nat} (h : i < o.length) (m : List Nat) : (o ++ m).getD i 0 = o.getD i 0 := by
  rw [List.getD_eq_getElem?_getD, List.getD_eq_getElem?_getD, List.getElem?_append_left h]
theorem zb_gr (o : List Nat) (x : Nat) : (o ++ [x]).getD o.length 0 = x := by
  rw [List.getD_eq_getElem?_getD, List.getElem?_append_right (Nat.le_refl _), Nat.sub_self]
  rfl
theorem zb_gm {o : List Nat} {i : Nat} (h : i < o.length) : o.getD i 0 ∈ o := by
  rw [List.getD_eq_getElem?_getD, List.getElem?_eq_getElem h]
  exact List.getElem_mem h
theorem zb_gi {o : List Nat} (hn : o.Nodup) {i j : Nat} (hi : i < o.length) (hj : j < o.length) (e : o.getD i 0 = o.getD j 0) : i = j :=
  (List.getD_inj hi hj hn).mp e
theorem zb_ix {o : List Nat} {x : Nat} (h : x ∈ o) : o.idxOf x < o.length ∧ o.getD (o.idxOf x) 0 = x := by
  have a := List.idxOf_lt_length_of_mem h
  refine ⟨a, ?_⟩
  rw [List.getD_eq_getElem?_getD, List.getElem?_eq_getElem a, List.getElem_idxOf a]
  rfl
def zb_x (F : Nat → Nat) (o : List Nat) (q : Nat) : Nat := F (4 * o.getD (q / 4) 0 + q % 4)
def zb_o (F : Nat → Nat) (r : Nat) : Nat → List Nat
  | 0 => [r]
  | q + 1 => if zb_x F (zb_o F r q) q ∈ zb_o F r q then zb_o F r q else zb_o F r q ++ [zb_x F (zb_o F r q) q]
theorem zb_o_s (F : Nat → Nat) (r q : Nat) : zb_o F r (q + 1) = if zb_x F (zb_o F r q) q ∈ zb_o F r q then zb_o F r q else zb_o F r q ++ [zb_x F (zb_o F r q) q] := rfl
def zb_T (F : Nat → Nat) (r q : Nat) : Nat := (zb_o F r (q + 1)).idxOf (zb_x F (zb_o F r q) q)
theorem zb_o_m (F : Nat → Nat) (r q : Nat) : (zb_o F r q).length ≤ (zb_o F r (q + 1)).length := by
  rw [zb_o_s]
  by_cases h : zb_x F (zb_o F r q) q ∈ zb_o F r q
  · rw [if_pos h]; exact Nat.le_refl _
  · rw [if_neg h, List.length_append]; omega
def zb_I (n : Nat) (F : Nat → Nat) (r q : Nat) : Prop :=
  (zb_o F r q).Nodup ∧ (∀ x, x ∈ zb_o F r q → x < n) ∧ 0 < (zb_o F r q).length ∧ (zb_o F r q).getD 0 0 = r ∧
  (∀ j, j < q → zb_T F r j < (zb_o F r q).length ∧ (zb_o F r q).getD (zb_T F r j) 0 = F (4 * (zb_o F r q).getD (j / 4) 0 + j % 4) ∧ j / 4 < (zb_o F r q).length) ∧
  (∀ j, j < q → ∀ u, 0 < u → u < zb_T F r j → ∃ j', j' < j ∧ zb_T F r j' = u) ∧
  (∀ u, 0 < u → u < (zb_o F r q).length → ∃ j, j < q ∧ zb_T F r j = u ∧ j < 4 * u)
theorem zb_inv {n : Nat} {F : Nat → Nat} (hF : ∀ q, q < 4 * n → F q < n) {r : Nat} (hr : r < n) : ∀ q, (∀ j, j < q → j < 4 * (zb_o F r j).length) → zb_I n F r q := by
  intro q
  induction q with
  | zero =>
    intro _
    refine ⟨List.nodup_cons.mpr ⟨List.not_mem_nil, List.nodup_nil⟩, fun x hx => ?_, Nat.one_pos, rfl, fun j hj => absurd hj (Nat.not_lt_zero j), fun j hj => absurd hj (Nat.not_lt_zero j), fun u a b => ?_⟩
    · rw [List.mem_singleton.mp hx]; exact hr
    · have : (zb_o F r 0).length = 1 := rfl
      omega
  | succ q ih =>
    intro hal
    obtain ⟨i1, i2, i3, i4, i5, i6, i7⟩ := ih fun j hj => hal j (by omega)
    have ha := hal q (by omega)
    have hq4 : q / 4 < (zb_o F r q).length := by omega
    have hy := i2 _ (zb_gm hq4)
    have hx : zb_x F (zb_o F r q) q < n := hF _ (by omega)
    by_cases h : zb_x F (zb_o F r q) q ∈ zb_o F r q
    · have eo : zb_o F r (q + 1) = zb_o F r q := by rw [zb_o_s, if_pos h]
      have eT : zb_T F r q = (zb_o F r q).idxOf (zb_x F (zb_o F r q) q) := by unfold zb_T; rw [eo]
      obtain ⟨x1, x2⟩ := zb_ix h
      rw [← eT] at x1 x2
      unfold zb_I
      rw [eo]
      refine ⟨i1, i2, i3, i4, fun j hj => ?_, fun j hj u hu hl => ?_, fun u hu hl => ?_⟩
      · rcases Nat.lt_or_ge j q with z | z
        · exact i5 j z
        · have e : j = q := by omega
          subst e
          exact ⟨x1, x2, hq4⟩
      · rcases Nat.lt_or_ge j q with z | z
        · exact i6 j z u hu hl
        · have e : j = q := by omega
          subst e
          obtain ⟨j', a, b, _⟩ := i7 u hu (by omega)
          exact ⟨j', a, b⟩
      · obtain ⟨j', a, b, d⟩ := i7 u hu hl
        exact ⟨j', by omega, b, d⟩
    · have eo : zb_o F r (q + 1) = zb_o F r q ++ [zb_x F (zb_o F r q) q] := by rw [zb_o_s, if_neg h]
      have eT : zb_T F r q = (zb_o F r q).length := by
        unfold zb_T
        rw [eo, List.idxOf_append, if_neg h, List.idxOf_cons_self, Nat.zero_add]
      have el : (zb_o F r q ++ [zb_x F (zb_o F r q) q]).length = (zb_o F r q).length + 1 := by rw [List.length_append]; rfl
      unfold zb_I
      rw [eo, el]
      refine ⟨List.nodup_append.mpr ⟨i1, List.nodup_cons.mpr ⟨List.not_mem_nil, List.nodup_nil⟩, fun a ha b hb e => ?_⟩, fun x hx' => ?_, by omega, ?_, fun j hj => ?_, fun j hj u hu hl => ?_, fun u hu hl => ?_⟩
      · rw [List.mem_singleton.mp hb] at e
        exact h (e ▸ ha)
      · rcases List.mem_append.mp hx' with z | z
        · exact i2 x z
        · rw [List.mem_singleton.mp z]; exact hx
      · rw [zb_gl i3]; exact i4
      · rcases Nat.lt_or_ge j q with z | z
        · obtain ⟨a, b, d⟩ := i5 j z
          exact ⟨by omega, by rw [zb_gl a, zb_gl d]; exact b, by omega⟩
        · have e : j = q := by omega
          subst e
          rw [eT, zb_gr, zb_gl hq4]
          exact ⟨by omega, rfl, by omega⟩
      · rcases Nat.lt_or_ge j q with z | z
        · exact i6 j z u hu hl
        · have e : j = q := by omega
          subst e
          obtain ⟨j', a, b, _⟩ := i7 u hu (by omega)
          exact ⟨j', a, b⟩
      · rcases Nat.lt_or_ge u (zb_o F r q).length with z | z
        · obtain ⟨j', a, b, d⟩ := i7 u hu z
          exact ⟨j', by omega, b, d⟩
        · exact ⟨q, by omega, by omega, by omega⟩
theorem zb_len {n : Nat} {F : Nat → Nat} {r q : Nat} (h : zb_I n F r q) : (zb_o F r q).length ≤ n := by
  have k := za_nsl (zb_o F r q) (List.range n) h.1 fun x hx => List.mem_range.mpr (h.2.1 x hx)
  rw [List.length_range] at k
  exact k
/-- from every root the numbering comes to an end, where what is met is closed -/
theorem zb_orb {n : Nat} {F : Nat → Nat} (hF : ∀ q, q < 4 * n → F q < n) {r : Nat} (hr : r < n) : ∃ q, zb_I n F r q ∧ q = 4 * (zb_o F r q).length := by
  have key : ∀ d q, (∀ j, j < q → j < 4 * (zb_o F r j).length) → q ≤ 4 * (zb_o F r q).length → 4 * n - q ≤ d → ∃ q, zb_I n F r q ∧ q = 4 * (zb_o F r q).length := by
    intro d
    induction d with
    | zero =>
      intro q h1 h2 h3
      have I := zb_inv hF hr q h1
      have := zb_len I
      exact ⟨q, I, by omega⟩
    | succ d ih =>
      intro q h1 h2 h3
      have I := zb_inv hF hr q h1
      have := zb_len I
      rcases Nat.lt_or_ge q (4 * (zb_o F r q).length) with z | z
      · have m := zb_o_m F r q
        exact ih (q + 1) (fun j hj => by
          rcases Nat.lt_or_ge j q with y | y
          · exact h1 j y
          · have e : j = q := by omega
            subst e; exact z) (by omega) (by omega)
      · exact ⟨q, I, by omega⟩
  exact key (4 * n) 0 (fun j hj => absurd hj (Nat.not_lt_zero j)) (Nat.zero_le _) (by omega)
theorem zb_tab {n : Nat} {F : Nat → Nat} (hA : za_act n F) {r q : Nat} (I : zb_I n F r q) (hq : q = 4 * (zb_o F r q).length) : za_act (zb_o F r q).length (zb_T F r) ∧ za_std (zb_o F r q).length (zb_T F r) := by
  obtain ⟨i1, i2, i3, i4, i5, i6, i7⟩ := I
  generalize zb_o F r q = o at *
  refine ⟨⟨fun j hj => (i5 j (by omega)).1, fun j hj => ?_⟩, ⟨fun j hj u hu hl => i6 j (by omega) u hu hl, fun u hu hl => ?_⟩⟩
  · obtain ⟨a, b, d⟩ := i5 j (by omega)
    have hb := za_bk_lt (c := j) a
    obtain ⟨a', b', _⟩ := i5 (za_bk j (zb_T F r j)) (by omega)
    refine zb_gi i1 a' d ?_
    rw [b', za_bk_div, za_bk_mod, b]
    have hy := i2 _ (zb_gm d)
    have k := hA.2 (4 * o.getD (j / 4) 0 + j % 4) (by omega)
    have e : za_bk (4 * o.getD (j / 4) 0 + j % 4) (F (4 * o.getD (j / 4) 0 + j % 4)) = 4 * F (4 * o.getD (j / 4) 0 + j % 4) + (j % 4 + 1 - 2 * (j % 4 % 2)) := by unfold za_bk; omega
    rw [e] at k
    rw [k]
    omega
  · obtain ⟨j, a, b, d⟩ := i7 u hu hl
    exact ⟨j, d, b⟩
/-- walks in the new table -/
theorem zb_walk {n : Nat} {F : Nat → Nat} {r q : Nat} (I : zb_I n F r q) (hq : q = 4 * (zb_o F r q).length) {w : Nat → Nat} (hw : ∀ i, w i < 4) {i : Nat} (hi : i < (zb_o F r q).length) :
    ∀ m, za_wk (zb_T F r) w m i < (zb_o F r q).length ∧ (zb_o F r q).getD (za_wk (zb_T F r) w m i) 0 = za_wk F w m ((zb_o F r q).getD i 0) := by
  obtain ⟨i1, i2, i3, i4, i5, i6, i7⟩ := I
  generalize zb_o F r q = o at *
  intro m
  induction m with
  | zero => exact ⟨hi, rfl⟩
  | succ m ih =>
    have := hw m
    obtain ⟨a, b, _⟩ := i5 (4 * za_wk (zb_T F r) w m i + w m) (by omega)
    refine ⟨a, ?_⟩
    show o.getD (zb_T F r (4 * za_wk (zb_T F r) w m i + w m)) 0 = F (4 * za_wk F w m (o.getD i 0) + w m)
    rw [b, show (4 * za_wk (zb_T F r) w m i + w m) / 4 = za_wk (zb_T F r) w m i by omega, show (4 * za_wk (zb_T F r) w m i + w m) % 4 = w m by omega, ih.2]
theorem zb_hold {n : Nat} {F : Nat → Nat} {r q : Nat} (I : zb_I n F r q) (hq : q = 4 * (zb_o F r q).length) {c : Nat} {sz rl : Nat → Nat} (hrl : ∀ i, rl i < 4) (hH : za_hold c sz rl n F) : za_hold c sz rl (zb_o F r q).length (zb_T F r) := by
  intro k hk p hp
  obtain ⟨a, b⟩ := zb_walk I hq (w := fun i => rl (8 * k + i)) (fun i => hrl _) hp (sz k)
  refine zb_gi I.1 a hp ?_
  rw [b]
  exact hH k hk _ (I.2.1 _ (zb_gm hp))
/-- a closed set with a point holds all points of a table -/
theorem zb_tr {n : Nat} {F : Nat → Nat} (hA : za_act n F) (hS : za_std n F) (S : Nat → Prop) (hcl : ∀ p, p < n → S p → ∀ l, l < 4 → S (F (4 * p + l))) {p0 : Nat} (hp0 : p0 < n) (h0 : S p0) : ∀ p, p < n → S p := by
  have z : S 0 := by
    have key : ∀ d p, p ≤ d → p < n → S p → S 0 := by
      intro d
      induction d with
      | zero => intro p a _ b; have e : p = 0 := by omega
                subst e; exact b
      | succ d ih =>
        intro p a hn hp
        by_cases e : p = 0
        · subst e; exact hp
        · obtain ⟨q, hq, eq⟩ := hS.2 p (by omega) hn
          have k := hA.2 q (by omega)
          rw [eq] at k
          have c := hcl p hn hp (q % 4 + 1 - 2 * (q % 4 % 2)) (by omega)
          have e2 : za_bk q p = 4 * p + (q % 4 + 1 - 2 * (q % 4 % 2)) := rfl
          rw [← e2, k] at c
          exact ih (q / 4) (by omega) (by omega) c
    exact key p0 p0 (Nat.le_refl _) hp0 h0
  have key : ∀ d p, p ≤ d → p < n → S p := by
    intro d
    induction d with
    | zero => intro p a _; have e : p = 0 := by omega
              subst e; exact z
    | succ d ih =>
      intro p a hn
      by_cases e : p = 0
      · subst e; exact z
      · obtain ⟨q, hq, eq⟩ := hS.2 p (by omega) hn
        have c := hcl (q / 4) (by omega) (ih (q / 4) (by omega) (by omega)) (q % 4) (by omega)
        rw [show 4 * (q / 4) + q % 4 = q by omega, eq] at c
        exact c
  exact fun p hp => key p p (Nat.le_refl _) hp
theorem zb_cls {n : Nat} {F : Nat → Nat} (hA : za_act n F) (hS : za_std n F) {r q : Nat} (I : zb_I n F r q) (hq : q = 4 * (zb_o F r q).length) : (zb_o F r q).length = n := by
  have hl := zb_len I
  obtain ⟨i1, i2, i3, i4, i5, i6, i7⟩ := I
  have all := zb_tr hA hS (fun p => p ∈ zb_o F r q) (fun p hp hm l hl => by
    obtain ⟨a, b⟩ := zb_ix hm
    obtain ⟨c1, c2, _⟩ := i5 (4 * (zb_o F r q).idxOf p + l) (by omega)
    rw [show (4 * (zb_o F r q).idxOf p + l) / 4 = (zb_o F r q).idxOf p by omega, show (4 * (zb_o F r q).idxOf p + l) % 4 = l by omega, b] at c2
    have := zb_gm c1
    rw [c2] at this
    exact this) (i2 _ (zb_gm i3)) (zb_gm i3)
  have k := za_nsl (List.range n) (zb_o F r q) List.nodup_range fun x hx => all x (List.mem_range.mp hx)
  rw [List.length_range] at k
  omega
theorem zb_all {n : Nat} {F : Nat → Nat} (hA : za_act n F) (hS : za_std n F) {r : Nat} (hr : r < n) : (∀ q, q < 4 * n → q < 4 * (zb_o F r q).length) ∧ (∀ q, q ≤ 4 * n → zb_I n F r q) ∧ (zb_o F r (4 * n)).length = n := by
  have key : ∀ q, q ≤ 4 * n → ∀ j, j < q → j < 4 * (zb_o F r j).length := by
    intro q
    induction q with
    | zero => intro _ j hj; omega
    | succ q ih =>
      intro hq j hj
      rcases Nat.lt_or_ge j q with z | z
      · exact ih (by omega) j z
      · have e : j = q := by omega
        subst e
        have I := zb_inv hA.1 hr j (ih (by omega))
        have le : j ≤ 4 * (zb_o F r j).length := by
          cases j with
          | zero => exact Nat.zero_le _
          | succ j =>
            have := ih (by omega) j (by omega)
            have := zb_o_m F r j
            omega
        rcases Nat.lt_or_ge j (4 * (zb_o F r j).length) with y | y
        · exact y
        · have := zb_cls hA hS I (by omega)
          omega
  have hI : ∀ q, q ≤ 4 * n → zb_I n F r q := fun q hq => zb_inv hA.1 hr q (key q hq)
  refine ⟨fun q hq => key (4 * n) (Nat.le_refl _) q hq, hI, ?_⟩
  have a := zb_len (hI (4 * n) (Nat.le_refl _))
  obtain ⟨m, hm⟩ : ∃ m, 4 * n = m + 1 := ⟨4 * n - 1, by omega⟩
  have b := key (4 * n) (Nat.le_refl _) m (by omega)
  have c := zb_o_m F r m
  rw [hm] at a ⊢
  omega
theorem zb_T_lt {n : Nat} {F : Nat → Nat} (hA : za_act n F) (hS : za_std n F) {r : Nat} (hr : r < n) {q : Nat} (hq : q < 4 * n) : zb_T F r q < n := by
  obtain ⟨_, hI, hl⟩ := zb_all hA hS hr
  have := ((hI (4 * n) (Nat.le_refl _)).2.2.2.2.1 q hq).1
  omega
/-- every point is the first one of some table -/
theorem zb_root {c : Nat} {sz rl : Nat → Nat} {n : Nat} (hrl : ∀ i, rl i < 4) {F : Nat → Nat} (hT : za_tab c sz rl n F) {r : Nat} (hr : r < n) : ∃ G, za_tab c sz rl n G ∧ ∀ w : Nat → Nat, (∀ i, w i < 4) → ∀ m, za_wk G w m 0 = 0 → za_wk F w m r = r := by
  obtain ⟨hA, hS, hH⟩ := hT
  obtain ⟨_, hI, hl⟩ := zb_all hA hS hr
  have I := hI (4 * n) (Nat.le_refl _)
  have hq : 4 * n = 4 * (zb_o F r (4 * n)).length := by rw [hl]
  have k := zb_tab hA I hq
  have h := zb_hold I hq hrl hH
  rw [hl] at k h
  refine ⟨zb_T F r, ⟨k.1, k.2, h⟩, fun w hw m e => ?_⟩
  obtain ⟨_, b⟩ := zb_walk I hq hw (i := 0) (by omega) m
  rw [e, I.2.2.2.1] at b
  exact b.symm
theorem zb_rg {L i : Nat} (h : i < L) : (List.range L).getD i 0 = i := by
  rw [List.getD_eq_getElem?_getD, List.getElem?_range h]
  rfl
/-- from point 0 a table is numbered as it is -/
theorem zb_zero {n : Nat} {F : Nat → Nat} (hA : za_act n F) (hS : za_std n F) (hn : 0 < n) : ∀ q, q < 4 * n → zb_T F 0 q = F q := by
  obtain ⟨hal, hI, hl⟩ := zb_all hA hS hn
  have T : ∀ q, q ≤ 4 * n → zb_o F 0 q = List.range (zb_o F 0 q).length → ∀ j, j < q → zb_T F 0 j = F j := by
    intro q hq e j hj
    obtain ⟨a, b, d⟩ := (hI q hq).2.2.2.2.1 j hj
    rw [e, zb_rg a, zb_rg d, show 4 * (j / 4) + j % 4 = j by omega] at b
    exact b
  have key : ∀ q, q ≤ 4 * n → zb_o F 0 q = List.range (zb_o F 0 q).length := by
    intro q
    induction q with
    | zero => intro _; rfl
    | succ q ih =>
      intro hq
      have e := ih (by omega)
      have t := T q (by omega) e
      have al := hal q (by omega)
      have I := hI q (by omega)
      have ex : zb_x F (zb_o F 0 q) q = F q := by
        unfold zb_x
        rw [e, zb_rg (by omega), show 4 * (q / 4) + q % 4 = q by omega]
      rw [zb_o_s]
      by_cases h : zb_x F (zb_o F 0 q) q ∈ zb_o F 0 q
      · rw [if_pos h]; exact e
      · rw [if_neg h, ex]
        rw [ex, e] at h
        have h2 : ¬ F q < (zb_o F 0 q).length := fun z => h (List.mem_range.mpr z)
        have h3 : F q = (zb_o F 0 q).length := by
          rcases Nat.lt_or_ge (zb_o F 0 q).length (F q) with z | z
          · obtain ⟨q', a, b⟩ := hS.1 q (by omega) _ I.2.2.1 z
            have := (I.2.2.2.2.1 q' a).1
            have := t q' a
            omega
          · omega
        rw [List.length_append]
        show _ = List.range ((zb_o F 0 q).length + 1)
        rw [List.range_succ, h3]
        exact congrArg (· ++ [(zb_o F 0 q).length]) e
  exact T (4 * n) (Nat.le_refl _) (key (4 * n) (Nat.le_refl _))
/-! periods -/
theorem zb_inj {n : Nat} {F : Nat → Nat} (hA : za_act n F) {w : Nat → Nat} (hw : ∀ i, w i < 4) : ∀ m a b, a < n → b < n → za_wk F w m a = za_wk F w m b → a = b := by
  intro m
  induction m with
  | zero => intro a b _ _ e; exact e
  | succ m ih =>
    intro a b ha hb e
    refine ih a b ha hb ?_
    have la := za_wk_lt hA.1 hw ha m
    have lb := za_wk_lt hA.1 hw hb m
    have := hw m
    have ka := hA.2 (4 * za_wk F w m a + w m) (by omega)
    have kb := hA.2 (4 * za_wk F w m b + w m) (by omega)
    have e' : F (4 * za_wk F w m a + w m) = F (4 * za_wk F w m b + w m) := e
    rw [e'] at ka
    unfold za_bk at ka kb
    rw [show (4 * za_wk F w m a + w m) % 4 = w m by omega] at ka
    rw [show (4 * za_wk F w m b + w m) % 4 = w m by omega] at kb
    omega
def zb_it (f : Nat → Nat) : Nat → Nat
  | 0 => 0
  | j + 1 => f (zb_it f j)
theorem zb_per {n : Nat} (hn : 0 < n) {f : Nat → Nat} (hl : ∀ a, a < n → f a < n) (hi : ∀ a b, a < n → b < n → f a = f b → a = b) : ∃ m, 0 < m ∧ m ≤ n ∧ zb_it f m = 0 := by
  refine Classical.byContradiction fun H => ?_
  have lt : ∀ j, zb_it f j < n := by
    intro j
    induction j with
    | zero => exact hn
    | succ j ih => exact hl _ ih
  have dn : ∀ i d, zb_it f i = zb_it f (i + d) → zb_it f d = 0 := by
    intro i
    induction i with
    | zero => intro d e; rw [Nat.zero_add] at e; exact e.symm
    | succ i ih =>
      intro d e
      rw [show i + 1 + d = (i + d) + 1 by omega] at e
      exact ih d (hi _ _ (lt _) (lt _) e)
  have nd : ((List.range (n + 1)).map (zb_it f)).Nodup := by
    refine List.pairwise_map.mpr (List.Pairwise.imp_of_mem ?_ List.pairwise_lt_range)
    intro a b _ hb hab e
    have := List.mem_range.mp hb
    exact H ⟨b - a, by omega, by omega, dn a (b - a) (by rw [show a + (b - a) = b by omega]; exact e)⟩
  have k := za_nsl _ (List.range n) nd fun x hx => by
    obtain ⟨j, _, e⟩ := List.mem_map.mp hx
    rw [← e]
    exact List.mem_range.mpr (lt j)
  rw [List.length_map, List.length_range, List.length_range] at k
  omega
end
section
/-! the number of solutions of linear congruences in two unknowns -/
theorem zc_bzd : ∀ (d : Nat) (a b : Int), b.natAbs ≤ d → ∃ g s t u v : Int, a = g * v ∧ b = g * u ∧ s * v + t * u = 1 := by
  intro d
  induction d with
  | zero =>
    intro a b h
    have e : b = 0 := by omega
    subst e
    exact ⟨a, 1, 0, 0, 1, by omega, by omega, by omega⟩
  | succ d ih =>
    intro a b h
    by_cases e : b = 0
    · subst e
      exact ⟨a, 1, 0, 0, 1, by omega, by omega, by omega⟩
    · have k1 := Int.emod_nonneg a e
      have k2 := Int.emod_lt a e
      obtain ⟨g, s, t, u, v, h1, h2, h3⟩ := ih b (a % b) (by omega)
      have k3 := Int.mul_ediv_add_emod a b
      refine ⟨g, t, s - t * (a / b), v, v * (a / b) + u, ?_, h1, ?_⟩
      · have : a = (g * v) * (a / b) + g * u := by rw [← h1, ← h2]; exact k3.symm
        rw [Int.mul_add, ← Int.mul_assoc]
        exact this
      · generalize a / b = q at *
        grind
theorem zc_bz (a b : Int) : ∃ g s t u v : Int, a = g * v ∧ b = g * u ∧ s * v + t * u = 1 := zc_bzd _ a b (Nat.le_refl _)
theorem zc_dg {G A B s t u v : Int} (hA : A = G * v) (hB : B = G * u) (h1 : s * v + t * u = 1) (z T : Int) : T ∣ z * G ↔ T ∣ z * A ∧ T ∣ z * B := by
  subst hA hB
  constructor
  · rintro ⟨k, hk⟩
    exact ⟨⟨k * v, by grind⟩, ⟨k * u, by grind⟩⟩
  · rintro ⟨⟨k, hk⟩, ⟨l, hl⟩⟩
    exact ⟨k * s + l * t, by grind⟩
theorem zc_step {g s t u v h s' t' u' v' b b' e x y T : Int} (h3 : s * v + t * u = 1) (h4 : e = h * v') (h5 : u * b - v * b' = h * u') (h6 : s' * v' + t' * u' = 1) :
    ((T ∣ (g * v) * x + b * y ∧ T ∣ e * y) ∧ T ∣ (g * u) * x + b' * y) ↔ (T ∣ g * x + (s * b + t * b') * y ∧ T ∣ h * y) := by
  subst h4
  constructor
  · rintro ⟨⟨⟨k1, e1⟩, ⟨k2, e2⟩⟩, ⟨k3, e3⟩⟩
    refine ⟨⟨s * k1 + t * k3, ?_⟩, ⟨s' * k2 + t' * (u * k1 - v * k3), ?_⟩⟩
    · have a1 : g * x + (s * b + t * b') * y = s * ((g * v) * x + b * y) + t * ((g * u) * x + b' * y) := by grind
      rw [a1, e1, e3]; grind
    · have a1 : h * u' * y = u * ((g * v) * x + b * y) - v * ((g * u) * x + b' * y) := by rw [← h5]; grind
      have a2 : h * y = s' * (h * v' * y) + t' * (h * u' * y) := by grind
      rw [a2, a1, e1, e2, e3]; grind
  · rintro ⟨⟨k1, e1⟩, ⟨k2, e2⟩⟩
    refine ⟨⟨⟨v * k1 + t * u' * k2, ?_⟩, ⟨v' * k2, ?_⟩⟩, ⟨u * k1 - s * u' * k2, ?_⟩⟩
    · have a1 : (g * v) * x + b * y = v * (g * x + (s * b + t * b') * y) + t * (u * b - v * b') * y := by grind
      rw [a1, e1, h5]
      have a2 : t * (h * u') * y = t * u' * (h * y) := by grind
      rw [a2, e2]; grind
    · have a2 : h * v' * y = v' * (h * y) := by grind
      rw [a2, e2]; grind
    · have a1 : (g * u) * x + b' * y = u * (g * x + (s * b + t * b') * y) - s * (u * b - v * b') * y := by grind
      rw [a1, e1, h5]
      have a2 : s * (h * u') * y = s * u' * (h * y) := by grind
      rw [a2, e2]; grind
theorem zc_hm (A B : Nat → Int) : ∀ c : Nat, ∃ a b e : Int, ∀ T x y : Int, (∀ k, k < c → T ∣ A k * x + B k * y) ↔ (T ∣ a * x + b * y ∧ T ∣ e * y) := by
  intro c
  induction c with
  | zero => exact ⟨0, 0, 0, fun T x y => ⟨fun _ => ⟨⟨0, by omega⟩, ⟨0, by omega⟩⟩, fun _ k hk => absurd hk (Nat.not_lt_zero k)⟩⟩
  | succ c ih =>
    obtain ⟨a, b, e, H⟩ := ih
    obtain ⟨g, s, t, u, v, h1, h2, h3⟩ := zc_bz a (A c)
    obtain ⟨h, s', t', u', v', h4, h5, h6⟩ := zc_bz e (u * b - v * B c)
    refine ⟨g, s * b + t * B c, h, fun T x y => ?_⟩
    rw [← zc_step (g := g) (x := x) (y := y) (T := T) h3 h4 h5 h6, ← h1, ← h2, ← H T x y]
    constructor
    · intro K
      exact ⟨fun k hk => K k (by omega), K c (by omega)⟩
    · rintro ⟨K, L⟩ k hk
      rcases Nat.lt_or_ge k c with z | z
      · exact K k z
      · have e : k = c := by omega
        subst e; exact L
def zc_cn (p : Nat → Bool) : Nat → Nat
  | 0 => 0
  | m + 1 => zc_cn p m + (if p m = true then 1 else 0)
theorem zc_cn_s (p : Nat → Bool) (m : Nat) : zc_cn p (m + 1) = zc_cn p m + (if p m = true then 1 else 0) := rfl
theorem zc_cn_c {p q : Nat → Bool} : ∀ m, (∀ x, x < m → p x = q x) → zc_cn p m = zc_cn q m := by
  intro m
  induction m with
  | zero => intro _; rfl
  | succ m ih => intro h; rw [zc_cn_s, zc_cn_s, ih (fun x hx => h x (by omega)), h m (by omega)]
theorem zc_cn_a (p : Nat → Bool) (a : Nat) : ∀ b, zc_cn p (a + b) = zc_cn p a + zc_cn (fun x => p (a + x)) b := by
  intro b
  induction b with
  | zero => rfl
  | succ b ih => rw [← Nat.add_assoc, zc_cn_s, ih, zc_cn_s]; omega
theorem zc_cn_e (x0 : Nat) : ∀ m, zc_cn (fun x => decide (x = x0)) m = if x0 < m then 1 else 0 := by
  intro m
  induction m with
  | zero => rw [if_neg (Nat.not_lt_zero _)]; rfl
  | succ m ih =>
    rw [zc_cn_s, ih]
    by_cases e : m = x0
    · subst e
      rw [if_neg (Nat.lt_irrefl _), if_pos (decide_eq_true rfl), if_pos (Nat.lt_succ_self _)]
    · have : (decide (m = x0) = true) ↔ False := ⟨fun h => e (of_decide_eq_true h), False.elim⟩
      rw [if_neg (fun h => this.mp h)]
      by_cases h : x0 < m
      · rw [if_pos h, if_pos (by omega)]
      · rw [if_neg h, if_neg (by omega)]
theorem zc_cn_0 {p : Nat → Bool} : ∀ m, (∀ x, x < m → p x = false) → zc_cn p m = 0 := by
  intro m
  induction m with
  | zero => intro _; rfl
  | succ m ih => intro h; rw [zc_cn_s, ih (fun x hx => h x (by omega)), h m (by omega)]; rfl
theorem zc_blk (u : Nat) (hu : 0 < u) (w : Int) : zc_cn (fun x => decide ((u : Int) ∣ (x : Int) + w)) u = 1 := by
  have hu' : (u : Int) ≠ 0 := by omega
  have k1 := Int.emod_nonneg (-w) hu'
  have k2 := Int.emod_lt_of_pos (-w) (show (0 : Int) < u by omega)
  have k3 := Int.mul_ediv_add_emod (-w) u
  obtain ⟨x0, hx0⟩ : ∃ x0 : Nat, (-w) % (u : Int) = x0 := ⟨((-w) % (u : Int)).toNat, by omega⟩
  rw [hx0] at k1 k2 k3
  have e : ∀ x, x < u → (fun x : Nat => decide ((u : Int) ∣ (x : Int) + w)) x = (fun x => decide (x = x0)) x := by
    intro x hx
    refine decide_eq_decide.mpr ⟨fun h => ?_, fun h => ?_⟩
    · have d : (u : Int) ∣ (x : Int) - x0 := by
        obtain ⟨k, hk⟩ := h
        exact ⟨k + (-w) / u, by rw [Int.mul_add]; omega⟩
      have := Int.eq_zero_of_dvd_of_natAbs_lt_natAbs d (by omega)
      omega
    · subst h
      exact ⟨-((-w) / u), by rw [Int.mul_neg]; omega⟩
  rw [zc_cn_c u e, zc_cn_e, if_pos (by omega)]
theorem zc_c0 (u : Nat) (hu : 0 < u) (w : Int) : ∀ g : Nat, zc_cn (fun x => decide ((u : Int) ∣ (x : Int) + w)) (g * u) = g := by
  intro g
  induction g with
  | zero => rw [Nat.zero_mul]; rfl
  | succ g ih =>
    rw [Nat.add_mul, Nat.one_mul, zc_cn_a, ih]
    have e : ∀ x, x < u → (fun x : Nat => decide ((u : Int) ∣ ((g * u + x : Nat) : Int) + w)) x = (fun x : Nat => decide ((u : Int) ∣ (x : Int) + w)) x := by
      intro x _
      refine decide_eq_decide.mpr ?_
      have c : ((g * u + x : Nat) : Int) + w = (u : Int) * g + ((x : Int) + w) := by
        rw [Int.natCast_add, Int.natCast_mul, Int.mul_comm (g : Int)]; omega
      rw [c]
      exact ⟨fun ⟨k, hk⟩ => ⟨k - g, by rw [Int.mul_sub]; omega⟩, fun ⟨k, hk⟩ => ⟨g + k, by rw [Int.mul_add]; omega⟩⟩
    rw [zc_cn_c u e, zc_blk u hu w]
theorem zc_bz2 (a : Int) (m : Nat) (hm : 0 < m) : ∃ (g u : Nat) (v s t : Int), 0 < u ∧ 0 < g ∧ a = g * v ∧ m = g * u ∧ s * v + t * u = 1 := by
  obtain ⟨G, s, t, u, v, h1, h2, h3⟩ := zc_bz a m
  have e : m = G.natAbs * u.natAbs := by
    have := congrArg Int.natAbs h2
    rw [Int.natAbs_mul] at this
    exact this
  have hg : 0 < G.natAbs := by
    rcases Nat.eq_zero_or_pos G.natAbs with z | z
    · rw [z, Nat.zero_mul] at e; omega
    · exact z
  have hu : 0 < u.natAbs := by
    rcases Nat.eq_zero_or_pos u.natAbs with z | z
    · rw [z, Nat.mul_zero] at e; omega
    · exact z
  have e' : (m : Int) = (G.natAbs : Int) * (u.natAbs : Int) := by rw [← Int.natCast_mul, ← e]
  have hgz : (G.natAbs : Int) ≠ 0 := by omega
  rcases Int.natAbs_eq G with z | z
  · have k : u = (u.natAbs : Int) := by
      rw [h2] at e'
      refine Int.eq_of_mul_eq_mul_left hgz ?_
      rw [← z]; rw [← z] at e'; exact e'
    exact ⟨G.natAbs, u.natAbs, v, s, t, hu, hg, by rw [← z]; exact h1, e, by rw [← k]; exact h3⟩
  · have k : -u = (u.natAbs : Int) := by
      refine Int.eq_of_mul_eq_mul_left hgz ?_
      rw [← e', h2, Int.mul_neg, ← Int.neg_mul, ← z]
    refine ⟨G.natAbs, u.natAbs, -v, -s, -t, hu, hg, ?_, e, ?_⟩
    · rw [Int.mul_neg, ← Int.neg_mul, ← z]; exact h1
    · rw [← k, Int.neg_mul_neg, Int.neg_mul_neg]; exact h3
theorem zc_c1 {g u : Nat} {v s t a : Int} (hu : 0 < u) (hg : 0 < g) (ha : a = g * v) (h1 : s * v + t * u = 1) (r : Int) : zc_cn (fun x => decide (((g * u : Nat) : Int) ∣ a * (x : Int) + r)) (g * u) = if (g : Int) ∣ r then g else 0 := by
  have hgz : (g : Int) ≠ 0 := by omega
  by_cases h : (g : Int) ∣ r
  · rw [if_pos h]
    obtain ⟨r', hr⟩ := h
    refine Eq.trans (zc_cn_c (q := fun x => decide ((u : Int) ∣ (x : Int) + s * r')) _ fun x _ => decide_eq_decide.mpr ?_) (zc_c0 u hu (s * r') g)
    rw [Int.natCast_mul, ha, hr]
    generalize (x : Int) = X
    generalize (g : Int) = G at *
    generalize (u : Int) = U at *
    constructor
    · rintro ⟨k, hk⟩
      have e : v * X + r' = U * k := Int.eq_of_mul_eq_mul_left hgz (by grind)
      exact ⟨s * k + t * X, by grind⟩
    · rintro ⟨k, hk⟩
      exact ⟨v * k + t * r', by grind⟩
  · rw [if_neg h]
    refine zc_cn_0 _ fun x _ => decide_eq_false fun ⟨k, hk⟩ => h ?_
    rw [Int.natCast_mul, ha] at hk
    exact ⟨u * k - v * x, by rw [Int.mul_sub, ← Int.mul_assoc, ← Int.mul_assoc]; omega⟩
theorem zc_sm_c {h h' : Nat → Nat} : ∀ n, (∀ i, i < n → h i = h' i) → za_sm h n = za_sm h' n := by
  intro n
  induction n with
  | zero => intro _; rfl
  | succ n ih => intro H; show za_sm h n + h n = za_sm h' n + h' n; rw [ih (fun i hi => H i (by omega)), H n (by omega)]
theorem zc_sm_i (p : Nat → Bool) (g : Nat) : ∀ n, za_sm (fun x => if p x = true then g else 0) n = g * zc_cn p n := by
  intro n
  induction n with
  | zero => rfl
  | succ n ih =>
    show za_sm _ n + (if p n = true then g else 0) = _
    rw [ih, zc_cn_s, Nat.mul_add]
    by_cases h : p n = true
    · rw [if_pos h, if_pos h, Nat.mul_one]
    · rw [if_neg h, if_neg h, Nat.mul_zero]
/-- the solutions of m | e x, m | a y + b x -/
theorem zc_count {a b e : Int} {m g u g2 u2 : Nat} {v s t v2 s2 t2 h s3 t3 u3 v3 : Int} (hu : 0 < u) (hg : 0 < g) (ha : a = g * v) (hm : m = g * u) (h1 : s * v + t * u = 1)
    (h2 : e = h * v3) (h3 : u * b = h * u3) (h4 : s3 * v3 + t3 * u3 = 1) (hu2 : 0 < u2) (hg2 : 0 < g2) (hh : h = g2 * v2) (hm2 : m = g2 * u2) (h5 : s2 * v2 + t2 * u2 = 1) :
    za_sm (fun x => zc_cn (fun y => decide ((m : Int) ∣ a * (y : Int) + b * (x : Int) ∧ (m : Int) ∣ e * (x : Int))) m) m = g * g2 := by
  have hgz : (g : Int) ≠ 0 := by omega
  have k1 : ∀ x, x < m → zc_cn (fun y => decide ((m : Int) ∣ a * (y : Int) + b * (x : Int) ∧ (m : Int) ∣ e * (x : Int))) m = if decide ((m : Int) ∣ h * (x : Int) + 0) = true then g else 0 := by
    intro x _
    have iff : ((m : Int) ∣ h * (x : Int) + 0) ↔ ((g : Int) ∣ b * (x : Int) ∧ (m : Int) ∣ e * (x : Int)) := by
      have hmI : (m : Int) = (g : Int) * (u : Int) := by rw [hm, Int.natCast_mul]
      have d := zc_dg h2 h3 h4 (x : Int) (m : Int)
      rw [Int.add_zero, Int.mul_comm h, d, Int.mul_comm (x : Int) e]
      have e2 : ((m : Int) ∣ (x : Int) * ((u : Int) * b)) ↔ ((g : Int) ∣ b * (x : Int)) := by
        rw [hmI]
        constructor
        · rintro ⟨k, hk⟩
          refine ⟨k, Int.eq_of_mul_eq_mul_left (show (u : Int) ≠ 0 by omega) ?_⟩
          grind
        · rintro ⟨k, hk⟩
          exact ⟨k, by grind⟩
      rw [e2]
      exact ⟨fun z => ⟨z.2, z.1⟩, fun z => ⟨z.2, z.1⟩⟩
    by_cases z : (m : Int) ∣ e * (x : Int)
    · have e3 : zc_cn (fun y => decide ((m : Int) ∣ a * (y : Int) + b * (x : Int) ∧ (m : Int) ∣ e * (x : Int))) m = zc_cn (fun y => decide (((g * u : Nat) : Int) ∣ a * (y : Int) + b * (x : Int))) (g * u) := by
        rw [← hm]
        exact zc_cn_c _ fun y _ => decide_eq_decide.mpr ⟨fun z => z.1, fun y => ⟨y, z⟩⟩
      rw [e3, zc_c1 hu hg ha h1]
      by_cases y : (g : Int) ∣ b * (x : Int)
      · rw [if_pos y, if_pos (decide_eq_true (iff.mpr ⟨y, z⟩))]
      · rw [if_neg y, if_neg (fun w => y (iff.mp (of_decide_eq_true w)).1)]
    · rw [zc_cn_0 m (fun y _ => decide_eq_false fun w => z w.2), if_neg (fun w => z (iff.mp (of_decide_eq_true w)).2)]
  rw [zc_sm_c m k1, zc_sm_i]
  have k2 : zc_cn (fun x => decide ((m : Int) ∣ h * (x : Int) + 0)) m = g2 := by
    have := zc_c1 hu2 hg2 hh h5 0
    rw [← hm2, if_pos ⟨0, by omega⟩] at this
    exact this
  rw [k2]
theorem zc_gcd {a m g u : Nat} {v s t : Int} (ha : (a : Int) = g * v) (hm : m = g * u) (h1 : s * v + t * u = 1) : Nat.gcd a m = g := by
  refine Nat.dvd_antisymm ?_ (Nat.dvd_gcd ?_ ⟨u, hm⟩)
  · have d := (zc_dg ha (show (m : Int) = g * u by rw [hm, Int.natCast_mul]) h1 1 (Nat.gcd a m : Int)).mpr
    rw [Int.one_mul, Int.one_mul, Int.one_mul] at d
    exact Int.natCast_dvd_natCast.mp (d ⟨Int.natCast_dvd_natCast.mpr (Nat.gcd_dvd_left a m), Int.natCast_dvd_natCast.mpr (Nat.gcd_dvd_right a m)⟩)
  · exact Int.natCast_dvd_natCast.mp ⟨v, ha⟩
theorem zc_eq {a b : Nat} (h : ∀ T : Int, T ∣ (a : Int) ↔ T ∣ (b : Int)) : a = b :=
  Nat.dvd_antisymm (Int.natCast_dvd_natCast.mp ((h a).mp (Int.dvd_refl _))) (Int.natCast_dvd_natCast.mp ((h b).mpr (Int.dvd_refl _)))
theorem zc_main (m : Nat) (hm : 0 < m) (c : Nat) (A B : Nat → Int) (one both two : Nat)
    (h1 : ∀ T : Int, T ∣ (one : Int) ↔ ∀ k, k < c → T ∣ A k ∧ T ∣ B k) (h2 : ∀ T : Int, T ∣ (both : Int) ↔ ∀ i, i < c → ∀ j, j < c → T ∣ A i * B j - B i * A j)
    (h3 : two = if one = 0 then 0 else both / one) :
    za_sm (fun x => zc_cn (fun y => decide (∀ k, k < c → (m : Int) ∣ B k * (y : Int) + A k * (x : Int))) m) m = Nat.gcd one m * Nat.gcd two m := by
  obtain ⟨a, b, e, H⟩ := zc_hm B A c
  obtain ⟨g, u, v, s, t, hu, hg, ha, hmu, e1⟩ := zc_bz2 a m hm
  obtain ⟨h, s3, t3, u3, v3, e2, e3, e4⟩ := zc_bz e (u * b)
  obtain ⟨g2, u2, v2, s2, t2, hu2, hg2, hh, hm2, e5⟩ := zc_bz2 h m hm
  have k1 : za_sm (fun x => zc_cn (fun y => decide (∀ k, k < c → (m : Int) ∣ B k * (y : Int) + A k * (x : Int))) m) m = g * g2 := by
    rw [← zc_count hu hg ha hmu e1 e2 e3 e4 hu2 hg2 hh hm2 e5]
    refine zc_sm_c m fun x _ => zc_cn_c m fun y _ => decide_eq_decide.mpr ?_
    rw [H]
  rw [k1]
  obtain ⟨G1, s4, t4, u4, v4, f1, f2, f3⟩ := zc_bz a b
  obtain ⟨G2, s5, t5, u5, v5, f4, f5, f6⟩ := zc_bz G1 e
  have o1 : ∀ T : Int, T ∣ (one : Int) ↔ (T ∣ a ∧ T ∣ b) ∧ T ∣ e := by
    intro T
    rw [h1 T]
    have x1 := H T 1 0
    have x2 := H T 0 1
    simp only [Int.mul_one, Int.mul_zero, Int.add_zero, Int.zero_add, Int.dvd_zero, and_true] at x1 x2
    constructor
    · intro K
      exact ⟨⟨x1.mp fun k hk => (K k hk).2, (x2.mp fun k hk => (K k hk).1).1⟩, (x2.mp fun k hk => (K k hk).1).2⟩
    · rintro ⟨⟨K1, K2⟩, K3⟩ k hk
      exact ⟨x2.mpr ⟨K2, K3⟩ k hk, x1.mpr K1 k hk⟩
  have o2 : ∀ T : Int, T ∣ (both : Int) ↔ T ∣ a * e := by
    intro T
    rw [h2 T]
    have y1 : ∀ j, (∀ i, i < c → T ∣ A i * B j - B i * A j) ↔ (T ∣ a * -A j + b * B j ∧ T ∣ e * B j) := by
      intro j
      rw [← H T (-A j) (B j)]
      refine ⟨fun K i hi => ?_, fun K i hi => ?_⟩
      · have := K i hi
        rw [show B i * -A j + A i * B j = A i * B j - B i * A j by grind]; exact this
      · have := K i hi
        rw [show B i * -A j + A i * B j = A i * B j - B i * A j by grind] at this; exact this
    constructor
    · intro K
      have z : ∀ j, j < c → T ∣ B j * e + A j * 0 := by
        intro j hj
        have := ((y1 j).mp fun i hi => K i hi j hj).2
        rw [Int.mul_zero, Int.add_zero, Int.mul_comm]; exact this
      have := ((H T e 0).mp z).1
      rw [Int.mul_zero, Int.add_zero] at this
      exact this
    · intro K i hi j hj
      have z1 := (H T e 0).mpr ⟨by rw [Int.mul_zero, Int.add_zero]; exact K, ⟨0, by omega⟩⟩ j hj
      rw [Int.mul_zero, Int.add_zero, Int.mul_comm] at z1
      have z2 := (H T b (-a)).mpr ⟨⟨0, by grind⟩, ⟨-1 * (Classical.choose K), by have := Classical.choose_spec K; grind⟩⟩ j hj
      refine (y1 j).mpr ⟨?_, z1⟩ i hi
      obtain ⟨k, hk⟩ := z2
      exact ⟨k, by grind⟩
  have o3 : ∀ z T : Int, T ∣ z * (one : Int) ↔ (T ∣ z * a ∧ T ∣ z * b) ∧ T ∣ z * e := by
    intro z T
    rw [← zc_dg f1 f2 f3 z T, ← zc_dg f4 f5 f6 z T]
    have q : ∀ S : Int, S ∣ (one : Int) ↔ S ∣ G2 := by
      intro S
      rw [o1 S]
      have r1 := zc_dg f1 f2 f3 1 S
      have r2 := zc_dg f4 f5 f6 1 S
      simp only [Int.one_mul] at r1 r2
      rw [r2, r1]
    obtain ⟨x, hx⟩ := (q (one : Int)).mp (Int.dvd_refl _)
    obtain ⟨y, hy⟩ := (q G2).mpr (Int.dvd_refl _)
    exact ⟨fun ⟨k, hk⟩ => ⟨k * x, by rw [hx]; grind⟩, fun ⟨k, hk⟩ => ⟨k * y, by rw [hy]; grind⟩⟩
  have o4 : (one : Int) ∣ (two : Int) ∧ both = one * two := by
    obtain ⟨⟨⟨x, hx⟩, _⟩, ⟨y, hy⟩⟩ := (o1 one).mp (Int.dvd_refl _)
    have sq : (one * one) ∣ both := by
      refine Int.natCast_dvd_natCast.mp ((o2 _).mpr ⟨x * y, ?_⟩)
      rw [hx, hy, Int.natCast_mul]; grind
    by_cases z : one = 0
    · rw [if_pos z] at h3
      subst h3
      refine ⟨⟨0, by omega⟩, ?_⟩
      rw [z, Nat.zero_mul] at sq
      rw [Nat.mul_zero]
      exact Nat.eq_zero_of_zero_dvd sq
    · rw [if_neg z] at h3
      obtain ⟨k, hk⟩ := sq
      have : two = one * k := by
        rw [h3, hk, Nat.mul_assoc, Nat.mul_div_cancel_left _ (by omega)]
      exact ⟨⟨k, by rw [this, Int.natCast_mul]⟩, by rw [hk, this, Nat.mul_assoc]⟩
  obtain ⟨g3, u3', v3', s3', t3', _, _, a1, a2, a3⟩ := zc_bz2 one m hm
  obtain ⟨g4, u4', v4', s4', t4', _, _, b1, b2, b3⟩ := zc_bz2 two m hm
  rw [zc_gcd a1 a2 a3, zc_gcd b1 b2 b3]
  refine zc_eq fun T => ?_
  have mI : ∀ {g u : Nat}, m = g * u → (m : Int) = (g : Int) * (u : Int) := fun h => by rw [h, Int.natCast_mul]
  have L : T ∣ (g : Int) * (g2 : Int) ↔ (T ∣ a * e ∧ T ∣ m * e) ∧ (T ∣ m * b ∧ (T ∣ a * m ∧ T ∣ m * m)) := by
    rw [zc_dg hh (mI hm2) e5 g T, zc_dg e2 e3 e4 g T, show (g : Int) * (u * b) = m * b by rw [mI hmu, Int.mul_assoc]]
    rw [Int.mul_comm (g : Int) e, zc_dg ha (mI hmu) e1 e T, Int.mul_comm (g : Int) m, zc_dg ha (mI hmu) e1 m T]
    rw [Int.mul_comm e a, Int.mul_comm e m, Int.mul_comm (m : Int) a]
    exact ⟨fun z => ⟨z.1.1, z.1.2, z.2⟩, fun z => ⟨⟨z.1, z.2.1⟩, z.2.2⟩⟩
  have R : T ∣ (g3 : Int) * (g4 : Int) ↔ (T ∣ (one : Int) * two ∧ T ∣ m * two) ∧ (T ∣ m * (one : Int) ∧ T ∣ m * m) := by
    rw [zc_dg b1 (mI b2) b3 g3 T, Int.mul_comm (g3 : Int) two, zc_dg a1 (mI a2) a3 two T, Int.mul_comm (g3 : Int) m, zc_dg a1 (mI a2) a3 m T]
    rw [Int.mul_comm (two : Int) one, Int.mul_comm (two : Int) m]
  have ob : (one : Int) * (two : Int) = (both : Int) := by rw [o4.2, Int.natCast_mul]
  rw [Int.natCast_mul, Int.natCast_mul, L, R, ob, o2 T, o3 m T, Int.mul_comm a m]
  obtain ⟨k, hk⟩ := o4.1
  have d : T ∣ m * (one : Int) → T ∣ m * (two : Int) := fun ⟨l, hl⟩ => ⟨l * k, by rw [hk]; grind⟩
  rw [o3 m T] at d
  exact ⟨fun ⟨⟨x1, x2⟩, x3, x4, x5⟩ => ⟨⟨x1, d ⟨⟨x4, x3⟩, x2⟩⟩, ⟨⟨x4, x3⟩, x2⟩, x5⟩, fun ⟨⟨x1, _⟩, ⟨⟨x4, x3⟩, x2⟩, x5⟩ => ⟨⟨x1, x2⟩, x3, x4, x5⟩⟩
end
section
/-! permutations by their codes, actions by pairs of them -/
def zd_dg (n c i : Nat) : Nat := c / n ^ i % n
def zd_ip (n c : Nat) : Bool := (List.range n).all fun v => (List.range n).any fun i => zd_dg n c i == v
theorem zd_ip_iff {n c : Nat} : zd_ip n c = true ↔ ∀ v, v < n → ∃ i, i < n ∧ zd_dg n c i = v := by
  unfold zd_ip
  rw [List.all_eq_true]
  constructor
  · intro h v hv
    obtain ⟨i, a, b⟩ := List.any_eq_true.mp (h v (List.mem_range.mpr hv))
    exact ⟨i, List.mem_range.mp a, eq_of_beq b⟩
  · intro h v hv
    obtain ⟨i, a, b⟩ := h v (List.mem_range.mp hv)
    exact List.any_eq_true.mpr ⟨i, List.mem_range.mpr a, by rw [b]; exact beq_self_eq_true v⟩
def zd_P (n : Nat) : List Nat := (List.range (n ^ n)).filter (zd_ip n)
theorem zd_mem_P {n c : Nat} : c ∈ zd_P n ↔ c < n ^ n ∧ ∀ v, v < n → ∃ i, i < n ∧ zd_dg n c i = v := by
  unfold zd_P
  rw [List.mem_filter, List.mem_range, zd_ip_iff]
theorem zd_P_nd (n : Nat) : (zd_P n).Nodup := List.Pairwise.filter _ List.nodup_range
/-- what meets all of n numbers meets each once -/
theorem zd_su_in {n : Nat} {f : Nat → Nat} (h : ∀ v, v < n → ∃ i, i < n ∧ f i = v) : ∀ i j, i < n → j < n → f i = f j → i = j := by
  intro i j hi hj e
  refine Classical.byContradiction fun z => ?_
  have hj' : j ∈ List.range n := List.mem_range.mpr hj
  have k := za_nsl (List.range n) (((List.range n).erase j).map f) List.nodup_range fun v hv => by
    obtain ⟨a, b, d⟩ := h v (List.mem_range.mp hv)
    by_cases y : a = j
    · exact List.mem_map.mpr ⟨i, (List.mem_erase_of_ne z).mpr (List.mem_range.mpr hi), by rw [e, ← y]; exact d⟩
    · exact List.mem_map.mpr ⟨a, (List.mem_erase_of_ne y).mpr (List.mem_range.mpr b), d⟩
  rw [List.length_map, List.length_erase_of_mem hj', List.length_range] at k
  omega
def zd_iv (f : Nat → Nat) (v : Nat) : Nat → Nat
  | 0 => 0
  | i + 1 => if f i = v then i else zd_iv f v i
theorem zd_iv_sp (f : Nat → Nat) (v : Nat) : ∀ n, (∃ i, i < n ∧ f i = v) → zd_iv f v n < n ∧ f (zd_iv f v n) = v := by
  intro n
  induction n with
  | zero => rintro ⟨i, h, _⟩; omega
  | succ n ih =>
    rintro ⟨i, h, e⟩
    show (if f n = v then n else zd_iv f v n) < _ ∧ f (if f n = v then n else zd_iv f v n) = v
    by_cases z : f n = v
    · rw [if_pos z]; exact ⟨by omega, z⟩
    · rw [if_neg z]
      have hi : i ≠ n := fun y => z (y ▸ e)
      have := ih ⟨i, by omega, e⟩
      exact ⟨by omega, this.2⟩
def zd_F (n a b q : Nat) : Nat :=
  if q % 4 = 0 then zd_dg n a (q / 4) else if q % 4 = 1 then zd_iv (zd_dg n a) (q / 4) n else if q % 4 = 2 then zd_dg n b (q / 4) else zd_iv (zd_dg n b) (q / 4) n
theorem zd_F0 (n a b p : Nat) : zd_F n a b (4 * p) = zd_dg n a p := by
  unfold zd_F; rw [if_pos (by omega), show 4 * p / 4 = p by omega]
theorem zd_F1 (n a b p : Nat) : zd_F n a b (4 * p + 1) = zd_iv (zd_dg n a) p n := by
  unfold zd_F; rw [if_neg (by omega), if_pos (by omega), show (4 * p + 1) / 4 = p by omega]
theorem zd_F2 (n a b p : Nat) : zd_F n a b (4 * p + 2) = zd_dg n b p := by
  unfold zd_F; rw [if_neg (by omega), if_neg (by omega), if_pos (by omega), show (4 * p + 2) / 4 = p by omega]
theorem zd_F3 (n a b p : Nat) : zd_F n a b (4 * p + 3) = zd_iv (zd_dg n b) p n := by
  unfold zd_F; rw [if_neg (by omega), if_neg (by omega), if_neg (by omega), show (4 * p + 3) / 4 = p by omega]
theorem zd_c4 {n : Nat} {C : Nat → Prop} (h : ∀ p, p < n → C (4 * p) ∧ C (4 * p + 1) ∧ C (4 * p + 2) ∧ C (4 * p + 3)) : ∀ q, q < 4 * n → C q := by
  intro q hq
  obtain ⟨a, b, c, d⟩ := h (q / 4) (by omega)
  rcases (by omega : q = 4 * (q / 4) ∨ q = 4 * (q / 4) + 1 ∨ q = 4 * (q / 4) + 2 ∨ q = 4 * (q / 4) + 3) with e | e | e | e
  · rw [e]; exact a
  · rw [e]; exact b
  · rw [e]; exact c
  · rw [e]; exact d
theorem zd_bk0 (p x : Nat) : za_bk (4 * p) x = 4 * x + 1 := by unfold za_bk; omega
theorem zd_bk1 (p x : Nat) : za_bk (4 * p + 1) x = 4 * x := by unfold za_bk; omega
theorem zd_bk2 (p x : Nat) : za_bk (4 * p + 2) x = 4 * x + 3 := by unfold za_bk; omega
theorem zd_bk3 (p x : Nat) : za_bk (4 * p + 3) x = 4 * x + 2 := by unfold za_bk; omega
theorem zd_dg_lt {n : Nat} (h : 0 < n) (c i : Nat) : zd_dg n c i < n := Nat.mod_lt _ h
theorem zd_act {n a b : Nat} (ha : ∀ v, v < n → ∃ i, i < n ∧ zd_dg n a i = v) (hb : ∀ v, v < n → ∃ i, i < n ∧ zd_dg n b i = v) : za_act n (zd_F n a b) := by
  constructor
  · refine zd_c4 fun p hp => ?_
    rw [zd_F0, zd_F1, zd_F2, zd_F3]
    exact ⟨zd_dg_lt (by omega) _ _, (zd_iv_sp _ _ n (ha p hp)).1, zd_dg_lt (by omega) _ _, (zd_iv_sp _ _ n (hb p hp)).1⟩
  · refine zd_c4 (C := fun q => zd_F n a b (za_bk q (zd_F n a b q)) = q / 4) fun p hp => ?_
    have A := zd_iv_sp _ _ n (ha p hp)
    have B := zd_iv_sp _ _ n (hb p hp)
    have la := zd_dg_lt (show 0 < n by omega) a p
    have lb := zd_dg_lt (show 0 < n by omega) b p
    have A' := zd_iv_sp (zd_dg n a) (zd_dg n a p) n ⟨p, hp, rfl⟩
    have B' := zd_iv_sp (zd_dg n b) (zd_dg n b p) n ⟨p, hp, rfl⟩
    refine ⟨?_, ?_, ?_, ?_⟩
    · rw [zd_bk0, zd_F0, zd_F1, zd_su_in ha _ _ A'.1 hp A'.2]; omega
    · rw [zd_bk1, zd_F1, zd_F0, A.2]; omega
    · rw [zd_bk2, zd_F2, zd_F3, zd_su_in hb _ _ B'.1 hp B'.2]; omega
    · rw [zd_bk3, zd_F3, zd_F2, B.2]; omega
def zd_en (n : Nat) (h : Nat → Nat) : Nat → Nat
  | 0 => 0
  | m + 1 => zd_en n h m + n ^ m * h m
theorem zd_en_lt {n : Nat} {h : Nat → Nat} (hn : 0 < n) : ∀ m, (∀ i, i < m → h i < n) → zd_en n h m < n ^ m := by
  intro m
  induction m with
  | zero => intro _; exact Nat.one_pos
  | succ m ih =>
    intro hl
    have a := ih fun i hi => hl i (by omega)
    have e : n ^ m * (h m + 1) ≤ n ^ m * n := Nat.mul_le_mul_left _ (hl m (by omega))
    rw [Nat.mul_add] at e
    rw [Nat.pow_succ]
    show zd_en n h m + n ^ m * h m < _
    omega
theorem zd_en_dg {n : Nat} {h : Nat → Nat} (hn : 0 < n) : ∀ m, (∀ i, i < m → h i < n) → ∀ i, i < m → zd_dg n (zd_en n h m) i = h i := by
  intro m
  induction m with
  | zero => intro _ i hi; omega
  | succ m ih =>
    intro hl i hi
    have a := zd_en_lt hn m fun i hi => hl i (by omega)
    have hp : ∀ i, 0 < n ^ i := fun i => Nat.pow_pos hn
    show (zd_en n h m + n ^ m * h m) / n ^ i % n = h i
    rcases Nat.lt_or_ge i m with z | z
    · obtain ⟨d, rfl⟩ : ∃ d, m = i + (d + 1) := ⟨m - i - 1, by omega⟩
      have e : n ^ (i + (d + 1)) * h (i + (d + 1)) = n ^ i * (n * (n ^ d * h (i + (d + 1)))) := by
        rw [Nat.pow_add, Nat.pow_succ]; ac_rfl
      rw [e, Nat.add_mul_div_left _ _ (hp i), Nat.add_mul_mod_self_left]
      exact ih (fun i hi => hl i (by omega)) i z
    · have e : i = m := by omega
      subst e
      rw [Nat.add_mul_div_left _ _ (hp i), Nat.div_eq_of_lt a, Nat.zero_add, Nat.mod_eq_of_lt (hl i (by omega))]
theorem zd_dg_en (n c : Nat) : ∀ m, zd_en n (zd_dg n c) m = c % n ^ m := by
  intro m
  induction m with
  | zero => rw [Nat.pow_zero, Nat.mod_one]; rfl
  | succ m ih =>
    show zd_en n (zd_dg n c) m + n ^ m * zd_dg n c m = _
    rw [ih, Nat.mod_pow_succ]; rfl
theorem zd_en_c {n : Nat} {h h' : Nat → Nat} : ∀ m, (∀ i, i < m → h i = h' i) → zd_en n h m = zd_en n h' m := by
  intro m
  induction m with
  | zero => intro _; rfl
  | succ m ih => intro e; show zd_en n h m + _ = zd_en n h' m + _; rw [ih (fun i hi => e i (by omega)), e m (by omega)]
theorem zd_inj {n c c' : Nat} (hc : c < n ^ n) (hc' : c' < n ^ n) (h : ∀ i, i < n → zd_dg n c i = zd_dg n c' i) : c = c' := by
  have a := zd_dg_en n c n
  have b := zd_dg_en n c' n
  rw [Nat.mod_eq_of_lt hc] at a
  rw [Nat.mod_eq_of_lt hc'] at b
  rw [← a, ← b]
  exact zd_en_c n h
/-- every action is that of a pair -/
theorem zd_code {m : Nat} {G : Nat → Nat} (hA : za_act m G) : ∃ a b, a ∈ zd_P m ∧ b ∈ zd_P m ∧ ∀ q, q < 4 * m → zd_F m a b q = G q := by
  rcases Nat.eq_zero_or_pos m with z | hm
  · subst z
    refine ⟨0, 0, zd_mem_P.mpr ⟨by decide, fun v hv => absurd hv (Nat.not_lt_zero v)⟩, zd_mem_P.mpr ⟨by decide, fun v hv => absurd hv (Nat.not_lt_zero v)⟩, fun q hq => absurd hq (by omega)⟩
  · have g0 : ∀ i, i < m → G (4 * i) < m := fun i hi => hA.1 _ (by omega)
    have g2 : ∀ i, i < m → G (4 * i + 2) < m := fun i hi => hA.1 _ (by omega)
    have d0 := zd_en_dg hm m g0
    have d2 := zd_en_dg hm m g2
    have i1 : ∀ v, v < m → G (4 * v + 1) < m ∧ G (4 * G (4 * v + 1)) = v := fun v hv => by
      have k := hA.2 (4 * v + 1) (by omega)
      rw [zd_bk1] at k
      exact ⟨hA.1 _ (by omega), by omega⟩
    have i3 : ∀ v, v < m → G (4 * v + 3) < m ∧ G (4 * G (4 * v + 3) + 2) = v := fun v hv => by
      have k := hA.2 (4 * v + 3) (by omega)
      rw [zd_bk3] at k
      exact ⟨hA.1 _ (by omega), by omega⟩
    have s0 : ∀ v, v < m → ∃ i, i < m ∧ zd_dg m (zd_en m (fun i => G (4 * i)) m) i = v := fun v hv => ⟨_, (i1 v hv).1, by rw [d0 _ (i1 v hv).1]; exact (i1 v hv).2⟩
    have s2 : ∀ v, v < m → ∃ i, i < m ∧ zd_dg m (zd_en m (fun i => G (4 * i + 2)) m) i = v := fun v hv => ⟨_, (i3 v hv).1, by rw [d2 _ (i3 v hv).1]; exact (i3 v hv).2⟩
    refine ⟨zd_en m (fun i => G (4 * i)) m, zd_en m (fun i => G (4 * i + 2)) m, zd_mem_P.mpr ⟨zd_en_lt hm m g0, s0⟩, zd_mem_P.mpr ⟨zd_en_lt hm m g2, s2⟩, zd_c4 fun p hp => ?_⟩
    rw [zd_F0, zd_F1, zd_F2, zd_F3]
    have a1 := zd_iv_sp _ _ m (s0 p hp)
    have a3 := zd_iv_sp _ _ m (s2 p hp)
    exact ⟨d0 p hp, zd_su_in s0 _ _ a1.1 (i1 p hp).1 (by rw [a1.2, d0 _ (i1 p hp).1]; exact (i1 p hp).2.symm), d2 p hp, zd_su_in s2 _ _ a3.1 (i3 p hp).1 (by rw [a3.2, d2 _ (i3 p hp).1]; exact (i3 p hp).2.symm)⟩
def zd_A (n : Nat) : List (Nat × Nat) := (zd_P n).flatMap fun a => (zd_P n).map fun b => (a, b)
theorem zd_mem_A {n : Nat} {x : Nat × Nat} : x ∈ zd_A n ↔ x.1 ∈ zd_P n ∧ x.2 ∈ zd_P n := by
  unfold zd_A
  rw [List.mem_flatMap]
  constructor
  · rintro ⟨a, ha, h⟩
    obtain ⟨b, hb, e⟩ := List.mem_map.mp h
    subst e
    exact ⟨ha, hb⟩
  · rintro ⟨h1, h2⟩
    exact ⟨x.1, h1, List.mem_map.mpr ⟨x.2, h2, rfl⟩⟩
theorem zd_A_nd (n : Nat) : (zd_A n).Nodup := by
  unfold zd_A
  refine List.pairwise_flatMap.mpr ⟨fun a _ => List.pairwise_map.mpr ((zd_P_nd n).imp fun h e => h (congrArg Prod.snd e)), (zd_P_nd n).imp fun h x hx y hy e => ?_⟩
  obtain ⟨b, _, e1⟩ := List.mem_map.mp hx
  obtain ⟨b', _, e2⟩ := List.mem_map.mp hy
  rw [← e1, ← e2] at e
  exact h (congrArg Prod.fst e)
theorem zd_A_len (n : Nat) : (zd_A n).length = (zd_P n).length * (zd_P n).length := by
  unfold zd_A
  generalize hP : zd_P n = P
  have key : ∀ l : List Nat, (l.flatMap fun a => P.map fun b => (a, b)).length = l.length * P.length := by
    intro l
    induction l with
    | nil => rw [List.length_nil, Nat.zero_mul]; rfl
    | cons a l ih => rw [List.flatMap_cons, List.length_append, ih, List.length_map, List.length_cons, Nat.add_mul]; omega
  exact key P
/-! counting by a relation that is total and injective -/
theorem zd_cnt {α β : Type} [BEq β] [LawfulBEq β] (R : α → β → Prop) (p : α → Bool) (q : β → Bool) (hpq : ∀ x y, R x y → p x = q y) (hinj : ∀ x x' y, R x y → R x' y → x = x') :
    ∀ (l : List α) (m : List β), l.Nodup → (∀ x, x ∈ l → ∃ y, y ∈ m ∧ R x y) → m.length ≤ l.length → l.countP p = m.countP q := by
  intro l
  induction l with
  | nil =>
    intro m _ _ h
    have : m = [] := List.eq_nil_of_length_eq_zero (by rw [List.length_nil] at h; omega)
    rw [this]; rfl
  | cons a l ih =>
    intro m hn ht hlen
    rw [List.nodup_cons] at hn
    obtain ⟨y, hy, hR⟩ := ht a List.mem_cons_self
    have hy1 := List.length_pos_of_mem hy
    have k := ih (m.erase y) hn.2 (fun x hx => by
      obtain ⟨z, hz, hR'⟩ := ht x (List.mem_cons_of_mem _ hx)
      refine ⟨z, (List.mem_erase_of_ne fun e => ?_).mpr hz, hR'⟩
      subst e
      exact hn.1 (hinj _ _ _ hR hR' ▸ hx)) (by rw [List.length_erase_of_mem hy]; rw [List.length_cons] at hlen; omega)
    rw [(List.perm_cons_erase hy).countP_eq q, List.countP_cons, List.countP_cons, k, hpq a y hR]
/-! the orbit of point 0, its table, and the rest -/
def zd_or (n : Nat) : Nat → Nat
  | 0 => 1
  | k + 1 => zd_or n k * (n - (k + 1))
def zd_ij (n : Nat) : Nat → List (List Nat)
  | 0 => [[0]]
  | k + 1 => (zd_ij n k).flatMap fun o => ((List.range n).filter fun x => !o.contains x).map fun x => o ++ [x]
theorem zd_mem_ij {n : Nat} : ∀ k (o : List Nat), o.length = k + 1 → o.Nodup → (∀ x, x ∈ o → x < n) → o.getD 0 0 = 0 → o ∈ zd_ij n k := by
  intro k
  induction k with
  | zero =>
    intro o h _ _ h0
    match o, h with
    | [a], _ =>
      have : a = 0 := h0
      rw [this]
      exact List.mem_singleton.mpr rfl
  | succ k ih =>
    intro o hl hn hb h0
    rcases List.eq_nil_or_concat o with e | ⟨o', x, e⟩
    · rw [e, List.length_nil] at hl; omega
    · rw [List.concat_eq_append] at e
      subst e
      rw [List.length_append] at hl
      have hl' : o'.length = k + 1 := by have : [x].length = 1 := rfl; omega
      rw [List.nodup_append] at hn
      have hx : x ∉ o' := fun h => hn.2.2 x h x (List.mem_singleton.mpr rfl) rfl
      refine List.mem_flatMap.mpr ⟨o', ih o' hl' hn.1 (fun y hy => hb y (List.mem_append_left _ hy)) ?_, List.mem_map.mpr ⟨x, List.mem_filter.mpr ⟨List.mem_range.mpr (hb x (List.mem_append_right _ (List.mem_singleton.mpr rfl))), ?_⟩, rfl⟩⟩
      · rw [zb_gl (by omega)] at h0; exact h0
      · simpa using hx
theorem zd_wk {e T F : Nat → Nat} {k : Nat} (hT : ∀ q, q < 4 * k → T q < k) (h : ∀ i, i < k → ∀ l, l < 4 → F (4 * e i + l) = e (T (4 * i + l))) {w : Nat → Nat} (hw : ∀ i, w i < 4) {i : Nat} (hi : i < k) : ∀ m, za_wk F w m (e i) = e (za_wk T w m i) := by
  intro m
  induction m with
  | zero => rfl
  | succ m ih =>
    show F (4 * za_wk F w m (e i) + w m) = e (T (4 * za_wk T w m i + w m))
    rw [ih]
    exact h _ (za_wk_lt hT hw hi m) _ (hw m)
def zd_cp (n : Nat) (o : List Nat) : List Nat := (List.range n).filter fun x => !o.contains x
theorem zd_mem_cp {n : Nat} {o : List Nat} {x : Nat} : x ∈ zd_cp n o ↔ x < n ∧ x ∉ o := by
  unfold zd_cp
  rw [List.mem_filter, List.mem_range]
  simp
theorem zd_cp_nd (n : Nat) (o : List Nat) : (zd_cp n o).Nodup := List.Pairwise.filter _ List.nodup_range
theorem zd_cp_len {n : Nat} {o : List Nat} (hn : o.Nodup) (hb : ∀ x, x ∈ o → x < n) : (zd_cp n o).length = n - o.length := by
  have a := za_nsl (o ++ zd_cp n o) (List.range n) (List.nodup_append.mpr ⟨hn, zd_cp_nd n o, fun x hx y hy e => (zd_mem_cp.mp hy).2 (e ▸ hx)⟩) fun x hx => by
    rcases List.mem_append.mp hx with z | z
    · exact List.mem_range.mpr (hb x z)
    · exact List.mem_range.mpr (zd_mem_cp.mp z).1
  have b := za_nsl (List.range n) (o ++ zd_cp n o) List.nodup_range fun x hx => by
    by_cases z : x ∈ o
    · exact List.mem_append_left _ z
    · exact List.mem_append_right _ (zd_mem_cp.mpr ⟨List.mem_range.mp hx, z⟩)
  rw [List.length_append, List.length_range] at a b
  omega
def zd_D (n : Nat) (x : Nat × Nat) (y : Nat × List Nat × Nat × Nat × Nat) : Prop :=
  x.1 ∈ zd_P n ∧ x.2 ∈ zd_P n ∧ y.1 < n ∧ y.2.1.length = y.1 + 1 ∧ y.2.1.Nodup ∧ (∀ p, p ∈ y.2.1 → p < n) ∧
  (∀ q, q < 4 * (y.1 + 1) → za_F y.2.2.1 q < y.1 + 1) ∧ (∀ q, q < 4 * (n - (y.1 + 1)) → zd_F (n - (y.1 + 1)) y.2.2.2.1 y.2.2.2.2 q < n - (y.1 + 1)) ∧
  (∀ i, i < y.1 + 1 → ∀ l, l < 4 → zd_F n x.1 x.2 (4 * y.2.1.getD i 0 + l) = y.2.1.getD (za_F y.2.2.1 (4 * i + l)) 0) ∧
  (∀ j, j < n - (y.1 + 1) → ∀ l, l < 4 → zd_F n x.1 x.2 (4 * (zd_cp n y.2.1).getD j 0 + l) = (zd_cp n y.2.1).getD (zd_F (n - (y.1 + 1)) y.2.2.2.1 y.2.2.2.2 (4 * j + l)) 0)
theorem zd_D_inj {n : Nat} (x x' : Nat × Nat) (y : Nat × List Nat × Nat × Nat × Nat) (h : zd_D n x y) (h' : zd_D n x' y) : x = x' := by
  obtain ⟨a1, a2, a3, a4, a5, a6, a7, a8, a9, a10⟩ := h
  obtain ⟨b1, b2, _, _, _, _, _, _, b9, b10⟩ := h'
  have cl := zd_cp_len a5 a6
  have eq : ∀ p, p < n → ∀ l, l < 4 → zd_F n x.1 x.2 (4 * p + l) = zd_F n x'.1 x'.2 (4 * p + l) := by
    intro p hp l hl
    by_cases z : p ∈ y.2.1
    · obtain ⟨c, d⟩ := zb_ix z
      have u := a9 (y.2.1.idxOf p) (by omega) l hl
      have v := b9 (y.2.1.idxOf p) (by omega) l hl
      rw [d] at u v
      rw [u, v]
    · obtain ⟨c, d⟩ := zb_ix (zd_mem_cp.mpr ⟨hp, z⟩)
      have u := a10 ((zd_cp n y.2.1).idxOf p) (by omega) l hl
      have v := b10 ((zd_cp n y.2.1).idxOf p) (by omega) l hl
      rw [d] at u v
      rw [u, v]
  refine Prod.ext (zd_inj (zd_mem_P.mp a1).1 (zd_mem_P.mp b1).1 fun p hp => ?_) (zd_inj (zd_mem_P.mp a2).1 (zd_mem_P.mp b2).1 fun p hp => ?_)
  · have := eq p hp 0 (by omega)
    rw [Nat.add_zero, zd_F0, zd_F0] at this
    exact this
  · have := eq p hp 2 (by omega)
    rw [zd_F2, zd_F2] at this
    exact this
theorem zd_D_hold {n c : Nat} {sz rl : Nat → Nat} (hrl : ∀ i, rl i < 4) {x : Nat × Nat} {y : Nat × List Nat × Nat × Nat × Nat} (h : zd_D n x y) :
    za_hold c sz rl n (zd_F n x.1 x.2) ↔ za_hold c sz rl (y.1 + 1) (za_F y.2.2.1) ∧ za_hold c sz rl (n - (y.1 + 1)) (zd_F (n - (y.1 + 1)) y.2.2.2.1 y.2.2.2.2) := by
  obtain ⟨a1, a2, a3, a4, a5, a6, a7, a8, a9, a10⟩ := h
  have cl := zd_cp_len a5 a6
  have W1 : ∀ k i, i < y.1 + 1 → za_wk (zd_F n x.1 x.2) (fun j => rl (8 * k + j)) (sz k) (y.2.1.getD i 0) = y.2.1.getD (za_wk (za_F y.2.2.1) (fun j => rl (8 * k + j)) (sz k) i) 0 :=
    fun k i hi => zd_wk (e := fun i => y.2.1.getD i 0) a7 a9 (fun j => hrl _) hi _
  have W2 : ∀ k i, i < n - (y.1 + 1) → za_wk (zd_F n x.1 x.2) (fun j => rl (8 * k + j)) (sz k) ((zd_cp n y.2.1).getD i 0) = (zd_cp n y.2.1).getD (za_wk (zd_F (n - (y.1 + 1)) y.2.2.2.1 y.2.2.2.2) (fun j => rl (8 * k + j)) (sz k) i) 0 :=
    fun k i hi => zd_wk (e := fun i => (zd_cp n y.2.1).getD i 0) a8 a10 (fun j => hrl _) hi _
  constructor
  · intro H
    refine ⟨fun k hk p hp => ?_, fun k hk p hp => ?_⟩
    · have := W1 k p hp
      rw [H k hk _ (a6 _ (zb_gm (by omega)))] at this
      exact (zb_gi a5 (by omega) (by have := za_wk_lt a7 (w := fun j => rl (8 * k + j)) (fun j => hrl _) hp (sz k); omega) this).symm
    · have := W2 k p hp
      rw [H k hk _ (zd_mem_cp.mp (zb_gm (by omega))).1] at this
      exact (zb_gi (zd_cp_nd _ _) (by omega) (by have := za_wk_lt a8 (w := fun j => rl (8 * k + j)) (fun j => hrl _) hp (sz k); omega) this).symm
  · rintro ⟨H1, H2⟩ k hk p hp
    by_cases z : p ∈ y.2.1
    · obtain ⟨u, v⟩ := zb_ix z
      have := W1 k _ (show y.2.1.idxOf p < y.1 + 1 by omega)
      rw [H1 k hk _ (by omega), v] at this
      exact this
    · obtain ⟨u, v⟩ := zb_ix (zd_mem_cp.mpr ⟨hp, z⟩)
      have := W2 k _ (show (zd_cp n y.2.1).idxOf p < n - (y.1 + 1) by omega)
      rw [H2 k hk _ (by omega), v] at this
      exact this
def zd_nil : Nat → Nat := fun _ => 0
def zd_Tu (n : Nat) : List (Nat × List Nat × Nat × Nat × Nat) :=
  (List.range n).flatMap fun k => (zd_ij n k).flatMap fun o => (za_TL 0 zd_nil zd_nil (k + 1)).flatMap fun t => (zd_A (n - (k + 1))).map fun g => (k, o, t, g)
theorem zd_D_tot {n : Nat} (h1 : 0 < n) (hn : n ≤ 5) {x : Nat × Nat} (hx : x ∈ zd_A n) : ∃ y, y ∈ zd_Tu n ∧ zd_D n x y := by
  obtain ⟨hx1, hx2⟩ := zd_mem_A.mp hx
  have hA := zd_act (zd_mem_P.mp hx1).2 (zd_mem_P.mp hx2).2
  generalize hF : zd_F n x.1 x.2 = F at hA
  obtain ⟨q, I, hq⟩ := zb_orb hA.1 h1
  have hT := zb_tab hA I hq
  have hlen := zb_len I
  obtain ⟨i1, i2, i3, i4, i5, i6, i7⟩ := I
  generalize zb_o F 0 q = o at *
  obtain ⟨k, hk⟩ : ∃ k, o.length = k + 1 := ⟨o.length - 1, by omega⟩
  rw [hk] at hT
  obtain ⟨t, ht, hd⟩ := za_TL2 (c := 0) (sz := zd_nil) (rl := zd_nil) (n := k + 1) (by omega) (by omega) ⟨hT.1, hT.2, fun k hk => absurd hk (Nat.not_lt_zero k)⟩
  have htF : ∀ j, j < 4 * (k + 1) → za_F t j = zb_T F 0 j := fun j hj => by have := hd j hj; unfold za_F; omega
  have cl := zd_cp_len i1 i2
  rw [hk] at cl
  have clo : ∀ p, p ∈ zd_cp n o → ∀ l, l < 4 → F (4 * p + l) ∈ zd_cp n o := by
    intro p hp l hl
    obtain ⟨p1, p2⟩ := zd_mem_cp.mp hp
    refine zd_mem_cp.mpr ⟨hA.1 _ (by omega), fun z => p2 ?_⟩
    obtain ⟨u, v⟩ := zb_ix z
    have e := hA.2 (4 * p + l) (by omega)
    have e2 : za_bk (4 * p + l) (F (4 * p + l)) = 4 * F (4 * p + l) + (l + 1 - 2 * (l % 2)) := by unfold za_bk; omega
    rw [e2] at e
    obtain ⟨w1, w2, _⟩ := i5 (4 * o.idxOf (F (4 * p + l)) + (l + 1 - 2 * (l % 2))) (by omega)
    rw [show (4 * o.idxOf (F (4 * p + l)) + (l + 1 - 2 * (l % 2))) / 4 = o.idxOf (F (4 * p + l)) by omega, show (4 * o.idxOf (F (4 * p + l)) + (l + 1 - 2 * (l % 2))) % 4 = l + 1 - 2 * (l % 2) by omega, v, e, show (4 * p + l) / 4 = p by omega] at w2
    rw [← w2]
    exact zb_gm w1
  have gx : ∀ j, j < 4 * (n - (k + 1)) → (zd_cp n o).idxOf (F (4 * (zd_cp n o).getD (j / 4) 0 + j % 4)) < n - (k + 1) ∧ (zd_cp n o).getD ((zd_cp n o).idxOf (F (4 * (zd_cp n o).getD (j / 4) 0 + j % 4))) 0 = F (4 * (zd_cp n o).getD (j / 4) 0 + j % 4) := by
    intro j hj
    have := zb_ix (clo _ (zb_gm (show j / 4 < (zd_cp n o).length by omega)) (j % 4) (by omega))
    rw [cl] at this
    exact this
  have hG : za_act (n - (k + 1)) (fun j => (zd_cp n o).idxOf (F (4 * (zd_cp n o).getD (j / 4) 0 + j % 4))) := by
    refine ⟨fun j hj => (gx j hj).1, fun j hj => ?_⟩
    obtain ⟨u, v⟩ := gx j hj
    have hb := za_bk_lt (c := j) u
    obtain ⟨u', v'⟩ := gx _ hb
    refine zb_gi (zd_cp_nd n o) (Nat.lt_of_lt_of_eq u' cl.symm) (by omega) ?_
    show (zd_cp n o).getD ((zd_cp n o).idxOf (F (4 * (zd_cp n o).getD (za_bk j ((zd_cp n o).idxOf (F (4 * (zd_cp n o).getD (j / 4) 0 + j % 4))) / 4) 0 + za_bk j ((zd_cp n o).idxOf (F (4 * (zd_cp n o).getD (j / 4) 0 + j % 4))) % 4))) 0 = _
    rw [v', za_bk_div, za_bk_mod, v]
    have hy := (zd_mem_cp.mp (zb_gm (show j / 4 < (zd_cp n o).length by omega))).1
    have kk := hA.2 (4 * (zd_cp n o).getD (j / 4) 0 + j % 4) (by omega)
    have e : za_bk (4 * (zd_cp n o).getD (j / 4) 0 + j % 4) (F (4 * (zd_cp n o).getD (j / 4) 0 + j % 4)) = 4 * F (4 * (zd_cp n o).getD (j / 4) 0 + j % 4) + (j % 4 + 1 - 2 * (j % 4 % 2)) := by unfold za_bk; omega
    rw [e] at kk
    rw [kk]
    omega
  obtain ⟨a, b, ha, hb, hab⟩ := zd_code hG
  refine ⟨(k, o, t, a, b), ?_, hx1, hx2, by show k < n; omega, hk, i1, i2, fun j hj => ?_, fun j hj => ?_, fun i hi l hl => ?_, fun j hj l hl => ?_⟩
  · unfold zd_Tu
    exact List.mem_flatMap.mpr ⟨k, List.mem_range.mpr (by omega), List.mem_flatMap.mpr ⟨o, zd_mem_ij k o hk i1 i2 i4, List.mem_flatMap.mpr ⟨t, ht, List.mem_map.mpr ⟨(a, b), zd_mem_A.mpr ⟨ha, hb⟩, rfl⟩⟩⟩⟩
  · have e := htF j hj
    have := (i5 j (by omega)).1
    show za_F t j < k + 1
    omega
  · have e := hab j hj
    have := (gx j hj).1
    show zd_F (n - (k + 1)) a b j < n - (k + 1)
    rw [e]; exact this
  · show zd_F n x.1 x.2 (4 * o.getD i 0 + l) = o.getD (za_F t (4 * i + l)) 0
    have hi' : i < k + 1 := hi
    rw [hF, htF _ (by omega), (i5 (4 * i + l) (by omega)).2.1, show (4 * i + l) / 4 = i by omega, show (4 * i + l) % 4 = l by omega]
  · show zd_F n x.1 x.2 (4 * (zd_cp n o).getD j 0 + l) = (zd_cp n o).getD (zd_F (n - (k + 1)) a b (4 * j + l)) 0
    have hj' : j < n - (k + 1) := hj
    rw [hF, hab _ (by omega)]
    have := (gx (4 * j + l) (by omega)).2
    rw [show (4 * j + l) / 4 = j by omega, show (4 * j + l) % 4 = l by omega] at this
    show _ = (zd_cp n o).getD ((zd_cp n o).idxOf (F (4 * (zd_cp n o).getD ((4 * j + l) / 4) 0 + (4 * j + l) % 4))) 0
    rw [show (4 * j + l) / 4 = j by omega, show (4 * j + l) % 4 = l by omega]
    exact this.symm
end
section
/-! counts of actions -/
def zd_hb (c : Nat) (sz rl : Nat → Nat) (n : Nat) (F : Nat → Nat) : Bool :=
  decide (∀ k, k < c → ∀ p, p < n → za_wk F (fun i => rl (8 * k + i)) (sz k) p = p)
theorem zd_hb_iff {c : Nat} {sz rl : Nat → Nat} {n : Nat} {F : Nat → Nat} : zd_hb c sz rl n F = true ↔ za_hold c sz rl n F := by
  unfold zd_hb za_hold
  exact decide_eq_true_iff
def zd_H (c : Nat) (sz rl : Nat → Nat) (n : Nat) : Nat := (zd_A n).countP fun x => zd_hb c sz rl n (zd_F n x.1 x.2)
theorem zd_fm_r {β : Type} (q : β → Bool) (f : Nat → List β) : ∀ n, ((List.range n).flatMap f).countP q = za_sm (fun k => (f k).countP q) n := by
  intro n
  induction n with
  | zero => rfl
  | succ n ih =>
    rw [List.range_succ, List.flatMap_append, List.countP_append, ih]
    show _ = za_sm _ n + _
    simp
theorem zd_fm_c {α β : Type} (q : β → Bool) (f : α → List β) (r : α → Bool) (C : Nat) : ∀ l : List α, (∀ a, a ∈ l → (f a).countP q = if r a = true then C else 0) → (l.flatMap f).countP q = l.countP r * C := by
  intro l
  induction l with
  | nil => intro _; rw [List.countP_nil, Nat.zero_mul]; rfl
  | cons a l ih =>
    intro h
    rw [List.flatMap_cons, List.countP_append, ih fun b hb => h b (List.mem_cons_of_mem _ hb), h a List.mem_cons_self, List.countP_cons, Nat.add_mul]
    by_cases z : r a = true
    · rw [if_pos z, if_pos z]; omega
    · rw [if_neg z, if_neg z]; omega
theorem zd_fm_k {α β : Type} (q : β → Bool) (f : α → List β) (C : Nat) (l : List α) (h : ∀ a, a ∈ l → (f a).countP q = C) : (l.flatMap f).countP q = l.length * C := by
  have := zd_fm_c q f (fun _ => true) C l fun a ha => by rw [h a ha, if_pos rfl]
  rw [List.countP_true] at this
  exact this
theorem zd_Tu_cnt (n : Nat) (rT : Nat → Nat → Bool) (rG : Nat → Nat × Nat → Bool) : (zd_Tu n).countP (fun y => rT y.1 y.2.2.1 && rG y.1 y.2.2.2) =
    za_sm (fun k => (zd_ij n k).length * ((za_TL 0 zd_nil zd_nil (k + 1)).countP (rT k) * (zd_A (n - (k + 1))).countP (rG k))) n := by
  unfold zd_Tu
  rw [zd_fm_r]
  refine zc_sm_c n fun k _ => ?_
  refine zd_fm_k _ _ _ _ fun o _ => ?_
  refine zd_fm_c _ _ (rT k) _ _ fun t _ => ?_
  rw [List.countP_map]
  by_cases z : rT k t = true
  · rw [if_pos z]
    refine List.countP_congr fun g _ => ?_
    show (rT k t && rG k g) = true ↔ _
    rw [z, Bool.true_and]
  · rw [if_neg z]
    refine List.countP_eq_zero.mpr fun g _ => ?_
    show ¬ (rT k t && rG k g) = true
    rw [Bool.and_eq_true]
    exact fun y => z y.1
theorem zd_ij_len : ∀ n, n < 6 → ∀ k, k < n → (zd_ij n k).length = zd_or n k := by decide +kernel
def zd_fa (n : Nat) : Nat := if n ≤ 1 then 1 else if n = 2 then 2 else if n = 3 then 6 else if n = 4 then 24 else 120
theorem zd_P_len : ∀ n, n < 6 → (zd_P n).length = zd_fa n := by decide +kernel
theorem zd_num : ∀ n, n < 6 → 0 < n → za_sm (fun k => zd_or n k * (za_N (k + 1) * (zd_fa (n - (k + 1)) * zd_fa (n - (k + 1))))) n ≤ zd_fa n * zd_fa n := by decide +kernel
theorem zd_Tu_len {n : Nat} (h1 : 0 < n) (hn : n ≤ 5) : (zd_Tu n).length ≤ (zd_A n).length := by
  have e := zd_Tu_cnt n (fun _ _ => true) (fun _ _ => true)
  simp only [Bool.and_self, List.countP_true] at e
  rw [e, zd_A_len, zd_P_len n (by omega)]
  refine Nat.le_trans (za_sm_le n fun k hk => ?_) (zd_num n (by omega) h1)
  rw [zd_ij_len n (by omega) k hk, zd_A_len, zd_P_len (n - (k + 1)) (by omega)]
  exact Nat.mul_le_mul_left _ (Nat.mul_le_mul_right _ (za_TL4' (by omega) (by omega)))
theorem zd_TLc {c : Nat} {sz rl : Nat → Nat} {k : Nat} (h1 : 0 < k) (hk : k ≤ 5) (hrl : ∀ i, rl i < 4) : (za_TL 0 zd_nil zd_nil k).countP (fun t => zd_hb c sz rl k (za_F t)) = (za_TL c sz rl k).length := by
  have hz : ∀ i, zd_nil i < 4 := fun i => by show 0 < 4; omega
  rw [List.countP_eq_length_filter]
  have e : (((za_TL 0 zd_nil zd_nil k).filter fun t => zd_hb c sz rl k (za_F t)).map fun x => za_k5 k (za_F x)) = ((za_TL c sz rl k).map fun x => za_k5 k (za_F x)) := by
    refine za_srt_eq _ _ (List.Pairwise.sublist (List.Sublist.map _ List.filter_sublist) (za_TL5 h1 hk hz)) (za_TL5 h1 hk hrl) fun y => ?_
    rw [List.mem_map, List.mem_map]
    constructor
    · rintro ⟨x, hx, e⟩
      obtain ⟨hx1, hx2⟩ := List.mem_filter.mp hx
      obtain ⟨⟨a1, a2, _⟩, _⟩ := za_TL1 h1 hk hz hx1
      obtain ⟨x', b1, b2⟩ := za_TL2 h1 hk (F := za_F x) ⟨a1, a2, zd_hb_iff.mp hx2⟩
      refine ⟨x', b1, ?_⟩
      rw [← e]
      exact za_pk_c _ fun j hj => by have := b2 j hj; unfold za_F at *; omega
    · rintro ⟨x, hx, e⟩
      obtain ⟨⟨a1, a2, a3⟩, _⟩ := za_TL1 h1 hk hrl hx
      obtain ⟨x', b1, b2⟩ := za_TL2 (c := 0) (sz := zd_nil) (rl := zd_nil) h1 hk (F := za_F x) ⟨a1, a2, fun k hk => absurd hk (Nat.not_lt_zero k)⟩
      have eq : ∀ q, q < 4 * k → za_F x' q = za_F x q := fun q hq => by have := b2 q hq; unfold za_F at *; omega
      refine ⟨x', List.mem_filter.mpr ⟨b1, zd_hb_iff.mpr fun i hi p hp => ?_⟩, ?_⟩
      · have key : ∀ m, za_wk (za_F x') (fun j => rl (8 * i + j)) m p = za_wk (za_F x) (fun j => rl (8 * i + j)) m p := by
          intro m
          induction m with
          | zero => rfl
          | succ m ih =>
            show za_F x' (4 * za_wk (za_F x') _ m p + rl (8 * i + m)) = za_F x (4 * za_wk (za_F x) _ m p + rl (8 * i + m))
            rw [ih]
            have := za_wk_lt a1.1 (w := fun j => rl (8 * i + j)) (fun j => hrl _) hp m
            have := hrl (8 * i + m)
            exact eq _ (by omega)
        rw [key]
        exact a3 i hi p hp
      · rw [← e]
        exact za_pk_c _ eq
  have l := congrArg List.length e
  rw [List.length_map, List.length_map] at l
  exact l
/-- the number of actions by the numbers of tables and of smaller actions -/
theorem zd_rec {c : Nat} {sz rl : Nat → Nat} {n : Nat} (h1 : 0 < n) (hn : n ≤ 5) (hrl : ∀ i, rl i < 4) :
    zd_H c sz rl n = za_sm (fun k => zd_or n k * ((za_TL c sz rl (k + 1)).length * zd_H c sz rl (n - (k + 1)))) n := by
  unfold zd_H
  rw [zd_cnt (zd_D n) (fun x => zd_hb c sz rl n (zd_F n x.1 x.2)) (fun y => zd_hb c sz rl (y.1 + 1) (za_F y.2.2.1) && zd_hb c sz rl (n - (y.1 + 1)) (zd_F (n - (y.1 + 1)) y.2.2.2.1 y.2.2.2.2)) (fun x y h => ?_) (fun x x' y h h' => zd_D_inj x x' y h h') (zd_A n) (zd_Tu n) (zd_A_nd n) (fun x hx => zd_D_tot h1 hn hx) (zd_Tu_len h1 hn)]
  · rw [zd_Tu_cnt n (fun k t => zd_hb c sz rl (k + 1) (za_F t)) (fun k g => zd_hb c sz rl (n - (k + 1)) (zd_F (n - (k + 1)) g.1 g.2))]
    refine zc_sm_c n fun k hk => ?_
    rw [zd_ij_len n (by omega) k hk, zd_TLc (by omega) (by omega) hrl]
  · have k := zd_D_hold (c := c) (sz := sz) hrl h
    rw [Bool.eq_iff_iff, Bool.and_eq_true, zd_hb_iff, zd_hb_iff, zd_hb_iff]
    exact k
theorem zd_H0 (c : Nat) (sz rl : Nat → Nat) : zd_H c sz rl 0 = 1 := by
  unfold zd_H
  have e : zd_A 0 = [(0, 0)] := by decide +kernel
  have z : zd_hb c sz rl 0 (zd_F 0 0 0) = true := zd_hb_iff.mpr fun k _ p hp => absurd hp (Nat.not_lt_zero p)
  rw [e, List.countP_cons, List.countP_nil, if_pos z]
/-! counts as loops make them -/
theorem zd_tk {α : Type} (l : List α) (d : α) {m : Nat} (h : m < l.length) : l.take (m + 1) = l.take m ++ [l.getD m d] := by
  rw [List.take_succ, List.getD_eq_getElem?_getD, List.getElem?_eq_getElem h]
  rfl
theorem zd_cP {α : Type} (p : α → Bool) (l : List α) (d : α) : l.countP p = zc_cn (fun i => p (l.getD i d)) l.length := by
  have key : ∀ m, m ≤ l.length → (l.take m).countP p = zc_cn (fun i => p (l.getD i d)) m := by
    intro m
    induction m with
    | zero => intro _; rfl
    | succ m ih =>
      intro h
      rw [zd_tk l d (by omega), List.countP_append, ih (by omega), zc_cn_s, List.countP_cons, List.countP_nil, Nat.zero_add]
  have := key l.length (Nat.le_refl _)
  rw [List.take_length] at this
  exact this
theorem zd_cF {α β : Type} (q : β → Bool) (f : α → List β) (l : List α) (d : α) : (l.flatMap f).countP q = za_sm (fun i => (f (l.getD i d)).countP q) l.length := by
  have key : ∀ m, m ≤ l.length → ((l.take m).flatMap f).countP q = za_sm (fun i => (f (l.getD i d)).countP q) m := by
    intro m
    induction m with
    | zero => intro _; rfl
    | succ m ih =>
      intro h
      rw [zd_tk l d (by omega), List.flatMap_append, List.countP_append, ih (by omega)]
      show _ = za_sm _ m + _
      rw [List.flatMap_cons, List.flatMap_nil, List.append_nil]
  have := key l.length (Nat.le_refl _)
  rw [List.take_length] at this
  exact this
theorem zd_H_loop (c : Nat) (sz rl : Nat → Nat) (n : Nat) : zd_H c sz rl n = za_sm (fun a => zc_cn (fun b => zd_hb c sz rl n (zd_F n ((zd_P n).getD a 0) ((zd_P n).getD b 0))) (zd_P n).length) (zd_P n).length := by
  unfold zd_H zd_A
  rw [zd_cF _ _ _ 0]
  refine zc_sm_c _ fun a _ => ?_
  rw [List.countP_map, zd_cP _ _ 0]
  rfl
end
section
/-! small facts for the walks -/
def zx_n (f : Nat → Nat) : Nat → Int32 := fun i => nI (f i)
def zx_u (f : Nat → Nat) (k v : Nat) : Nat → Nat := fun j => if j = k then v else f j
theorem zx_at (f : Nat → Nat) {k : Nat} (hk : k < 2 ^ 31) : zx_n f (nI k).toNatClampNeg = nI (f k) := by rw [nI_clamp hk]; rfl
theorem zx_un (f : Nat → Nat) (k v : Nat) : upd (zx_n f) k (nI v) = zx_n (zx_u f k v) := by
  funext j
  show (if j = k then nI v else nI (f j)) = nI (if j = k then v else f j)
  by_cases h : j = k
  · rw [if_pos h, if_pos h]
  · rw [if_neg h, if_neg h]
theorem zx_m4 (k i : Nat) : (4 : Int32) * nI k + nI i = nI (4 * k + i) := by rw [show (4 : Int32) = nI 4 from rfl, pk_mul, nI_add]
theorem zx_m8 (k i : Nat) : (8 : Int32) * nI k + nI i = nI (8 * k + i) := by rw [show (8 : Int32) = nI 8 from rfl, pk_mul, nI_add]
theorem zx_m5 (k i : Nat) : (5 : Int32) * nI k + nI i = nI (5 * k + i) := by rw [show (5 : Int32) = nI 5 from rfl, pk_mul, nI_add]
theorem zx_c4 (k : Nat) : (4 : Int32) * nI k = nI (4 * k) := by rw [show (4 : Int32) = nI 4 from rfl, pk_mul]
theorem zx_c8 (k : Nat) : (8 : Int32) * nI k = nI (8 * k) := by rw [show (8 : Int32) = nI 8 from rfl, pk_mul]
theorem zx_c5 (k : Nat) : (5 : Int32) * nI k = nI (5 * k) := by rw [show (5 : Int32) = nI 5 from rfl, pk_mul]
theorem zx_fl : ∀ l, l < 4 → l ^^^ 1 = l + 1 - 2 * (l % 2) := by decide
theorem zx_bk {c : Nat} (i : Nat) (hc : c < 2 ^ 20) : (4 : Int32) * nI i + ((nI c &&& 3) ^^^ 1) = nI (za_bk c i) := by
  rw [pk_andN (m := 3) (by omega) 2 (by decide), show (1 : Int32) = nI 1 from rfl, nx_xor, zx_m4]
  exact congrArg nI (by rw [zx_fl _ (by omega)]; rfl)
theorem zx_b0 : ∀ v, v < 64 → (nI v).toInt8.toInt32 = nI v := by decide +kernel
theorem zx_nb {v : Nat} (h : v < 64) : vp_nar .byte (nI v) = nI v := by rw [vp_nar_byte]; exact zx_b0 v h
theorem zx_nb2 {v : Nat} (h : v < 64) : vp_nar .byte (nI v).toInt8.toInt32 = nI v := by rw [zx_b0 v h]; exact zx_nb h
theorem zx_nbm : vp_nar .byte (-1) = -1 := by rw [vp_nar_byte]; decide
theorem zx_e0 : nI 0 - 1 = (-1 : Int32) := by decide
theorem zx_neg : (-1 : Int32) < 0 := by decide
theorem zx_u1 {a : Nat → Int32} {k j : Nat} {x : Int32} : upd a k x j = if j = k then x else a j := rfl
theorem zx_pw0 {t : Nat} {w : Nat → Nat} {p m : Nat} (h : za_pw t w m p = 0) : ∀ d, za_pw t w (m + d) p = 0 := by
  intro d
  induction d with
  | zero => exact h
  | succ d ih =>
    show (if za_pw t w (m + d) p = 0 then 0 else _) = 0
    rw [if_pos ih]
theorem zx_pw_le {t pts : Nat} {w : Nat → Nat} (hd : ∀ q, za_dg t q ≤ pts) {p : Nat} (hp : p < pts) : ∀ m, za_pw t w m p ≤ pts := by
  intro m
  induction m with
  | zero => exact hp
  | succ m ih =>
    show (if za_pw t w m p = 0 then 0 else za_dg t (4 * (za_pw t w m p - 1) + w m)) ≤ pts
    split
    · omega
    · exact hd _
section
variable {c t pts : Nat} {sz rl : Nat → Nat} {f_size f_relators f_points f_depth f_foundFor f_found : Int32} {a_word a_relatorSize a_relator a_table a_tried a_grew a_chosen a_other a_order a_place a_many a_actionsOf : Nat → Int32} {a_tables : Nat → Int64}
theorem zx_follow_l {post : Int32 → Prop} {k p : Nat} (hk : k < 4) (hsz : ∀ i, sz i ≤ 8) (hrl : ∀ i, rl i < 4) (h5 : pts ≤ 5) (ht : ∀ q, q < 4 * pts → a_table q = nI (za_dg t q) - 1) (hd : ∀ q, za_dg t q ≤ pts) (hp : p < pts) :
    ∀ d i, i + d = sz k → post (nI (za_pw t (fun i => rl (8 * k + i)) (sz k) p) - 1) →
      wX_follow_5 post (nI k) f_size f_relators f_points f_depth f_foundFor f_found a_word (zx_n sz) (zx_n rl) a_table a_tried a_grew a_chosen a_tables a_other a_order a_place a_many a_actionsOf (d + 1) (nI (za_pw t (fun i => rl (8 * k + i)) i p) - 1) (nI i) := by
  have hs := hsz k
  intro d
  induction d with
  | zero =>
    intro i hi K
    have e : i = sz k := by omega
    subst e
    exact And.intro (vp_in_nI hk (by omega)) (br_t (by rw [zx_at _ (by omega)]; exact nI_le (Nat.le_refl _) (by omega)) K)
  | succ d ih =>
    intro i hi K
    refine And.intro (vp_in_nI hk (by omega)) (br_f (by rw [zx_at _ (by omega)]; exact nI_ge (by omega) (by omega)) ?_)
    rcases Nat.eq_zero_or_pos (za_pw t (fun i => rl (8 * k + i)) i p) with z | z
    · rw [z, zx_e0]
      refine br_t zx_neg ?_
      have y := zx_pw0 z (sz k - i)
      rw [show i + (sz k - i) = sz k by omega] at y
      rw [y, zx_e0] at K
      exact K
    · obtain ⟨a, ha⟩ : ∃ a, za_pw t (fun i => rl (8 * k + i)) i p = a + 1 := ⟨_, (Nat.sub_add_cancel z).symm⟩
      have hle := zx_pw_le (w := fun i => rl (8 * k + i)) hd hp i
      have hr := hrl (8 * k + i)
      rw [ha, nI_pred]
      refine br_f (nI_pos (by omega)) ⟨?_, ?_, ?_⟩
      · rw [zx_m8]; exact vp_in_nI (by omega) (by omega)
      · rw [zx_m8, zx_at _ (by omega), zx_m4]; exact vp_in_nI (by omega) (by omega)
      · refine nm_r (e' := nI (za_pw t (fun i => rl (8 * k + i)) (i + 1) p) - 1) ?_ (nm_r (e' := nI (i + 1)) (nI_1 i) (ih (i + 1) (by omega) K))
        rw [zx_m8, zx_at _ (by omega), zx_m4, nI_clamp (by omega), ht _ (by omega)]
        show _ = nI (if za_pw t (fun i => rl (8 * k + i)) i p = 0 then 0 else za_dg t (4 * (za_pw t (fun i => rl (8 * k + i)) i p - 1) + rl (8 * k + i))) - 1
        rw [if_neg (by omega), ha, Nat.add_sub_cancel]
theorem zx_follow {post : Int32 → Prop} {k p : Nat} (hk : k < 4) (hsz : ∀ i, sz i ≤ 8) (hrl : ∀ i, rl i < 4) (h5 : pts ≤ 5) (ht : ∀ q, q < 4 * pts → a_table q = nI (za_dg t q) - 1) (hd : ∀ q, za_dg t q ≤ pts) (hp : p < pts)
    (K : post (nI (za_pw t (fun i => rl (8 * k + i)) (sz k) p) - 1)) : wpX_follow post (f_size, f_relators, f_points, f_depth, f_foundFor, f_found, a_word, zx_n sz, zx_n rl, a_table, a_tried, a_grew, a_chosen, a_tables, a_other, a_order, a_place, a_many, a_actionsOf) (nI k) (nI p) := by
  refine Exists.intro (sz k + 1) ?_
  have e : nI (za_pw t (fun i => rl (8 * k + i)) 0 p) - 1 = nI p := nI_pred p
  rw [← e]
  exact zx_follow_l hk hsz hrl h5 ht hd hp (sz k) 0 (by omega) K
def zx_ok (sz rl : Nat → Nat) (t pts j : Nat) : Prop :=
  za_pw t (fun i => rl (8 * (j / pts) + i)) (sz (j / pts)) (j % pts) = 0 ∨ za_pw t (fun i => rl (8 * (j / pts) + i)) (sz (j / pts)) (j % pts) = j % pts + 1
theorem zx_ok_iff (h0 : 0 < pts) : za_fit c sz rl t pts = true ↔ ∀ j, j < c * pts → zx_ok sz rl t pts j := by
  rw [za_fit_iff]
  constructor
  · intro h j hj
    exact h (j / pts) ((Nat.div_lt_iff_lt_mul h0).mpr hj) (j % pts) (Nat.mod_lt _ h0)
  · intro h k hk p hp
    have hj : pts * k + p < c * pts := by
      have : pts * (k + 1) ≤ pts * c := Nat.mul_le_mul_left _ hk
      rw [Nat.mul_add] at this
      rw [Nat.mul_comm c]
      omega
    have e1 : (pts * k + p) / pts = k := by rw [Nat.mul_add_div h0, Nat.div_eq_of_lt hp]; omega
    have e2 : (pts * k + p) % pts = p := by rw [Nat.mul_add_mod]; exact Nat.mod_eq_of_lt hp
    have := h _ hj
    unfold zx_ok at this
    rw [e1, e2] at this
    exact this
theorem zx_fits_l {post : Int32 → Prop} (hc : c ≤ 4) (hsz : ∀ i, sz i ≤ 8) (hrl : ∀ i, rl i < 4) (h0 : 0 < pts) (h5 : pts ≤ 5) (ht : ∀ q, q < 4 * pts → a_table q = nI (za_dg t q) - 1) (hd : ∀ q, za_dg t q ≤ pts)
    (K : post (if za_fit c sz rl t pts = true then 1 else 0)) :
    ∀ d q, q + d = c * pts → (∀ j, j < q → zx_ok sz rl t pts j) → wX_fits_2 post f_size (nI c) (nI pts) f_depth f_foundFor f_found a_word (zx_n sz) (zx_n rl) a_table a_tried a_grew a_chosen a_tables a_other a_order a_place a_many a_actionsOf (d + 1) (nI q) := by
  have hcp : c * pts ≤ 4 * 5 := Nat.mul_le_mul hc h5
  intro d
  induction d with
  | zero =>
    intro q hq H
    refine br_t (by rw [pk_mul]; exact nI_le (by omega) (by omega)) ?_
    rw [if_pos ((zx_ok_iff h0).mpr fun j hj => H j (by omega))] at K
    exact K
  | succ d ih =>
    intro q hq H
    have hk : q / pts < c := (Nat.div_lt_iff_lt_mul h0).mpr (by omega)
    have hm : q % pts < pts := Nat.mod_lt _ h0
    refine br_f (by rw [pk_mul]; exact nI_ge (by omega) (by omega)) ⟨nI_ne0 h0 (by omega), nm_r (e' := nI (q % pts)) (pk_rem (by omega) h0 (by omega)) ⟨nI_ne0 h0 (by omega), ?_⟩⟩
    rw [pk_div (by omega) h0 (by omega)]
    refine zx_follow (by omega) hsz hrl h5 ht hd hm ?_
    have hle := zx_pw_le (w := fun i => rl (8 * (q / pts) + i)) hd hm (sz (q / pts))
    by_cases z : zx_ok sz rl t pts q
    · have IH := ih (q + 1) (by omega) fun j hj => by
        rcases Nat.lt_or_ge j q with y | y
        · exact H j y
        · have e : j = q := by omega
          subst e; exact z
      unfold zx_ok at z
      rcases z with z | z
      · rw [z, zx_e0]
        exact br_t zx_neg (nm_r (e' := nI (q + 1)) (nI_1 q) IH)
      · rw [z, nI_pred]
        exact br_f (nI_pos (by omega)) (br_t rfl (nm_r (e' := nI (q + 1)) (nI_1 q) IH))
    · have hf : ¬ za_fit c sz rl t pts = true := fun y => z ((zx_ok_iff h0).mp y q (by omega))
      rw [if_neg hf] at K
      unfold zx_ok at z
      obtain ⟨a, ha⟩ : ∃ a, za_pw t (fun i => rl (8 * (q / pts) + i)) (sz (q / pts)) (q % pts) = a + 1 := ⟨za_pw t (fun i => rl (8 * (q / pts) + i)) (sz (q / pts)) (q % pts) - 1, by omega⟩
      rw [ha, nI_pred]
      exact br_f (nI_pos (by omega)) (br_f (fun e => z (Or.inr (by rw [ha, (nI_eq (by omega) (by omega)).mp e]))) K)
theorem zx_fits {post : Int32 → Prop} (hc : c ≤ 4) (hsz : ∀ i, sz i ≤ 8) (hrl : ∀ i, rl i < 4) (h0 : 0 < pts) (h5 : pts ≤ 5) (ht : ∀ q, q < 4 * pts → a_table q = nI (za_dg t q) - 1) (hd : ∀ q, za_dg t q ≤ pts)
    (K : post (if za_fit c sz rl t pts = true then 1 else 0)) : wpX_fits post (f_size, nI c, nI pts, f_depth, f_foundFor, f_found, a_word, zx_n sz, zx_n rl, a_table, a_tried, a_grew, a_chosen, a_tables, a_other, a_order, a_place, a_many, a_actionsOf) :=
  Exists.intro (c * pts + 1) (zx_fits_l hc hsz hrl h0 h5 ht hd K (c * pts) 0 (by omega) fun j hj => absurd hj (Nat.not_lt_zero j))
theorem zx_fo_l {post : Int32 → Prop} (h5 : pts ≤ 5) (ht : ∀ q, q < 4 * pts → a_table q = nI (za_dg t q) - 1) :
    ∀ d q, q + d = 4 * pts → post (if za_fo t d q = 4 * pts then -1 else nI (za_fo t d q)) → wX_firstOpen_2 post f_size f_relators (nI pts) f_depth f_foundFor f_found a_word a_relatorSize a_relator a_table a_tried a_grew a_chosen a_tables a_other a_order a_place a_many a_actionsOf (d + 1) (nI q) := by
  intro d
  induction d with
  | zero =>
    intro q hq K
    rw [if_pos (show za_fo t 0 q = 4 * pts by show q = _; omega)] at K
    exact br_t (by rw [zx_c4]; exact nI_le (by omega) (by omega)) K
  | succ d ih =>
    intro q hq K
    refine br_f (by rw [zx_c4]; exact nI_ge (by omega) (by omega)) ⟨vp_in_nI (by omega) (by omega), ?_⟩
    rw [nI_clamp (by omega), ht q (by omega)]
    have hl := za_dg_lt t q
    by_cases z : za_dg t q = 0
    · have e : za_fo t (d + 1) q = q := if_pos z
      rw [e, if_neg (by omega)] at K
      rw [z, zx_e0]
      exact br_f (by decide) K
    · have e : za_fo t (d + 1) q = za_fo t d (q + 1) := if_neg z
      rw [e] at K
      obtain ⟨a, ha⟩ : ∃ a, za_dg t q = a + 1 := ⟨za_dg t q - 1, by omega⟩
      rw [ha, nI_pred]
      exact br_t (nI_pos' (by omega)) (nm_r (e' := nI (q + 1)) (nI_1 q) (ih (q + 1) (by omega) K))
theorem zx_firstOpen {post : Int32 → Prop} (h5 : pts ≤ 5) (ht : ∀ q, q < 4 * pts → a_table q = nI (za_dg t q) - 1)
    (K : post (if za_fo t (4 * pts) 0 = 4 * pts then -1 else nI (za_fo t (4 * pts) 0))) : wpX_firstOpen post (f_size, f_relators, nI pts, f_depth, f_foundFor, f_found, a_word, a_relatorSize, a_relator, a_table, a_tried, a_grew, a_chosen, a_tables, a_other, a_order, a_place, a_many, a_actionsOf) :=
  Exists.intro (4 * pts + 1) (zx_fo_l h5 ht (4 * pts) 0 (by omega) K)
theorem zx_op_l {post : SX → Prop} {p : Nat} (hp : p < 5) : ∀ d l (tb : Nat → Int32), l + d = 4 → post (f_size, f_relators, f_points, f_depth, f_foundFor, f_found, a_word, a_relatorSize, a_relator, fun j => if 4 * p + l ≤ j ∧ j < 4 * p + 4 then -1 else tb j, a_tried, a_grew, a_chosen, a_tables, a_other, a_order, a_place, a_many, a_actionsOf) →
    wX_openPoint_2 post (nI p) f_size f_relators f_points f_depth f_foundFor f_found (d + 1) (nI l) a_word a_relatorSize a_relator tb a_tried a_grew a_chosen a_tables a_other a_order a_place a_many a_actionsOf := by
  intro d
  induction d with
  | zero =>
    intro l tb hl K
    have e : (fun j => if 4 * p + l ≤ j ∧ j < 4 * p + 4 then (-1 : Int32) else tb j) = tb := by
      funext j
      exact if_neg (by omega)
    rw [e] at K
    exact br_t (nI_le (a := 4) (by omega) (by omega)) K
  | succ d ih =>
    intro l tb hl K
    refine br_f (nI_ge (b := 4) (by omega) (by omega)) ⟨?_, ?_⟩
    · rw [zx_m4]; exact vp_in_nI (by omega) (by omega)
    · refine nm_r (e' := upd tb (4 * p + l) (-1)) ?_ (nm_r (e' := nI (l + 1)) (nI_1 l) (ih (l + 1) _ (by omega) ?_))
      · rw [zx_m4, nI_clamp (by omega), zx_nbm]
      · have e : (fun j => if 4 * p + (l + 1) ≤ j ∧ j < 4 * p + 4 then (-1 : Int32) else upd tb (4 * p + l) (-1) j) = (fun j => if 4 * p + l ≤ j ∧ j < 4 * p + 4 then -1 else tb j) := by
          funext j
          rw [zx_u1]
          by_cases y : j = 4 * p + l
          · rw [if_neg (by omega), if_pos y, if_pos (by omega)]
          · rw [if_neg y]
            by_cases x : 4 * p + l ≤ j ∧ j < 4 * p + 4
            · rw [if_pos x, if_pos (by omega)]
            · rw [if_neg x, if_neg (by omega)]
        rw [e]
        exact K
theorem zx_openPoint {post : SX → Prop} {p : Nat} (hp : p < 5) (K : post (f_size, f_relators, f_points, f_depth, f_foundFor, f_found, a_word, a_relatorSize, a_relator, fun j => if 4 * p ≤ j ∧ j < 4 * p + 4 then -1 else a_table j, a_tried, a_grew, a_chosen, a_tables, a_other, a_order, a_place, a_many, a_actionsOf)) : wpX_openPoint post (f_size, f_relators, f_points, f_depth, f_foundFor, f_found, a_word, a_relatorSize, a_relator, a_table, a_tried, a_grew, a_chosen, a_tables, a_other, a_order, a_place, a_many, a_actionsOf) (nI p) :=
  Exists.intro 5 (zx_op_l hp 4 0 a_table rfl K)
end
end
section
theorem zx_sh {c0 : Nat} (h : c0 < 2 ^ 31) : nI c0 >>> ((2 : Int32) &&& 31) = nI (c0 / 4) := pk_shrN h _ 2 (by decide)
theorem zx_bool0 : vp_nar .boolean 0 = 0 := rfl
theorem zx_bool1 : vp_nar .boolean 1 = 1 := rfl
section
variable {t pts n : Nat} {f_size f_relators f_points f_depth f_foundFor f_found : Int32} {a_word a_relatorSize a_relator a_table a_tried a_grew a_chosen a_other a_order a_place a_many a_actionsOf : Nat → Int32} {a_tables : Nat → Int64}
theorem zx_put48 {post : SX → Prop} {c0 i d : Nat} (hc : c0 < 20) (hi : i < 5) (hd : d < 20)
    (K : post (f_size, f_relators, f_points, nI (d + 1), f_foundFor, f_found, a_word, a_relatorSize, a_relator, upd (upd a_table c0 (nI i)) (za_bk c0 i) (nI (c0 / 4)), upd a_tried d (nI i), a_grew, upd a_chosen d (nI c0), a_tables, a_other, a_order, a_place, a_many, a_actionsOf)) : wX_put_48 post (nI c0) (nI i) f_size f_relators f_points (nI d) f_foundFor f_found a_word a_relatorSize a_relator a_table a_tried a_grew a_chosen a_tables a_other a_order a_place a_many a_actionsOf := by
  have hb := za_bk_lt (c := c0) hi
  refine And.intro (vp_in_nI hc (by omega)) (nm_r (e' := upd a_table c0 (nI i)) ?_ (nm_r (e' := nI (za_bk c0 i)) (zx_bk i (by omega)) ⟨vp_in_nI hb (by omega), nm_r (e' := upd (upd a_table c0 (nI i)) (za_bk c0 i) (nI (c0 / 4))) ?_
    ⟨vp_in_nI hd (by omega), nm_r (e' := upd a_chosen d (nI c0)) ?_ ⟨vp_in_nI hd (by omega), nm_r (e' := upd a_tried d (nI i)) ?_ (nm_r (e' := nI (d + 1)) (nI_1 d) K)⟩⟩⟩))
  · rw [nI_clamp (by omega), zx_nb2 (by omega)]
  · rw [nI_clamp (by omega), zx_sh (by omega), zx_nb2 (by omega)]
  · rw [nI_clamp (by omega), zx_nb2 (by omega)]
  · rw [nI_clamp (by omega), zx_nb2 (by omega)]
theorem zx_put_tb {tb : Nat → Int32} {c0 i P : Nat} (hc : za_dg t c0 = 0) (hb : za_dg t (za_bk c0 i) = 0) (hi : i < 5) (h7 : c0 < 20) (ht : ∀ q, q < P → tb q = nI (za_dg t q) - 1) :
    ∀ q, q < P → upd (upd tb c0 (nI i)) (za_bk c0 i) (nI (c0 / 4)) q = nI (za_dg (za_put t c0 i) q) - 1 := by
  intro q hq
  rw [za_dg_put hc hb (by omega) (by omega), zx_u1, zx_u1]
  by_cases e1 : q = za_bk c0 i
  · rw [if_pos e1, if_pos e1, nI_pred]
  · rw [if_neg e1, if_neg e1]
    by_cases e2 : q = c0
    · rw [if_pos e2, if_pos e2, nI_pred]
    · rw [if_neg e2, if_neg e2, ht q hq]
theorem zx_put {post : SX → Prop} {c0 i d : Nat} (h5 : pts ≤ 5) (hc0 : c0 < 4 * pts) (hip : i ≤ pts) (hi : i < 5) (hd : d < 20) (hc : za_dg t c0 = 0) (hb : za_dg t (za_bk c0 i) = 0) (hz : ∀ q, za_dg t q ≠ 0 → q < 4 * pts)
    (ht : ∀ q, q < 4 * pts → a_table q = nI (za_dg t q) - 1)
    (K : ∀ tb : Nat → Int32, (∀ q, q < 4 * za_pt pts i → tb q = nI (za_dg (za_put t c0 i) q) - 1) → post (f_size, f_relators, nI (za_pt pts i), nI (d + 1), f_foundFor, f_found, a_word, a_relatorSize, a_relator, tb, upd a_tried d (nI i), upd a_grew d (if i = pts then 1 else 0), upd a_chosen d (nI c0), a_tables, a_other, a_order, a_place, a_many, a_actionsOf)) :
    wpX_put post (f_size, f_relators, nI pts, nI d, f_foundFor, f_found, a_word, a_relatorSize, a_relator, a_table, a_tried, a_grew, a_chosen, a_tables, a_other, a_order, a_place, a_many, a_actionsOf) (nI c0) (nI i) := by
  by_cases e : i = pts
  · have ep : za_pt pts i = pts + 1 := if_pos e
    rw [if_pos e, ep] at K
    refine br_t (congrArg nI e) (And.intro (vp_in_nI hd (by omega)) (nm_r (e' := upd a_grew d 1) (by rw [nI_clamp (by omega), zx_bool1]) (br_t (congrArg nI e) (zx_openPoint (by omega) ?_))))
    refine nm_r (e' := nI (pts + 1)) (nI_1 pts) (zx_put48 (by omega) hi hd (K _ (zx_put_tb hc hb hi (by omega) fun q hq => ?_)))
    by_cases z : 4 * pts ≤ q ∧ q < 4 * pts + 4
    · rw [if_pos z]
      have : za_dg t q = 0 := Classical.byContradiction fun y => by have := hz q y; omega
      rw [this, zx_e0]
    · rw [if_neg z]
      exact ht q (by omega)
  · have ep : za_pt pts i = pts := if_neg e
    rw [if_neg e, ep] at K
    have ne : ¬ nI i = nI pts := fun z => e ((nI_eq (by omega) (by omega)).mp z)
    exact br_f ne (And.intro (vp_in_nI hd (by omega)) (nm_r (e' := upd a_grew d 0) (by rw [nI_clamp (by omega), zx_bool0]) (br_f ne (zx_put48 (by omega) hi hd (K _ (zx_put_tb hc hb hi (by omega) ht))))))
theorem zx_takeBack {post : Int32 → SX → Prop} {c0 i d : Nat} (h5 : pts ≤ 5) (hc0 : c0 < 4 * pts) (hip : i ≤ pts) (hi : i < 5) (hd : d < 20) (hc : za_dg t c0 = 0) (hb : za_dg t (za_bk c0 i) = 0)
    (ht : ∀ q, q < 4 * za_pt pts i → a_table q = nI (za_dg (za_put t c0 i) q) - 1) (hch : a_chosen d = nI c0) (htr : a_tried d = nI i) (hgr : a_grew d = if i = pts then 1 else 0)
    (K : ∀ tb : Nat → Int32, (∀ q, q < 4 * pts → tb q = nI (za_dg t q) - 1) → post (nI (i + 1)) (f_size, f_relators, nI pts, nI d, f_foundFor, f_found, a_word, a_relatorSize, a_relator, tb, a_tried, a_grew, a_chosen, a_tables, a_other, a_order, a_place, a_many, a_actionsOf)) :
    wpX_takeBack post (f_size, f_relators, nI (za_pt pts i), nI (d + 1), f_foundFor, f_found, a_word, a_relatorSize, a_relator, a_table, a_tried, a_grew, a_chosen, a_tables, a_other, a_order, a_place, a_many, a_actionsOf) := by
  have hbl := za_bk_lt (c := c0) hi
  have hp := (za_pt_ge pts i hip).1
  have tb : ∀ q, q < 4 * pts → upd (upd a_table c0 (-1)) (za_bk c0 i) (-1) q = nI (za_dg t q) - 1 := by
    intro q hq
    rw [zx_u1, zx_u1]
    by_cases e1 : q = za_bk c0 i
    · rw [if_pos e1, e1, hb, zx_e0]
    · rw [if_neg e1]
      by_cases e2 : q = c0
      · rw [if_pos e2, e2, hc, zx_e0]
      · rw [if_neg e2, ht q (by omega), za_dg_put hc hb (by omega) (by omega), if_neg e1, if_neg e2]
  refine nm_r (e' := nI d) (nI_pred d) ⟨vp_in_nI hd (by omega), nm_r (e' := nI c0) (by rw [nI_clamp (by omega), hch]) ⟨vp_in_nI hd (by omega), nm_r (e' := nI i) (by rw [nI_clamp (by omega), htr]) (nm_r (e' := nI (za_bk c0 i)) (zx_bk i (by omega))
    ⟨vp_in_nI (by omega) (by omega), nm_r (e' := upd a_table c0 (-1)) (by rw [nI_clamp (by omega), zx_nbm]) ⟨vp_in_nI (by omega) (by omega), nm_r (e' := upd (upd a_table c0 (-1)) (za_bk c0 i) (-1)) (by rw [nI_clamp (by omega), zx_nbm]) ⟨vp_in_nI hd (by omega), ?_⟩⟩⟩)⟩⟩
  rw [nI_clamp (by omega), hgr, nI_1 i]
  by_cases e : i = pts
  · rw [if_pos e]
    have ep : za_pt pts i = pts + 1 := if_pos e
    rw [ep]
    exact br_f (by decide) (nm_r (e' := nI pts) (nI_pred pts) (K _ tb))
  · rw [if_neg e]
    have ep : za_pt pts i = pts := if_neg e
    rw [ep]
    exact br_t rfl (K _ tb)
theorem zx_nf_none {post : Int32 → Prop} {c0 f : Nat} (h5 : pts ≤ 5) (hn : n ≤ 5) (hc0 : c0 < 20) (hf : f ≤ pts + 1) (hz : ∀ q, za_dg t q ≠ 0 → q < 4 * pts) (ht : ∀ q, q < 4 * pts → a_table q = nI (za_dg t q) - 1)
    (H : ∀ j, f ≤ j → j < n → ¬ (j ≤ pts ∧ za_dg t (za_bk c0 j) = 0)) (hpn : pts ≤ n) (K : post (-1)) : wpX_nextFree post (f_size, f_relators, nI pts, f_depth, f_foundFor, f_found, a_word, a_relatorSize, a_relator, a_table, a_tried, a_grew, a_chosen, a_tables, a_other, a_order, a_place, a_many, a_actionsOf) (nI c0) (nI f) (nI n) := by
  have key : ∀ d j, j + d = pts + 1 → f ≤ j → wX_nextFree_3 post (nI c0) (nI f) (nI n) f_size f_relators (nI pts) f_depth f_foundFor f_found a_word a_relatorSize a_relator a_table a_tried a_grew a_chosen a_tables a_other a_order a_place a_many a_actionsOf (d + 1) (nI j) := by
    intro d
    induction d with
    | zero =>
      intro j hj hfj
      refine br_t (nI_le (by omega) (by omega)) ?_
      rcases Nat.lt_or_ge pts f with z | z
      · exact br_t (nI_lt z (by omega)) K
      · refine br_f (nI_nlt z (by omega)) (br_t (nI_le ?_ (by omega)) K)
        rcases Nat.lt_or_ge pts n with y | y
        · exact absurd ⟨Nat.le_refl _, Classical.byContradiction fun x => by have := hz _ x; unfold za_bk at this; omega⟩ (H pts z y)
        · exact y
    | succ d ih =>
      intro j hj hfj
      rcases Nat.lt_or_ge j pts with z | z
      · have hl := za_bk_lt (c := c0) z
        have hne : za_dg t (za_bk c0 j) ≠ 0 := fun y => H j hfj (by omega) ⟨by omega, y⟩
        obtain ⟨a, ha⟩ : ∃ a, za_dg t (za_bk c0 j) = a + 1 := ⟨za_dg t (za_bk c0 j) - 1, by omega⟩
        have h8 := za_dg_lt t (za_bk c0 j)
        refine br_f (nI_ge (by omega) (by omega)) ?_
        rw [zx_bk j (by omega), nI_clamp (by omega), ht _ hl, ha, nI_pred]
        exact ⟨vp_in_nI (by omega) (by omega), br_t (nI_pos' (by omega)) (nm_r (e' := nI (j + 1)) (nI_1 j) (ih (j + 1) (by omega) (by omega)))⟩
      · refine br_t (nI_le (by omega) (by omega)) ?_
        rcases Nat.lt_or_ge pts f with z' | z'
        · exact br_t (nI_lt z' (by omega)) K
        · refine br_f (nI_nlt z' (by omega)) (br_t (nI_le ?_ (by omega)) K)
          rcases Nat.lt_or_ge pts n with y | y
          · exact absurd ⟨Nat.le_refl _, Classical.byContradiction fun x => by have := hz _ x; unfold za_bk at this; omega⟩ (H pts z' y)
          · exact y
  exact Exists.intro (pts + 1 - f + 1) (key (pts + 1 - f) f (by omega) (Nat.le_refl _))
theorem zx_nf_some {post : Int32 → Prop} {c0 f i : Nat} (h5 : pts ≤ 5) (hn : n ≤ 5) (hc0 : c0 < 20) (hfi : f ≤ i) (hip : i ≤ pts) (hin : i < n) (hb : za_dg t (za_bk c0 i) = 0) (ht : ∀ q, q < 4 * pts → a_table q = nI (za_dg t q) - 1)
    (H : ∀ j, f ≤ j → j < i → za_dg t (za_bk c0 j) ≠ 0) (K : post (nI i)) : wpX_nextFree post (f_size, f_relators, nI pts, f_depth, f_foundFor, f_found, a_word, a_relatorSize, a_relator, a_table, a_tried, a_grew, a_chosen, a_tables, a_other, a_order, a_place, a_many, a_actionsOf) (nI c0) (nI f) (nI n) := by
  have key : ∀ d j, j + d = i → f ≤ j → wX_nextFree_3 post (nI c0) (nI f) (nI n) f_size f_relators (nI pts) f_depth f_foundFor f_found a_word a_relatorSize a_relator a_table a_tried a_grew a_chosen a_tables a_other a_order a_place a_many a_actionsOf (d + 1) (nI j) := by
    intro d
    induction d with
    | zero =>
      intro j hj hfj
      have e : j = i := by omega
      subst e
      rcases Nat.lt_or_ge j pts with z | z
      · have hl := za_bk_lt (c := c0) z
        refine br_f (nI_ge (by omega) (by omega)) ?_
        rw [zx_bk j (by omega), nI_clamp (by omega), ht _ hl, hb, zx_e0]
        exact ⟨vp_in_nI (by omega) (by omega), br_f (by decide) K⟩
      · have e : pts = j := by omega
        refine br_t (nI_le (by omega) (by omega)) (br_f (nI_nlt (by omega) (by omega)) (br_f (nI_ge (by omega) (by omega)) ?_))
        rw [e]
        exact K
    | succ d ih =>
      intro j hj hfj
      have z : j < pts := by omega
      have hl := za_bk_lt (c := c0) z
      have hne := H j hfj (by omega)
      obtain ⟨a, ha⟩ : ∃ a, za_dg t (za_bk c0 j) = a + 1 := ⟨za_dg t (za_bk c0 j) - 1, by omega⟩
      have h8 := za_dg_lt t (za_bk c0 j)
      refine br_f (nI_ge (by omega) (by omega)) ?_
      rw [zx_bk j (by omega), nI_clamp (by omega), ht _ hl, ha, nI_pred]
      exact ⟨vp_in_nI (by omega) (by omega), br_t (nI_pos' (by omega)) (nm_r (e' := nI (j + 1)) (nI_1 j) (ih (j + 1) (by omega) (by omega)))⟩
  exact Exists.intro (i - f + 1) (key (i - f) f (by omega) (Nat.le_refl _))
theorem zx_p8 {v : Nat} (a : Nat) (hv : v < 2 ^ 31) : (8 : Int64) * lN a + (nI v).toInt64 = lN (8 * a + v) := by
  rw [nI_l hv, show (8 : Int64) = lN 8 from rfl, lN_mul, lN_add]
theorem zx_pk_t {post : Int64 → Prop} {v : Nat → Nat} (h5 : pts ≤ 5) (hv : ∀ q, q < 4 * pts → a_table q = nI (v q) ∧ v q < 2 ^ 31) (K : post (lN (za_k8 pts v))) : wpX_packed post (f_size, f_relators, nI pts, f_depth, f_foundFor, f_found, a_word, a_relatorSize, a_relator, a_table, a_tried, a_grew, a_chosen, a_tables, a_other, a_order, a_place, a_many, a_actionsOf) 0 := by
  have key : ∀ d q, q + d = 20 → wX_packed_5 post 0 f_size f_relators (nI pts) f_depth f_foundFor f_found a_word a_relatorSize a_relator a_table a_tried a_grew a_chosen a_tables a_other a_order a_place a_many a_actionsOf (d + 1) (lN (za_pk 8 (fun q => if q < 4 * pts then v q else 0) q)) (nI q) := by
    intro d
    induction d with
    | zero =>
      intro q hq
      have e : q = 20 := by omega
      subst e
      exact br_t (by decide) K
    | succ d ih =>
      intro q hq
      have IH := ih (q + 1) (by omega)
      rw [za_pk_s] at IH
      refine br_f (nI_ge (b := 20) (by omega) (by omega)) ?_
      rw [zx_c4]
      by_cases z : q < 4 * pts
      · rw [if_pos z] at IH
        refine br_t (nI_lt z (by omega)) (br_t rfl ⟨vp_in_nI (by omega) (by omega), ?_⟩)
        rw [nI_clamp (by omega), (hv q z).1]
        exact nm_r (zx_p8 _ (hv q z).2) (nm_r (nI_1 q) IH)
      · rw [if_neg z] at IH
        exact br_f (nI_nlt (by omega) (by omega)) (nm_r (zx_p8 (v := 0) _ (by omega)) (nm_r (nI_1 q) IH))
  exact Exists.intro 21 (key 20 0 rfl)
theorem zx_pk_o {post : Int64 → Prop} {v : Nat → Nat} (h5 : pts ≤ 5) (hv : ∀ q, q < 4 * pts → a_other q = nI (v q) ∧ v q < 2 ^ 31) (K : post (lN (za_k8 pts v))) : wpX_packed post (f_size, f_relators, nI pts, f_depth, f_foundFor, f_found, a_word, a_relatorSize, a_relator, a_table, a_tried, a_grew, a_chosen, a_tables, a_other, a_order, a_place, a_many, a_actionsOf) 1 := by
  have key : ∀ d q, q + d = 20 → wX_packed_5 post 1 f_size f_relators (nI pts) f_depth f_foundFor f_found a_word a_relatorSize a_relator a_table a_tried a_grew a_chosen a_tables a_other a_order a_place a_many a_actionsOf (d + 1) (lN (za_pk 8 (fun q => if q < 4 * pts then v q else 0) q)) (nI q) := by
    intro d
    induction d with
    | zero =>
      intro q hq
      have e : q = 20 := by omega
      subst e
      exact br_t (by decide) K
    | succ d ih =>
      intro q hq
      have IH := ih (q + 1) (by omega)
      rw [za_pk_s] at IH
      refine br_f (nI_ge (b := 20) (by omega) (by omega)) ?_
      rw [zx_c4]
      by_cases z : q < 4 * pts
      · rw [if_pos z] at IH
        refine br_t (nI_lt z (by omega)) (br_f (by decide) ⟨vp_in_nI (by omega) (by omega), ?_⟩)
        rw [nI_clamp (by omega), (hv q z).1]
        exact nm_r (zx_p8 _ (hv q z).2) (nm_r (nI_1 q) IH)
      · rw [if_neg z] at IH
        exact br_f (nI_nlt (by omega) (by omega)) (nm_r (zx_p8 (v := 0) _ (by omega)) (nm_r (nI_1 q) IH))
  exact Exists.intro 21 (key 20 0 rfl)
end
end
section
/-! the search: what X's loop asks, by the pure state -/
def zx_W (post : SX → Prop) (c n : Nat) (sz rl : Nat → Nat) (f_size f_foundFor : Int32) (a_word a_other a_order a_place a_many a_actionsOf : Nat → Int32) (m : Nat) (fr ce on : Int32) (p d : Nat) (L : List Nat) (tb tr gr ch : Nat → Int32) (tbl : Nat → Int64) : Prop :=
  wX_find_41 post (nI n) m fr ce on f_size (nI c) (nI p) (nI d) f_foundFor (nI L.length) a_word (zx_n sz) (zx_n rl) tb tr gr ch tbl a_other a_order a_place a_many a_actionsOf
def zx_E (post : SX → Prop) (c n : Nat) (sz rl : Nat → Nat) (f_size f_foundFor : Int32) (a_word a_other a_order a_place a_many a_actionsOf : Nat → Int32) (m : Nat) (fr ce : Int32) (p d : Nat) (L : List Nat) (tb tr gr ch : Nat → Int32) (tbl : Nat → Int64) : Prop :=
  wX_find_61 post (wX_find_41 post (nI n) m) (nI n) fr ce 1 (-1) f_size (nI c) (nI p) (nI d) f_foundFor (nI L.length) a_word (zx_n sz) (zx_n rl) tb tr gr ch tbl a_other a_order a_place a_many a_actionsOf
def zx_tb (t p : Nat) (tb : Nat → Int32) : Prop := ∀ q, q < 4 * p → tb q = nI (za_dg t q) - 1
def zx_ft (n : Nat) (L : List Nat) (tbl : Nat → Int64) : Prop := ∀ k, k < L.length → tbl k = lN (za_k8 n (za_F (L.getD k 0)))
theorem zx_1n0 : ¬ (1 : Int32) = 0 := by decide
section
variable {post : SX → Prop} {c n : Nat} {sz rl : Nat → Nat} {f_size f_foundFor : Int32} {a_word a_other a_order a_place a_many a_actionsOf : Nat → Int32} {m p d t : Nat} {L : List Nat} {tb tr gr ch : Nat → Int32} {tbl : Nat → Int64} {fr ce : Int32}
theorem zx_A {c0 f : Nat} (hn : n ≤ 5) (hpi : za_pi n t p) (hc0 : c0 < 20) (hf : f ≤ p + 1) (ht : zx_tb t p tb) (H : ∀ j, f ≤ j → j < n → ¬ (j ≤ p ∧ za_dg t (za_bk c0 j) = 0))
    (K : zx_E post c n sz rl f_size f_foundFor a_word a_other a_order a_place a_many a_actionsOf m (nI f) (nI c0) p d L tb tr gr ch tbl) : zx_W post c n sz rl f_size f_foundFor a_word a_other a_order a_place a_many a_actionsOf (m + 1) (nI f) (nI c0) 1 p d L tb tr gr ch tbl := by
  obtain ⟨h1, h2, h3, _⟩ := hpi
  exact br_f zx_1n0 (br_t (nI_pos' (by omega)) (zx_nf_none (by omega) hn hc0 hf (fun q hq => (h3 q hq).1) ht H h2 K))
theorem zx_A' (K : zx_E post c n sz rl f_size f_foundFor a_word a_other a_order a_place a_many a_actionsOf m fr (-1) p d L tb tr gr ch tbl) : zx_W post c n sz rl f_size f_foundFor a_word a_other a_order a_place a_many a_actionsOf (m + 1) fr (-1) 1 p d L tb tr gr ch tbl :=
  br_f zx_1n0 (br_f (by decide) K)
theorem zx_B {c0 i : Nat} (hn : n ≤ 5) (hpi : za_pi n t p) (hc0 : c0 < 4 * p) (hip : i ≤ p) (hi : i < n) (hd : d < 20) (hc : za_dg t c0 = 0) (hb : za_dg t (za_bk c0 i) = 0)
    (ht : zx_tb (za_put t c0 i) (za_pt p i) tb) (hch : ch d = nI c0) (htr : tr d = nI i) (hgr : gr d = if i = p then 1 else 0)
    (K : ∀ tb', zx_tb t p tb' → zx_W post c n sz rl f_size f_foundFor a_word a_other a_order a_place a_many a_actionsOf m (nI (i + 1)) (nI c0) 1 p d L tb' tr gr ch tbl) : zx_E post c n sz rl f_size f_foundFor a_word a_other a_order a_place a_many a_actionsOf m fr ce (za_pt p i) (d + 1) L tb tr gr ch tbl := by
  obtain ⟨h1, h2, h3, _⟩ := hpi
  refine br_t zx_neg (br_f (nI_ne0 (by omega) (by omega)) ⟨?_, nm_r (e' := nI c0) ?_ (zx_takeBack (by omega) hc0 hip (by omega) hd hc hb ht hch htr hgr fun tb' h => K tb' h)⟩)
  · rw [nI_pred]; exact vp_in_nI hd (by omega)
  · rw [nI_pred, nI_clamp (by omega), hch]
theorem zx_B0 (K : post (f_size, nI c, nI p, nI 0, f_foundFor, nI L.length, a_word, zx_n sz, zx_n rl, tb, tr, gr, ch, tbl, a_other, a_order, a_place, a_many, a_actionsOf)) : zx_E post c n sz rl f_size f_foundFor a_word a_other a_order a_place a_many a_actionsOf (m + 1) fr ce p 0 L tb tr gr ch tbl :=
  br_t zx_neg (br_t rfl (br_t rfl K))
theorem zx_C {c0 f i : Nat} (hc4 : c ≤ 4) (hsz : ∀ i, sz i ≤ 8) (hrl : ∀ i, rl i < 4) (hn : n ≤ 5) (hpi : za_pi n t p) (hc0 : c0 < 4 * p) (hfi : f ≤ i) (hip : i ≤ p) (hi : i < n) (hd : d < 20) (hc : za_dg t c0 = 0) (hf0 : ∀ j, j < c0 → za_dg t j ≠ 0) (hb : za_dg t (za_bk c0 i) = 0)
    (ht : zx_tb t p tb) (H : ∀ j, f ≤ j → j < i → za_dg t (za_bk c0 j) ≠ 0)
    (K0 : za_fit c sz rl (za_put t c0 i) (za_pt p i) = false → ∀ tb', zx_tb t p tb' → zx_W post c n sz rl f_size f_foundFor a_word a_other a_order a_place a_many a_actionsOf m (nI (i + 1)) (nI c0) 1 p d L tb' (upd tr d (nI i)) (upd gr d (if i = p then 1 else 0)) (upd ch d (nI c0)) tbl)
    (K1 : za_fit c sz rl (za_put t c0 i) (za_pt p i) = true → za_fo (za_put t c0 i) (4 * za_pt p i) 0 = 4 * za_pt p i → za_pt p i = n → L.length < 500 ∧ ∀ tb', zx_tb (za_put t c0 i) (za_pt p i) tb' → zx_W post c n sz rl f_size f_foundFor a_word a_other a_order a_place a_many a_actionsOf m 0 (-1) 1 (za_pt p i) (d + 1) (L ++ [za_put t c0 i]) tb' (upd tr d (nI i)) (upd gr d (if i = p then 1 else 0)) (upd ch d (nI c0)) (vp_updL tbl L.length (lN (za_k8 n (za_F (za_put t c0 i))))))
    (K2 : za_fit c sz rl (za_put t c0 i) (za_pt p i) = true → za_fo (za_put t c0 i) (4 * za_pt p i) 0 = 4 * za_pt p i → za_pt p i ≠ n → ∀ tb', zx_tb (za_put t c0 i) (za_pt p i) tb' → zx_W post c n sz rl f_size f_foundFor a_word a_other a_order a_place a_many a_actionsOf m 0 (-1) 1 (za_pt p i) (d + 1) L tb' (upd tr d (nI i)) (upd gr d (if i = p then 1 else 0)) (upd ch d (nI c0)) tbl)
    (K3 : za_fit c sz rl (za_put t c0 i) (za_pt p i) = true → za_fo (za_put t c0 i) (4 * za_pt p i) 0 ≠ 4 * za_pt p i → ∀ tb', zx_tb (za_put t c0 i) (za_pt p i) tb' → zx_W post c n sz rl f_size f_foundFor a_word a_other a_order a_place a_many a_actionsOf m 0 (nI (za_fo (za_put t c0 i) (4 * za_pt p i) 0)) 1 (za_pt p i) (d + 1) L tb' (upd tr d (nI i)) (upd gr d (if i = p then 1 else 0)) (upd ch d (nI c0)) tbl) :
    zx_W post c n sz rl f_size f_foundFor a_word a_other a_order a_place a_many a_actionsOf (m + 1) (nI f) (nI c0) 1 p d L tb tr gr ch tbl := by
  have hpi' := za_pi_put hn hpi hc hf0 hc0 hip hi hb
  obtain ⟨h1, h2, h3, _⟩ := hpi
  obtain ⟨k1, k2, k3, _⟩ := hpi'
  have hd' : ∀ q, za_dg (za_put t c0 i) q ≤ za_pt p i := fun q => by
    by_cases z : za_dg (za_put t c0 i) q = 0
    · omega
    · exact (k3 q z).2
  refine br_f zx_1n0 (br_t (nI_pos' (by omega)) (zx_nf_some (by omega) hn (by omega) hfi hip hi hb ht H (br_f (nI_pos (by omega)) (zx_put (by omega) hc0 hip (by omega) hd hc hb (fun q hq => (h3 q hq).1) ht fun tb' htb' => zx_fits hc4 hsz hrl k1 (by omega) htb' hd' ?_))))
  by_cases hfit : za_fit c sz rl (za_put t c0 i) (za_pt p i) = true
  · rw [if_pos hfit]
    refine br_f zx_1n0 (br_f zx_1n0 (zx_firstOpen (by omega) htb' ?_))
    obtain ⟨_, f2, f3, _⟩ := za_fo_sp (za_put t c0 i) (4 * za_pt p i) 0
    by_cases hl : za_fo (za_put t c0 i) (4 * za_pt p i) 0 = 4 * za_pt p i
    · rw [if_pos hl]
      refine br_f (by decide) ?_
      by_cases hpn : za_pt p i = n
      · obtain ⟨l5, KK⟩ := K1 hfit hl hpn
        have := KK tb' htb'
        refine br_t (congrArg nI hpn) (br_f (nI_ge (b := 500) (by omega) (by omega)) (zx_pk_t (v := za_F (za_put t c0 i)) (by omega) (fun q hq => ?_) ⟨vp_in_nI (by omega) (by omega), nm_r (e' := vp_updL tbl L.length (lN (za_k8 n (za_F (za_put t c0 i))))) ?_ (nm_r (e' := nI (L ++ [za_put t c0 i]).length) ?_ this)⟩))
        · have hne := f3 q (Nat.zero_le _) (by omega)
          have h8 := za_dg_lt (za_put t c0 i) q
          rw [htb' q hq]
          constructor
          · obtain ⟨a, ha⟩ : ∃ a, za_dg (za_put t c0 i) q = a + 1 := ⟨za_dg (za_put t c0 i) q - 1, by omega⟩
            unfold za_F
            rw [ha, nI_pred, Nat.add_sub_cancel]
          · unfold za_F; omega
        · rw [nI_clamp (by omega), hpn]
        · rw [nI_1, List.length_append]; rfl
      · exact br_f (fun z => hpn ((nI_eq (by omega) (by omega)).mp z)) (K2 hfit hl hpn tb' htb')
    · rw [if_neg hl]
      exact br_t (nI_pos' (by omega)) (K3 hfit hl tb' htb')
  · rw [if_neg hfit]
    have hgr : upd gr d (if i = p then 1 else 0) d = if i = p then 1 else 0 := pk_us
    refine br_t rfl (zx_takeBack (by omega) hc0 hip (by omega) hd hc hb htb' pk_us pk_us hgr fun tb'' h'' => br_t rfl (br_t (nI_pos' (by omega)) (K0 (by simpa using hfit) tb'' h'')))
end
theorem zx_drop {α : Type} (B : Nat → List α) {n i0 i : Nat} (h0 : i0 ≤ i) (hi : i < n) (hB : ∀ j, i0 ≤ j → j < i → B j = []) : ((List.range n).drop i0).flatMap B = B i ++ ((List.range n).drop (i + 1)).flatMap B := by
  have step : ∀ j, j < n → ((List.range n).drop j).flatMap B = B j ++ ((List.range n).drop (j + 1)).flatMap B := by
    intro j hj
    rw [List.drop_eq_getElem_cons (by rw [List.length_range]; exact hj), List.flatMap_cons, List.getElem_range]
  have key : ∀ d, d ≤ i - i0 → ((List.range n).drop i0).flatMap B = ((List.range n).drop (i0 + d)).flatMap B := by
    intro d
    induction d with
    | zero => intro _; rfl
    | succ d ih =>
      intro hd
      rw [ih (by omega), step (i0 + d) (by omega), hB (i0 + d) (by omega) (by omega)]
      rfl
  rw [key (i - i0) (Nat.le_refl _), show i0 + (i - i0) = i by omega]
  exact step i hi
theorem zx_drop0 {α : Type} (B : Nat → List α) {n i0 : Nat} (hB : ∀ j, i0 ≤ j → j < n → B j = []) : ((List.range n).drop i0).flatMap B = [] := by
  refine List.eq_nil_iff_forall_not_mem.mpr fun x hx => ?_
  obtain ⟨j, hj, hx⟩ := List.mem_flatMap.mp hx
  obtain ⟨k, hk, e⟩ := List.mem_iff_getElem.mp hj
  rw [List.getElem_drop, List.getElem_range] at e
  rw [List.length_drop, List.length_range] at hk
  rw [hB j (by omega) (by omega)] at hx
  exact absurd hx List.not_mem_nil
theorem zx_ft_app {n : Nat} {L : List Nat} {tbl : Nat → Int64} {x : Nat} (h : zx_ft n L tbl) : zx_ft n (L ++ [x]) (vp_updL tbl L.length (lN (za_k8 n (za_F x)))) := by
  intro k hk
  rw [List.length_append] at hk
  have h1 : [x].length = 1 := rfl
  by_cases e : k = L.length
  · subst e
    rw [pk_uLs, zb_gr]
  · rw [pk_uLn e, zb_gl (by omega)]
    exact h k (by omega)
end
section
section
variable {post : SX → Prop} {c n : Nat} {sz rl : Nat → Nat} {f_size f_foundFor : Int32} {a_word a_other a_order a_place a_many a_actionsOf : Nat → Int32}
def zx_ag (d : Nat) (a a' : Nat → Int32) : Prop := ∀ j, j < d → a' j = a j
theorem zx_ag_u {d : Nat} {a a' : Nat → Int32} {x : Int32} (h : zx_ag (d + 1) (upd a d x) a') : zx_ag d a a' ∧ a' d = x := by
  refine ⟨fun j hj => ?_, ?_⟩
  · rw [h j (by omega), pk_un (by omega)]
  · rw [h d (by omega), pk_us]
theorem zx_ag_0 {d : Nat} {a : Nat → Int32} {x : Int32} : zx_ag d a (upd a d x) := fun j hj => pk_un (by omega)
theorem zx_ag_t {d : Nat} {a b e : Nat → Int32} (h : zx_ag d a b) (h' : zx_ag d b e) : zx_ag d a e := fun j hj => by rw [h' j hj, h j hj]
theorem zx_srch (hc4 : c ≤ 4) (hsz : ∀ i, sz i ≤ 8) (hrl : ∀ i, rl i < 4) (hn : n ≤ 5) :
    ∀ f t p d, za_pi n t p → za_op t (4 * n) < f → d + za_op t (4 * n) ≤ 20 → za_fo t (4 * p) 0 ≠ 4 * p → ∀ L : List Nat, L.length + (za_sr (za_fit c sz rl) n f t p).length ≤ 461 →
    ∃ K, ∀ m tb tr gr ch tbl, zx_tb t p tb → zx_ft n L tbl →
      (∀ fr ce tb' tr' gr' ch' tbl', zx_tb t p tb' → zx_ag d tr tr' → zx_ag d gr gr' → zx_ag d ch ch' → zx_ft n (L ++ za_sr (za_fit c sz rl) n f t p) tbl' → zx_E post c n sz rl f_size f_foundFor a_word a_other a_order a_place a_many a_actionsOf m fr ce p d (L ++ za_sr (za_fit c sz rl) n f t p) tb' tr' gr' ch' tbl') →
      zx_W post c n sz rl f_size f_foundFor a_word a_other a_order a_place a_many a_actionsOf (m + K) 0 (nI (za_fo t (4 * p) 0)) 1 p d L tb tr gr ch tbl := by
  intro f
  induction f with
  | zero => intro t p d _ h; omega
  | succ f ihf =>
    intro t p d hpi hop hdo hnl
    obtain ⟨_, s2, s3, s4⟩ := za_fo_sp t (4 * p) 0
    have esr : za_sr (za_fit c sz rl) n (f + 1) t p = ((List.range n).drop 0).flatMap (za_b1 (za_fit c sz rl) (za_sr (za_fit c sz rl) n f) t p (za_fo t (4 * p) 0)) := by
      rw [za_sr_s, if_neg hnl, List.drop_zero]
    rw [esr]
    generalize hc0 : za_fo t (4 * p) 0 = c0 at *
    have hc := s4 (by omega)
    have hcp : c0 < 4 * p := by omega
    have hf0 : ∀ j, j < c0 → za_dg t j ≠ 0 := fun j hj => s3 j (Nat.zero_le _) hj
    obtain ⟨h1, h2, h3, _⟩ := id hpi
    have key : ∀ e i0, n - i0 ≤ e → i0 ≤ p + 1 → ∀ L : List Nat, L.length + (((List.range n).drop i0).flatMap (za_b1 (za_fit c sz rl) (za_sr (za_fit c sz rl) n f) t p c0)).length ≤ 461 →
        ∃ K, ∀ m tb tr gr ch tbl, zx_tb t p tb → zx_ft n L tbl →
          (∀ fr ce tb' tr' gr' ch' tbl', zx_tb t p tb' → zx_ag d tr tr' → zx_ag d gr gr' → zx_ag d ch ch' → zx_ft n (L ++ ((List.range n).drop i0).flatMap (za_b1 (za_fit c sz rl) (za_sr (za_fit c sz rl) n f) t p c0)) tbl' →
            zx_E post c n sz rl f_size f_foundFor a_word a_other a_order a_place a_many a_actionsOf m fr ce p d (L ++ ((List.range n).drop i0).flatMap (za_b1 (za_fit c sz rl) (za_sr (za_fit c sz rl) n f) t p c0)) tb' tr' gr' ch' tbl') →
          zx_W post c n sz rl f_size f_foundFor a_word a_other a_order a_place a_many a_actionsOf (m + K) (nI i0) (nI c0) 1 p d L tb tr gr ch tbl := by
      intro e
      induction e with
      | zero =>
        intro i0 he hi0 L hL
        have none : ∀ j, i0 ≤ j → j < n → ¬ (j ≤ p ∧ za_dg t (za_bk c0 j) = 0) := fun j a b => by omega
        rw [zx_drop0 _ fun j a b => by omega, List.append_nil]
        exact ⟨1, fun m tb tr gr ch tbl htb hft K => zx_A hn hpi (by omega) hi0 htb none (K _ _ _ _ _ _ _ htb (fun j _ => rfl) (fun j _ => rfl) (fun j _ => rfl) hft)⟩
      | succ e ihe =>
        intro i0 he hi0 L hL
        by_cases hex : ∃ i, i0 ≤ i ∧ i < n ∧ i ≤ p ∧ za_dg t (za_bk c0 i) = 0
        · obtain ⟨i, ⟨a1, a2, a3, a4⟩, a5⟩ := pk_least _ hex
          have H : ∀ j, i0 ≤ j → j < i → za_dg t (za_bk c0 j) ≠ 0 := fun j x y z => a5 j y ⟨x, by omega, by omega, z⟩
          have hdrop := zx_drop (za_b1 (za_fit c sz rl) (za_sr (za_fit c sz rl) n f) t p c0) a1 a2 fun j x y => by
            unfold za_b1
            rw [if_neg fun z => H j x y z.2]
          rw [hdrop, List.length_append] at hL
          rw [hdrop, ← List.append_assoc]
          have hop' := za_op_put hn hpi hc a4 a2 hcp
          have hd : d < 20 := by omega
          have hpi' := za_pi_put hn hpi hc hf0 hcp a3 a2 a4
          by_cases hfit : za_fit c sz rl (za_put t c0 i) (za_pt p i) = true
          · have hB : za_b1 (za_fit c sz rl) (za_sr (za_fit c sz rl) n f) t p c0 i = za_sr (za_fit c sz rl) n f (za_put t c0 i) (za_pt p i) := by
              unfold za_b1
              rw [if_pos ⟨a3, a4⟩, if_pos hfit]
            rw [hB] at hL ⊢
            obtain ⟨K2, hK2⟩ := ihe (i + 1) (by omega) (by omega) (L ++ za_sr (za_fit c sz rl) n f (za_put t c0 i) (za_pt p i)) (by rw [List.length_append]; omega)
            by_cases hl : za_fo (za_put t c0 i) (4 * za_pt p i) 0 = 4 * za_pt p i
            · obtain ⟨f', rfl⟩ : ∃ f', f = f' + 1 := ⟨f - 1, by omega⟩
              have hsr : za_sr (za_fit c sz rl) n (f' + 1) (za_put t c0 i) (za_pt p i) = if za_pt p i = n then [za_put t c0 i] else [] := by
                rw [za_sr_s, if_pos hl]
              refine ⟨K2 + 2, fun m tb tr gr ch tbl htb hft K => ?_⟩
              have cont : ∀ (tb' : Nat → Int32) (tbl' : Nat → Int64), zx_tb (za_put t c0 i) (za_pt p i) tb' → zx_ft n (L ++ za_sr (za_fit c sz rl) n (f' + 1) (za_put t c0 i) (za_pt p i)) tbl' →
                  zx_W post c n sz rl f_size f_foundFor a_word a_other a_order a_place a_many a_actionsOf (m + K2 + 1) 0 (-1) 1 (za_pt p i) (d + 1) (L ++ za_sr (za_fit c sz rl) n (f' + 1) (za_put t c0 i) (za_pt p i)) tb' (upd tr d (nI i)) (upd gr d (if i = p then 1 else 0)) (upd ch d (nI c0)) tbl' := by
                intro tb' tbl' htb' hft'
                refine zx_A' (zx_B hn hpi hcp a3 a2 hd hc a4 htb' pk_us pk_us pk_us fun tb'' h'' => hK2 m tb'' _ _ _ tbl' h'' hft' ?_)
                intro fr ce tb3 tr3 gr3 ch3 tbl3 q1 q2 q3 q4 q5
                exact K fr ce tb3 tr3 gr3 ch3 tbl3 q1 (zx_ag_t zx_ag_0 q2) (zx_ag_t zx_ag_0 q3) (zx_ag_t zx_ag_0 q4) q5
              rw [hsr] at cont hL
              refine zx_C (m := m + K2 + 1) hc4 hsz hrl hn hpi hcp a1 a3 a2 hd hc hf0 a4 htb H (fun z => absurd hfit (by rw [z]; decide)) (fun _ _ hpn => ?_) (fun _ _ hpn tb' htb' => ?_) (fun _ z => absurd hl z)
              · rw [if_pos hpn] at cont hL
                exact ⟨by omega, fun tb' htb' => cont tb' _ htb' (zx_ft_app hft)⟩
              · rw [if_neg hpn, List.append_nil] at cont
                exact cont tb' tbl htb' hft
            · obtain ⟨K1, hK1⟩ := ihf (za_put t c0 i) (za_pt p i) (d + 1) hpi' (by omega) (by omega) hl L (by omega)
              refine ⟨K2 + K1 + 1, fun m tb tr gr ch tbl htb hft K => ?_⟩
              rw [show m + (K2 + K1 + 1) = m + K2 + K1 + 1 by omega]
              refine zx_C (m := m + K2 + K1) hc4 hsz hrl hn hpi hcp a1 a3 a2 hd hc hf0 a4 htb H (fun z => absurd hfit (by rw [z]; decide)) (fun _ z => absurd z hl) (fun _ z => absurd z hl) (fun _ _ tb' htb' => ?_)
              refine hK1 (m + K2) tb' _ _ _ tbl htb' hft ?_
              intro fr ce tb3 tr3 gr3 ch3 tbl3 q1 q2 q3 q4 q5
              obtain ⟨r2, r2'⟩ := zx_ag_u q2
              obtain ⟨r3, r3'⟩ := zx_ag_u q3
              obtain ⟨r4, r4'⟩ := zx_ag_u q4
              refine zx_B hn hpi hcp a3 a2 hd hc a4 q1 r4' r2' r3' fun tb4 h4 => hK2 m tb4 tr3 gr3 ch3 tbl3 h4 q5 ?_
              intro fr' ce' tb5 tr5 gr5 ch5 tbl5 p1 p2 p3 p4 p5
              exact K fr' ce' tb5 tr5 gr5 ch5 tbl5 p1 (zx_ag_t r2 p2) (zx_ag_t r3 p3) (zx_ag_t r4 p4) p5
          · have hB : za_b1 (za_fit c sz rl) (za_sr (za_fit c sz rl) n f) t p c0 i = [] := by
              unfold za_b1
              rw [if_pos ⟨a3, a4⟩, if_neg hfit]
            rw [hB, List.append_nil]
            obtain ⟨K2, hK2⟩ := ihe (i + 1) (by omega) (by omega) L (by omega)
            refine ⟨K2 + 1, fun m tb tr gr ch tbl htb hft K => ?_⟩
            refine zx_C (m := m + K2) hc4 hsz hrl hn hpi hcp a1 a3 a2 hd hc hf0 a4 htb H (fun _ tb' htb' => ?_) (fun z => absurd z hfit) (fun z => absurd z hfit) (fun z => absurd z hfit)
            refine hK2 m tb' _ _ _ tbl htb' hft ?_
            intro fr ce tb3 tr3 gr3 ch3 tbl3 q1 q2 q3 q4 q5
            exact K fr ce tb3 tr3 gr3 ch3 tbl3 q1 (zx_ag_t zx_ag_0 q2) (zx_ag_t zx_ag_0 q3) (zx_ag_t zx_ag_0 q4) q5
        · have none : ∀ j, i0 ≤ j → j < n → ¬ (j ≤ p ∧ za_dg t (za_bk c0 j) = 0) := fun j a b z => hex ⟨j, a, b, z⟩
          rw [zx_drop0 _ fun j a b => by unfold za_b1; rw [if_neg (none j a b)], List.append_nil]
          exact ⟨1, fun m tb tr gr ch tbl htb hft K => zx_A hn hpi (by omega) hi0 htb none (K _ _ _ _ _ _ _ htb (fun j _ => rfl) (fun j _ => rfl) (fun j _ => rfl) hft)⟩
    intro L hL
    exact key n 0 (by omega) (by omega) L hL
end
/-! find -/
def zx_X1 (c : Nat) (sz rl : Nat → Nat) (n : Nat) (fo : Int32) (tbl : Nat → Int64) : Prop := fo = nI (za_TL c sz rl n).length ∧ zx_ft n (za_TL c sz rl n) tbl
def zx_XI (c : Nat) (sz rl : Nat → Nat) (ff fo : Int32) (tbl : Nat → Int64) : Prop := ff = 0 ∨ ∃ n, 0 < n ∧ n ≤ 5 ∧ ff = nI n ∧ zx_X1 c sz rl n fo tbl
theorem zx_find {post : SX → Prop} {c n : Nat} {sz rl : Nat → Nat} {f_size f_points f_depth f_foundFor f_found : Int32} {a_word a_table a_tried a_grew a_chosen a_other a_order a_place a_many a_actionsOf : Nat → Int32} {a_tables : Nat → Int64} (hc4 : c ≤ 4) (hsz : ∀ i, sz i ≤ 8) (hrl : ∀ i, rl i < 4) (h1 : 0 < n) (hn : n ≤ 5) (hX : zx_XI c sz rl f_foundFor f_found a_tables)
    (K : ∀ (pp dd fo : Int32) (tb tr gr ch : Nat → Int32) (tbl : Nat → Int64), zx_X1 c sz rl n fo tbl →
      post (f_size, nI c, pp, dd, nI n, fo, a_word, zx_n sz, zx_n rl, tb, tr, gr, ch, tbl, a_other, a_order, a_place, a_many, a_actionsOf)) :
    wpX_find post (f_size, nI c, f_points, f_depth, f_foundFor, f_found, a_word, zx_n sz, zx_n rl, a_table, a_tried, a_grew, a_chosen, a_tables, a_other, a_order, a_place, a_many, a_actionsOf) (nI n) := by
  by_cases e : f_foundFor = nI n
  · subst e
    refine br_t rfl (K _ _ _ _ _ _ _ _ ?_)
    rcases hX with z | ⟨n', a1, a2, a3, a4⟩
    · exact absurd z (nI_ne0 h1 (by omega))
    · have := (nI_eq (by omega) (by omega)).mp a3
      subst this
      exact a4
  · have hpi := za_pi_0 h1
    have ho := za_op_m 0 (4 * n)
    have hfo : za_fo 0 (4 * 1) 0 = 0 := if_pos (za_dg_0 0)
    obtain ⟨k, hk⟩ := zx_srch (post := post) (f_size := f_size) (f_foundFor := nI n) (a_word := a_word) (a_other := a_other) (a_order := a_order) (a_place := a_place) (a_many := a_many) (a_actionsOf := a_actionsOf) hc4 hsz hrl hn 21 0 1 0 hpi (by omega) (by omega) (by rw [hfo]; omega) [] (by have := za_TL4 (c := c) (sz := sz) (rl := rl) h1 hn; unfold za_TL at this; rw [List.length_nil]; omega)
    rw [hfo, List.nil_append] at hk
    refine br_f e (zx_openPoint (p := 0) (by omega) (Exists.intro (1 + k) ?_))
    refine hk 1 _ a_tried a_grew a_chosen a_tables (fun q hq => ?_) (fun j hj => absurd hj (Nat.not_lt_zero j)) ?_
    · rw [if_pos (by omega), za_dg_0, zx_e0]
    · intro fr ce tb' tr' gr' ch' tbl' q1 _ _ _ q5
      exact zx_B0 (K _ _ _ _ _ _ _ _ ⟨rfl, q5⟩)
end
section
theorem zx_img {a q : Nat} (ha : a < 2 ^ 60) (hq : q < 20) : ((lN a >>> (((3 : Int32) * (19 - nI q)).toInt64 &&& 63)) &&& 7).toInt32 = nI (a / 8 ^ (19 - q) % 8) := by
  have e1 : ((3 : Int32) * (19 - nI q)).toInt64 &&& 63 = lN (3 * (19 - q)) := by
    rw [show (19 : Int32) = nI 19 from rfl, pk_sub (by omega), show (3 : Int32) = nI 3 from rfl, pk_mul, wb_c _ (by omega)]
  have hD : ((lN (3 * (19 - q))).toBitVec.smod 64).toNat = 3 * (19 - q) := by
    rw [wb_tb, wb_sm _ (by omega), BitVec.toNat_ofNat]
    exact Nat.mod_eq_of_lt (by omega)
  have hle : a / 2 ^ (3 * (19 - q)) ≤ a := Nat.div_le_self _ _
  have e2 := wb_mask (n := a / 2 ^ (3 * (19 - q))) (k := 3) (by omega) (by omega)
  rw [e1, pf_shr hD (by omega), show (7 : Int64) = lN (2 ^ 3 - 1) from rfl, e2, lN_i, Nat.pow_mul]
section
variable {f_size f_relators f_points f_depth f_foundFor f_found : Int32} {a_word a_relatorSize a_relator a_table a_tried a_grew a_chosen a_other a_order a_place a_many a_actionsOf : Nat → Int32} {a_tables : Nat → Int64}
theorem zx_imageIn {post : Int32 → Prop} {k p l n : Nat} {F : Nat → Nat} (hn : n ≤ 5) (hk : k < 500) (hp : p < n) (hl : l < 4) (hx : a_tables k = lN (za_k8 n F)) (hF : ∀ q, q < 4 * n → F q < 5) (K : post (nI (F (4 * p + l)))) : wpX_imageIn post (f_size, f_relators, f_points, f_depth, f_foundFor, f_found, a_word, a_relatorSize, a_relator, a_table, a_tried, a_grew, a_chosen, a_tables, a_other, a_order, a_place, a_many, a_actionsOf) (nI k) (nI p) (nI l) := by
  refine nm_r (e' := nI (4 * p + l)) (zx_m4 p l) ⟨vp_in_nI hk (by omega), ?_⟩
  rw [nI_clamp (by omega), hx, zx_img (za_k8_lt hF) (by omega), za_k8_dg hn hF (by omega)]
  exact K
end
/-! numbering anew: the arrays order and place, when q cells are read -/
def zx_N (n : Nat) (F : Nat → Nat) (r q : Nat) (ord pla : Nat → Int32) : Prop :=
  (∀ i, i < (zb_o F r q).length → ord i = nI ((zb_o F r q).getD i 0)) ∧ (∀ y, y < n → pla y = if y ∈ zb_o F r q then nI ((zb_o F r q).idxOf y) else -1)
theorem zx_N0 {n : Nat} {F : Nat → Nat} {r : Nat} {ord pla : Nat → Int32} (hp : ∀ y, y < n → pla y = -1) : zx_N n F r 0 (upd ord 0 (nI r)) (upd pla r 0) := by
  constructor
  · intro i hi
    have e : i = 0 := by have : (zb_o F r 0).length = 1 := rfl; omega
    subst e
    exact pk_us
  · intro y hy
    by_cases e : y = r
    · subst e
      rw [pk_us, if_pos (show y ∈ zb_o F y 0 from List.mem_singleton.mpr rfl)]
      show (0 : Int32) = nI ([y].idxOf y)
      rw [List.idxOf_cons_self]
      rfl
    · rw [pk_un e, hp y hy, if_neg (show ¬ y ∈ zb_o F r 0 from fun z => e (List.mem_singleton.mp z))]
theorem zx_N1 {n : Nat} {F : Nat → Nat} {r q : Nat} {ord pla : Nat → Int32} (h : zx_N n F r q ord pla) (hm : zb_x F (zb_o F r q) q ∈ zb_o F r q) : zx_N n F r (q + 1) ord pla ∧ zb_T F r q = (zb_o F r q).idxOf (zb_x F (zb_o F r q) q) ∧ (zb_o F r (q + 1)).length = (zb_o F r q).length := by
  have eo : zb_o F r (q + 1) = zb_o F r q := by rw [zb_o_s, if_pos hm]
  unfold zx_N zb_T
  rw [eo]
  exact ⟨h, rfl, rfl⟩
theorem zx_N2 {n : Nat} {F : Nat → Nat} {r q : Nat} {ord pla : Nat → Int32} (h : zx_N n F r q ord pla) (hm : zb_x F (zb_o F r q) q ∉ zb_o F r q) :
    zx_N n F r (q + 1) (upd ord (zb_o F r q).length (nI (zb_x F (zb_o F r q) q))) (upd pla (zb_x F (zb_o F r q) q) (nI (zb_o F r q).length)) ∧ zb_T F r q = (zb_o F r q).length ∧ (zb_o F r (q + 1)).length = (zb_o F r q).length + 1 := by
  have eo : zb_o F r (q + 1) = zb_o F r q ++ [zb_x F (zb_o F r q) q] := by rw [zb_o_s, if_neg hm]
  have el : (zb_o F r q ++ [zb_x F (zb_o F r q) q]).length = (zb_o F r q).length + 1 := by rw [List.length_append]; rfl
  unfold zx_N at h ⊢
  unfold zb_T
  rw [eo, el]
  generalize zb_x F (zb_o F r q) q = x at *
  generalize zb_o F r q = o at *
  have ex : (o ++ [x]).idxOf x = o.length := by rw [List.idxOf_append, if_neg hm, List.idxOf_cons_self, Nat.zero_add]
  refine ⟨⟨fun i hi => ?_, fun y hy => ?_⟩, ex, rfl⟩
  · by_cases e : i = o.length
    · subst e
      rw [pk_us, zb_gr]
    · rw [pk_un e, zb_gl (by omega)]
      exact h.1 i (by omega)
  · by_cases e : y = x
    · subst e
      rw [pk_us, if_pos (List.mem_append_right _ (List.mem_singleton.mpr rfl)), ex]
    · rw [pk_un e, h.2 y hy]
      by_cases z : y ∈ o
      · rw [if_pos z, if_pos (List.mem_append_left _ z), List.idxOf_append, if_pos z]
      · rw [if_neg z, if_neg fun w => ?_]
        rcases List.mem_append.mp w with v | v
        · exact z v
        · exact e (List.mem_singleton.mp v)
section
variable {f_size f_relators f_points f_depth f_foundFor f_found : Int32} {a_word a_relatorSize a_relator a_table a_tried a_grew a_chosen a_other a_order a_place a_many a_actionsOf : Nat → Int32} {a_tables : Nat → Int64}
theorem zx_nf105 {post : SX → Prop} {J : Int32 → Int32 → (Nat → Int32) → (Nat → Int32) → (Nat → Int32) → (Nat → Int32) → (Nat → Int32) → (Nat → Int32) → (Nat → Int32) → (Nat → Int64) → (Nat → Int32) → (Nat → Int32) → (Nat → Int32) → (Nat → Int32) → (Nat → Int32) → Prop} {x1 x2 x4 : Int32} {q x v : Nat} (hq : q < 20) (hx : x < 5) (hv : v < 64) (hp : a_place x = nI v)
    (K : J x4 (nI (q + 1)) a_word a_relatorSize a_relator a_table a_tried a_grew a_chosen a_tables (upd a_other q (nI v)) a_order a_place a_many a_actionsOf) : wX_numberFrom_105 post J x1 x2 x4 (nI q) (nI x) f_size f_relators f_points f_depth f_foundFor f_found a_word a_relatorSize a_relator a_table a_tried a_grew a_chosen a_tables a_other a_order a_place a_many a_actionsOf := by
  refine And.intro (vp_in_nI hx (by omega)) ⟨vp_in_nI hq (by omega), nm_r (e' := upd a_other q (nI v)) ?_ (nm_r (nI_1 q) K)⟩
  rw [nI_clamp (by omega), nI_clamp (by omega), hp, zx_nb hv]
theorem zx_nf44 {post : SX → Prop} {k n r : Nat} {F : Nat → Nat} (hn : n ≤ 5) (hk : k < 500) (hA : za_act n F) (hS : za_std n F) (hr : r < n) (hx : a_tables k = lN (za_k8 n F))
    (K : ∀ oth ord pla : Nat → Int32, (∀ q, q < 4 * n → oth q = nI (zb_T F r q)) → post (f_size, f_relators, f_points, f_depth, f_foundFor, f_found, a_word, a_relatorSize, a_relator, a_table, a_tried, a_grew, a_chosen, a_tables, oth, ord, pla, a_many, a_actionsOf)) :
    ∀ d q (oth ord pla : Nat → Int32), q + d = 4 * n → zx_N n F r q ord pla → (∀ j, j < q → oth j = nI (zb_T F r j)) →
      wX_numberFrom_44 post (nI k) (nI n) f_size f_relators f_points f_depth f_foundFor f_found (d + 1) (nI (zb_o F r q).length) (nI q) a_word a_relatorSize a_relator a_table a_tried a_grew a_chosen a_tables oth ord pla a_many a_actionsOf := by
  obtain ⟨al, hI, _⟩ := zb_all hA hS hr
  intro d
  induction d with
  | zero =>
    intro q oth ord pla hq hN ho
    exact br_t (by rw [zx_c4]; exact nI_le (by omega) (by omega)) (K oth ord pla fun j hj => ho j (by omega))
  | succ d ih =>
    intro q oth ord pla hq hN ho
    have hal := al q (by omega)
    have I := hI q (by omega)
    have hl := zb_len I
    have hy : (zb_o F r q).getD (q / 4) 0 < n := I.2.1 _ (zb_gm (by omega))
    have hxn : zb_x F (zb_o F r q) q < n := hA.1 _ (by omega)
    have hT := zb_T_lt hA hS hr (show q < 4 * n by omega)
    refine br_f (by rw [zx_c4]; exact nI_ge (by omega) (by omega)) ?_
    rw [zx_sh (by omega), nI_clamp (n := q / 4) (by omega), hN.1 (q / 4) (by omega), pk_andN (m := 3) (by omega) 2 (by decide)]
    refine ⟨vp_in_nI (by omega) (by omega), zx_imageIn hn hk hy (Nat.mod_lt _ (by decide)) hx (fun j hj => by have := hA.1 j hj; omega) ?_⟩
    have ex : F (4 * (zb_o F r q).getD (q / 4) 0 + q % 2 ^ 2) = zb_x F (zb_o F r q) q := rfl
    rw [ex]
    refine ⟨vp_in_nI (by omega) (by omega), ?_⟩
    rw [nI_clamp (by omega), hN.2 _ hxn]
    have hoth : ∀ j, j < q + 1 → upd oth q (nI (zb_T F r q)) j = nI (zb_T F r j) := by
      intro j hj
      by_cases e : j = q
      · subst e; exact pk_us
      · rw [pk_un e]; exact ho j (by omega)
    by_cases hm : zb_x F (zb_o F r q) q ∈ zb_o F r q
    · obtain ⟨N', eT, eL⟩ := zx_N1 hN hm
      rw [if_pos hm]
      have IH := ih (q + 1) _ ord pla (by omega) N' hoth
      rw [eL] at IH
      refine br_t (nI_pos' (by omega)) (zx_nf105 (v := zb_T F r q) (by omega) (by omega) (by omega) ?_ IH)
      rw [hN.2 _ hxn, if_pos hm, eT]
    · obtain ⟨N', eT, eL⟩ := zx_N2 hN hm
      have hl' := zb_len (hI (q + 1) (by omega))
      rw [if_neg hm]
      have IH := ih (q + 1) _ _ _ (by omega) N' hoth
      rw [eL] at IH
      refine br_f (by decide) ⟨vp_in_nI (by omega) (by omega), nm_r (e' := upd pla (zb_x F (zb_o F r q) q) (nI (zb_o F r q).length)) ?_ ⟨vp_in_nI (by omega) (by omega), nm_r (e' := upd ord (zb_o F r q).length (nI (zb_x F (zb_o F r q) q))) ?_ (nm_r (nI_1 _) (zx_nf105 (v := zb_T F r q) (by omega) (by omega) (by omega) ?_ IH))⟩⟩
      · rw [zx_nb2 (by omega)]
      · rw [nI_clamp (by omega), zx_nb2 (by omega)]
      · rw [pk_us, eT]
theorem zx_numberFrom {post : SX → Prop} {k n r : Nat} {F : Nat → Nat} (hn : n ≤ 5) (hk : k < 500) (hA : za_act n F) (hS : za_std n F) (hr : r < n) (hx : a_tables k = lN (za_k8 n F))
    (K : ∀ oth ord pla : Nat → Int32, (∀ q, q < 4 * n → oth q = nI (zb_T F r q)) → post (f_size, f_relators, f_points, f_depth, f_foundFor, f_found, a_word, a_relatorSize, a_relator, a_table, a_tried, a_grew, a_chosen, a_tables, oth, ord, pla, a_many, a_actionsOf)) : wpX_numberFrom post (f_size, f_relators, f_points, f_depth, f_foundFor, f_found, a_word, a_relatorSize, a_relator, a_table, a_tried, a_grew, a_chosen, a_tables, a_other, a_order, a_place, a_many, a_actionsOf) (nI k) (nI n) (nI r) := by
  have key : ∀ d p (pla : Nat → Int32), p + d = n → (∀ y, y < p → pla y = -1) → wX_numberFrom_3 post (nI k) (nI n) (nI r) f_size f_relators f_points f_depth f_foundFor f_found (d + 1) (nI p) a_word a_relatorSize a_relator a_table a_tried a_grew a_chosen a_tables a_other a_order pla a_many a_actionsOf := by
    intro d
    induction d with
    | zero =>
      intro p pla hp H
      refine br_t (nI_le (by omega) (by omega)) (nm_r (e' := upd a_order 0 (nI r)) (by rw [zx_nb2 (by omega)]) ⟨vp_in_nI (by omega) (by omega), nm_r (e' := upd pla r 0) ?_ (Exists.intro (4 * n + 1) (zx_nf44 hn hk hA hS hr hx K (4 * n) 0 a_other _ _ (by omega) (zx_N0 fun y hy => H y (by omega)) fun j hj => absurd hj (Nat.not_lt_zero j)))⟩)
      rw [nI_clamp (by omega)]
      exact congrArg (upd pla r) (zx_nb (v := 0) (by omega))
    | succ d ih =>
      intro p pla hp H
      refine br_f (nI_ge (by omega) (by omega)) ⟨vp_in_nI (by omega) (by omega), nm_r (e' := upd pla p (-1)) ?_ (nm_r (nI_1 p) (ih (p + 1) _ (by omega) fun y hy => ?_))⟩
      · rw [nI_clamp (by omega), zx_nbm]
      · by_cases e : y = p
        · subst e; exact pk_us
        · rw [pk_un e]; exact H y (by omega)
  exact Exists.intro (n + 1) (key n 0 a_place (by omega) fun y hy => absurd hy (Nat.not_lt_zero y))
theorem zx_compareFrom {post : Int32 → SX → Prop} {k n r : Nat} {F : Nat → Nat} (hn : n ≤ 5) (hk : k < 500) (hA : za_act n F) (hS : za_std n F) (hr : r < n) (hx : a_tables k = lN (za_k8 n F))
    (K : ∀ oth ord pla : Nat → Int32, post (if za_k8 n (zb_T F r) < za_k8 n F then -1 else if za_k8 n (zb_T F r) = za_k8 n F then 0 else 1) (f_size, f_relators, nI n, f_depth, f_foundFor, f_found, a_word, a_relatorSize, a_relator, a_table, a_tried, a_grew, a_chosen, a_tables, oth, ord, pla, a_many, a_actionsOf)) :
    wpX_compareFrom post (f_size, f_relators, f_points, f_depth, f_foundFor, f_found, a_word, a_relatorSize, a_relator, a_table, a_tried, a_grew, a_chosen, a_tables, a_other, a_order, a_place, a_many, a_actionsOf) (nI k) (nI n) (nI r) := by
  refine zx_numberFrom hn hk hA hS hr hx fun oth ord pla ho => ?_
  have lT : ∀ q, q < 4 * n → zb_T F r q < 5 := fun q hq => by have := zb_T_lt hA hS hr hq; omega
  have lF : ∀ q, q < 4 * n → F q < 5 := fun q hq => by have := hA.1 q hq; omega
  have b1 := za_k8_lt lT
  have b2 := za_k8_lt lF
  refine zx_pk_o (v := zb_T F r) hn (fun q hq => ⟨ho q hq, by have := lT q hq; omega⟩) ⟨vp_in_nI hk (by omega), ?_⟩
  rw [nI_clamp (by omega), hx]
  have KK := K oth ord pla
  rcases Nat.lt_trichotomy (za_k8 n (zb_T F r)) (za_k8 n F) with z | z | z
  · rw [if_pos z] at KK
    exact br_f (fun w => by have := (pk_lLE (by omega) (by omega)).mp w; omega) KK
  · rw [if_neg (by omega), if_pos z] at KK
    exact br_t ((pk_lLE (by omega) (by omega)).mpr (by omega)) ⟨vp_in_nI hk (by omega), br_t (congrArg lN z) KK⟩
  · rw [if_neg (by omega), if_neg (by omega)] at KK
    exact br_t ((pk_lLE (by omega) (by omega)).mpr (by omega)) ⟨vp_in_nI hk (by omega), br_f (fun w => by have := (pk_lEQ (by omega) (by omega)).mp w; omega) KK⟩
end
end
section
/-! even and kinds -/
theorem zx_nbad {post : Int32 → Prop} {u : SX} {n : Nat} (h1 : 0 < n) (hn : n ≤ 5) (K : post 0) : wpX_badNumber post u (nI n) := by
  obtain ⟨f1, f2, f3, f4, f5, f6, a1, a2, a3, a4, a5, a6, a7, a8, a9, a10, a11, a12, a13⟩ := u
  exact br_f (nI_nlt (b := 1) (by omega) (by omega)) (br_t (nI_le (b := 5) (by omega) (by omega)) K)
theorem zx_isbad {post : Int32 → Prop} {u : SX} {x : Int32} (h : x < 1 ∨ ¬ x ≤ 5) (K : post 1) : wpX_badNumber post u x := by
  obtain ⟨f1, f2, f3, f4, f5, f6, a1, a2, a3, a4, a5, a6, a7, a8, a9, a10, a11, a12, a13⟩ := u
  by_cases z : x < 1
  · exact br_t z K
  · exact br_f z (br_f (h.resolve_left z) K)
def zx_eg (n : Nat) (F : Nat → Nat) : Bool := decide (∀ j, j < n → za_k8 n (zb_T F j) = za_k8 n F)
def zx_kg (n : Nat) (F : Nat → Nat) : Bool := decide (∀ j, j < n → ¬ za_k8 n (zb_T F j) < za_k8 n F)
theorem zx_eg_iff {n : Nat} {F : Nat → Nat} : zx_eg n F = true ↔ ∀ j, j < n → za_k8 n (zb_T F j) = za_k8 n F := by unfold zx_eg; exact decide_eq_true_iff
theorem zx_kg_iff {n : Nat} {F : Nat → Nat} : zx_kg n F = true ↔ ∀ j, j < n → ¬ za_k8 n (zb_T F j) < za_k8 n F := by unfold zx_kg; exact decide_eq_true_iff

section
variable {c n s : Nat} {sz rl wd : Nat → Nat} {f_size f_relators f_points f_depth f_foundFor f_found : Int32} {a_word a_relatorSize a_relator a_table a_tried a_grew a_chosen a_other a_order a_place a_many a_actionsOf : Nat → Int32} {a_tables : Nat → Int64}
theorem zx_even33 {post : Int32 → SX → Prop} {J : Int32 → Int32 → Int32 → Int32 → Int32 → Int32 → Int32 → Int32 → (Nat → Int32) → (Nat → Int32) → (Nat → Int32) → (Nat → Int32) → (Nat → Int32) → (Nat → Int32) → (Nat → Int32) → (Nat → Int64) → (Nat → Int32) → (Nat → Int32) → (Nat → Int32) → (Nat → Int32) → (Nat → Int32) → Prop} {k m : Nat} {F : Nat → Nat} (hn : n ≤ 5) (hk : k < 500) (hA : za_act n F) (hS : za_std n F) (hx : a_tables k = lN (za_k8 n F))
    (K : ∀ (fp : Int32) (oth ord pla : Nat → Int32), J (nI (if zx_eg n F = true then m + 1 else m)) (nI (k + 1)) f_size f_relators fp f_depth f_foundFor f_found a_word a_relatorSize a_relator a_table a_tried a_grew a_chosen a_tables oth ord pla a_many a_actionsOf) :
    ∀ d p (fp : Int32) (oth ord pla : Nat → Int32) (b : Bool), p + d = n → (b = true ↔ ∀ j, j < p → za_k8 n (zb_T F j) = za_k8 n F) →
      wX_even_33 post J (nI n) (nI m) (nI k) (d + 1) (if b = true then 1 else 0) (nI p) f_size f_relators fp f_depth f_foundFor f_found a_word a_relatorSize a_relator a_table a_tried a_grew a_chosen a_tables oth ord pla a_many a_actionsOf := by
  intro d
  induction d with
  | zero =>
    intro p fp oth ord pla b hp hb
    have KK := K fp oth ord pla
    have e : b = zx_eg n F := by
      rw [Bool.eq_iff_iff, hb, zx_eg_iff, show p = n by omega]
    rw [← e] at KK
    refine br_t (nI_le (by omega) (by omega)) ?_
    cases b with
    | true => exact br_f zx_1n0 (nm_r (nI_1 m) (nm_r (nI_1 k) KK))
    | false => exact br_t rfl (nm_r (nI_1 k) KK)
  | succ d ih =>
    intro p fp oth ord pla b hp hb
    refine br_f (nI_ge (by omega) (by omega)) (zx_compareFrom hn hk hA hS (by omega) hx fun oth' ord' pla' => ?_)
    cases b with
    | false =>
      have hb' : (false = true) ↔ ∀ j, j < p + 1 → za_k8 n (zb_T F j) = za_k8 n F := ⟨fun z => (nomatch z), fun z => hb.mpr fun j hj => z j (by omega)⟩
      exact br_t rfl (nm_r (nI_1 p) (ih (p + 1) _ oth' ord' pla' false (by omega) hb'))
    | true =>
      refine br_f zx_1n0 ?_
      have hall := hb.mp rfl
      by_cases z : za_k8 n (zb_T F p) = za_k8 n F
      · have hb' : (true = true) ↔ ∀ j, j < p + 1 → za_k8 n (zb_T F j) = za_k8 n F := ⟨fun _ j hj => by
          rcases Nat.lt_or_ge j p with y | y
          · exact hall j y
          · have e : j = p := by omega
            subst e; exact z, fun _ => rfl⟩
        have IH := ih (p + 1) (nI n) oth' ord' pla' true (by omega) hb'
        rw [if_neg (by omega), if_pos z]
        exact br_t rfl (nm_r (nI_1 p) IH)
      · have hb' : (false = true) ↔ ∀ j, j < p + 1 → za_k8 n (zb_T F j) = za_k8 n F := ⟨fun z => (nomatch z), fun y => absurd (y p (by omega)) z⟩
        have IH := ih (p + 1) (nI n) oth' ord' pla' false (by omega) hb'
        by_cases y : za_k8 n (zb_T F p) < za_k8 n F
        · rw [if_pos y]
          exact br_f (by decide) (nm_r (nI_1 p) IH)
        · rw [if_neg y, if_neg z]
          exact br_f (by decide) (nm_r (nI_1 p) IH)
theorem zx_even19 {post : Int32 → SX → Prop} (h1 : 0 < n) (hn : n ≤ 5) (hrl : ∀ i, rl i < 4) (hX : zx_X1 c sz rl n f_found a_tables)
    (K : ∀ (fp : Int32) (oth ord pla : Nat → Int32), post (nI (zc_cn (fun k => zx_eg n (za_F ((za_TL c sz rl n).getD k 0))) (za_TL c sz rl n).length)) (f_size, f_relators, fp, f_depth, f_foundFor, f_found, a_word, a_relatorSize, a_relator, a_table, a_tried, a_grew, a_chosen, a_tables, oth, ord, pla, a_many, a_actionsOf)) :
    ∀ d k (fp : Int32) (oth ord pla : Nat → Int32), k + d = (za_TL c sz rl n).length →
      wX_even_19 post (nI n) (d + 1) (nI (zc_cn (fun k => zx_eg n (za_F ((za_TL c sz rl n).getD k 0))) k)) (nI k) f_size f_relators fp f_depth f_foundFor f_found a_word a_relatorSize a_relator a_table a_tried a_grew a_chosen a_tables oth ord pla a_many a_actionsOf := by
  obtain ⟨e, hft⟩ := hX
  subst e
  have hlen := za_TL4 (c := c) (sz := sz) (rl := rl) h1 hn
  intro d
  induction d with
  | zero =>
    intro k fp oth ord pla hk
    have KK := K fp oth ord pla
    rw [show (za_TL c sz rl n).length = k by omega] at KK ⊢
    exact br_t (nI_le (by omega) (by omega)) KK
  | succ d ih =>
    intro k fp oth ord pla hk
    obtain ⟨⟨hA, hS, _⟩, _⟩ := za_TL1 h1 hn hrl (zb_gm (show k < (za_TL c sz rl n).length by omega))
    refine br_f (nI_ge (by omega) (by omega)) (Exists.intro (n + 1) (zx_even33 hn (by omega) hA hS (hft k (by omega)) (fun fp' oth' ord' pla' => ?_) n 0 fp oth ord pla true (by omega) ⟨fun _ j hj => absurd hj (Nat.not_lt_zero j), fun _ => rfl⟩))
    have IH := ih (k + 1) fp' oth' ord' pla' (by omega)
    rw [zc_cn_s] at IH
    have e : zc_cn (fun k => zx_eg n (za_F ((za_TL c sz rl n).getD k 0))) k + (if zx_eg n (za_F ((za_TL c sz rl n).getD k 0)) = true then 1 else 0) = if zx_eg n (za_F ((za_TL c sz rl n).getD k 0)) = true then zc_cn (fun k => zx_eg n (za_F ((za_TL c sz rl n).getD k 0))) k + 1 else zc_cn (fun k => zx_eg n (za_F ((za_TL c sz rl n).getD k 0))) k := by
      split <;> rfl
    rw [e] at IH
    exact IH
theorem zx_even {post : Int32 → SX → Prop} (hc4 : c ≤ 4) (hsz : ∀ i, sz i ≤ 8) (hrl : ∀ i, rl i < 4) (h1 : 0 < n) (hn : n ≤ 5) (hX : zx_XI c sz rl f_foundFor f_found a_tables)
    (K : ∀ (pp dd fo : Int32) (tb tr gr ch : Nat → Int32) (tbl : Nat → Int64) (oth ord pla : Nat → Int32), zx_X1 c sz rl n fo tbl →
      post (nI (zc_cn (fun k => zx_eg n (za_F ((za_TL c sz rl n).getD k 0))) (za_TL c sz rl n).length)) (f_size, nI c, pp, dd, nI n, fo, a_word, zx_n sz, zx_n rl, tb, tr, gr, ch, tbl, oth, ord, pla, a_many, a_actionsOf)) :
    wpX_even post (f_size, nI c, f_points, f_depth, f_foundFor, f_found, a_word, zx_n sz, zx_n rl, a_table, a_tried, a_grew, a_chosen, a_tables, a_other, a_order, a_place, a_many, a_actionsOf) (nI n) := by
  unfold wpX_even
  dsimp only
  refine zx_nbad h1 hn ?_
  refine br_t rfl (zx_find hc4 hsz hrl h1 hn hX fun pp dd fo tb tr gr ch tbl h => Exists.intro ((za_TL c sz rl n).length + 1) ?_)
  exact zx_even19 h1 hn hrl h (fun fp oth ord pla => K fp dd fo tb tr gr ch tbl oth ord pla h) (za_TL c sz rl n).length 0 pp a_other a_order a_place (by omega)
end

section
variable {c n s : Nat} {sz rl wd : Nat → Nat} {f_size f_relators f_points f_depth f_foundFor f_found : Int32} {a_word a_relatorSize a_relator a_table a_tried a_grew a_chosen a_other a_order a_place a_many a_actionsOf : Nat → Int32} {a_tables : Nat → Int64}
theorem zx_kinds33 {post : Int32 → SX → Prop} {J : Int32 → Int32 → Int32 → Int32 → Int32 → Int32 → Int32 → Int32 → (Nat → Int32) → (Nat → Int32) → (Nat → Int32) → (Nat → Int32) → (Nat → Int32) → (Nat → Int32) → (Nat → Int32) → (Nat → Int64) → (Nat → Int32) → (Nat → Int32) → (Nat → Int32) → (Nat → Int32) → (Nat → Int32) → Prop} {k m : Nat} {F : Nat → Nat} (hn : n ≤ 5) (hk : k < 500) (hA : za_act n F) (hS : za_std n F) (hx : a_tables k = lN (za_k8 n F))
    (K : ∀ (fp : Int32) (oth ord pla : Nat → Int32), J (nI (if zx_kg n F = true then m + 1 else m)) (nI (k + 1)) f_size f_relators fp f_depth f_foundFor f_found a_word a_relatorSize a_relator a_table a_tried a_grew a_chosen a_tables oth ord pla a_many a_actionsOf) :
    ∀ d p (fp : Int32) (oth ord pla : Nat → Int32) (b : Bool), p + d = n → (b = true ↔ ∀ j, j < p → ¬ za_k8 n (zb_T F j) < za_k8 n F) →
      wX_kinds_33 post J (nI n) (nI m) (nI k) (d + 1) (if b = true then 1 else 0) (nI p) f_size f_relators fp f_depth f_foundFor f_found a_word a_relatorSize a_relator a_table a_tried a_grew a_chosen a_tables oth ord pla a_many a_actionsOf := by
  intro d
  induction d with
  | zero =>
    intro p fp oth ord pla b hp hb
    have KK := K fp oth ord pla
    have e : b = zx_kg n F := by
      rw [Bool.eq_iff_iff, hb, zx_kg_iff, show p = n by omega]
    rw [← e] at KK
    refine br_t (nI_le (by omega) (by omega)) ?_
    cases b with
    | true => exact br_f zx_1n0 (nm_r (nI_1 m) (nm_r (nI_1 k) KK))
    | false => exact br_t rfl (nm_r (nI_1 k) KK)
  | succ d ih =>
    intro p fp oth ord pla b hp hb
    refine br_f (nI_ge (by omega) (by omega)) (zx_compareFrom hn hk hA hS (by omega) hx fun oth' ord' pla' => ?_)
    cases b with
    | false =>
      have hb' : (false = true) ↔ ∀ j, j < p + 1 → ¬ za_k8 n (zb_T F j) < za_k8 n F := ⟨fun z => (nomatch z), fun z => hb.mpr fun j hj => z j (by omega)⟩
      exact br_t rfl (nm_r (nI_1 p) (ih (p + 1) _ oth' ord' pla' false (by omega) hb'))
    | true =>
      refine br_f zx_1n0 ?_
      have hall := hb.mp rfl
      by_cases z : ¬ za_k8 n (zb_T F p) < za_k8 n F
      · have hb' : (true = true) ↔ ∀ j, j < p + 1 → ¬ za_k8 n (zb_T F j) < za_k8 n F := ⟨fun _ j hj => by
          rcases Nat.lt_or_ge j p with y | y
          · exact hall j y
          · have e : j = p := by omega
            subst e; exact z, fun _ => rfl⟩
        have IH := ih (p + 1) (nI n) oth' ord' pla' true (by omega) hb'
        rw [if_neg z]
        by_cases y : za_k8 n (zb_T F p) = za_k8 n F
        · rw [if_pos y]
          exact br_f (by decide) (nm_r (nI_1 p) IH)
        · rw [if_neg y]
          exact br_f (by decide) (nm_r (nI_1 p) IH)
      · have hb' : (false = true) ↔ ∀ j, j < p + 1 → ¬ za_k8 n (zb_T F j) < za_k8 n F := ⟨fun z => (nomatch z), fun y => absurd (y p (by omega)) z⟩
        have IH := ih (p + 1) (nI n) oth' ord' pla' false (by omega) hb'
        rw [if_pos (Classical.not_not.mp z)]
        exact br_t (by decide) (nm_r (nI_1 p) IH)
theorem zx_kinds19 {post : Int32 → SX → Prop} (h1 : 0 < n) (hn : n ≤ 5) (hrl : ∀ i, rl i < 4) (hX : zx_X1 c sz rl n f_found a_tables)
    (K : ∀ (fp : Int32) (oth ord pla : Nat → Int32), post (nI (zc_cn (fun k => zx_kg n (za_F ((za_TL c sz rl n).getD k 0))) (za_TL c sz rl n).length)) (f_size, f_relators, fp, f_depth, f_foundFor, f_found, a_word, a_relatorSize, a_relator, a_table, a_tried, a_grew, a_chosen, a_tables, oth, ord, pla, a_many, a_actionsOf)) :
    ∀ d k (fp : Int32) (oth ord pla : Nat → Int32), k + d = (za_TL c sz rl n).length →
      wX_kinds_19 post (nI n) (d + 1) (nI (zc_cn (fun k => zx_kg n (za_F ((za_TL c sz rl n).getD k 0))) k)) (nI k) f_size f_relators fp f_depth f_foundFor f_found a_word a_relatorSize a_relator a_table a_tried a_grew a_chosen a_tables oth ord pla a_many a_actionsOf := by
  obtain ⟨e, hft⟩ := hX
  subst e
  have hlen := za_TL4 (c := c) (sz := sz) (rl := rl) h1 hn
  intro d
  induction d with
  | zero =>
    intro k fp oth ord pla hk
    have KK := K fp oth ord pla
    rw [show (za_TL c sz rl n).length = k by omega] at KK ⊢
    exact br_t (nI_le (by omega) (by omega)) KK
  | succ d ih =>
    intro k fp oth ord pla hk
    obtain ⟨⟨hA, hS, _⟩, _⟩ := za_TL1 h1 hn hrl (zb_gm (show k < (za_TL c sz rl n).length by omega))
    refine br_f (nI_ge (by omega) (by omega)) (Exists.intro (n + 1) (zx_kinds33 hn (by omega) hA hS (hft k (by omega)) (fun fp' oth' ord' pla' => ?_) n 0 fp oth ord pla true (by omega) ⟨fun _ j hj => absurd hj (Nat.not_lt_zero j), fun _ => rfl⟩))
    have IH := ih (k + 1) fp' oth' ord' pla' (by omega)
    rw [zc_cn_s] at IH
    have e : zc_cn (fun k => zx_kg n (za_F ((za_TL c sz rl n).getD k 0))) k + (if zx_kg n (za_F ((za_TL c sz rl n).getD k 0)) = true then 1 else 0) = if zx_kg n (za_F ((za_TL c sz rl n).getD k 0)) = true then zc_cn (fun k => zx_kg n (za_F ((za_TL c sz rl n).getD k 0))) k + 1 else zc_cn (fun k => zx_kg n (za_F ((za_TL c sz rl n).getD k 0))) k := by
      split <;> rfl
    rw [e] at IH
    exact IH
theorem zx_kinds {post : Int32 → SX → Prop} (hc4 : c ≤ 4) (hsz : ∀ i, sz i ≤ 8) (hrl : ∀ i, rl i < 4) (h1 : 0 < n) (hn : n ≤ 5) (hX : zx_XI c sz rl f_foundFor f_found a_tables)
    (K : ∀ (pp dd fo : Int32) (tb tr gr ch : Nat → Int32) (tbl : Nat → Int64) (oth ord pla : Nat → Int32), zx_X1 c sz rl n fo tbl →
      post (nI (zc_cn (fun k => zx_kg n (za_F ((za_TL c sz rl n).getD k 0))) (za_TL c sz rl n).length)) (f_size, nI c, pp, dd, nI n, fo, a_word, zx_n sz, zx_n rl, tb, tr, gr, ch, tbl, oth, ord, pla, a_many, a_actionsOf)) :
    wpX_kinds post (f_size, nI c, f_points, f_depth, f_foundFor, f_found, a_word, zx_n sz, zx_n rl, a_table, a_tried, a_grew, a_chosen, a_tables, a_other, a_order, a_place, a_many, a_actionsOf) (nI n) := by
  unfold wpX_kinds
  dsimp only
  refine zx_nbad h1 hn ?_
  refine br_t rfl (zx_find hc4 hsz hrl h1 hn hX fun pp dd fo tb tr gr ch tbl h => Exists.intro ((za_TL c sz rl n).length + 1) ?_)
  exact zx_kinds19 h1 hn hrl h (fun fp oth ord pla => K fp dd fo tb tr gr ch tbl oth ord pla h) (za_TL c sz rl n).length 0 pp a_other a_order a_place (by omega)
end
end
section
/-! the word in tables -/
theorem zx_tF {c n k : Nat} {sz rl : Nat → Nat} (h1 : 0 < n) (hn : n ≤ 5) (hrl : ∀ i, rl i < 4) (hk : k < (za_TL c sz rl n).length) : za_tab c sz rl n (za_F ((za_TL c sz rl n).getD k 0)) := (za_TL1 h1 hn hrl (zb_gm hk)).1
section
variable {c n s : Nat} {sz rl wd : Nat → Nat} {f_size f_relators f_points f_depth f_foundFor f_found : Int32} {a_word a_relatorSize a_relator a_table a_tried a_grew a_chosen a_other a_order a_place a_many a_actionsOf : Nat → Int32} {a_tables : Nat → Int64}
theorem zx_wordFrom {post : Int32 → Prop} {k p : Nat} {F : Nat → Nat} (hn : n ≤ 5) (hs : s ≤ 8) (hwd : ∀ i, wd i < 4) (hk : k < 500) (hA : za_act n F) (hp : p < n) (hx : a_tables k = lN (za_k8 n F)) (K : post (nI (za_wk F wd s p))) :
    wpX_wordFrom post (nI s, f_relators, f_points, f_depth, f_foundFor, f_found, zx_n wd, a_relatorSize, a_relator, a_table, a_tried, a_grew, a_chosen, a_tables, a_other, a_order, a_place, a_many, a_actionsOf) (nI k) (nI p) := by
  have key : ∀ d i, i + d = s → wX_wordFrom_5 post (nI k) (nI s) f_relators f_points f_depth f_foundFor f_found (zx_n wd) a_relatorSize a_relator a_table a_tried a_grew a_chosen a_tables a_other a_order a_place a_many a_actionsOf (d + 1) (nI (za_wk F wd i p)) (nI i) := by
    intro d
    induction d with
    | zero =>
      intro i hi
      have e : i = s := by omega
      subst e
      exact br_t (nI_le (Nat.le_refl _) (by omega)) K
    | succ d ih =>
      intro i hi
      have hw := za_wk_lt hA.1 hwd hp i
      refine br_f (nI_ge (by omega) (by omega)) ⟨vp_in_nI (by omega) (by omega), ?_⟩
      rw [zx_at _ (by omega)]
      exact zx_imageIn hn hk hw (hwd i) hx (fun q hq => by have := hA.1 q hq; omega) (nm_r (nI_1 i) (ih (i + 1) (by omega)))
  exact Exists.intro (s + 1) (key s 0 (by omega))
theorem zx_tables {post : Int32 → SX → Prop} (hc4 : c ≤ 4) (hsz : ∀ i, sz i ≤ 8) (hrl : ∀ i, rl i < 4) (h1 : 0 < n) (hn : n ≤ 5) (hX : zx_XI c sz rl f_foundFor f_found a_tables)
    (K : ∀ (pp dd fo : Int32) (tb tr gr ch : Nat → Int32) (tbl : Nat → Int64), zx_X1 c sz rl n fo tbl → post (nI (za_TL c sz rl n).length) (nI s, nI c, pp, dd, nI n, fo, zx_n wd, zx_n sz, zx_n rl, tb, tr, gr, ch, tbl, a_other, a_order, a_place, a_many, a_actionsOf)) : wpX_tables post (nI s, nI c, f_points, f_depth, f_foundFor, f_found, zx_n wd, zx_n sz, zx_n rl, a_table, a_tried, a_grew, a_chosen, a_tables, a_other, a_order, a_place, a_many, a_actionsOf) (nI n) := by
  unfold wpX_tables
  dsimp only
  refine zx_nbad h1 hn ?_
  refine br_t rfl (zx_find hc4 hsz hrl h1 hn hX fun pp dd fo tb tr gr ch tbl h => ?_)
  have KK := K pp dd fo tb tr gr ch tbl h
  rw [← h.1] at KK
  exact KK
theorem zx_image {post : Int32 → SX → Prop} {p l : Nat} {x : Int32} (hc4 : c ≤ 4) (hsz : ∀ i, sz i ≤ 8) (hrl : ∀ i, rl i < 4) (h1 : 0 < n) (hn : n ≤ 5) (hp : p < n) (hl : l < 4) (hX : zx_XI c sz rl f_foundFor f_found a_tables)
    (K0 : ∀ (pp dd fo : Int32) (tb tr gr ch : Nat → Int32) (tbl : Nat → Int64), zx_X1 c sz rl n fo tbl → (∀ k, k < (za_TL c sz rl n).length → x ≠ nI k) → post (-4) (nI s, nI c, pp, dd, nI n, fo, zx_n wd, zx_n sz, zx_n rl, tb, tr, gr, ch, tbl, a_other, a_order, a_place, a_many, a_actionsOf))
    (K1 : ∀ (pp dd fo : Int32) (tb tr gr ch : Nat → Int32) (tbl : Nat → Int64), zx_X1 c sz rl n fo tbl → ∀ k, k < (za_TL c sz rl n).length → x = nI k → post (nI (za_F ((za_TL c sz rl n).getD k 0) (4 * p + l))) (nI s, nI c, pp, dd, nI n, fo, zx_n wd, zx_n sz, zx_n rl, tb, tr, gr, ch, tbl, a_other, a_order, a_place, a_many, a_actionsOf)) : wpX_image post (nI s, nI c, f_points, f_depth, f_foundFor, f_found, zx_n wd, zx_n sz, zx_n rl, a_table, a_tried, a_grew, a_chosen, a_tables, a_other, a_order, a_place, a_many, a_actionsOf) (nI n) x (nI p) (nI l) := by
  have hlen := za_TL4 (c := c) (sz := sz) (rl := rl) h1 hn
  unfold wpX_image
  dsimp only
  refine zx_nbad h1 hn ?_
  refine br_t rfl (br_f (nI_pos (by omega)) (br_f (nI_ge (by omega) (by omega)) (br_f (nI_pos (by omega)) (br_t (nI_lt (b := 4) (by omega) (by omega)) (zx_find hc4 hsz hrl h1 hn hX fun pp dd fo tb tr gr ch tbl h => ?_)))))
  obtain ⟨e, hft⟩ := id h
  subst e
  rcases pk_ix x (n := (za_TL c sz rl n).length) (by omega) with z | z | ⟨k, hk, z⟩
  · exact br_t z (K0 _ _ _ _ _ _ _ _ h fun k hk y => nI_pos (n := k) (by omega) (y ▸ z))
  · refine br_f (fun y => ?_) (br_f (fun y => ?_) (K0 _ _ _ _ _ _ _ _ h fun k hk y => ?_))
    · exact nI_pos (n := (za_TL c sz rl n).length) (by omega) (Int32.lt_of_le_of_lt z y)
    · exact Int32.lt_irrefl (Int32.lt_of_le_of_lt z y)
    · subst y; exact nI_ge hk (by omega) z
  · subst z
    obtain ⟨hA, _, _⟩ := zx_tF (c := c) (sz := sz) h1 hn hrl hk
    exact br_f (nI_pos (by omega)) (br_t (nI_lt hk (by omega)) (zx_imageIn hn (by omega) hp hl (hft k hk) (fun q hq => by have := hA.1 q hq; omega) (K1 _ _ _ _ _ _ _ _ h k hk rfl)))
/-- the word's period at point 0 -/
theorem zx_per {F : Nat → Nat} (h1 : 0 < n) (hA : za_act n F) (hwd : ∀ i, wd i < 4) : ∃ m, 0 < m ∧ m ≤ n ∧ zb_it (za_wk F wd s) m = 0 ∧ ∀ j, 0 < j → j < m → zb_it (za_wk F wd s) j ≠ 0 := by
  obtain ⟨m, a, b, e⟩ := zb_per h1 (f := za_wk F wd s) (fun a ha => za_wk_lt hA.1 hwd ha s) (zb_inj hA hwd s)
  obtain ⟨k, ⟨k1, k2, k3⟩, kl⟩ := pk_least (fun m => 0 < m ∧ m ≤ n ∧ zb_it (za_wk F wd s) m = 0) ⟨m, a, b, e⟩
  exact ⟨k, k1, k2, k3, fun j hj hl z => kl j hl ⟨hj, by omega, z⟩⟩
theorem zx_it_lt {F : Nat → Nat} (h1 : 0 < n) (hA : za_act n F) (hwd : ∀ i, wd i < 4) : ∀ j, zb_it (za_wk F wd s) j < n := by
  intro j
  induction j with
  | zero => exact h1
  | succ j ih => exact za_wk_lt hA.1 hwd ih s
theorem zx_period {post : Int32 → SX → Prop} {x : Int32} (hs : s ≤ 8) (hwd : ∀ i, wd i < 4) (hc4 : c ≤ 4) (hsz : ∀ i, sz i ≤ 8) (hrl : ∀ i, rl i < 4) (h1 : 0 < n) (hn : n ≤ 5) (hX : zx_XI c sz rl f_foundFor f_found a_tables)
    (K0 : ∀ (pp dd fo : Int32) (tb tr gr ch : Nat → Int32) (tbl : Nat → Int64), zx_X1 c sz rl n fo tbl → (∀ k, k < (za_TL c sz rl n).length → x ≠ nI k) → post (-4) (nI s, nI c, pp, dd, nI n, fo, zx_n wd, zx_n sz, zx_n rl, tb, tr, gr, ch, tbl, a_other, a_order, a_place, a_many, a_actionsOf))
    (K1 : ∀ (pp dd fo : Int32) (tb tr gr ch : Nat → Int32) (tbl : Nat → Int64), zx_X1 c sz rl n fo tbl → ∀ k, k < (za_TL c sz rl n).length → x = nI k → ∀ m, 0 < m → m ≤ n → zb_it (za_wk (za_F ((za_TL c sz rl n).getD k 0)) wd s) m = 0 → (∀ j, 0 < j → j < m → zb_it (za_wk (za_F ((za_TL c sz rl n).getD k 0)) wd s) j ≠ 0) → post (nI m) (nI s, nI c, pp, dd, nI n, fo, zx_n wd, zx_n sz, zx_n rl, tb, tr, gr, ch, tbl, a_other, a_order, a_place, a_many, a_actionsOf)) :
    wpX_period post (nI s, nI c, f_points, f_depth, f_foundFor, f_found, zx_n wd, zx_n sz, zx_n rl, a_table, a_tried, a_grew, a_chosen, a_tables, a_other, a_order, a_place, a_many, a_actionsOf) (nI n) x := by
  have hlen := za_TL4 (c := c) (sz := sz) (rl := rl) h1 hn
  unfold wpX_period
  dsimp only
  refine zx_nbad h1 hn ?_
  refine br_t rfl (zx_find hc4 hsz hrl h1 hn hX fun pp dd fo tb tr gr ch tbl h => ?_)
  obtain ⟨e, hft⟩ := id h
  subst e
  rcases pk_ix x (n := (za_TL c sz rl n).length) (by omega) with z | z | ⟨k, hk, z⟩
  · exact br_t z (K0 _ _ _ _ _ _ _ _ h fun k hk y => nI_pos (n := k) (by omega) (y ▸ z))
  · refine br_f (fun y => ?_) (br_f (fun y => ?_) (K0 _ _ _ _ _ _ _ _ h fun k hk y => ?_))
    · exact nI_pos (n := (za_TL c sz rl n).length) (by omega) (Int32.lt_of_le_of_lt z y)
    · exact Int32.lt_irrefl (Int32.lt_of_le_of_lt z y)
    · subst y; exact nI_ge hk (by omega) z
  · subst z
    obtain ⟨hA, _, _⟩ := zx_tF (c := c) (sz := sz) h1 hn hrl hk
    obtain ⟨m, m1, m2, m3, m4⟩ := zx_per (s := s) h1 hA hwd
    have KK := K1 pp dd _ tb tr gr ch tbl h k hk rfl m m1 m2 m3 m4
    have lt := zx_it_lt (s := s) h1 hA hwd
    have key : ∀ d j, j + d = m → 0 < j → wX_period_40 post (nI k) (nI s) (nI c) pp dd (nI n) (nI (za_TL c sz rl n).length) (zx_n wd) (zx_n sz) (zx_n rl) tb tr gr ch tbl a_other a_order a_place a_many a_actionsOf (d + 1) (nI j) (nI (zb_it (za_wk (za_F ((za_TL c sz rl n).getD k 0)) wd s) j)) := by
      intro d
      induction d with
      | zero =>
        intro j hj _
        have e : j = m := by omega
        subst e
        rw [m3]
        exact br_t rfl KK
      | succ d ih =>
        intro j hj hj0
        have := lt j
        exact br_f (nI_ne0 (Nat.pos_of_ne_zero (m4 j hj0 (by omega))) (by omega)) (br_f (nI_ge (b := 5) (by omega) (by omega)) (zx_wordFrom hn hs hwd (by omega) hA this (hft k hk) (nm_r (nI_1 j) (ih (j + 1) (by omega) (by omega)))))
    exact br_f (nI_pos (by omega)) (br_t (nI_lt hk (by omega)) (zx_wordFrom (p := 0) hn hs hwd (by omega) hA h1 (hft k hk) (Exists.intro (m - 1 + 1) (key (m - 1) 1 (by omega) (by omega)))))
theorem zx_fixing {post : Int32 → SX → Prop} (hs : s ≤ 8) (hwd : ∀ i, wd i < 4) (hc4 : c ≤ 4) (hsz : ∀ i, sz i ≤ 8) (hrl : ∀ i, rl i < 4) (h1 : 0 < n) (hn : n ≤ 5) (hX : zx_XI c sz rl f_foundFor f_found a_tables)
    (K : ∀ (pp dd fo : Int32) (tb tr gr ch : Nat → Int32) (tbl : Nat → Int64), zx_X1 c sz rl n fo tbl → post (nI (zc_cn (fun k => decide (za_wk (za_F ((za_TL c sz rl n).getD k 0)) wd s 0 = 0)) (za_TL c sz rl n).length)) (nI s, nI c, pp, dd, nI n, fo, zx_n wd, zx_n sz, zx_n rl, tb, tr, gr, ch, tbl, a_other, a_order, a_place, a_many, a_actionsOf)) : wpX_fixing post (nI s, nI c, f_points, f_depth, f_foundFor, f_found, zx_n wd, zx_n sz, zx_n rl, a_table, a_tried, a_grew, a_chosen, a_tables, a_other, a_order, a_place, a_many, a_actionsOf) (nI n) := by
  have hlen := za_TL4 (c := c) (sz := sz) (rl := rl) h1 hn
  unfold wpX_fixing
  dsimp only
  refine zx_nbad h1 hn ?_
  refine br_t rfl (zx_find hc4 hsz hrl h1 hn hX fun pp dd fo tb tr gr ch tbl h => Exists.intro ((za_TL c sz rl n).length + 1) ?_)
  have KK := K pp dd fo tb tr gr ch tbl h
  obtain ⟨e, hft⟩ := h
  subst e
  have key : ∀ d k, k + d = (za_TL c sz rl n).length → wX_fixing_19 post (nI s) (nI c) pp dd (nI n) (nI (za_TL c sz rl n).length) (zx_n wd) (zx_n sz) (zx_n rl) tb tr gr ch tbl a_other a_order a_place a_many a_actionsOf (d + 1) (nI (zc_cn (fun k => decide (za_wk (za_F ((za_TL c sz rl n).getD k 0)) wd s 0 = 0)) k)) (nI k) := by
    intro d
    induction d with
    | zero =>
      intro k hk
      refine br_t (nI_le (by omega) (by omega)) ?_
      rw [show k = (za_TL c sz rl n).length by omega]
      exact KK
    | succ d ih =>
      intro k hk
      obtain ⟨hA, _, _⟩ := zx_tF (c := c) (sz := sz) h1 hn hrl (show k < (za_TL c sz rl n).length by omega)
      have lt := za_wk_lt hA.1 hwd h1 s
      have IH := ih (k + 1) (by omega)
      rw [zc_cn_s] at IH
      refine br_f (nI_ge (by omega) (by omega)) (zx_wordFrom (p := 0) hn hs hwd (by omega) hA h1 (hft k (by omega)) ?_)
      by_cases z : za_wk (za_F ((za_TL c sz rl n).getD k 0)) wd s 0 = 0
      · rw [if_pos (decide_eq_true z)] at IH
        rw [z]
        exact br_t rfl (nm_r (nI_1 _) (nm_r (nI_1 k) IH))
      · rw [if_neg (fun y => z (of_decide_eq_true y)), Nat.add_zero] at IH
        exact br_f (nI_ne0 (Nat.pos_of_ne_zero z) (by omega)) (nm_r (nI_1 k) IH)
  exact key (za_TL c sz rl n).length 0 (by omega)
end
theorem zc_cn_le (p : Nat → Bool) : ∀ m, zc_cn p m ≤ m := by
  intro m
  induction m with
  | zero => exact Nat.le_refl _
  | succ m ih => rw [zc_cn_s]; split <;> omega
theorem zc_cn_full (p : Nat → Bool) : ∀ m, zc_cn p m = m ↔ ∀ k, k < m → p k = true := by
  intro m
  induction m with
  | zero => exact ⟨fun _ k hk => absurd hk (Nat.not_lt_zero k), fun _ => rfl⟩
  | succ m ih =>
    have le := zc_cn_le p m
    rw [zc_cn_s]
    constructor
    · intro h k hk
      by_cases z : p m = true
      · rw [if_pos z] at h
        rcases Nat.lt_or_ge k m with y | y
        · exact ih.mp (by omega) k y
        · have e : k = m := by omega
          rw [e]; exact z
      · rw [if_neg z] at h; omega
    · intro h
      rw [if_pos (h m (by omega)), ih.mpr fun k hk => h k (by omega)]
/-- point 0 is fixed in all tables of n points -/
def zx_P0 (c : Nat) (sz rl wd : Nat → Nat) (s n : Nat) : Prop := ∀ k, k < (za_TL c sz rl n).length → za_wk (za_F ((za_TL c sz rl n).getD k 0)) wd s 0 = 0
section
variable {c s : Nat} {sz rl wd : Nat → Nat} {f_size f_relators f_points f_depth f_foundFor f_found : Int32} {a_word a_relatorSize a_relator a_table a_tried a_grew a_chosen a_other a_order a_place a_many a_actionsOf : Nat → Int32} {a_tables : Nat → Int64}
theorem zx_still {post : Int32 → SX → Prop} (hs : s ≤ 8) (hwd : ∀ i, wd i < 4) (hc4 : c ≤ 4) (hsz : ∀ i, sz i ≤ 8) (hrl : ∀ i, rl i < 4) (hX : zx_XI c sz rl f_foundFor f_found a_tables)
    (K1 : ∀ (pp dd ff fo : Int32) (tb tr gr ch : Nat → Int32) (tbl : Nat → Int64), zx_XI c sz rl ff fo tbl → (∀ n, 0 < n → n ≤ 5 → zx_P0 c sz rl wd s n) → post 1 (nI s, nI c, pp, dd, ff, fo, zx_n wd, zx_n sz, zx_n rl, tb, tr, gr, ch, tbl, a_other, a_order, a_place, a_many, a_actionsOf))
    (K0 : ∀ (pp dd ff fo : Int32) (tb tr gr ch : Nat → Int32) (tbl : Nat → Int64), zx_XI c sz rl ff fo tbl → ∀ n, 0 < n → n ≤ 5 → ¬ zx_P0 c sz rl wd s n → post 0 (nI s, nI c, pp, dd, ff, fo, zx_n wd, zx_n sz, zx_n rl, tb, tr, gr, ch, tbl, a_other, a_order, a_place, a_many, a_actionsOf)) : wpX_still post (nI s, nI c, f_points, f_depth, f_foundFor, f_found, zx_n wd, zx_n sz, zx_n rl, a_table, a_tried, a_grew, a_chosen, a_tables, a_other, a_order, a_place, a_many, a_actionsOf) := by
  have key : ∀ d n (pp dd ff fo : Int32) (tb tr gr ch : Nat → Int32) (tbl : Nat → Int64), n + d = 6 → 0 < n → zx_XI c sz rl ff fo tbl → (∀ j, 0 < j → j < n → zx_P0 c sz rl wd s j) → wX_still_4 post (d + 2) 1 (nI n) (nI s) (nI c) pp dd ff fo (zx_n wd) (zx_n sz) (zx_n rl) tb tr gr ch tbl a_other a_order a_place a_many a_actionsOf := by
    intro d
    induction d with
    | zero =>
      intro n pp dd ff fo tb tr gr ch tbl hn h0 hXI H
      exact br_t (nI_lt (a := 5) (by omega) (by omega)) (br_f zx_1n0 (K1 _ _ _ _ _ _ _ _ _ hXI fun j a b => H j a (by omega)))
    | succ d ih =>
      intro n pp dd ff fo tb tr gr ch tbl hn h0 hXI H
      refine br_f (nI_nlt (b := n) (a := 5) (by omega) (by omega)) (br_f zx_1n0 (zx_fixing hs hwd hc4 hsz hrl h0 (by omega) hXI fun pp' dd' fo' tb' tr' gr' ch' tbl' h => ?_))
      have hXI' : zx_XI c sz rl (nI n) fo' tbl' := Or.inr ⟨n, h0, by omega, rfl, h⟩
      have hlen := za_TL4 (c := c) (sz := sz) (rl := rl) (n := n) h0 (by omega)
      have le := zc_cn_le (fun k => decide (za_wk (za_F ((za_TL c sz rl n).getD k 0)) wd s 0 = 0)) (za_TL c sz rl n).length
      rw [h.1]
      rw [h.1] at hXI'
      by_cases z : zc_cn (fun k => decide (za_wk (za_F ((za_TL c sz rl n).getD k 0)) wd s 0 = 0)) (za_TL c sz rl n).length = (za_TL c sz rl n).length
      · have P : zx_P0 c sz rl wd s n := fun k hk => of_decide_eq_true ((zc_cn_full _ _).mp z k hk)
        refine br_t (congrArg nI z) (nm_r (nI_1 n) (ih (n + 1) _ _ _ _ _ _ _ _ _ (by omega) (by omega) hXI' fun j a b => ?_))
        rcases Nat.lt_or_ge j n with y | y
        · exact H j a y
        · have e : j = n := by omega
          subst e; exact P
      · have P : ¬ zx_P0 c sz rl wd s n := fun y => z ((zc_cn_full _ _).mpr fun k hk => decide_eq_true (y k hk))
        refine br_f (fun y => z ((nI_eq (by omega) (by omega)).mp y)) (nm_r (nI_1 n) ?_)
        have KK := K0 pp' dd' _ _ tb' tr' gr' ch' tbl' hXI' n h0 (by omega) P
        exact pk_lt 5 (n + 1) (fun _ => br_t rfl KK) (fun _ => br_t rfl (br_t rfl KK))
  exact Exists.intro 7 (key 5 1 _ _ _ _ _ _ _ _ _ (by omega) (by omega) hX fun j a b => absurd b (by omega))
theorem zx_act47 {post : Int32 → SX → Prop} {J : Int32 → Int32 → Int32 → Int32 → Int32 → Int32 → Int32 → (Nat → Int32) → (Nat → Int32) → (Nat → Int32) → (Nat → Int32) → (Nat → Int32) → (Nat → Int32) → (Nat → Int32) → (Nat → Int64) → (Nat → Int32) → (Nat → Int32) → (Nat → Int32) → (Nat → Int32) → (Nat → Int32) → Prop} {x1 : Int32} {i : Nat} {N H : Nat → Nat} (hi : i ≤ 5) (hm : ∀ k, 0 < k → k ≤ i → a_many k = nI (N k)) (ha : ∀ k, k < i → a_actionsOf k = nI (H k))
    (K : J (nI (i + 1)) f_size f_relators f_points f_depth f_foundFor f_found a_word a_relatorSize a_relator a_table a_tried a_grew a_chosen a_tables a_other a_order a_place a_many (upd a_actionsOf i (nI (za_sm (fun k => zd_or i k * (N (k + 1) * H (i - (k + 1)))) i)))) :
    ∀ d k, k + d = i → wX_actions_47 post J x1 (nI i) f_size f_relators f_points f_depth f_foundFor f_found a_word a_relatorSize a_relator a_table a_tried a_grew a_chosen a_tables a_other a_order a_place a_many a_actionsOf (d + 1) (nI (za_sm (fun k => zd_or i k * (N (k + 1) * H (i - (k + 1)))) k)) (nI (zd_or i k)) (nI (k + 1)) := by
  intro d
  induction d with
  | zero =>
    intro k hk
    have e : k = i := by omega
    subst e
    exact br_t (nI_lt (by omega) (by omega)) ⟨vp_in_nI (by omega) (by omega), nm_r (by rw [nI_clamp (by omega)]) (nm_r (nI_1 k) K)⟩
  | succ d ih =>
    intro k hk
    refine br_f (nI_nlt (by omega) (by omega)) ⟨vp_in_nI (by omega) (by omega), ?_⟩
    rw [pk_sub (by omega), nI_clamp (by omega), nI_clamp (by omega), hm (k + 1) (by omega) (by omega), ha (i - (k + 1)) (by omega), pk_mul, pk_mul, pk_mul, nI_add, Nat.mul_assoc]
    exact ⟨vp_in_nI (by omega) (by omega), nm_e (nm_e (nm_r (nI_1 (k + 1)) (ih (k + 1) (by omega))))⟩
theorem zx_actions {post : Int32 → SX → Prop} {n : Nat} (hc4 : c ≤ 4) (hsz : ∀ i, sz i ≤ 8) (hrl : ∀ i, rl i < 4) (h1 : 0 < n) (hn : n ≤ 5) (hX : zx_XI c sz rl f_foundFor f_found a_tables)
    (K : ∀ (pp dd ff fo : Int32) (tb tr gr ch : Nat → Int32) (tbl : Nat → Int64) (mn ac : Nat → Int32), zx_XI c sz rl ff fo tbl → post (nI (zd_H c sz rl n)) (nI s, nI c, pp, dd, ff, fo, zx_n wd, zx_n sz, zx_n rl, tb, tr, gr, ch, tbl, a_other, a_order, a_place, mn, ac)) : wpX_actions post (nI s, nI c, f_points, f_depth, f_foundFor, f_found, zx_n wd, zx_n sz, zx_n rl, a_table, a_tried, a_grew, a_chosen, a_tables, a_other, a_order, a_place, a_many, a_actionsOf) (nI n) := by
  have key : ∀ d i (pp dd ff fo : Int32) (tb tr gr ch : Nat → Int32) (tbl : Nat → Int64) (mn ac : Nat → Int32), i + d = n + 1 → 0 < i → zx_XI c sz rl ff fo tbl → (∀ k, 0 < k → k < i → mn k = nI (za_TL c sz rl k).length) → (∀ k, k < i → ac k = nI (zd_H c sz rl k)) →
      wX_actions_19 post (nI n) (d + 1) (nI i) (nI s) (nI c) pp dd ff fo (zx_n wd) (zx_n sz) (zx_n rl) tb tr gr ch tbl a_other a_order a_place mn ac := by
    intro d
    induction d with
    | zero =>
      intro i pp dd ff fo tb tr gr ch tbl mn ac hi h0 hXI hm ha
      refine br_t (nI_lt (by omega) (by omega)) ⟨vp_in_nI (by omega) (by omega), ?_⟩
      rw [nI_clamp (by omega), ha n (by omega)]
      exact K _ _ _ _ _ _ _ _ _ _ _ hXI
    | succ d ih =>
      intro i pp dd ff fo tb tr gr ch tbl mn ac hi h0 hXI hm ha
      refine br_f (nI_nlt (by omega) (by omega)) (zx_find hc4 hsz hrl h0 (by omega) hXI fun pp' dd' fo' tb' tr' gr' ch' tbl' h => ?_)
      have hXI' : zx_XI c sz rl (nI i) fo' tbl' := Or.inr ⟨i, h0, by omega, rfl, h⟩
      have hm' : ∀ k, 0 < k → k ≤ i → upd mn i fo' k = nI (za_TL c sz rl k).length := by
        intro k a b
        by_cases e : k = i
        · subst e; rw [pk_us, h.1]
        · rw [pk_un e]; exact hm k a (by omega)
      refine ⟨vp_in_nI (by omega) (by omega), nm_r (e' := upd mn i fo') (by rw [nI_clamp (by omega)]) (Exists.intro (i + 1) (zx_act47 (N := fun k => (za_TL c sz rl k).length) (H := zd_H c sz rl) (by omega) hm' ha ?_ i 0 (by omega)))⟩
      refine ih (i + 1) _ _ _ _ _ _ _ _ _ _ _ (by omega) (by omega) hXI' (fun k a b => hm' k a (by omega)) fun k hk => ?_
      by_cases e : k = i
      · subst e; rw [pk_us, ← zd_rec h0 (by omega) hrl]
      · rw [pk_un e]; exact ha k (by omega)
  unfold wpX_actions
  dsimp only
  refine zx_nbad h1 hn ?_
  refine br_t rfl (nm_e (Exists.intro (n + 1) (key n 1 _ _ _ _ _ _ _ _ _ _ _ (by omega) (by omega) hX (fun k a b => absurd b (by omega)) fun k hk => ?_)))
  have e : k = 0 := by omega
  subst e
  rw [pk_us, zd_H0]
  rfl
end
end
section
/-! divisors and cyclic images -/
def zx_i (Z : Int) : Int32 := Int32.ofInt Z
theorem zx_i_n (n : Nat) : zx_i (n : Int) = nI n := Int32.ofInt_eq_ofNat
theorem zx_i_t {Z : Int} (h1 : -2 ^ 31 ≤ Z) (h2 : Z < 2 ^ 31) : (zx_i Z).toInt = Z := Int32.toInt_ofInt_of_le h1 h2
theorem zx_i_1 (Z : Int) : zx_i Z + 1 = zx_i (Z + 1) := (Int32.ofInt_add Z 1).symm
theorem zx_i_m1 (Z : Int) : zx_i Z - 1 = zx_i (Z + -1) := by
  have : Z + -1 = Z - 1 := rfl
  rw [this]
  exact (Int32.ofInt_sub Z 1).symm
theorem zx_gcd_b {a b M : Nat} (ha : a ≤ M) (hb : b ≤ M) : Nat.gcd a b ≤ M := by
  rcases Nat.eq_zero_or_pos a with z | z
  · subst z; rw [Nat.gcd_zero_left]; exact hb
  · exact Nat.le_trans (Nat.gcd_le_left b z) ha
def zx_ex (w : Nat → Nat) (l : Nat) : Nat → Int
  | 0 => 0
  | m + 1 => zx_ex w l m + (if w m = l then 1 else if w m = l + 1 then -1 else 0)
theorem zx_ex_s (w : Nat → Nat) (l m : Nat) : zx_ex w l (m + 1) = zx_ex w l m + (if w m = l then 1 else if w m = l + 1 then -1 else 0) := rfl
theorem zx_ex_b (w : Nat → Nat) (l : Nat) : ∀ m, (zx_ex w l m).natAbs ≤ m := by
  intro m
  induction m with
  | zero => exact Nat.le_refl _
  | succ m ih =>
    rw [zx_ex_s]
    split
    · omega
    · split <;> omega
def zx_eA (sz rl : Nat → Nat) (k : Nat) : Int := zx_ex (fun i => rl (8 * k + i)) 0 (sz k)
def zx_eB (sz rl : Nat → Nat) (k : Nat) : Int := zx_ex (fun i => rl (8 * k + i)) 2 (sz k)
def zx_cy (c : Nat) (sz rl : Nat → Nat) (m : Nat) : Nat := za_sm (fun x => zc_cn (fun y => decide (∀ k, k < c → (m : Int) ∣ zx_eB sz rl k * (y : Int) + zx_eA sz rl k * (x : Int))) m) m
theorem zx_dg {T Z : Int} {a : Nat} : T ∣ ((Nat.gcd a Z.natAbs : Nat) : Int) ↔ T ∣ (a : Int) ∧ T ∣ Z := Int.dvd_coe_gcd_iff (a := (a : Int)) (b := Z)
theorem zx_sq {c : Nat} {Q : Nat → Nat → Prop} : (∀ j, j < c * c → Q (j / c) (j % c)) ↔ ∀ i, i < c → ∀ j, j < c → Q i j := by
  constructor
  · intro h i hi j hj
    have h0 : 0 < c := by omega
    have hlt : c * i + j < c * c := by
      have : c * (i + 1) ≤ c * c := Nat.mul_le_mul_left _ hi
      rw [Nat.mul_add] at this
      omega
    have := h _ hlt
    rw [Nat.mul_add_div h0, Nat.div_eq_of_lt hj, Nat.add_zero, Nat.mul_add_mod, Nat.mod_eq_of_lt hj] at this
    exact this
  · intro h j hj
    have h0 : 0 < c := by
      rcases Nat.eq_zero_or_pos c with z | z
      · subst z; omega
      · exact z
    exact h _ ((Nat.div_lt_iff_lt_mul h0).mpr hj) _ (Nat.mod_lt _ h0)
section
variable {c : Nat} {sz rl : Nat → Nat} {f_size f_relators f_points f_depth f_foundFor f_found : Int32} {a_word a_relatorSize a_relator a_table a_tried a_grew a_chosen a_other a_order a_place a_many a_actionsOf : Nat → Int32} {a_tables : Nat → Int64}
theorem zx_gcd_l {post : Int32 → Prop} : ∀ f a b : Nat, b < f → a < 2 ^ 31 → b < 2 ^ 31 → post (nI (Nat.gcd a b)) → wX_greatest_23 post f_size f_relators f_points f_depth f_foundFor f_found a_word a_relatorSize a_relator a_table a_tried a_grew a_chosen a_tables a_other a_order a_place a_many a_actionsOf f (nI a) (nI b) := by
  intro f
  induction f with
  | zero => intro a b h; exact absurd h (Nat.not_lt_zero b)
  | succ f ih =>
    intro a b h ha hb K
    rcases Nat.eq_zero_or_pos b with z | z
    · subst z
      rw [Nat.gcd_zero_right] at K
      exact br_t (by decide) K
    · have hm := Nat.mod_lt a z
      refine br_f (nI_nle z hb) ⟨nI_ne0 z hb, nm_r (pk_rem ha z hb) (ih b (a % b) (by omega) hb (by omega) ?_)⟩
      rw [Nat.gcd_comm b, ← Nat.gcd_rec, Nat.gcd_comm]
      exact K
theorem zx_greatest {post : Int32 → Prop} {a : Nat} {Z : Int} (ha : a < 2 ^ 31) (hZ : Z.natAbs < 2 ^ 31) (K : post (nI (Nat.gcd a Z.natAbs))) : wpX_greatest post (f_size, f_relators, f_points, f_depth, f_foundFor, f_found, a_word, a_relatorSize, a_relator, a_table, a_tried, a_grew, a_chosen, a_tables, a_other, a_order, a_place, a_many, a_actionsOf) (nI a) (zx_i Z) := by
  refine br_t (nI_pos' ha) ?_
  by_cases z : 0 ≤ Z
  · have e : zx_i Z = nI Z.natAbs := by
      rw [← zx_i_n]
      exact congrArg zx_i (by omega)
    rw [e]
    exact br_t (nI_pos' hZ) (Exists.intro (Z.natAbs + 1) (zx_gcd_l _ _ _ (by omega) ha hZ K))
  · have e : -zx_i Z = nI Z.natAbs := by
      rw [← zx_i_n]
      have : -zx_i Z = zx_i (-Z) := (Int32.ofInt_neg Z).symm
      rw [this]
      exact congrArg zx_i (by omega)
    refine br_f (fun y => ?_) (nm_r e (Exists.intro (Z.natAbs + 1) (zx_gcd_l _ _ _ (by omega) ha hZ K)))
    rw [Int32.le_iff_toInt_le, zx_i_t (by omega) (by omega), show (0 : Int32).toInt = 0 from by decide] at y
    omega
theorem zx_greatestN {post : Int32 → Prop} {a b : Nat} (ha : a < 2 ^ 31) (hb : b < 2 ^ 31) (K : post (nI (Nat.gcd a b))) : wpX_greatest post (f_size, f_relators, f_points, f_depth, f_foundFor, f_found, a_word, a_relatorSize, a_relator, a_table, a_tried, a_grew, a_chosen, a_tables, a_other, a_order, a_place, a_many, a_actionsOf) (nI a) (nI b) := by
  rw [← zx_i_n b]
  exact zx_greatest ha (by omega) K
theorem zx_excess {post : Int32 → Prop} {k l : Nat} (hk : k < 4) (hl : l < 4) (hsz : ∀ i, sz i ≤ 8) (hrl : ∀ i, rl i < 4) (K : post (zx_i (zx_ex (fun i => rl (8 * k + i)) l (sz k)))) : wpX_excess post (f_size, f_relators, f_points, f_depth, f_foundFor, f_found, a_word, zx_n sz, zx_n rl, a_table, a_tried, a_grew, a_chosen, a_tables, a_other, a_order, a_place, a_many, a_actionsOf) (nI k) (nI l) := by
  have hs := hsz k
  have key : ∀ d i, i + d = sz k → wX_excess_5 post (nI k) (nI l) f_size f_relators f_points f_depth f_foundFor f_found a_word (zx_n sz) (zx_n rl) a_table a_tried a_grew a_chosen a_tables a_other a_order a_place a_many a_actionsOf (d + 1) (zx_i (zx_ex (fun i => rl (8 * k + i)) l i)) (nI i) := by
    intro d
    induction d with
    | zero =>
      intro i hi
      have e : i = sz k := by omega
      subst e
      exact And.intro (vp_in_nI hk (by omega)) (br_t (by rw [zx_at _ (by omega)]; exact nI_le (Nat.le_refl _) (by omega)) K)
    | succ d ih =>
      intro i hi
      have IH := ih (i + 1) (by omega)
      rw [zx_ex_s] at IH
      have hr := hrl (8 * k + i)
      refine And.intro (vp_in_nI hk (by omega)) (br_f (by rw [zx_at _ (by omega)]; exact nI_ge (by omega) (by omega)) ⟨?_, nm_r (e' := nI (rl (8 * k + i))) ?_ ?_⟩)
      · rw [zx_m8]; exact vp_in_nI (by omega) (by omega)
      · rw [zx_m8, zx_at _ (by omega)]
      · by_cases e1 : rl (8 * k + i) = l
        · rw [if_pos e1] at IH
          exact br_t (congrArg nI e1) (nm_r (zx_i_1 _) (nm_r (nI_1 i) IH))
        · rw [if_neg e1] at IH
          refine br_f (fun z => e1 ((nI_eq (by omega) (by omega)).mp z)) ?_
          rw [nI_1 l]
          by_cases e2 : rl (8 * k + i) = l + 1
          · rw [if_pos e2] at IH
            exact br_t (congrArg nI e2) (nm_r (zx_i_m1 _) (nm_r (nI_1 i) IH))
          · rw [if_neg e2, Int.add_zero] at IH
            exact br_f (fun z => e2 ((nI_eq (by omega) (by omega)).mp z)) (nm_r (nI_1 i) IH)
  exact Exists.intro (sz k + 1) (key (sz k) 0 (by omega))
theorem zx_cyclic {post : Int32 → Prop} {m : Nat} (hc : c ≤ 4) (hsz : ∀ i, sz i ≤ 8) (hrl : ∀ i, rl i < 4) (h1 : 0 < m) (hm : m ≤ 1000) (K : post (nI (zx_cy c sz rl m))) : wpX_cyclic post (f_size, nI c, f_points, f_depth, f_foundFor, f_found, a_word, zx_n sz, zx_n rl, a_table, a_tried, a_grew, a_chosen, a_tables, a_other, a_order, a_place, a_many, a_actionsOf) (nI m) := by
  have hcc : c * c ≤ 4 * 4 := Nat.mul_le_mul hc hc
  have bA : ∀ k, (zx_eA sz rl k).natAbs ≤ 8 := fun k => Nat.le_trans (zx_ex_b _ _ _) (hsz k)
  have bB : ∀ k, (zx_eB sz rl k).natAbs ≤ 8 := fun k => Nat.le_trans (zx_ex_b _ _ _) (hsz k)
  have key : ∀ d q one both : Nat, q + d = c * c → one ≤ 8 → both ≤ 128 → (∀ T : Int, T ∣ (one : Int) ↔ ∀ j, j < q → T ∣ zx_eA sz rl (j / c) ∧ T ∣ zx_eB sz rl (j / c)) → (∀ T : Int, T ∣ (both : Int) ↔ ∀ j, j < q → T ∣ zx_eA sz rl (j / c) * zx_eB sz rl (j % c) - zx_eB sz rl (j / c) * zx_eA sz rl (j % c)) →
      wX_cyclic_21 post (nI m) f_size (nI c) f_points f_depth f_foundFor f_found a_word (zx_n sz) (zx_n rl) a_table a_tried a_grew a_chosen a_tables a_other a_order a_place a_many a_actionsOf (d + 1) (nI one) (nI both) (nI q) := by
    intro d
    induction d with
    | zero =>
      intro q one both hq ho hb h1' h2'
      have e : q = c * c := by omega
      subst e
      have M := zc_main m h1 c (zx_eA sz rl) (zx_eB sz rl) one both (if one = 0 then 0 else both / one) (fun T => by
        rw [h1' T]
        refine Iff.trans (zx_sq (Q := fun i _ => T ∣ zx_eA sz rl i ∧ T ∣ zx_eB sz rl i)) ⟨fun h k hk => h k hk k hk, fun h i hi _ _ => h i hi⟩) (fun T => by
        rw [h2' T]
        exact zx_sq (Q := fun i j => T ∣ zx_eA sz rl i * zx_eB sz rl j - zx_eB sz rl i * zx_eA sz rl j)) rfl
      have K' : post (nI (Nat.gcd one m * Nat.gcd (if one = 0 then 0 else both / one) m)) := by rw [← M]; exact K
      refine br_t (by rw [pk_mul]; exact nI_le (Nat.le_refl _) (by omega)) ?_
      rcases Nat.eq_zero_or_pos one with z | z
      · rw [if_pos z] at K'
        subst z
        refine br_t (by decide) (zx_greatestN (by omega) (by omega) (zx_greatestN (a := 0) (by omega) (by omega) ?_))
        rw [pk_mul]
        exact K'
      · rw [if_neg (by omega)] at K'
        have hle : both / one ≤ both := Nat.div_le_self _ _
        refine br_f (nI_nle z (by omega)) ⟨nI_ne0 z (by omega), ?_⟩
        rw [pk_div (by omega) z (by omega)]
        refine zx_greatestN (by omega) (by omega) (zx_greatestN (by omega) (by omega) ?_)
        rw [pk_mul]
        exact K'
    | succ d ih =>
      intro q one both hq ho hb h1' h2'
      have h0 : 0 < c := by
        rcases Nat.eq_zero_or_pos c with z | z
        · subst z; omega
        · exact z
      have hi : q / c < c := (Nat.div_lt_iff_lt_mul h0).mpr (by omega)
      have hj : q % c < c := Nat.mod_lt _ h0
      have a1 := bA (q / c)
      have a2 := bB (q / c)
      have a3 := bA (q % c)
      have a4 := bB (q % c)
      have p1 : (zx_eA sz rl (q / c) * zx_eB sz rl (q % c)).natAbs ≤ 64 := by rw [Int.natAbs_mul]; exact Nat.mul_le_mul a1 a4
      have p2 : (zx_eB sz rl (q / c) * zx_eA sz rl (q % c)).natAbs ≤ 64 := by rw [Int.natAbs_mul]; exact Nat.mul_le_mul a2 a3
      have p3 : (zx_eA sz rl (q / c) * zx_eB sz rl (q % c) - zx_eB sz rl (q / c) * zx_eA sz rl (q % c)).natAbs ≤ 128 := by omega
      have g1 : Nat.gcd one (zx_eA sz rl (q / c)).natAbs ≤ 8 := zx_gcd_b ho a1
      have g2 : Nat.gcd (Nat.gcd one (zx_eA sz rl (q / c)).natAbs) (zx_eB sz rl (q / c)).natAbs ≤ 8 := zx_gcd_b g1 a2
      have g3 : Nat.gcd both (zx_eA sz rl (q / c) * zx_eB sz rl (q % c) - zx_eB sz rl (q / c) * zx_eA sz rl (q % c)).natAbs ≤ 128 := zx_gcd_b hb p3
      refine br_f (by rw [pk_mul]; exact nI_ge (by omega) (by omega)) ⟨nI_ne0 h0 (by omega), nm_r (pk_div (by omega) h0 (by omega)) ⟨nI_ne0 h0 (by omega), nm_r (pk_rem (by omega) h0 (by omega)) ?_⟩⟩
      refine zx_excess (l := 0) (by omega) (by omega) hsz hrl (zx_excess (l := 2) (by omega) (by omega) hsz hrl (zx_excess (l := 0) (by omega) (by omega) hsz hrl (zx_excess (l := 2) (by omega) (by omega) hsz hrl ?_)))
      refine zx_greatest (Z := zx_eA sz rl (q / c)) (by omega) (by omega) (zx_greatest (Z := zx_eB sz rl (q / c)) (by omega) (by omega) ?_)
      have e : zx_i (zx_ex (fun i => rl (8 * (q / c) + i)) 0 (sz (q / c))) * zx_i (zx_ex (fun i => rl (8 * (q % c) + i)) 2 (sz (q % c))) - zx_i (zx_ex (fun i => rl (8 * (q / c) + i)) 2 (sz (q / c))) * zx_i (zx_ex (fun i => rl (8 * (q % c) + i)) 0 (sz (q % c))) = zx_i (zx_eA sz rl (q / c) * zx_eB sz rl (q % c) - zx_eB sz rl (q / c) * zx_eA sz rl (q % c)) := by
        unfold zx_i
        rw [Int32.ofInt_sub, Int32.ofInt_mul, Int32.ofInt_mul]
        rfl
      rw [e]
      refine zx_greatest (by omega) (by omega) (nm_r (nI_1 q) (ih (q + 1) _ _ (by omega) g2 g3 (fun T => ?_) (fun T => ?_)))
      · rw [zx_dg, zx_dg, h1' T]
        constructor
        · rintro ⟨⟨x, y⟩, z⟩ j hj
          rcases Nat.lt_or_ge j q with w | w
          · exact x j w
          · have e : j = q := by omega
            subst e; exact ⟨y, z⟩
        · intro h
          exact ⟨⟨fun j hj => h j (by omega), (h q (by omega)).1⟩, (h q (by omega)).2⟩
      · rw [zx_dg, h2' T]
        constructor
        · rintro ⟨x, z⟩ j hj
          rcases Nat.lt_or_ge j q with w | w
          · exact x j w
          · have e : j = q := by omega
            subst e; exact z
        · intro h
          exact ⟨fun j hj => h j (by omega), h q (by omega)⟩
  refine br_f (nI_nlt (b := 1) (by omega) (by omega)) (br_t (nI_le (b := 1000) (by omega) (by omega)) (Exists.intro (c * c + 1) (key (c * c) 0 0 0 (by omega) (by omega) (by omega) (fun T => ⟨fun _ j hj => absurd hj (Nat.not_lt_zero j), fun _ => ⟨0, by omega⟩⟩) (fun T => ⟨fun _ j hj => absurd hj (Nat.not_lt_zero j), fun _ => ⟨0, by omega⟩⟩))))
end
end
section
/-! the reference: forgetting, permutations -/
theorem zy_1 {v : Nat} (h : v < 8) : (1 : Int32) <<< (nI v &&& 31) = nI (2 ^ v) := by
  have : ∀ v, v < 8 → (1 : Int32) <<< (nI v &&& 31) = nI (2 ^ v) := by decide +kernel
  exact this v h
theorem zy_or {a b : Nat} (ha : a < 32) (hb : b < 32) : nI a ||| nI b = nI (a ||| b) := by
  have : ∀ a, a < 32 → ∀ b, b < 32 → nI a ||| nI b = nI (a ||| b) := by decide +kernel
  exact this a ha b hb
def zy_set (f : Nat → Nat) : Nat → Nat
  | 0 => 0
  | i + 1 => zy_set f i ||| 2 ^ f i
theorem zy_set_b (f : Nat → Nat) (v : Nat) : ∀ i, (zy_set f i).testBit v = true ↔ ∃ j, j < i ∧ f j = v := by
  intro i
  induction i with
  | zero =>
    show (0 : Nat).testBit v = true ↔ _
    rw [Nat.zero_testBit]
    exact ⟨fun h => (nomatch h), fun ⟨j, h, _⟩ => absurd h (Nat.not_lt_zero j)⟩
  | succ i ih =>
    show (zy_set f i ||| 2 ^ f i).testBit v = true ↔ _
    rw [Nat.testBit_or, Bool.or_eq_true, ih, Nat.testBit_two_pow, decide_eq_true_iff]
    constructor
    · rintro (⟨j, a, b⟩ | h)
      · exact ⟨j, by omega, b⟩
      · exact ⟨i, by omega, h⟩
    · rintro ⟨j, a, b⟩
      rcases Nat.lt_or_ge j i with z | z
      · exact Or.inl ⟨j, z, b⟩
      · have e : j = i := by omega
        subst e; exact Or.inr b
theorem zy_set_lt {n : Nat} (f : Nat → Nat) (hf : ∀ j, f j < n) : ∀ i, zy_set f i < 2 ^ n := by
  intro i
  induction i with
  | zero => exact Nat.two_pow_pos n
  | succ i ih => exact Nat.or_lt_two_pow ih (Nat.pow_lt_pow_right (by decide) (hf i))
theorem zy_set_full {n : Nat} (f : Nat → Nat) (hf : ∀ j, f j < n) : zy_set f n = 2 ^ n - 1 ↔ ∀ v, v < n → ∃ i, i < n ∧ f i = v := by
  constructor
  · intro h v hv
    rw [← zy_set_b, h, Nat.testBit_two_pow_sub_one]
    exact decide_eq_true hv
  · intro h
    refine Nat.eq_of_testBit_eq fun v => ?_
    rw [Bool.eq_iff_iff, zy_set_b, Nat.testBit_two_pow_sub_one, decide_eq_true_iff]
    exact ⟨fun ⟨j, _, b⟩ => b ▸ hf j, fun hv => h v hv⟩
/-- the permutations among the first codes -/
def zy_Q (n e : Nat) : List Nat := (List.range e).filter (zd_ip n)
theorem zy_Q_s (n e : Nat) : zy_Q n (e + 1) = if zd_ip n e = true then zy_Q n e ++ [e] else zy_Q n e := by
  unfold zy_Q
  rw [List.range_succ, List.filter_append]
  by_cases h : zd_ip n e = true
  · rw [if_pos h, List.filter_cons_of_pos h]; rfl
  · rw [if_neg h, List.filter_cons_of_neg h]
    exact List.append_nil _
theorem zy_Q_le (n e : Nat) : (zy_Q n e).length ≤ (zy_Q n (e + 1)).length := by
  rw [zy_Q_s]
  split
  · rw [List.length_append]; omega
  · exact Nat.le_refl _
theorem zy_Q_mono (n : Nat) {e e' : Nat} (h : e ≤ e') : (zy_Q n e).length ≤ (zy_Q n e').length := by
  obtain ⟨d, rfl⟩ : ∃ d, e' = e + d := ⟨e' - e, by omega⟩
  clear h
  induction d with
  | zero => exact Nat.le_refl _
  | succ d ih => exact Nat.le_trans ih (zy_Q_le n (e + d))
theorem zy_P_le {n : Nat} (hn : n ≤ 5) : (zd_P n).length ≤ 120 := by
  rw [zd_P_len n (by omega)]
  have : ∀ n, n < 6 → zd_fa n ≤ 120 := by decide
  exact this n (by omega)
/-- the permutations as they are kept -/
def zy_pm (n : Nat) (L : List Nat) (pm : Nat → Int32) : Prop := ∀ j, j < L.length → ∀ i, i < n → pm (5 * j + i) = nI (zd_dg n (L.getD j 0) i)
theorem zy_dg_s (n c i : Nat) : c / n ^ i / n = c / n ^ (i + 1) := by rw [Nat.pow_succ, Nat.div_div_eq_div_mul]
theorem zy_pw_le {n : Nat} (hn : n ≤ 5) : n ^ n ≤ 3125 := by
  have : ∀ n, n < 6 → n ^ n ≤ 3125 := by decide
  exact this n (by omega)
theorem zy_pw2 {n : Nat} (h1 : 0 < n) (hn : n ≤ 5) : ((1 : Int32) <<< (nI n &&& 31)) - 1 = nI (2 ^ n - 1) ∧ 2 ^ n ≤ 32 ∧ 1 ≤ 2 ^ n := by
  have h := Nat.pow_le_pow_right (n := 2) (by decide) hn
  have h2 := Nat.two_pow_pos n
  rw [zy_1 (by omega), show (1 : Int32) = nI 1 from rfl, pk_sub (by omega)]
  exact ⟨rfl, h, h2⟩
section
variable {g_length g_count g_many : Int32} {b_word b_lengths b_relators b_first b_second b_permutations b_images b_other b_order b_place b_known b_actions b_tables : Nat → Int32} {b_keys : Nat → Int64}
theorem zy_forget {post : SY → Prop} (K : ∀ kn : Nat → Int32, (∀ j, j < 6 → kn j = 0) → post (g_length, g_count, g_many, b_word, b_lengths, b_relators, b_first, b_second, b_permutations, b_images, b_other, b_order, b_place, kn, b_actions, b_tables, b_keys)) : wpY_forget post (g_length, g_count, g_many, b_word, b_lengths, b_relators, b_first, b_second, b_permutations, b_images, b_other, b_order, b_place, b_known, b_actions, b_tables, b_keys) := by
  have key : ∀ d j (kn : Nat → Int32), j + d = 6 → (∀ i, i < j → kn i = 0) → wY_forget_2 post g_length g_count g_many (d + 1) (nI j) b_word b_lengths b_relators b_first b_second b_permutations b_images b_other b_order b_place kn b_actions b_tables b_keys := by
    intro d
    induction d with
    | zero =>
      intro j kn hj H
      exact br_t (nI_le (a := 6) (by omega) (by omega)) (K kn fun i hi => H i (by omega))
    | succ d ih =>
      intro j kn hj H
      refine br_f (nI_ge (b := 6) (by omega) (by omega)) ⟨vp_in_nI (by omega) (by omega), nm_r (e' := upd kn j 0) ?_ (nm_r (nI_1 j) (ih (j + 1) _ (by omega) fun i hi => ?_))⟩
      · rw [nI_clamp (by omega), zx_bool0]
      · by_cases e : i = j
        · subst e; exact pk_us
        · rw [pk_un e]; exact H i (by omega)
  exact Exists.intro 7 (key 6 0 b_known (by omega) fun i hi => absurd hi (Nat.not_lt_zero i))
theorem zy_lp40 {post : SY → Prop} {J : Int32 → Int32 → (Nat → Int32) → (Nat → Int32) → (Nat → Int32) → (Nat → Int32) → (Nat → Int32) → (Nat → Int32) → (Nat → Int32) → (Nat → Int32) → (Nat → Int32) → (Nat → Int32) → (Nat → Int32) → (Nat → Int32) → (Nat → Int32) → (Nat → Int64) → Prop} {n e : Nat} {x2 : Int32} (h1 : 0 < n) (hn : n ≤ 5) (he : e < n ^ n) {L : List Nat} (hL : L = zy_Q n e)
    (K : ∀ pm : Nat → Int32, zy_pm n (zy_Q n (e + 1)) pm → J (nI (e + 1)) (nI (zy_Q n (e + 1)).length) b_word b_lengths b_relators b_first b_second pm b_images b_other b_order b_place b_known b_actions b_tables b_keys) :
    ∀ d i (pm : Nat → Int32), i + d = n → zy_pm n L pm → (∀ j, j < i → pm (5 * L.length + j) = nI (zd_dg n e j)) →
      wY_listPermutations_40 post J (nI n) x2 (nI e) g_length g_count (nI L.length) (d + 1) (nI (e / n ^ i)) (nI (zy_set (zd_dg n e) i)) (nI i) b_word b_lengths b_relators b_first b_second pm b_images b_other b_order b_place b_known b_actions b_tables b_keys := by
  subst hL
  have hpw := zy_pw_le hn
  have h120 := zy_P_le hn
  have hlen : (zy_Q n e).length ≤ 120 := Nat.le_trans (zy_Q_mono n (Nat.le_of_lt he)) h120
  obtain ⟨s1, s2, s3⟩ := zy_pw2 h1 hn
  have hdl : ∀ j, zd_dg n e j < n := fun j => zd_dg_lt h1 e j
  intro d
  induction d with
  | zero =>
    intro i pm hi hpm H
    have ei : i = n := by omega
    subst ei
    have hsl := zy_set_lt (zd_dg i e) hdl i
    refine br_t (nI_le (Nat.le_refl _) (by omega)) ?_
    rw [s1]
    have hQ := zy_Q_s i e
    by_cases z : zd_ip i e = true
    · rw [if_pos z] at hQ
      have full := (zy_set_full (zd_dg i e) hdl).mpr (zd_ip_iff.mp z)
      have KK := K pm (fun j hj k hk => by
        rw [hQ] at hj ⊢
        by_cases ej : j = (zy_Q i e).length
        · subst ej
          rw [zb_gr]; exact H k hk
        · rw [List.length_append] at hj
          have : [e].length = 1 := rfl
          rw [zb_gl (by omega)]; exact hpm j (by omega) k hk)
      rw [hQ, List.length_append] at KK
      exact br_t (congrArg nI full) (nm_r (nI_1 _) (nm_r (nI_1 e) KK))
    · rw [if_neg z] at hQ
      have nf : ¬ zy_set (zd_dg i e) i = 2 ^ i - 1 := fun y => z (zd_ip_iff.mpr ((zy_set_full (zd_dg i e) hdl).mp y))
      have KK := K pm (fun j hj k hk => by rw [hQ] at hj ⊢; exact hpm j hj k hk)
      rw [hQ] at KK
      exact br_f (fun y => nf ((nI_eq (by omega) (by omega)).mp y)) (nm_r (nI_1 e) KK)
  | succ d ih =>
    intro i pm hi hpm H
    have hle : e / n ^ i ≤ e := Nat.div_le_self _ _
    have hsl := zy_set_lt (zd_dg n e) hdl i
    have hdi := hdl i
    have hp5 : 2 ^ zd_dg n e i < 32 := Nat.lt_of_lt_of_le (Nat.pow_lt_pow_right (by decide) hdi) s2
    refine br_f (nI_ge (by omega) (by omega)) ⟨nI_ne0 h1 (by omega), ?_⟩
    rw [pk_rem (by omega) h1 (by omega), pk_div (by omega) h1 (by omega), zx_m5, nI_clamp (by omega), zy_dg_s]
    have edg : e / n ^ i % n = zd_dg n e i := rfl
    rw [edg, zy_1 (by omega), zy_or (by omega) hp5]
    refine ⟨vp_in_nI (by omega) (by omega), nm_e ⟨nI_ne0 h1 (by omega), nm_e ⟨nI_ne0 h1 (by omega), nm_e (nm_r (nI_1 i) (ih (i + 1) _ (by omega) (fun j hj k hk => ?_) fun j hj => ?_))⟩⟩⟩
    · rw [pk_un (by omega)]; exact hpm j hj k hk
    · by_cases ej : j = i
      · subst ej; exact pk_us
      · rw [pk_un (by omega)]; exact H j (by omega)
theorem zy_lp26 {post : SY → Prop} {n : Nat} (h1 : 0 < n) (hn : n ≤ 5) (K : ∀ pm : Nat → Int32, zy_pm n (zd_P n) pm → post (g_length, g_count, nI (zd_P n).length, b_word, b_lengths, b_relators, b_first, b_second, pm, b_images, b_other, b_order, b_place, b_known, b_actions, b_tables, b_keys)) :
    ∀ d e (pm : Nat → Int32), e + d = n ^ n → zy_pm n (zy_Q n e) pm → wY_listPermutations_26 post (nI n) (nI (n ^ n)) g_length g_count (d + 1) (nI e) (nI (zy_Q n e).length) b_word b_lengths b_relators b_first b_second pm b_images b_other b_order b_place b_known b_actions b_tables b_keys := by
  have hpw := zy_pw_le hn
  intro d
  induction d with
  | zero =>
    intro e pm he H
    have ee : e = n ^ n := by omega
    subst ee
    exact br_t (nI_le (Nat.le_refl _) (by omega)) (K pm H)
  | succ d ih =>
    intro e pm he H
    refine br_f (nI_ge (by omega) (by omega)) (Exists.intro (n + 1) ?_)
    have h := zy_lp40 (post := post) (J := wY_listPermutations_26 post (nI n) (nI (n ^ n)) g_length g_count (d + 1)) (x2 := nI (n ^ n)) (g_length := g_length) (g_count := g_count) (b_word := b_word) (b_lengths := b_lengths) (b_relators := b_relators) (b_first := b_first) (b_second := b_second) (b_images := b_images) (b_other := b_other) (b_order := b_order) (b_place := b_place) (b_known := b_known) (b_actions := b_actions) (b_tables := b_tables) (b_keys := b_keys) h1 hn (show e < n ^ n by omega) rfl (fun pm' h' => ih (e + 1) pm' (by omega) h') n 0 pm (by omega) H (fun j hj => absurd hj (Nat.not_lt_zero j))
    rw [Nat.pow_zero, Nat.div_one] at h
    exact h
theorem zy_listPermutations {post : SY → Prop} {n : Nat} (h1 : 0 < n) (hn : n ≤ 5) (K : ∀ pm : Nat → Int32, zy_pm n (zd_P n) pm → post (g_length, g_count, nI (zd_P n).length, b_word, b_lengths, b_relators, b_first, b_second, pm, b_images, b_other, b_order, b_place, b_known, b_actions, b_tables, b_keys)) : wpY_listPermutations post (g_length, g_count, g_many, b_word, b_lengths, b_relators, b_first, b_second, b_permutations, b_images, b_other, b_order, b_place, b_known, b_actions, b_tables, b_keys) (nI n) := by
  have hpw := zy_pw_le hn
  have key : ∀ d i, i + d = n → wY_listPermutations_9 post (nI n) g_length g_count 0 b_word b_lengths b_relators b_first b_second b_permutations b_images b_other b_order b_place b_known b_actions b_tables b_keys (d + 1) (nI (n ^ i)) (nI i) := by
    intro d
    induction d with
    | zero =>
      intro i hi
      have ei : i = n := by omega
      subst ei
      exact br_t (nI_le (Nat.le_refl _) (by omega)) (Exists.intro (i ^ i + 1) (zy_lp26 h1 hn K (i ^ i) 0 b_permutations (by omega) fun j hj => absurd hj (Nat.not_lt_zero j)))
    | succ d ih =>
      intro i hi
      have IH := ih (i + 1) (by omega)
      rw [Nat.pow_succ] at IH
      exact br_f (nI_ge (by omega) (by omega)) (nm_r (pk_mul _ _) (nm_r (nI_1 i) IH))
  exact Exists.intro (n + 1) (key n 0 (by omega))
end
end
section
/-! images of points, at 5 letter + point -/
def zy_im (n : Nat) (F : Nat → Nat) (im : Nat → Int32) : Prop := ∀ p, p < n → ∀ l, l < 4 → im (5 * l + p) = nI (F (4 * p + l))
def zy_half (n l a : Nat) (im : Nat → Int32) : Prop := (∀ p, p < n → im (5 * l + p) = nI (zd_dg n a p)) ∧ (∀ v, v < n → im (5 * l + 5 + v) = nI (zd_iv (zd_dg n a) v n))
theorem zy_im_of {n a b : Nat} {im : Nat → Int32} (h0 : zy_half n 0 a im) (h2 : zy_half n 2 b im) : zy_im n (zd_F n a b) im := by
  intro p hp l hl
  rcases (by omega : l = 0 ∨ l = 1 ∨ l = 2 ∨ l = 3) with e | e | e | e <;> subst e
  · rw [Nat.add_zero, zd_F0]; exact h0.1 p hp
  · rw [zd_F1]; exact h0.2 p hp
  · rw [zd_F2]; exact h2.1 p hp
  · rw [zd_F3]; exact h2.2 p hp
section
variable {n c s : Nat} {sz rl wd F : Nat → Nat} {g_length g_count g_many : Int32} {b_word b_lengths b_relators b_first b_second b_permutations b_images b_other b_order b_place b_known b_actions b_tables : Nat → Int32} {b_keys : Nat → Int64}
theorem zy_take {post : SY → Prop} {l j a : Nat} (h1 : 0 < n) (hn : n ≤ 5) (hl : l ≤ 2) (hj : j < 120) (hpm : ∀ i, i < n → b_permutations (5 * j + i) = nI (zd_dg n a i)) (ha : ∀ v, v < n → ∃ i, i < n ∧ zd_dg n a i = v)
    (K : ∀ im : Nat → Int32, zy_half n l a im → (∀ q, q < 5 * l ∨ 5 * l + 10 ≤ q → im q = b_images q) → post (g_length, g_count, g_many, b_word, b_lengths, b_relators, b_first, b_second, b_permutations, im, b_other, b_order, b_place, b_known, b_actions, b_tables, b_keys)) : wpY_take post (g_length, g_count, g_many, b_word, b_lengths, b_relators, b_first, b_second, b_permutations, b_images, b_other, b_order, b_place, b_known, b_actions, b_tables, b_keys) (nI l) (nI j) (nI n) := by
  have inj := zd_su_in ha
  have key : ∀ d p (im : Nat → Int32), p + d = n → (∀ i, i < p → im (5 * l + i) = nI (zd_dg n a i)) → (∀ i, i < p → im (5 * l + 5 + zd_dg n a i) = nI i) → (∀ q, q < 5 * l ∨ 5 * l + 10 ≤ q → im q = b_images q) →
      wY_take_3 post (nI l) (nI j) (nI n) g_length g_count g_many (d + 1) (nI p) b_word b_lengths b_relators b_first b_second b_permutations im b_other b_order b_place b_known b_actions b_tables b_keys := by
    intro d
    induction d with
    | zero =>
      intro p im hp A B C
      refine br_t (nI_le (by omega) (by omega)) (K im ⟨fun i hi => A i (by omega), fun v hv => ?_⟩ C)
      obtain ⟨x, y⟩ := zd_iv_sp _ _ n (ha v hv)
      have := B (zd_iv (zd_dg n a) v n) (by omega)
      rw [y] at this
      exact this
    | succ d ih =>
      intro p im hp A B C
      have hd := zd_dg_lt h1 a p
      refine br_f (nI_ge (by omega) (by omega)) ?_
      rw [zx_m5, nI_clamp (by omega), hpm p (by omega)]
      refine ⟨vp_in_nI (by omega) (by omega), nm_e ?_⟩
      rw [zx_m5, nI_clamp (by omega), zx_c5, show (5 : Int32) = nI 5 from rfl, nI_add, nI_add, nI_clamp (by omega)]
      refine ⟨vp_in_nI (by omega) (by omega), nm_e ⟨vp_in_nI (by omega) (by omega), nm_e (nm_r (nI_1 p) (ih (p + 1) _ (by omega) (fun i hi => ?_) (fun i hi => ?_) (fun q hq => ?_)))⟩⟩
      · rw [pk_un (by omega)]
        by_cases e : i = p
        · subst e; exact pk_us
        · rw [pk_un (by omega)]; exact A i (by omega)
      · by_cases e : i = p
        · subst e; exact pk_us
        · have hne : zd_dg n a i ≠ zd_dg n a p := fun z => e (inj i p (by omega) (by omega) z)
          have hdi := zd_dg_lt h1 a i
          rw [pk_un (by omega), pk_un (by omega)]; exact B i (by omega)
      · rw [pk_un (by omega), pk_un (by omega)]; exact C q hq
  exact Exists.intro (n + 1) (key n 0 b_images (by omega) (fun i hi => absurd hi (Nat.not_lt_zero i)) (fun i hi => absurd hi (Nat.not_lt_zero i)) fun q _ => rfl)
theorem zy_holds {post : Int32 → Prop} (hn : n ≤ 5) (hc : c ≤ 4) (hsz : ∀ i, sz i ≤ 8) (hrl : ∀ i, rl i < 4) (hF : ∀ q, q < 4 * n → F q < n) (him : zy_im n F b_images)
    (K1 : za_hold c sz rl n F → post 1) (K0 : ¬ za_hold c sz rl n F → post 0) : wpY_holds post (g_length, nI c, g_many, b_word, zx_n sz, zx_n rl, b_first, b_second, b_permutations, b_images, b_other, b_order, b_place, b_known, b_actions, b_tables, b_keys) (nI n) := by
  have k23 : ∀ (J2 J12 : Int32 → Prop) k p, k < c → p < n → (za_wk F (fun i => rl (8 * k + i)) (sz k) p = p → J12 (nI (p + 1))) → ∀ d i, i + d = sz k → wY_holds_23 post J2 J12 (nI n) (nI k) (nI p) g_length (nI c) g_many b_word (zx_n sz) (zx_n rl) b_first b_second b_permutations b_images b_other b_order b_place b_known b_actions b_tables b_keys (d + 1) (nI (za_wk F (fun i => rl (8 * k + i)) i p)) (nI i) := by
    intro J2 J12 k p hk hp KJ d
    have hs := hsz k
    induction d with
    | zero =>
      intro i hi
      have e : i = sz k := by omega
      subst e
      have lt := za_wk_lt hF (w := fun i => rl (8 * k + i)) (fun i => hrl _) hp (sz k)
      refine And.intro (vp_in_nI (by omega) (by omega)) (br_t (by rw [zx_at _ (by omega)]; exact nI_le (Nat.le_refl _) (by omega)) ?_)
      by_cases z : za_wk F (fun i => rl (8 * k + i)) (sz k) p = p
      · exact br_t (congrArg nI z) (nm_r (nI_1 p) (KJ z))
      · exact br_f (fun y => z ((nI_eq (by omega) (by omega)).mp y)) (K0 fun y => z (y k hk p hp))
    | succ d ih =>
      intro i hi
      have lt := za_wk_lt hF (w := fun i => rl (8 * k + i)) (fun i => hrl _) hp i
      have hr := hrl (8 * k + i)
      refine And.intro (vp_in_nI (by omega) (by omega)) (br_f (by rw [zx_at _ (by omega)]; exact nI_ge (by omega) (by omega)) ?_)
      rw [zx_m8, zx_at _ (by omega), zx_m5, nI_clamp (by omega), him _ lt _ hr]
      exact ⟨vp_in_nI (by omega) (by omega), vp_in_nI (by omega) (by omega), nm_e (nm_r (nI_1 i) (ih (i + 1) (by omega)))⟩
  have k12 : ∀ (J2 : Int32 → Prop) k, k < c → ((∀ p, p < n → za_wk F (fun i => rl (8 * k + i)) (sz k) p = p) → J2 (nI (k + 1))) → ∀ d p, p + d = n → (∀ j, j < p → za_wk F (fun i => rl (8 * k + i)) (sz k) j = j) → wY_holds_12 post J2 (nI n) (nI k) g_length (nI c) g_many b_word (zx_n sz) (zx_n rl) b_first b_second b_permutations b_images b_other b_order b_place b_known b_actions b_tables b_keys (d + 1) (nI p) := by
    intro J2 k hk KJ d
    induction d with
    | zero =>
      intro p hp H
      exact br_t (nI_le (by omega) (by omega)) (nm_r (nI_1 k) (KJ fun j hj => H j (by omega)))
    | succ d ih =>
      intro p hp H
      refine br_f (nI_ge (by omega) (by omega)) (Exists.intro (sz k + 1) (k23 _ _ k p hk (by omega) (fun e => ih (p + 1) (by omega) fun j hj => ?_) (sz k) 0 (by omega)))
      rcases Nat.lt_or_ge j p with y | y
      · exact H j y
      · have ej : j = p := by omega
        subst ej; exact e
  have k2 : ∀ d k, k + d = c → (∀ j, j < k → ∀ p, p < n → za_wk F (fun i => rl (8 * j + i)) (sz j) p = p) → wY_holds_2 post (nI n) g_length (nI c) g_many b_word (zx_n sz) (zx_n rl) b_first b_second b_permutations b_images b_other b_order b_place b_known b_actions b_tables b_keys (d + 1) (nI k) := by
    intro d
    induction d with
    | zero =>
      intro k hk H
      exact br_t (nI_le (by omega) (by omega)) (K1 fun j hj => H j (by omega))
    | succ d ih =>
      intro k hk H
      refine br_f (nI_ge (by omega) (by omega)) (Exists.intro (n + 1) (k12 _ k (by omega) (fun e => ih (k + 1) (by omega) fun j hj => ?_) n 0 (by omega) fun j hj => absurd hj (Nat.not_lt_zero j)))
      rcases Nat.lt_or_ge j k with y | y
      · exact H j y
      · have ej : j = k := by omega
        subst ej; exact e
  exact Exists.intro (c + 1) (k2 c 0 (by omega) fun j hj => absurd hj (Nat.not_lt_zero j))
/-- what is known of a table when q cells are read and m points met -/
def zy_T (F : Nat → Nat) (q m : Nat) : Prop :=
  (∀ u, 0 < u → u < m → ∃ q', q' < q ∧ F q' = u ∧ q' < 4 * u) ∧ (∀ q', q' < q → F q' < m) ∧ (∀ q', q' < q → ∀ u, 0 < u → u < F q' → ∃ q'', q'' < q' ∧ F q'' = u)
theorem zy_T_s {q m : Nat} (h : zy_T F q m) (hm : 0 < m) (hq : q < 4 * m) (hle : F q ≤ m) : zy_T F (q + 1) (if F q = m then m + 1 else m) := by
  obtain ⟨h1, h2, h3⟩ := h
  refine ⟨fun u hu hl => ?_, fun q' hq' => ?_, fun q' hq' u hu hl => ?_⟩
  · by_cases e : F q = m
    · rw [if_pos e] at hl
      rcases Nat.lt_or_ge u m with z | z
      · obtain ⟨q', a, b, d⟩ := h1 u hu z
        exact ⟨q', by omega, b, d⟩
      · exact ⟨q, by omega, by omega, by omega⟩
    · rw [if_neg e] at hl
      obtain ⟨q', a, b, d⟩ := h1 u hu hl
      exact ⟨q', by omega, b, d⟩
  · rcases Nat.lt_or_ge q' q with z | z
    · have := h2 q' z; split <;> omega
    · have e : q' = q := by omega
      subst e
      split <;> omega
  · rcases Nat.lt_or_ge q' q with z | z
    · exact h3 q' z u hu hl
    · have e : q' = q := by omega
      subst e
      obtain ⟨q'', a, b, _⟩ := h1 u hu (by omega)
      exact ⟨q'', a, b⟩
theorem zy_isTable {post : Int32 → Prop} (h1 : 0 < n) (hn : n ≤ 5) (hF : ∀ q, q < 4 * n → F q < n) (him : zy_im n F b_images)
    (K1 : za_std n F → post 1) (K0 : ¬ za_std n F → post 0) : wpY_isTable post (g_length, g_count, g_many, b_word, b_lengths, b_relators, b_first, b_second, b_permutations, b_images, b_other, b_order, b_place, b_known, b_actions, b_tables, b_keys) (nI n) := by
  have k19 : ∀ (J : Int32 → Int32 → Prop) p, p < n → (∀ m, 0 < m → m ≤ n → p < m → zy_T F (4 * p + 4) m → J (nI m) (nI (p + 1))) → ∀ d l m, l + d = 4 → 0 < m → m ≤ n → p < m → zy_T F (4 * p + l) m → wY_isTable_19 post J (nI n) (nI p) g_length g_count g_many b_word b_lengths b_relators b_first b_second b_permutations b_images b_other b_order b_place b_known b_actions b_tables b_keys (d + 1) (nI m) (nI l) := by
    intro J p hp KJ d
    induction d with
    | zero =>
      intro l m hl hm hmn hpm hT
      have e : l = 4 := by omega
      subst e
      exact br_t (by decide) (nm_r (nI_1 p) (KJ m hm hmn hpm hT))
    | succ d ih =>
      intro l m hl hm hmn hpm hT
      have hFq := hF (4 * p + l) (by omega)
      refine br_f (nI_ge (b := 4) (by omega) (by omega)) ?_
      rw [zx_m5, nI_clamp (by omega), him p hp l (by omega)]
      refine ⟨vp_in_nI (by omega) (by omega), nm_e ?_⟩
      rcases Nat.lt_or_ge m (F (4 * p + l)) with z | z
      · refine br_f (nI_ge z (by omega)) (K0 fun hS => ?_)
        obtain ⟨q', a, b⟩ := hS.1 (4 * p + l) (by omega) m hm z
        have := hT.2.1 q' a
        omega
      · have hT' := zy_T_s hT hm (by omega) z
        refine br_t (nI_le z (by omega)) ?_
        by_cases e : F (4 * p + l) = m
        · rw [if_pos e] at hT'
          exact br_t (congrArg nI e) (nm_r (nI_1 m) (nm_r (nI_1 l) (ih (l + 1) (m + 1) (by omega) (by omega) (by omega) (by omega) hT')))
        · rw [if_neg e] at hT'
          exact br_f (fun y => e ((nI_eq (by omega) (by omega)).mp y)) (nm_r (nI_1 l) (ih (l + 1) m (by omega) hm hmn hpm hT'))
  have k4 : ∀ d p m, p + d = n → 0 < m → m ≤ n → p ≤ m → zy_T F (4 * p) m → wY_isTable_4 post (nI n) g_length g_count g_many b_word b_lengths b_relators b_first b_second b_permutations b_images b_other b_order b_place b_known b_actions b_tables b_keys (d + 1) (nI m) (nI p) := by
    intro d
    induction d with
    | zero =>
      intro p m hp hm hmn hpm hT
      refine br_t (nI_le (by omega) (by omega)) (K1 ⟨fun q hq u hu hl => hT.2.2 q (by omega) u hu hl, fun u hu hl => ?_⟩)
      obtain ⟨q', _, b, d⟩ := hT.1 u hu (by omega)
      exact ⟨q', d, b⟩
    | succ d ih =>
      intro p m hp hm hmn hpm hT
      refine br_f (nI_ge (by omega) (by omega)) ?_
      rcases Nat.lt_or_ge p m with z | z
      · exact br_t (nI_lt z (by omega)) (Exists.intro 5 (k19 _ p (by omega) (fun m' a b d' e => ih (p + 1) m' (by omega) a b d' e) 4 0 m (by omega) hm hmn z hT))
      · refine br_f (nI_nlt z (by omega)) (K0 fun hS => ?_)
        obtain ⟨q', a, b⟩ := hS.2 p (by omega) (by omega)
        have := hT.2.1 q' a
        omega
  exact Exists.intro (n + 1) (k4 n 0 1 (by omega) (by omega) (by omega) (by omega) ⟨fun u a b => absurd b (by omega), fun q' h => absurd h (Nat.not_lt_zero q'), fun q' h => absurd h (Nat.not_lt_zero q')⟩)
theorem zy_p5 {v : Nat} (a : Nat) (hv : v < 2 ^ 31) : (5 : Int64) * lN a + (nI v).toInt64 = lN (5 * a + v) := by
  rw [nI_l hv, show (5 : Int64) = lN 5 from rfl, lN_mul, lN_add]
theorem zy_key {post : Int64 → Prop} (hn : n ≤ 5) (hF : ∀ q, q < 4 * n → F q < n) (him : zy_im n F b_images) (K : post (lN (za_k5 n F))) : wpY_key post (g_length, g_count, g_many, b_word, b_lengths, b_relators, b_first, b_second, b_permutations, b_images, b_other, b_order, b_place, b_known, b_actions, b_tables, b_keys) (nI n) := by
  have k14 : ∀ (J : Int64 → Int32 → Prop) p, p < n → J (lN (za_pk 5 F (4 * (p + 1)))) (nI (p + 1)) → ∀ d l, l + d = 4 → wY_key_14 post J (nI n) (nI p) g_length g_count g_many b_word b_lengths b_relators b_first b_second b_permutations b_images b_other b_order b_place b_known b_actions b_tables b_keys (d + 1) (lN (za_pk 5 F (4 * p + l))) (nI l) := by
    intro J p hp KJ d
    induction d with
    | zero =>
      intro l hl
      have e : l = 4 := by omega
      subst e
      exact br_t (by decide) (nm_r (nI_1 p) KJ)
    | succ d ih =>
      intro l hl
      have hFq := hF (4 * p + l) (by omega)
      refine br_f (nI_ge (b := 4) (by omega) (by omega)) ?_
      rw [zx_m5, nI_clamp (by omega), him p hp l (by omega), zy_p5 _ (by omega)]
      exact ⟨vp_in_nI (by omega) (by omega), nm_e (nm_r (nI_1 l) (ih (l + 1) (by omega)))⟩
  have k5 : ∀ d p, p + d = n → wY_key_5 post (nI n) g_length g_count g_many b_word b_lengths b_relators b_first b_second b_permutations b_images b_other b_order b_place b_known b_actions b_tables b_keys (d + 1) (lN (za_pk 5 F (4 * p))) (nI p) := by
    intro d
    induction d with
    | zero =>
      intro p hp
      have e : p = n := by omega
      subst e
      exact br_t (nI_le (Nat.le_refl _) (by omega)) K
    | succ d ih =>
      intro p hp
      exact br_f (nI_ge (by omega) (by omega)) (Exists.intro 5 (k14 _ p (by omega) (ih (p + 1) (by omega)) 4 0 (by omega)))
  exact Exists.intro (n + 1) (k5 n 0 (by omega))
end
end
section
/-! keeping keys in order -/
theorem zy_m461 (n k : Nat) : (461 : Int32) * nI n + nI k = nI (461 * n + k) := by rw [show (461 : Int32) = nI 461 from rfl, pk_mul, nI_add]
theorem zb_gx (o m : List Nat) (i : Nat) : (o ++ m).getD (o.length + i) 0 = m.getD i 0 := by
  rw [List.getD_eq_getElem?_getD, List.getElem?_append_right (by omega), List.getD_eq_getElem?_getD, Nat.add_sub_cancel_left]
def zy_ks (n : Nat) (L : List Nat) (ky : Nat → Int64) : Prop := ∀ j, j < L.length → ky (461 * n + j) = lN (L.getD j 0)
section
variable {g_length g_count g_many : Int32} {b_word b_lengths b_relators b_first b_second b_permutations b_images b_other b_order b_place b_known b_actions b_tables : Nat → Int32} {b_keys : Nat → Int64}
theorem zy_keep67 {post : SY → Prop} {n y : Nat} {L A B : List Nat} (hn : n ≤ 5) (hlen : L.length < 461) (hs : L.Pairwise (· < ·)) (hL : L = A ++ B) (hA : ∀ z, z ∈ A → z < y) (hB : ∀ z, z ∈ B → y < z)
    (k1 : ∀ j, j < A.length → b_keys (461 * n + j) = lN (A.getD j 0)) (k2 : ∀ j, j < B.length → b_keys (461 * n + (A.length + 1 + j)) = lN (B.getD j 0)) (ht : b_tables n = nI L.length)
    (K : ∀ (ky : Nat → Int64) (L' : List Nat), L'.Pairwise (· < ·) → (∀ z, z ∈ L' ↔ z ∈ L ∨ z = y) → L'.length = L.length + 1 → zy_ks n L' ky → (∀ i, i < 461 * n ∨ 461 * n + 461 ≤ i → ky i = b_keys i) → post (g_length, g_count, g_many, b_word, b_lengths, b_relators, b_first, b_second, b_permutations, b_images, b_other, b_order, b_place, b_known, b_actions, upd b_tables n (nI (L.length + 1)), ky)) :
    wY_keep_67 post (nI n) (lN y) (nI A.length) g_length g_count g_many b_word b_lengths b_relators b_first b_second b_permutations b_images b_other b_order b_place b_known b_actions b_tables b_keys := by
  subst hL
  rw [List.length_append] at *
  rw [List.pairwise_append] at hs
  have h := K (vp_updL b_keys (461 * n + A.length) (lN y)) (A ++ y :: B) (List.pairwise_append.mpr ⟨hs.1, List.pairwise_cons.mpr ⟨hB, hs.2.1⟩, fun a ha b hb => by
      rcases List.mem_cons.mp hb with e | e
      · rw [e]; exact hA a ha
      · exact hs.2.2 a ha b e⟩) (fun z => by
      rw [List.mem_append, List.mem_append, List.mem_cons]
      constructor
      · rintro (h | h | h)
        · exact Or.inl (Or.inl h)
        · exact Or.inr h
        · exact Or.inl (Or.inr h)
      · rintro ((h | h) | h)
        · exact Or.inl h
        · exact Or.inr (Or.inr h)
        · exact Or.inr (Or.inl h)) (by rw [List.length_append, List.length_cons]; omega) (fun j hj => by
      rw [List.length_append, List.length_cons] at hj
      rcases Nat.lt_trichotomy j A.length with z | z | z
      · rw [pk_uLn (by omega), zb_gl z]; exact k1 j z
      · subst z
        have := zb_gx A (y :: B) 0
        rw [Nat.add_zero] at this
        rw [pk_uLs, this]
        rfl
      · obtain ⟨i, rfl⟩ : ∃ i, j = A.length + (i + 1) := ⟨j - A.length - 1, by omega⟩
        rw [pk_uLn (by omega), zb_gx, show A.length + (i + 1) = A.length + 1 + i by omega, k2 i (by omega)]
        rfl) (fun i hi => pk_uLn (by omega))
  unfold wY_keep_67
  rw [zy_m461, nI_clamp (by omega), nI_clamp (by omega), ht, nI_1]
  exact ⟨vp_in_nI (by omega) (by omega), nm_e ⟨vp_in_nI (by omega) (by omega), vp_in_nI (by omega) (by omega), nm_e h⟩⟩
theorem zy_keep {post : SY → Prop} {n y : Nat} {L : List Nat} (hn : n ≤ 5) (hlen : L.length < 461) (hs : L.Pairwise (· < ·)) (hny : y ∉ L) (hb : ∀ z, z ∈ L → z < 2 ^ 60) (hy : y < 2 ^ 60) (hks : zy_ks n L b_keys) (ht : b_tables n = nI L.length)
    (K : ∀ (ky : Nat → Int64) (L' : List Nat), L'.Pairwise (· < ·) → (∀ z, z ∈ L' ↔ z ∈ L ∨ z = y) → L'.length = L.length + 1 → zy_ks n L' ky → (∀ i, i < 461 * n ∨ 461 * n + 461 ≤ i → ky i = b_keys i) → post (g_length, g_count, g_many, b_word, b_lengths, b_relators, b_first, b_second, b_permutations, b_images, b_other, b_order, b_place, b_known, b_actions, upd b_tables n (nI (L.length + 1)), ky)) :
    wpY_keep post (g_length, g_count, g_many, b_word, b_lengths, b_relators, b_first, b_second, b_permutations, b_images, b_other, b_order, b_place, b_known, b_actions, b_tables, b_keys) (nI n) (lN y) := by
  have key : ∀ d (A B : List Nat) (ky : Nat → Int64), A.length = d → L = A ++ B → (∀ z, z ∈ B → y < z) → (∀ j, j < A.length → ky (461 * n + j) = lN (A.getD j 0)) → (∀ j, j < B.length → ky (461 * n + (A.length + 1 + j)) = lN (B.getD j 0)) → (∀ i, i < 461 * n ∨ 461 * n + 461 ≤ i → ky i = b_keys i) →
      wY_keep_8 post (nI n) (lN y) g_length g_count g_many (d + 1) (nI d) b_word b_lengths b_relators b_first b_second b_permutations b_images b_other b_order b_place b_known b_actions b_tables ky := by
    intro d
    induction d with
    | zero =>
      intro A B ky hA hL hB k1 k2 k3
      have eA : A = [] := List.eq_nil_of_length_eq_zero hA
      have h := zy_keep67 (post := post) (g_length := g_length) (g_count := g_count) (g_many := g_many) (b_word := b_word) (b_lengths := b_lengths) (b_relators := b_relators) (b_first := b_first) (b_second := b_second) (b_permutations := b_permutations) (b_images := b_images) (b_other := b_other) (b_order := b_order) (b_place := b_place) (b_known := b_known) (b_actions := b_actions) hn hlen hs hL (fun z hz => by rw [eA] at hz; exact absurd hz List.not_mem_nil) hB k1 k2 ht (fun ky' L' a1 a2 a3 a4 a5 => K ky' L' a1 a2 a3 a4 fun i hi => by rw [a5 i hi, k3 i hi])
      rw [hA] at h
      exact br_t (by decide) h
    | succ d ih =>
      intro A B ky hA hL hB k1 k2 k3
      have hl := congrArg List.length hL
      rw [List.length_append, hA] at hl
      rcases List.eq_nil_or_concat A with e | ⟨A', z, e⟩
      · rw [e, List.length_nil] at hA; omega
      · rw [List.concat_eq_append] at e
        have hA' : A'.length = d := by rw [e, List.length_append] at hA; have : [z].length = 1 := rfl; omega
        have gz : A.getD d 0 = z := by rw [e, ← hA', zb_gr]
        have kz := k1 d (by omega)
        rw [gz] at kz
        have zL : z ∈ L := by rw [hL, e]; exact List.mem_append_left _ (List.mem_append_right _ (List.mem_singleton.mpr rfl))
        have hzb := hb z zL
        have hzy : z ≠ y := fun h => hny (h ▸ zL)
        refine br_f (nI_nle (by omega) (by omega)) ?_
        rw [zy_m461, show 461 * n + (d + 1) = 461 * n + d + 1 from rfl, nI_pred, nI_clamp (n := 461 * n + d) (by omega), kz]
        refine ⟨vp_in_nI (by omega) (by omega), ?_⟩
        rcases Nat.lt_or_ge y z with w | w
        · refine br_f (fun v => by have := (pk_lLE (by omega) (by omega)).mp v; omega) ⟨vp_in_nI (by omega) (by omega), vp_in_nI (by omega) (by omega), nm_r (e' := vp_updL ky (461 * n + d + 1) (lN z)) (by rw [nI_clamp (by omega)]) (nm_r (pk_m1 d) (ih A' (z :: B) _ hA' (by rw [hL, e, List.append_assoc]; rfl) (fun x hx => ?_) (fun j hj => ?_) (fun j hj => ?_) (fun i hi => ?_)))⟩
          · rcases List.mem_cons.mp hx with v | v
            · rw [v]; exact w
            · exact hB x v
          · rw [pk_uLn (by omega), k1 j (by omega), e, zb_gl hj]
          · cases j with
            | zero => rw [show 461 * n + (A'.length + 1 + 0) = 461 * n + d + 1 by omega, pk_uLs]; rfl
            | succ j =>
              rw [List.length_cons] at hj
              rw [pk_uLn (by omega), show 461 * n + (A'.length + 1 + (j + 1)) = 461 * n + (A.length + 1 + j) by omega, k2 j (by omega)]; rfl
          · rw [pk_uLn (by omega)]; exact k3 i hi
        · refine br_t ((pk_lLE (by omega) (by omega)).mpr w) ?_
          have hAlt : ∀ x, x ∈ A → x < y := by
            intro x hx
            rw [e] at hx
            rcases List.mem_append.mp hx with v | v
            · have hs' := hs
              rw [hL, e, List.append_assoc, List.pairwise_append] at hs'
              have := hs'.2.2 x v z (List.mem_append_left _ (List.mem_singleton.mpr rfl))
              omega
            · rw [List.mem_singleton.mp v]; omega
          have h := zy_keep67 (post := post) (g_length := g_length) (g_count := g_count) (g_many := g_many) (b_word := b_word) (b_lengths := b_lengths) (b_relators := b_relators) (b_first := b_first) (b_second := b_second) (b_permutations := b_permutations) (b_images := b_images) (b_other := b_other) (b_order := b_order) (b_place := b_place) (b_known := b_known) (b_actions := b_actions) hn hlen hs hL hAlt hB k1 k2 ht (fun ky' L' a1 a2 a3 a4 a5 => K ky' L' a1 a2 a3 a4 fun i hi => by rw [a5 i hi, k3 i hi])
          rw [hA] at h
          exact h
  refine And.intro (vp_in_nI (by omega) (by omega)) (nm_r (e' := nI L.length) (by rw [nI_clamp (by omega), ht]) (Exists.intro (L.length + 1) (key L.length L [] b_keys rfl (List.append_nil L).symm (fun z hz => absurd hz List.not_mem_nil) hks (fun j hj => absurd hj (Nat.not_lt_zero j)) fun i _ => rfl)))
end
/-! what the reference knows of n points when pairs ahead of (a, b) are tried -/
def zy_f (n a b : Nat) : Nat → Nat := zd_F n ((zd_P n).getD a 0) ((zd_P n).getD b 0)
def zy_S (c : Nat) (sz rl : Nat → Nat) (n a b y : Nat) : Prop := ∃ a' b', (a' < a ∨ (a' = a ∧ b' < b)) ∧ a' < (zd_P n).length ∧ b' < (zd_P n).length ∧ za_hold c sz rl n (zy_f n a' b') ∧ za_std n (zy_f n a' b') ∧ y = za_k5 n (zy_f n a' b')
def zy_ct (c : Nat) (sz rl : Nat → Nat) (n a b : Nat) : Nat := za_sm (fun a => zc_cn (fun b => zd_hb c sz rl n (zy_f n a b)) (zd_P n).length) a + zc_cn (fun b => zd_hb c sz rl n (zy_f n a b)) b
def zy_V (c : Nat) (sz rl : Nat → Nat) (n : Nat) (ac0 tb0 : Nat → Int32) (ky0 : Nat → Int64) (a b : Nat) (ac tb : Nat → Int32) (ky : Nat → Int64) : Prop :=
  ∃ L : List Nat, L.Pairwise (· < ·) ∧ (∀ y, y ∈ L ↔ zy_S c sz rl n a b y) ∧ ac n = nI (zy_ct c sz rl n a b) ∧ tb n = nI L.length ∧ zy_ks n L ky ∧ (∀ j, j ≠ n → ac j = ac0 j) ∧ (∀ j, j ≠ n → tb j = tb0 j) ∧ (∀ i, i < 461 * n ∨ 461 * n + 461 ≤ i → ky i = ky0 i)
theorem zy_f_act {n a b : Nat} (ha : a < (zd_P n).length) (hb : b < (zd_P n).length) : za_act n (zy_f n a b) := zd_act (zd_mem_P.mp (zb_gm ha)).2 (zd_mem_P.mp (zb_gm hb)).2
theorem zy_f_inj {n a b a' b' : Nat} (ha : a < (zd_P n).length) (hb : b < (zd_P n).length) (ha' : a' < (zd_P n).length) (hb' : b' < (zd_P n).length) (h : ∀ q, q < 4 * n → zy_f n a b q = zy_f n a' b' q) : a = a' ∧ b = b' := by
  constructor
  · refine zb_gi (zd_P_nd n) ha ha' (zd_inj (zd_mem_P.mp (zb_gm ha)).1 (zd_mem_P.mp (zb_gm ha')).1 fun p hp => ?_)
    have := h (4 * p) (by omega)
    unfold zy_f at this
    rw [zd_F0, zd_F0] at this
    exact this
  · refine zb_gi (zd_P_nd n) hb hb' (zd_inj (zd_mem_P.mp (zb_gm hb)).1 (zd_mem_P.mp (zb_gm hb')).1 fun p hp => ?_)
    have := h (4 * p + 2) (by omega)
    unfold zy_f at this
    rw [zd_F2, zd_F2] at this
    exact this
section
variable {c n : Nat} {sz rl : Nat → Nat} {ac0 tb0 ac tb : Nat → Int32} {ky0 ky : Nat → Int64} {a b : Nat}
theorem zy_S_s {y : Nat} (ha : a < (zd_P n).length) (hb : b < (zd_P n).length) : zy_S c sz rl n a (b + 1) y ↔ zy_S c sz rl n a b y ∨ (za_hold c sz rl n (zy_f n a b) ∧ za_std n (zy_f n a b) ∧ y = za_k5 n (zy_f n a b)) := by
  constructor
  · rintro ⟨a', b', h, h1, h2, h3⟩
    by_cases e : a' = a ∧ b' = b
    · obtain ⟨e1, e2⟩ := e
      subst e1 e2
      exact Or.inr h3
    · exact Or.inl ⟨a', b', by omega, h1, h2, h3⟩
  · rintro (⟨a', b', h, h1, h2, h3⟩ | h)
    · exact ⟨a', b', by omega, h1, h2, h3⟩
    · exact ⟨a, b, by omega, ha, hb, h⟩
theorem zy_S_row {y : Nat} : zy_S c sz rl n a (zd_P n).length y ↔ zy_S c sz rl n (a + 1) 0 y := by
  constructor
  · rintro ⟨a', b', h, h1, h2, h3⟩
    exact ⟨a', b', by omega, h1, h2, h3⟩
  · rintro ⟨a', b', h, h1, h2, h3⟩
    exact ⟨a', b', by omega, h1, h2, h3⟩
theorem zy_V_no (ha : a < (zd_P n).length) (hb : b < (zd_P n).length) (h : zy_V c sz rl n ac0 tb0 ky0 a b ac tb ky) (hn : ¬ za_hold c sz rl n (zy_f n a b)) : zy_V c sz rl n ac0 tb0 ky0 a (b + 1) ac tb ky := by
  obtain ⟨L, h1, h2, h3, h4⟩ := h
  refine ⟨L, h1, fun y => ?_, ?_, h4⟩
  · rw [h2, zy_S_s ha hb]
    exact ⟨Or.inl, fun z => z.resolve_right fun w => hn w.1⟩
  · rw [h3]
    unfold zy_ct
    rw [zc_cn_s, if_neg fun z => hn (zd_hb_iff.mp z)]
    rfl
theorem zy_V_act (ha : a < (zd_P n).length) (hb : b < (zd_P n).length) (h : zy_V c sz rl n ac0 tb0 ky0 a b ac tb ky) (hh : za_hold c sz rl n (zy_f n a b)) (hs : ¬ za_std n (zy_f n a b)) : zy_V c sz rl n ac0 tb0 ky0 a (b + 1) (upd ac n (ac n + 1)) tb ky := by
  obtain ⟨L, h1, h2, h3, h4, h5, h6, h7, h8⟩ := h
  refine ⟨L, h1, fun y => ?_, ?_, h4, h5, fun j hj => by rw [pk_un hj]; exact h6 j hj, h7, h8⟩
  · rw [h2, zy_S_s ha hb]
    exact ⟨Or.inl, fun z => z.resolve_right fun w => hs w.2.1⟩
  · rw [pk_us, h3, nI_1]
    unfold zy_ct
    rw [zc_cn_s, if_pos (zd_hb_iff.mpr hh)]
    rfl
theorem zy_V_row (h : zy_V c sz rl n ac0 tb0 ky0 a (zd_P n).length ac tb ky) : zy_V c sz rl n ac0 tb0 ky0 (a + 1) 0 ac tb ky := by
  obtain ⟨L, h1, h2, h3, h4⟩ := h
  refine ⟨L, h1, fun y => ?_, ?_, h4⟩
  · rw [h2, zy_S_row]
  · rw [h3]; rfl
theorem zy_k5_b {F : Nat → Nat} (hn : n ≤ 5) (hA : za_act n F) : za_k5 n F < 2 ^ 60 := za_k5_lt hn fun q hq => by have := hA.1 q hq; omega
theorem zy_S_TL {y : Nat} (h1 : 0 < n) (hn : n ≤ 5) (h : ∃ F, za_tab c sz rl n F ∧ y = za_k5 n F) : y ∈ (za_TL c sz rl n).map fun x => za_k5 n (za_F x) := by
  obtain ⟨F, hF, e⟩ := h
  obtain ⟨x, hx, hd⟩ := za_TL2 h1 hn hF
  refine List.mem_map.mpr ⟨x, hx, ?_⟩
  rw [e]
  exact za_pk_c _ fun j hj => by have := hd j hj; unfold za_F; omega
theorem zy_S_tab {y : Nat} (h : zy_S c sz rl n a b y) : ∃ F, za_tab c sz rl n F ∧ y = za_k5 n F := by
  obtain ⟨a', b', _, h1, h2, h3, h4, h5⟩ := h
  exact ⟨_, ⟨zy_f_act h1 h2, h4, h3⟩, h5⟩
theorem zy_end (h1 : 0 < n) (hn : n ≤ 5) (hrl : ∀ i, rl i < 4) {L : List Nat} (hs : L.Pairwise (· < ·)) (hL : ∀ y, y ∈ L ↔ zy_S c sz rl n (zd_P n).length 0 y) : L = (za_TL c sz rl n).map fun x => za_k5 n (za_F x) := by
  refine za_srt_eq _ _ hs (za_TL5 h1 hn hrl) fun y => ⟨fun h => zy_S_TL h1 hn (zy_S_tab ((hL y).mp h)), fun h => (hL y).mpr ?_⟩
  obtain ⟨x, hx, e⟩ := List.mem_map.mp h
  obtain ⟨⟨hA, hS, hH⟩, _⟩ := za_TL1 h1 hn hrl hx
  obtain ⟨pa, pb, ha, hb, hab⟩ := zd_code hA
  obtain ⟨ia, ea⟩ := zb_ix ha
  obtain ⟨ib, eb⟩ := zb_ix hb
  have ef : ∀ q, q < 4 * n → zy_f n ((zd_P n).idxOf pa) ((zd_P n).idxOf pb) q = za_F x q := fun q hq => by unfold zy_f; rw [ea, eb]; exact hab q hq
  refine ⟨_, _, Or.inl ia, ia, ib, fun k hk p hp => ?_, ⟨fun q hq u hu hl => ?_, fun p hp hl => ?_⟩, ?_⟩
  · have key : ∀ m, za_wk (zy_f n ((zd_P n).idxOf pa) ((zd_P n).idxOf pb)) (fun j => rl (8 * k + j)) m p = za_wk (za_F x) (fun j => rl (8 * k + j)) m p := by
      intro m
      induction m with
      | zero => rfl
      | succ m ih =>
        show zy_f n _ _ (4 * za_wk _ _ m p + rl (8 * k + m)) = za_F x (4 * za_wk (za_F x) _ m p + rl (8 * k + m))
        rw [ih]
        have := za_wk_lt hA.1 (w := fun j => rl (8 * k + j)) (fun j => hrl _) hp m
        have := hrl (8 * k + m)
        exact ef _ (by omega)
    rw [key]
    exact hH k hk p hp
  · rw [ef q hq] at hl
    obtain ⟨q', c1, c2⟩ := hS.1 q hq u hu hl
    exact ⟨q', c1, by rw [ef q' (by omega)]; exact c2⟩
  · obtain ⟨q', c1, c2⟩ := hS.2 p hp hl
    exact ⟨q', c1, by rw [ef q' (by omega)]; exact c2⟩
  · rw [← e]
    exact (za_pk_c _ ef).symm
theorem zy_room (h1 : 0 < n) (hn : n ≤ 5) {L : List Nat} (hs : L.Pairwise (· < ·)) (hL : ∀ y, y ∈ L ↔ zy_S c sz rl n a b y) (ha : a < (zd_P n).length) (hb : b < (zd_P n).length) (hh : za_hold c sz rl n (zy_f n a b)) (hst : za_std n (zy_f n a b)) :
    L.length < 461 ∧ za_k5 n (zy_f n a b) ∉ L := by
  have hA := zy_f_act ha hb
  have ni : za_k5 n (zy_f n a b) ∉ L := by
    intro h
    obtain ⟨a', b', g1, g2, g3, _, _, g6⟩ := (hL _).mp h
    have hA' := zy_f_act g2 g3
    have := (za_k5_inj (fun q hq => by have := hA.1 q hq; omega) (fun q hq => by have := hA'.1 q hq; omega)).mp g6
    have := zy_f_inj ha hb g2 g3 this
    omega
  refine ⟨?_, ni⟩
  have k := za_nsl (za_k5 n (zy_f n a b) :: L) ((za_TL c sz rl n).map fun x => za_k5 n (za_F x)) (List.nodup_cons.mpr ⟨ni, za_srt_nd hs⟩) fun x hx => by
    rcases List.mem_cons.mp hx with e | e
    · rw [e]; exact zy_S_TL h1 hn ⟨_, ⟨hA, hst, hh⟩, rfl⟩
    · exact zy_S_TL h1 hn (zy_S_tab ((hL x).mp e))
  rw [List.length_cons, List.length_map] at k
  have := za_TL4 (c := c) (sz := sz) (rl := rl) h1 hn
  omega
end
end
section
/-! work -/
def zy_Y1 (c : Nat) (sz rl : Nat → Nat) (n : Nat) (ac tb : Nat → Int32) (ky : Nat → Int64) : Prop :=
  ac n = nI (zd_H c sz rl n) ∧ tb n = nI (za_TL c sz rl n).length ∧ ∀ k, k < (za_TL c sz rl n).length → ky (461 * n + k) = lN (za_k5 n (za_F ((za_TL c sz rl n).getD k 0)))
def zy_YI (c : Nat) (sz rl : Nat → Nat) (kn ac tb : Nat → Int32) (ky : Nat → Int64) : Prop := ∀ n, 0 < n → n ≤ 5 → kn n ≠ 0 → zy_Y1 c sz rl n ac tb ky
theorem zy_gmap {f : Nat → Nat} {l : List Nat} {k : Nat} (h : k < l.length) : (l.map f).getD k 0 = f (l.getD k 0) := by
  rw [List.getD_eq_getElem?_getD, List.getElem?_map, List.getElem?_eq_getElem h, List.getD_eq_getElem?_getD, List.getElem?_eq_getElem h]
  rfl
theorem zy_V_end {c n : Nat} {sz rl : Nat → Nat} {ac0 tb0 ac tb : Nat → Int32} {ky0 ky : Nat → Int64} (h1 : 0 < n) (hn : n ≤ 5) (hrl : ∀ i, rl i < 4) (h : zy_V c sz rl n ac0 tb0 ky0 (zd_P n).length 0 ac tb ky) : zy_Y1 c sz rl n ac tb ky := by
  obtain ⟨L, g1, g2, g3, g4, g5, _⟩ := h
  have e := zy_end h1 hn hrl g1 g2
  subst e
  rw [List.length_map] at g4
  refine ⟨?_, g4, fun k hk => ?_⟩
  · rw [g3, zd_H_loop]; rfl
  · have := g5 k (by rw [List.length_map]; exact hk)
    rw [zy_gmap hk] at this
    exact this
section
variable {c n : Nat} {sz rl : Nat → Nat} {g_length g_count g_many : Int32} {b_word b_lengths b_relators b_first b_second b_permutations b_images b_other b_order b_place b_known b_actions b_tables : Nat → Int32} {b_keys : Nat → Int64} {ac0 tb0 : Nat → Int32} {ky0 : Nat → Int64}
theorem zy_work55 {post : SY → Prop} {J : Int32 → Int32 → Int32 → Int32 → (Nat → Int32) → (Nat → Int32) → (Nat → Int32) → (Nat → Int32) → (Nat → Int32) → (Nat → Int32) → (Nat → Int32) → (Nat → Int32) → (Nat → Int32) → (Nat → Int32) → (Nat → Int32) → (Nat → Int32) → (Nat → Int32) → (Nat → Int64) → Prop} {a : Nat} (hc4 : c ≤ 4) (hsz : ∀ i, sz i ≤ 8) (hrl : ∀ i, rl i < 4) (h1 : 0 < n) (hn : n ≤ 5) (ha : a < (zd_P n).length) (hpm : zy_pm n (zd_P n) b_permutations)
    (K : ∀ (im ac tb : Nat → Int32) (ky : Nat → Int64), zy_V c sz rl n ac0 tb0 ky0 a (zd_P n).length ac tb ky → J (nI (a + 1)) g_length (nI c) (nI (zd_P n).length) b_word (zx_n sz) (zx_n rl) b_first b_second b_permutations im b_other b_order b_place b_known ac tb ky) :
    ∀ d b (im ac tb : Nat → Int32) (ky : Nat → Int64), b + d = (zd_P n).length → zy_half n 0 ((zd_P n).getD a 0) im → zy_V c sz rl n ac0 tb0 ky0 a b ac tb ky →
      wY_work_55 post J (nI n) (nI a) (d + 1) (nI b) g_length (nI c) (nI (zd_P n).length) b_word (zx_n sz) (zx_n rl) b_first b_second b_permutations im b_other b_order b_place b_known ac tb ky := by
  have h120 := zy_P_le hn
  intro d
  induction d with
  | zero =>
    intro b im ac tb ky hb him hV
    have e : b = (zd_P n).length := by omega
    subst e
    exact br_t (nI_le (Nat.le_refl _) (by omega)) (nm_r (nI_1 a) (K im ac tb ky hV))
  | succ d ih =>
    intro b im ac tb ky hb him hV
    have hb' : b < (zd_P n).length := by omega
    refine br_f (nI_ge hb' (by omega)) (zy_take (l := 2) h1 hn (by omega) (by omega) (fun i hi => hpm b hb' i hi) (zd_mem_P.mp (zb_gm hb')).2 fun im' hh hk => ?_)
    have him' : zy_half n 0 ((zd_P n).getD a 0) im' := ⟨fun p hp => by rw [hk _ (by omega)]; exact him.1 p hp, fun v hv => by rw [hk _ (by omega)]; exact him.2 v hv⟩
    have hIM := zy_im_of him' hh
    have hA := zy_f_act ha hb'
    refine zy_holds (F := zy_f n a b) hn hc4 hsz hrl hA.1 hIM (fun hhold => ?_) (fun hhold => br_t rfl (nm_r (nI_1 b) (ih (b + 1) im' ac tb ky (by omega) him' (zy_V_no ha hb' hV hhold))))
    refine br_f zx_1n0 ⟨vp_in_nI (by omega) (by omega), vp_in_nI (by omega) (by omega), nm_r (e' := upd ac n (ac n + 1)) (by rw [nI_clamp (by omega)]) (zy_key (F := zy_f n a b) hn hA.1 hIM (zy_isTable (F := zy_f n a b) h1 hn hA.1 hIM (fun hstd => ?_) (fun hstd => br_t rfl (nm_r (nI_1 b) (ih (b + 1) im' _ tb ky (by omega) him' (zy_V_act ha hb' hV hhold hstd))))))⟩
    obtain ⟨L, g1, g2, g3, g4, g5, g6, g7, g8⟩ := hV
    obtain ⟨r1, r2⟩ := zy_room h1 hn g1 g2 ha hb' hhold hstd
    refine br_f zx_1n0 (zy_keep hn r1 g1 r2 (fun z hz => ?_) (zy_k5_b hn hA) g5 g4 fun ky' L' q1 q2 q3 q4 q5 => nm_r (nI_1 b) (ih (b + 1) im' _ _ ky' (by omega) him' ?_))
    · obtain ⟨F, hF, e⟩ := zy_S_tab ((g2 z).mp hz)
      rw [e]; exact zy_k5_b hn hF.1
    · refine ⟨L', q1, fun y => ?_, ?_, ?_, q4, fun j hj => by rw [pk_un hj]; exact g6 j hj, fun j hj => by rw [pk_un hj]; exact g7 j hj, fun i hi => by rw [q5 i hi, g8 i hi]⟩
      · rw [q2, g2, zy_S_s ha hb']
        exact ⟨fun z => z.elim Or.inl fun e => Or.inr ⟨hhold, hstd, e⟩, fun z => z.elim Or.inl fun e => Or.inr e.2.2⟩
      · rw [pk_us, g3, nI_1]
        unfold zy_ct
        rw [zc_cn_s, if_pos (zd_hb_iff.mpr hhold)]
        rfl
      · rw [pk_us, q3]
theorem zy_work38 {post : SY → Prop} (hc4 : c ≤ 4) (hsz : ∀ i, sz i ≤ 8) (hrl : ∀ i, rl i < 4) (h1 : 0 < n) (hn : n ≤ 5) (hpm : zy_pm n (zd_P n) b_permutations)
    (K : ∀ (im ac tb : Nat → Int32) (ky : Nat → Int64), zy_V c sz rl n ac0 tb0 ky0 (zd_P n).length 0 ac tb ky → post (g_length, nI c, nI (zd_P n).length, b_word, zx_n sz, zx_n rl, b_first, b_second, b_permutations, im, b_other, b_order, b_place, b_known, ac, tb, ky)) :
    ∀ d a (im ac tb : Nat → Int32) (ky : Nat → Int64), a + d = (zd_P n).length → zy_V c sz rl n ac0 tb0 ky0 a 0 ac tb ky →
      wY_work_38 post (nI n) (d + 1) (nI a) g_length (nI c) (nI (zd_P n).length) b_word (zx_n sz) (zx_n rl) b_first b_second b_permutations im b_other b_order b_place b_known ac tb ky := by
  have h120 := zy_P_le hn
  intro d
  induction d with
  | zero =>
    intro a im ac tb ky ha hV
    have e : a = (zd_P n).length := by omega
    subst e
    exact br_t (nI_le (Nat.le_refl _) (by omega)) (K im ac tb ky hV)
  | succ d ih =>
    intro a im ac tb ky ha hV
    have ha' : a < (zd_P n).length := by omega
    refine br_f (nI_ge ha' (by omega)) (zy_take (l := 0) h1 hn (by omega) (by omega) (fun i hi => hpm a ha' i hi) (zd_mem_P.mp (zb_gm ha')).2 fun im' hh hk => ?_)
    exact Exists.intro ((zd_P n).length + 1) (zy_work55 hc4 hsz hrl h1 hn ha' hpm (fun im2 ac2 tb2 ky2 hV2 => ih (a + 1) im2 ac2 tb2 ky2 (by omega) (zy_V_row hV2)) (zd_P n).length 0 im' ac tb ky (by omega) hh hV)
end
theorem zy_work {post : SY → Prop} {c n : Nat} {sz rl : Nat → Nat} {g_length g_many : Int32} {b_word b_first b_second b_permutations b_images b_other b_order b_place b_known b_actions b_tables : Nat → Int32} {b_keys : Nat → Int64} (hc4 : c ≤ 4) (hsz : ∀ i, sz i ≤ 8) (hrl : ∀ i, rl i < 4) (h1 : 0 < n) (hn : n ≤ 5) (hY : zy_YI c sz rl b_known b_actions b_tables b_keys)
    (K : ∀ (mn : Int32) (pm im kn ac tb : Nat → Int32) (ky : Nat → Int64), zy_YI c sz rl kn ac tb ky → zy_Y1 c sz rl n ac tb ky → post (g_length, nI c, mn, b_word, zx_n sz, zx_n rl, b_first, b_second, pm, im, b_other, b_order, b_place, kn, ac, tb, ky)) :
    wpY_work post (g_length, nI c, g_many, b_word, zx_n sz, zx_n rl, b_first, b_second, b_permutations, b_images, b_other, b_order, b_place, b_known, b_actions, b_tables, b_keys) (nI n) := by
  refine And.intro (vp_in_nI (by omega) (by omega)) ?_
  rw [nI_clamp (by omega)]
  by_cases z : b_known n = 0
  · refine br_t z ⟨vp_in_nI (by omega) (by omega), nm_r (e' := upd b_known n 1) (by rw [zx_bool1]) ⟨vp_in_nI (by omega) (by omega), nm_e ⟨vp_in_nI (by omega) (by omega), nm_e (zy_listPermutations h1 hn fun pm hpm => Exists.intro ((zd_P n).length + 1) ?_)⟩⟩⟩
    refine zy_work38 (ac0 := b_actions) (tb0 := b_tables) (ky0 := b_keys) hc4 hsz hrl h1 hn hpm (fun im ac tb ky hV => ?_) (zd_P n).length 0 b_images _ _ b_keys (by omega) ?_
    · have Y1 := zy_V_end h1 hn hrl hV
      refine K _ _ _ _ _ _ _ (fun n' a1 a2 a3 => ?_) Y1
      by_cases e : n' = n
      · subst e; exact Y1
      · obtain ⟨L, _, _, _, _, _, g6, g7, g8⟩ := hV
        rw [pk_un e] at a3
        obtain ⟨y1, y2, y3⟩ := hY n' a1 a2 a3
        have hlen := za_TL4 (c := c) (sz := sz) (rl := rl) a1 a2
        exact ⟨by rw [g6 n' e]; exact y1, by rw [g7 n' e]; exact y2, fun k hk => by rw [g8 _ (by omega)]; exact y3 k hk⟩
    · refine ⟨[], List.Pairwise.nil, fun y => ⟨fun h => absurd h List.not_mem_nil, fun ⟨a', b', h, _⟩ => absurd h (by omega)⟩, pk_us, pk_us, fun j hj => absurd hj (Nat.not_lt_zero j), fun j hj => pk_un hj, fun j hj => pk_un hj, fun i _ => rfl⟩
  · exact br_f z (K _ _ _ _ _ _ _ hY (hY n h1 hn z))
/-! spread, from, go -/
section
variable {c n s : Nat} {sz rl wd F : Nat → Nat} {g_length g_count g_many : Int32} {b_word b_lengths b_relators b_first b_second b_permutations b_images b_other b_order b_place b_known b_actions b_tables : Nat → Int32} {b_keys : Nat → Int64}
theorem zy_spread {post : SY → Prop} {k : Nat} (h1 : 0 < n) (hn : n ≤ 5) (hk : k < 461) (hF : ∀ q, q < 4 * n → F q < n) (hky : b_keys (461 * n + k) = lN (za_k5 n F)) (K : ∀ im : Nat → Int32, zy_im n F im → post (g_length, g_count, g_many, b_word, b_lengths, b_relators, b_first, b_second, b_permutations, im, b_other, b_order, b_place, b_known, b_actions, b_tables, b_keys)) : wpY_spread post (g_length, g_count, g_many, b_word, b_lengths, b_relators, b_first, b_second, b_permutations, b_images, b_other, b_order, b_place, b_known, b_actions, b_tables, b_keys) (nI n) (nI k) := by
  have hF5 : ∀ q, q < 4 * n → F q < 5 := fun q hq => by have := hF q hq; omega
  have pkb : ∀ m, m ≤ 4 * n → za_pk 5 F m < 2 ^ 60 := by
    intro m hm
    have h := za_pk_lt (b := 5) m fun q hq => hF5 q (by omega)
    have : 5 ^ m ≤ 5 ^ 20 := Nat.pow_le_pow_right (by decide) (by omega)
    have e : (5 : Nat) ^ 20 < 2 ^ 60 := by decide
    exact Nat.lt_of_lt_of_le h (Nat.le_trans this (Nat.le_of_lt e))
  have k26 : ∀ (J : Int64 → Int32 → (Nat → Int32) → (Nat → Int32) → (Nat → Int32) → (Nat → Int32) → (Nat → Int32) → (Nat → Int32) → (Nat → Int32) → (Nat → Int32) → (Nat → Int32) → (Nat → Int32) → (Nat → Int32) → (Nat → Int32) → (Nat → Int32) → (Nat → Int64) → Prop) p, p < n → (∀ im : Nat → Int32, (∀ q, 4 * p ≤ q → q < 4 * n → im (5 * (q % 4) + q / 4) = nI (F q)) → J (lN (za_pk 5 F (4 * p))) (nI p + (-1)) b_word b_lengths b_relators b_first b_second b_permutations im b_other b_order b_place b_known b_actions b_tables b_keys) →
      ∀ l (im : Nat → Int32), l ≤ 4 → (∀ q, 4 * p + l ≤ q → q < 4 * n → im (5 * (q % 4) + q / 4) = nI (F q)) → wY_spread_26 post J (nI p) g_length g_count g_many (l + 1) (lN (za_pk 5 F (4 * p + l))) (nI l + (-1)) b_word b_lengths b_relators b_first b_second b_permutations im b_other b_order b_place b_known b_actions b_tables b_keys := by
    intro J p hp KJ l
    induction l with
    | zero =>
      intro im _ H
      exact br_t (by decide) (nm_e (KJ im H))
    | succ l ih =>
      intro im hl H
      have hFq := hF5 (4 * p + l) (by omega)
      have hb := pkb (4 * p + (l + 1)) (by omega)
      have em : za_pk 5 F (4 * p + (l + 1)) % 5 = F (4 * p + l) := by
        show (5 * za_pk 5 F (4 * p + l) + F (4 * p + l)) % 5 = _
        omega
      have ed : za_pk 5 F (4 * p + (l + 1)) / 5 = za_pk 5 F (4 * p + l) := by
        show (5 * za_pk 5 F (4 * p + l) + F (4 * p + l)) / 5 = _
        omega
      rw [pk_m1]
      refine br_f (nI_pos (by omega)) ⟨by decide, ?_⟩
      rw [zx_m5, nI_clamp (by omega), show (5 : Int64) = lN 5 from rfl, pk_lRem (by omega) (by omega) (by omega), pk_lDiv (by omega) (by omega) (by omega), em, ed, lN_i]
      refine ⟨vp_in_nI (by omega) (by omega), nm_e ⟨by decide, nm_e (nm_e (ih _ (by omega) fun q hq1 hq2 => ?_))⟩⟩
      by_cases e : q = 4 * p + l
      · subst e
        rw [show 5 * ((4 * p + l) % 4) + (4 * p + l) / 4 = 5 * l + p by omega, pk_us]
      · rw [pk_un (by omega)]; exact H q (by omega) hq2
  have k18 : ∀ p (im : Nat → Int32), p ≤ n → (∀ q, 4 * p ≤ q → q < 4 * n → im (5 * (q % 4) + q / 4) = nI (F q)) → wY_spread_18 post g_length g_count g_many (p + 1) (lN (za_pk 5 F (4 * p))) (nI p + (-1)) b_word b_lengths b_relators b_first b_second b_permutations im b_other b_order b_place b_known b_actions b_tables b_keys := by
    intro p
    induction p with
    | zero =>
      intro im _ H
      refine br_t (by decide) (K im fun p hp l hl => ?_)
      have := H (4 * p + l) (by omega) (by omega)
      rw [show 5 * ((4 * p + l) % 4) + (4 * p + l) / 4 = 5 * l + p by omega] at this
      exact this
    | succ p ih =>
      intro im hp H
      rw [pk_m1]
      exact br_f (nI_pos (by omega)) (Exists.intro 5 (k26 _ p (by omega) (fun im' H' => ih im' (by omega) H') 4 im (by omega) H))
  have h := k18 n b_images (Nat.le_refl _) fun q a b => absurd b (by omega)
  refine And.intro ?_ (nm_r (e' := lN (za_pk 5 F (4 * n))) ?_ (nm_r (e' := nI n + (-1)) ?_ (Exists.intro (n + 1) h)))
  · rw [zy_m461]; exact vp_in_nI (by omega) (by omega)
  · rw [zy_m461, nI_clamp (by omega)]; exact hky
  · obtain ⟨n', rfl⟩ : ∃ n', n = n' + 1 := ⟨n - 1, by omega⟩
    rw [nI_pred, pk_m1]
theorem zy_go {post : Int32 → Prop} {p : Nat} (hn : n ≤ 5) (hs : s ≤ 8) (hwd : ∀ i, wd i < 4) (hF : ∀ q, q < 4 * n → F q < n) (him : zy_im n F b_images) (hp : p < n) (K : post (nI (za_wk F wd s p))) : wpY_go post (nI s, g_count, g_many, zx_n wd, b_lengths, b_relators, b_first, b_second, b_permutations, b_images, b_other, b_order, b_place, b_known, b_actions, b_tables, b_keys) (nI p) := by
  have key : ∀ d i, i + d = s → wY_go_4 post (nI s) g_count g_many (zx_n wd) b_lengths b_relators b_first b_second b_permutations b_images b_other b_order b_place b_known b_actions b_tables b_keys (d + 1) (nI (za_wk F wd i p)) (nI i) := by
    intro d
    induction d with
    | zero =>
      intro i hi
      have e : i = s := by omega
      subst e
      exact br_t (nI_le (Nat.le_refl _) (by omega)) K
    | succ d ih =>
      intro i hi
      have lt := za_wk_lt hF hwd hp i
      have hr := hwd i
      refine br_f (nI_ge (by omega) (by omega)) ⟨vp_in_nI (by omega) (by omega), ?_⟩
      rw [zx_at _ (by omega), zx_m5, nI_clamp (by omega), him _ lt _ hr]
      exact ⟨vp_in_nI (by omega) (by omega), nm_e (nm_r (nI_1 i) (ih (i + 1) (by omega)))⟩
  exact Exists.intro (s + 1) (key s 0 (by omega))
theorem zy_from105 {post : Int64 → SY → Prop} {J42 J51 : Int32 → Int64 → Int32 → (Nat → Int32) → (Nat → Int32) → (Nat → Int32) → (Nat → Int32) → (Nat → Int32) → (Nat → Int32) → (Nat → Int32) → (Nat → Int32) → (Nat → Int32) → (Nat → Int32) → (Nat → Int32) → (Nat → Int32) → (Nat → Int32) → (Nat → Int64) → Prop} {x2 x3 x6 : Int32} {a x v l : Nat} (hx : x < 5) (hv : v < 64) (hp : b_place x = nI v)
    (K : J51 x3 (lN (5 * a + v)) (nI (l + 1)) b_word b_lengths b_relators b_first b_second b_permutations b_images b_other b_order b_place b_known b_actions b_tables b_keys) : wY_from_105 post J42 J51 x2 x3 (lN a) x6 (nI l) (nI x) g_length g_count g_many b_word b_lengths b_relators b_first b_second b_permutations b_images b_other b_order b_place b_known b_actions b_tables b_keys := by
  refine And.intro (vp_in_nI hx (by omega)) (nm_r (e' := lN (5 * a + v)) ?_ (nm_r (nI_1 l) K))
  rw [nI_clamp (by omega), hp, zy_p5 _ (by omega)]
theorem zy_from {post : Int64 → SY → Prop} {r : Nat} (hn : n ≤ 5) (hA : za_act n F) (hS : za_std n F) (hr : r < n) (him : zy_im n F b_images)
    (K : ∀ ord pla : Nat → Int32, post (lN (za_k5 n (zb_T F r))) (g_length, g_count, g_many, b_word, b_lengths, b_relators, b_first, b_second, b_permutations, b_images, b_other, ord, pla, b_known, b_actions, b_tables, b_keys)) : wpY_from post (g_length, g_count, g_many, b_word, b_lengths, b_relators, b_first, b_second, b_permutations, b_images, b_other, b_order, b_place, b_known, b_actions, b_tables, b_keys) (nI r) (nI n) := by
  obtain ⟨al, hI, _⟩ := zb_all hA hS hr
  have k51 : ∀ (J : Int32 → Int64 → Int32 → (Nat → Int32) → (Nat → Int32) → (Nat → Int32) → (Nat → Int32) → (Nat → Int32) → (Nat → Int32) → (Nat → Int32) → (Nat → Int32) → (Nat → Int32) → (Nat → Int32) → (Nat → Int32) → (Nat → Int32) → (Nat → Int32) → (Nat → Int64) → Prop) i, i < n → (∀ ord pla : Nat → Int32, zx_N n F r (4 * (i + 1)) ord pla → J (nI (zb_o F r (4 * (i + 1))).length) (lN (za_pk 5 (zb_T F r) (4 * (i + 1)))) (nI (i + 1)) b_word b_lengths b_relators b_first b_second b_permutations b_images b_other ord pla b_known b_actions b_tables b_keys) →
      ∀ d l (ord pla : Nat → Int32), l + d = 4 → zx_N n F r (4 * i + l) ord pla → wY_from_51 post J (nI n) (nI i) g_length g_count g_many (d + 1) (nI (zb_o F r (4 * i + l)).length) (lN (za_pk 5 (zb_T F r) (4 * i + l))) (nI l) b_word b_lengths b_relators b_first b_second b_permutations b_images b_other ord pla b_known b_actions b_tables b_keys := by
    intro J i hi KJ d
    induction d with
    | zero =>
      intro l ord pla hl hN
      have e : l = 4 := by omega
      subst e
      exact br_t (by decide) (nm_r (nI_1 i) (KJ ord pla hN))
    | succ d ih =>
      intro l ord pla hl hN
      have hal := al (4 * i + l) (by omega)
      have I := hI (4 * i + l) (by omega)
      have hlen := zb_len I
      have e4 : (4 * i + l) / 4 = i := by omega
      have em : (4 * i + l) % 4 = l := by omega
      have hy : (zb_o F r (4 * i + l)).getD i 0 < n := I.2.1 _ (zb_gm (by omega))
      have ex : zb_x F (zb_o F r (4 * i + l)) (4 * i + l) = F (4 * (zb_o F r (4 * i + l)).getD i 0 + l) := by unfold zb_x; rw [e4, em]
      have hxn : zb_x F (zb_o F r (4 * i + l)) (4 * i + l) < n := by rw [ex]; exact hA.1 _ (by omega)
      have hT := zb_T_lt hA hS hr (show 4 * i + l < 4 * n by omega)
      refine br_f (nI_ge (b := 4) (by omega) (by omega)) ⟨vp_in_nI (by omega) (by omega), ?_⟩
      rw [nI_clamp (n := i) (by omega), hN.1 i (by omega), zx_m5, nI_clamp (n := 5 * l + (zb_o F r (4 * i + l)).getD i 0) (by omega), him _ hy l (by omega), ← ex]
      refine ⟨vp_in_nI (by omega) (by omega), nm_e ⟨vp_in_nI (by omega) (by omega), ?_⟩⟩
      rw [nI_clamp (by omega), hN.2 _ hxn]
      by_cases hm : zb_x F (zb_o F r (4 * i + l)) (4 * i + l) ∈ zb_o F r (4 * i + l)
      · obtain ⟨N', eT, eL⟩ := zx_N1 hN hm
        rw [if_pos hm]
        have IH := ih (l + 1) ord pla (by omega) N'
        have eL' : (zb_o F r (4 * i + (l + 1))).length = (zb_o F r (4 * i + l)).length := eL
        rw [eL'] at IH
        refine br_t (nI_pos' (by omega)) (zy_from105 (v := zb_T F r (4 * i + l)) (by omega) (by omega) ?_ IH)
        rw [hN.2 _ hxn, if_pos hm, eT]
      · obtain ⟨N', eT, eL⟩ := zx_N2 hN hm
        have hl' := zb_len (hI (4 * i + l + 1) (by omega))
        rw [if_neg hm]
        have IH := ih (l + 1) _ _ (by omega) N'
        have eL' : (zb_o F r (4 * i + (l + 1))).length = (zb_o F r (4 * i + l)).length + 1 := eL
        rw [eL'] at IH
        refine br_f (by decide) ⟨vp_in_nI (by omega) (by omega), nm_e ⟨vp_in_nI (by omega) (by omega), nm_r (e' := upd ord (zb_o F r (4 * i + l)).length (nI (zb_x F (zb_o F r (4 * i + l)) (4 * i + l)))) (by rw [nI_clamp (by omega)]) (nm_r (nI_1 _) (zy_from105 (v := zb_T F r (4 * i + l)) (by omega) (by omega) ?_ IH))⟩⟩
        rw [pk_us, eT]
  have k42 : ∀ d i (ord pla : Nat → Int32), i + d = n → zx_N n F r (4 * i) ord pla → wY_from_42 post (nI n) g_length g_count g_many (d + 1) (nI (zb_o F r (4 * i)).length) (lN (za_pk 5 (zb_T F r) (4 * i))) (nI i) b_word b_lengths b_relators b_first b_second b_permutations b_images b_other ord pla b_known b_actions b_tables b_keys := by
    intro d
    induction d with
    | zero =>
      intro i ord pla hi hN
      have e : i = n := by omega
      subst e
      exact br_t (nI_le (Nat.le_refl _) (by omega)) (K ord pla)
    | succ d ih =>
      intro i ord pla hi hN
      exact br_f (nI_ge (by omega) (by omega)) (Exists.intro 5 (k51 _ i (by omega) (fun ord' pla' N' => ih (i + 1) ord' pla' (by omega) N') 4 0 ord pla (by omega) hN))
  have k2 : ∀ d p (pla : Nat → Int32), p + d = n → (∀ y, y < p → pla y = -1) → wY_from_2 post (nI r) (nI n) g_length g_count g_many (d + 1) (nI p) b_word b_lengths b_relators b_first b_second b_permutations b_images b_other b_order pla b_known b_actions b_tables b_keys := by
    intro d
    induction d with
    | zero =>
      intro p pla hp H
      exact br_t (nI_le (by omega) (by omega)) (nm_e ⟨vp_in_nI (by omega) (by omega), nm_r (e' := upd pla r 0) (by rw [nI_clamp (by omega)]) (Exists.intro (n + 1) (k42 n 0 _ _ (by omega) (zx_N0 fun y hy => H y (by omega))))⟩)
    | succ d ih =>
      intro p pla hp H
      refine br_f (nI_ge (by omega) (by omega)) ⟨vp_in_nI (by omega) (by omega), nm_r (e' := upd pla p (-1)) (by rw [nI_clamp (by omega)]) (nm_r (nI_1 p) (ih (p + 1) _ (by omega) fun y hy => ?_))⟩
      by_cases e : y = p
      · subst e; exact pk_us
      · rw [pk_un e]; exact H y (by omega)
  exact Exists.intro (n + 1) (k2 n 0 b_place (by omega) fun y hy => absurd hy (Nat.not_lt_zero y))
end
end
section
/-! the reference's calls -/
theorem zy_nbad {post : Int32 → Prop} {u : SY} {n : Nat} (h1 : 0 < n) (hn : n ≤ 5) (K : post 0) : wpY_bad post u (nI n) := by
  obtain ⟨f1, f2, f3, a1, a2, a3, a4, a5, a6, a7, a8, a9, a10, a11, a12, a13, a14⟩ := u
  exact br_f (nI_nlt (b := 1) (by omega) (by omega)) (br_t (nI_le (b := 5) (by omega) (by omega)) K)
theorem zy_isbad {post : Int32 → Prop} {u : SY} {x : Int32} (h : x < 1 ∨ ¬ x ≤ 5) (K : post 1) : wpY_bad post u x := by
  obtain ⟨f1, f2, f3, a1, a2, a3, a4, a5, a6, a7, a8, a9, a10, a11, a12, a13, a14⟩ := u
  by_cases z : x < 1
  · exact br_t z K
  · exact br_f z (br_f (h.resolve_left z) K)
theorem zy_eg {n : Nat} {F : Nat → Nat} (h1 : 0 < n) (hn : n ≤ 5) (hA : za_act n F) (hS : za_std n F) : zx_eg n F = true ↔ ∀ j, 0 < j → j < n → za_k5 n (zb_T F j) = za_k5 n F := by
  have lF : ∀ q, q < 4 * n → F q < 5 := fun q hq => by have := hA.1 q hq; omega
  have lT : ∀ j, j < n → ∀ q, q < 4 * n → zb_T F j q < 5 := fun j hj q hq => by have := zb_T_lt hA hS hj hq; omega
  rw [zx_eg_iff]
  constructor
  · intro h j _ hj
    exact (za_k85 hn (lT j hj) lF).mp (h j hj)
  · intro h j hj
    by_cases z : j = 0
    · subst z; exact za_k8_c (zb_zero hA hS h1)
    · exact (za_k85 hn (lT j hj) lF).mpr (h j (by omega) hj)
theorem zy_kg {n : Nat} {F : Nat → Nat} (h1 : 0 < n) (hn : n ≤ 5) (hA : za_act n F) (hS : za_std n F) : zx_kg n F = true ↔ ∀ j, 0 < j → j < n → ¬ za_k5 n (zb_T F j) < za_k5 n F := by
  have lF : ∀ q, q < 4 * n → F q < 5 := fun q hq => by have := hA.1 q hq; omega
  have lT : ∀ j, j < n → ∀ q, q < 4 * n → zb_T F j q < 5 := fun j hj q hq => by have := zb_T_lt hA hS hj hq; omega
  rw [zx_kg_iff]
  constructor
  · intro h j _ hj z
    exact h j hj ((za_k58 hn (lT j hj) lF).mpr z)
  · intro h j hj z
    by_cases y : j = 0
    · subst y
      have := za_k8_c (zb_zero hA hS h1)
      omega
    · exact h j (by omega) hj ((za_k58 hn (lT j hj) lF).mp z)
section
variable {c n s : Nat} {sz rl wd : Nat → Nat} {g_length g_count g_many : Int32} {b_word b_lengths b_relators b_first b_second b_permutations b_images b_other b_order b_place b_known b_actions b_tables : Nat → Int32} {b_keys : Nat → Int64}
theorem zy_tables {post : Int32 → SY → Prop} (hc4 : c ≤ 4) (hsz : ∀ i, sz i ≤ 8) (hrl : ∀ i, rl i < 4) (h1 : 0 < n) (hn : n ≤ 5) (hY : zy_YI c sz rl b_known b_actions b_tables b_keys)
    (K : ∀ (mn : Int32) (pm im kn ac tb : Nat → Int32) (ky : Nat → Int64), zy_YI c sz rl kn ac tb ky → post (nI (za_TL c sz rl n).length) (nI s, nI c, mn, zx_n wd, zx_n sz, zx_n rl, b_first, b_second, pm, im, b_other, b_order, b_place, kn, ac, tb, ky)) : wpY_tables post (nI s, nI c, g_many, zx_n wd, zx_n sz, zx_n rl, b_first, b_second, b_permutations, b_images, b_other, b_order, b_place, b_known, b_actions, b_tables, b_keys) (nI n) := by
  unfold wpY_tables
  dsimp only
  refine zy_nbad h1 hn ?_
  refine br_t rfl (zy_work hc4 hsz hrl h1 hn hY fun mn pm im kn ac tb ky hY' h => ⟨vp_in_nI (by omega) (by omega), ?_⟩)
  dsimp only
  rw [nI_clamp (by omega), h.2.1]
  exact K _ _ _ _ _ _ _ hY'
theorem zy_actions {post : Int32 → SY → Prop} (hc4 : c ≤ 4) (hsz : ∀ i, sz i ≤ 8) (hrl : ∀ i, rl i < 4) (h1 : 0 < n) (hn : n ≤ 5) (hY : zy_YI c sz rl b_known b_actions b_tables b_keys)
    (K : ∀ (mn : Int32) (pm im kn ac tb : Nat → Int32) (ky : Nat → Int64), zy_YI c sz rl kn ac tb ky → post (nI (zd_H c sz rl n)) (nI s, nI c, mn, zx_n wd, zx_n sz, zx_n rl, b_first, b_second, pm, im, b_other, b_order, b_place, kn, ac, tb, ky)) : wpY_actions post (nI s, nI c, g_many, zx_n wd, zx_n sz, zx_n rl, b_first, b_second, b_permutations, b_images, b_other, b_order, b_place, b_known, b_actions, b_tables, b_keys) (nI n) := by
  unfold wpY_actions
  dsimp only
  refine zy_nbad h1 hn ?_
  refine br_t rfl (zy_work hc4 hsz hrl h1 hn hY fun mn pm im kn ac tb ky hY' h => ⟨vp_in_nI (by omega) (by omega), ?_⟩)
  dsimp only
  rw [nI_clamp (by omega), h.1]
  exact K _ _ _ _ _ _ _ hY'
theorem zy_noTable {post : Int32 → SY → Prop} {x : Int32} (hc4 : c ≤ 4) (hsz : ∀ i, sz i ≤ 8) (hrl : ∀ i, rl i < 4) (h1 : 0 < n) (hn : n ≤ 5) (hY : zy_YI c sz rl b_known b_actions b_tables b_keys)
    (K1 : ∀ (mn : Int32) (pm im kn ac tb : Nat → Int32) (ky : Nat → Int64), zy_YI c sz rl kn ac tb ky → (∀ k, k < (za_TL c sz rl n).length → x ≠ nI k) → post 1 (nI s, nI c, mn, zx_n wd, zx_n sz, zx_n rl, b_first, b_second, pm, im, b_other, b_order, b_place, kn, ac, tb, ky))
    (K0 : ∀ (mn : Int32) (pm im kn ac tb : Nat → Int32) (ky : Nat → Int64), zy_YI c sz rl kn ac tb ky → zy_Y1 c sz rl n ac tb ky → ∀ k, k < (za_TL c sz rl n).length → x = nI k → post 0 (nI s, nI c, mn, zx_n wd, zx_n sz, zx_n rl, b_first, b_second, pm, im, b_other, b_order, b_place, kn, ac, tb, ky)) : wpY_noTable post (nI s, nI c, g_many, zx_n wd, zx_n sz, zx_n rl, b_first, b_second, b_permutations, b_images, b_other, b_order, b_place, b_known, b_actions, b_tables, b_keys) (nI n) x := by
  have hlen := za_TL4 (c := c) (sz := sz) (rl := rl) h1 hn
  unfold wpY_noTable
  dsimp only
  refine zy_work hc4 hsz hrl h1 hn hY fun mn pm im kn ac tb ky hY' h => ?_
  dsimp only
  rw [nI_clamp (by omega), h.2.1]
  rcases pk_ix x (n := (za_TL c sz rl n).length) (by omega) with z | z | ⟨k, hk, z⟩
  · exact br_t z (K1 _ _ _ _ _ _ _ hY' fun k hk y => nI_pos (n := k) (by omega) (y ▸ z))
  · refine br_f (fun y => ?_) ⟨vp_in_nI (by omega) (by omega), br_f (fun y => ?_) (K1 _ _ _ _ _ _ _ hY' fun k hk y => ?_)⟩
    · exact nI_pos (n := (za_TL c sz rl n).length) (by omega) (Int32.lt_of_le_of_lt z y)
    · exact Int32.lt_irrefl (Int32.lt_of_le_of_lt z y)
    · subst y; exact nI_ge hk (by omega) z
  · subst z
    exact br_f (nI_pos (by omega)) ⟨vp_in_nI (by omega) (by omega), br_t (nI_lt hk (by omega)) (K0 _ _ _ _ _ _ _ hY' h k hk rfl)⟩
theorem zy_image {post : Int32 → SY → Prop} {p l : Nat} {x : Int32} (hc4 : c ≤ 4) (hsz : ∀ i, sz i ≤ 8) (hrl : ∀ i, rl i < 4) (h1 : 0 < n) (hn : n ≤ 5) (hp : p < n) (hl : l < 4) (hY : zy_YI c sz rl b_known b_actions b_tables b_keys)
    (K0 : ∀ (mn : Int32) (pm im kn ac tb : Nat → Int32) (ky : Nat → Int64), zy_YI c sz rl kn ac tb ky → (∀ k, k < (za_TL c sz rl n).length → x ≠ nI k) → post (-4) (nI s, nI c, mn, zx_n wd, zx_n sz, zx_n rl, b_first, b_second, pm, im, b_other, b_order, b_place, kn, ac, tb, ky))
    (K1 : ∀ (mn : Int32) (pm im kn ac tb : Nat → Int32) (ky : Nat → Int64), zy_YI c sz rl kn ac tb ky → ∀ k, k < (za_TL c sz rl n).length → x = nI k → post (nI (za_F ((za_TL c sz rl n).getD k 0) (4 * p + l))) (nI s, nI c, mn, zx_n wd, zx_n sz, zx_n rl, b_first, b_second, pm, im, b_other, b_order, b_place, kn, ac, tb, ky)) : wpY_image post (nI s, nI c, g_many, zx_n wd, zx_n sz, zx_n rl, b_first, b_second, b_permutations, b_images, b_other, b_order, b_place, b_known, b_actions, b_tables, b_keys) (nI n) x (nI p) (nI l) := by
  have hlen := za_TL4 (c := c) (sz := sz) (rl := rl) h1 hn
  unfold wpY_image
  dsimp only
  refine zy_nbad h1 hn ?_
  refine br_t rfl (br_f (nI_pos (by omega)) (br_f (nI_ge (by omega) (by omega)) (br_f (nI_pos (by omega)) (br_t (nI_le (b := 3) (by omega) (by omega)) (zy_noTable hc4 hsz hrl h1 hn hY (fun mn pm im kn ac tb ky hY' h => br_f zx_1n0 (K0 _ _ _ _ _ _ _ hY' h)) fun mn pm im kn ac tb ky hY' h k hk e => ?_)))))
  subst e
  obtain ⟨hA, _, _⟩ := zx_tF (c := c) (sz := sz) h1 hn hrl hk
  refine br_t rfl (zy_spread h1 hn (by omega) hA.1 (h.2.2 k hk) fun im' him => ?_)
  dsimp only
  rw [zx_m5, nI_clamp (by omega), him p hp l hl]
  exact ⟨vp_in_nI (by omega) (by omega), K1 _ _ _ _ _ _ _ hY' k hk rfl⟩
theorem zy_period {post : Int32 → SY → Prop} {x : Int32} (hs : s ≤ 8) (hwd : ∀ i, wd i < 4) (hc4 : c ≤ 4) (hsz : ∀ i, sz i ≤ 8) (hrl : ∀ i, rl i < 4) (h1 : 0 < n) (hn : n ≤ 5) (hY : zy_YI c sz rl b_known b_actions b_tables b_keys)
    (K0 : ∀ (mn : Int32) (pm im kn ac tb : Nat → Int32) (ky : Nat → Int64), zy_YI c sz rl kn ac tb ky → (∀ k, k < (za_TL c sz rl n).length → x ≠ nI k) → post (-4) (nI s, nI c, mn, zx_n wd, zx_n sz, zx_n rl, b_first, b_second, pm, im, b_other, b_order, b_place, kn, ac, tb, ky))
    (K1 : ∀ (mn : Int32) (pm im kn ac tb : Nat → Int32) (ky : Nat → Int64), zy_YI c sz rl kn ac tb ky → ∀ k, k < (za_TL c sz rl n).length → x = nI k → ∀ m, 0 < m → m ≤ n → zb_it (za_wk (za_F ((za_TL c sz rl n).getD k 0)) wd s) m = 0 → (∀ j, 0 < j → j < m → zb_it (za_wk (za_F ((za_TL c sz rl n).getD k 0)) wd s) j ≠ 0) → post (nI m) (nI s, nI c, mn, zx_n wd, zx_n sz, zx_n rl, b_first, b_second, pm, im, b_other, b_order, b_place, kn, ac, tb, ky)) :
    wpY_period post (nI s, nI c, g_many, zx_n wd, zx_n sz, zx_n rl, b_first, b_second, b_permutations, b_images, b_other, b_order, b_place, b_known, b_actions, b_tables, b_keys) (nI n) x := by
  have hlen := za_TL4 (c := c) (sz := sz) (rl := rl) h1 hn
  unfold wpY_period
  dsimp only
  refine zy_nbad h1 hn ?_
  refine br_t rfl (zy_noTable hc4 hsz hrl h1 hn hY (fun mn pm im kn ac tb ky hY' h => br_f zx_1n0 (K0 _ _ _ _ _ _ _ hY' h)) fun mn pm im kn ac tb ky hY' h k hk e => ?_)
  subst e
  obtain ⟨hA, _, _⟩ := zx_tF (c := c) (sz := sz) h1 hn hrl hk
  refine br_t rfl (zy_spread h1 hn (by omega) hA.1 (h.2.2 k hk) fun im' him => ?_)
  obtain ⟨m, m1, m2, m3, m4⟩ := zx_per (s := s) h1 hA hwd
  have KK := K1 mn pm im' kn ac tb ky hY' k hk rfl m m1 m2 m3 m4
  have lt := zx_it_lt (s := s) h1 hA hwd
  have key : ∀ d j, j + d = m → 0 < j → wY_period_37 post (nI s) (nI c) mn (zx_n wd) (zx_n sz) (zx_n rl) b_first b_second pm im' b_other b_order b_place kn ac tb ky (d + 1) (nI j) (nI (zb_it (za_wk (za_F ((za_TL c sz rl n).getD k 0)) wd s) j)) := by
    intro d
    induction d with
    | zero =>
      intro j hj _
      have e : j = m := by omega
      subst e
      rw [m3]
      exact br_t rfl KK
    | succ d ih =>
      intro j hj hj0
      have := lt j
      exact br_f (nI_ne0 (Nat.pos_of_ne_zero (m4 j hj0 (by omega))) (by omega)) (zy_go hn hs hwd hA.1 him this (nm_r (nI_1 j) (ih (j + 1) (by omega) (by omega))))
  exact zy_go (p := 0) hn hs hwd hA.1 him h1 (Exists.intro (m - 1 + 1) (key (m - 1) 1 (by omega) (by omega)))
theorem zy_fixing {post : Int32 → SY → Prop} (hs : s ≤ 8) (hwd : ∀ i, wd i < 4) (hc4 : c ≤ 4) (hsz : ∀ i, sz i ≤ 8) (hrl : ∀ i, rl i < 4) (h1 : 0 < n) (hn : n ≤ 5) (hY : zy_YI c sz rl b_known b_actions b_tables b_keys)
    (K : ∀ (mn : Int32) (pm im kn ac tb : Nat → Int32) (ky : Nat → Int64), zy_YI c sz rl kn ac tb ky → post (nI (zc_cn (fun k => decide (za_wk (za_F ((za_TL c sz rl n).getD k 0)) wd s 0 = 0)) (za_TL c sz rl n).length)) (nI s, nI c, mn, zx_n wd, zx_n sz, zx_n rl, b_first, b_second, pm, im, b_other, b_order, b_place, kn, ac, tb, ky)) : wpY_fixing post (nI s, nI c, g_many, zx_n wd, zx_n sz, zx_n rl, b_first, b_second, b_permutations, b_images, b_other, b_order, b_place, b_known, b_actions, b_tables, b_keys) (nI n) := by
  have hlen := za_TL4 (c := c) (sz := sz) (rl := rl) h1 hn
  unfold wpY_fixing
  dsimp only
  refine zy_nbad h1 hn ?_
  refine br_t rfl (zy_work hc4 hsz hrl h1 hn hY fun mn pm im kn ac tb ky hY' h => Exists.intro ((za_TL c sz rl n).length + 1) ?_)
  have key : ∀ d k (im : Nat → Int32), k + d = (za_TL c sz rl n).length → wY_fixing_19 post (nI n) (d + 1) (nI (zc_cn (fun k => decide (za_wk (za_F ((za_TL c sz rl n).getD k 0)) wd s 0 = 0)) k)) (nI k) (nI s) (nI c) mn (zx_n wd) (zx_n sz) (zx_n rl) b_first b_second pm im b_other b_order b_place kn ac tb ky := by
    intro d
    induction d with
    | zero =>
      intro k im hk
      refine And.intro (vp_in_nI (by omega) (by omega)) (br_t (by rw [nI_clamp (by omega), h.2.1]; exact nI_le (by omega) (by omega)) ?_)
      rw [show k = (za_TL c sz rl n).length by omega]
      exact K _ _ _ _ _ _ _ hY'
    | succ d ih =>
      intro k im hk
      have hk' : k < (za_TL c sz rl n).length := by omega
      obtain ⟨hA, _, _⟩ := zx_tF (c := c) (sz := sz) h1 hn hrl hk'
      have lt := za_wk_lt hA.1 hwd h1 s
      refine And.intro (vp_in_nI (by omega) (by omega)) (br_f (by rw [nI_clamp (by omega), h.2.1]; exact nI_ge (by omega) (by omega)) (zy_spread h1 hn (by omega) hA.1 (h.2.2 k hk') fun im' him => zy_go (p := 0) hn hs hwd hA.1 him h1 ?_))
      have IH := ih (k + 1) im' (by omega)
      rw [zc_cn_s] at IH
      by_cases z : za_wk (za_F ((za_TL c sz rl n).getD k 0)) wd s 0 = 0
      · rw [if_pos (decide_eq_true z)] at IH
        rw [z]
        exact br_t rfl (nm_r (nI_1 _) (nm_r (nI_1 k) IH))
      · rw [if_neg (fun y => z (of_decide_eq_true y)), Nat.add_zero] at IH
        exact br_f (nI_ne0 (Nat.pos_of_ne_zero z) (by omega)) (nm_r (nI_1 k) IH)
  exact key (za_TL c sz rl n).length 0 im (by omega)
end

section
variable {c n s : Nat} {sz rl wd : Nat → Nat} {g_length g_count g_many : Int32} {b_word b_lengths b_relators b_first b_second b_permutations b_images b_other b_order b_place b_known b_actions b_tables : Nat → Int32} {b_keys : Nat → Int64}
theorem zy_even41 {post : Int32 → SY → Prop} {J : Int32 → Int32 → Int32 → Int32 → Int32 → (Nat → Int32) → (Nat → Int32) → (Nat → Int32) → (Nat → Int32) → (Nat → Int32) → (Nat → Int32) → (Nat → Int32) → (Nat → Int32) → (Nat → Int32) → (Nat → Int32) → (Nat → Int32) → (Nat → Int32) → (Nat → Int32) → (Nat → Int64) → Prop} {k m : Nat} {F : Nat → Nat} (h1 : 0 < n) (hn : n ≤ 5) (hk : k < 461) (hA : za_act n F) (hS : za_std n F) (him : zy_im n F b_images) (hx : b_keys (461 * n + k) = lN (za_k5 n F))
    (K : ∀ ord pla : Nat → Int32, J (nI (if zx_eg n F = true then m + 1 else m)) (nI (k + 1)) g_length g_count g_many b_word b_lengths b_relators b_first b_second b_permutations b_images b_other ord pla b_known b_actions b_tables b_keys) :
    ∀ d p (ord pla : Nat → Int32) (b : Bool), p + d = n → 0 < p → (b = true ↔ ∀ j, 0 < j → j < p → za_k5 n (zb_T F j) = za_k5 n F) →
      wY_even_41 post J (nI n) (nI m) (nI k) (d + 1) (if b = true then 1 else 0) (nI p) g_length g_count g_many b_word b_lengths b_relators b_first b_second b_permutations b_images b_other ord pla b_known b_actions b_tables b_keys := by
  have lF : ∀ q, q < 4 * n → F q < 5 := fun q hq => by have := hA.1 q hq; omega
  have bF := za_k5_lt hn lF
  intro d
  induction d with
  | zero =>
    intro p ord pla b hp hp0 hb
    have KK := K ord pla
    have e : b = zx_eg n F := by
      rw [Bool.eq_iff_iff, hb, zy_eg h1 hn hA hS, show p = n by omega]
    rw [← e] at KK
    refine br_t (nI_le (by omega) (by omega)) ?_
    cases b with
    | true => exact br_f zx_1n0 (nm_r (nI_1 m) (nm_r (nI_1 k) KK))
    | false => exact br_t rfl (nm_r (nI_1 k) KK)
  | succ d ih =>
    intro p ord pla b hp hp0 hb
    refine br_f (nI_ge (by omega) (by omega)) ?_
    cases b with
    | false =>
      have hb' : (false = true) ↔ ∀ j, 0 < j → j < p + 1 → za_k5 n (zb_T F j) = za_k5 n F := ⟨fun z => (nomatch z), fun z => hb.mpr fun j h0 hj => z j h0 (by omega)⟩
      exact br_t rfl (nm_r (nI_1 p) (ih (p + 1) ord pla false (by omega) (by omega) hb'))
    | true =>
      refine br_f zx_1n0 (zy_from hn hA hS (by omega) him fun ord' pla' => ?_)
      have lT : ∀ q, q < 4 * n → zb_T F p q < 5 := fun q hq => by have := zb_T_lt hA hS (show p < n by omega) hq; omega
      have bT := za_k5_lt hn lT
      have hall := hb.mp rfl
      dsimp only
      rw [zy_m461, nI_clamp (by omega), hx]
      refine ⟨vp_in_nI (by omega) (by omega), ?_⟩
      by_cases z : za_k5 n (zb_T F p) = za_k5 n F
      · have hb' : (true = true) ↔ ∀ j, 0 < j → j < p + 1 → za_k5 n (zb_T F j) = za_k5 n F := ⟨fun _ j h0 hj => by
          rcases Nat.lt_or_ge j p with y | y
          · exact hall j h0 y
          · have e : j = p := by omega
            subst e; exact z, fun _ => rfl⟩
        have IH := ih (p + 1) ord' pla' true (by omega) (by omega) hb'
        exact br_t (congrArg lN z) (nm_r (nI_1 p) IH)
      · have hb' : (false = true) ↔ ∀ j, 0 < j → j < p + 1 → za_k5 n (zb_T F j) = za_k5 n F := ⟨fun z => (nomatch z), fun y => absurd (y p hp0 (by omega)) z⟩
        have IH := ih (p + 1) ord' pla' false (by omega) (by omega) hb'
        exact br_f (fun y => z ((pk_lEQ (by omega) (by omega)).mp y)) (nm_r (nI_1 p) IH)
theorem zy_even {post : Int32 → SY → Prop} (hc4 : c ≤ 4) (hsz : ∀ i, sz i ≤ 8) (hrl : ∀ i, rl i < 4) (h1 : 0 < n) (hn : n ≤ 5) (hY : zy_YI c sz rl b_known b_actions b_tables b_keys)
    (K : ∀ (mn : Int32) (pm im kn ac tb : Nat → Int32) (ky : Nat → Int64) (ord pla : Nat → Int32), zy_YI c sz rl kn ac tb ky → post (nI (zc_cn (fun k => zx_eg n (za_F ((za_TL c sz rl n).getD k 0))) (za_TL c sz rl n).length)) (nI s, nI c, mn, zx_n wd, zx_n sz, zx_n rl, b_first, b_second, pm, im, b_other, ord, pla, kn, ac, tb, ky)) :
    wpY_even post (nI s, nI c, g_many, zx_n wd, zx_n sz, zx_n rl, b_first, b_second, b_permutations, b_images, b_other, b_order, b_place, b_known, b_actions, b_tables, b_keys) (nI n) := by
  have hlen := za_TL4 (c := c) (sz := sz) (rl := rl) h1 hn
  unfold wpY_even
  dsimp only
  refine zy_nbad h1 hn ?_
  refine br_t rfl (zy_work hc4 hsz hrl h1 hn hY fun mn pm im kn ac tb ky hY' h => Exists.intro ((za_TL c sz rl n).length + 1) ?_)
  have key : ∀ d k (im ord pla : Nat → Int32), k + d = (za_TL c sz rl n).length → wY_even_19 post (nI n) (d + 1) (nI (zc_cn (fun k => zx_eg n (za_F ((za_TL c sz rl n).getD k 0))) k)) (nI k) (nI s) (nI c) mn (zx_n wd) (zx_n sz) (zx_n rl) b_first b_second pm im b_other ord pla kn ac tb ky := by
    intro d
    induction d with
    | zero =>
      intro k im ord pla hk
      refine And.intro (vp_in_nI (by omega) (by omega)) (br_t (by rw [nI_clamp (by omega), h.2.1]; exact nI_le (by omega) (by omega)) ?_)
      rw [show k = (za_TL c sz rl n).length by omega]
      exact K _ _ _ _ _ _ _ _ _ hY'
    | succ d ih =>
      intro k im ord pla hk
      have hk' : k < (za_TL c sz rl n).length := by omega
      obtain ⟨hA, hS, _⟩ := zx_tF (c := c) (sz := sz) h1 hn hrl hk'
      refine And.intro (vp_in_nI (by omega) (by omega)) (br_f (by rw [nI_clamp (by omega), h.2.1]; exact nI_ge (by omega) (by omega)) (zy_spread h1 hn (by omega) hA.1 (h.2.2 k hk') fun im' him => Exists.intro (n - 1 + 1) ?_))
      refine zy_even41 h1 hn (by omega) hA hS him (h.2.2 k hk') (fun ord' pla' => ?_) (n - 1) 1 ord pla true (by omega) (by omega) ⟨fun _ j h0 hj => absurd hj (by omega), fun _ => rfl⟩
      have IH := ih (k + 1) im' ord' pla' (by omega)
      rw [zc_cn_s] at IH
      have e : zc_cn (fun k => zx_eg n (za_F ((za_TL c sz rl n).getD k 0))) k + (if zx_eg n (za_F ((za_TL c sz rl n).getD k 0)) = true then 1 else 0) = if zx_eg n (za_F ((za_TL c sz rl n).getD k 0)) = true then zc_cn (fun k => zx_eg n (za_F ((za_TL c sz rl n).getD k 0))) k + 1 else zc_cn (fun k => zx_eg n (za_F ((za_TL c sz rl n).getD k 0))) k := by
        split <;> rfl
      rw [e] at IH
      exact IH
  exact key (za_TL c sz rl n).length 0 im b_order b_place (by omega)
end

section
variable {c n s : Nat} {sz rl wd : Nat → Nat} {g_length g_count g_many : Int32} {b_word b_lengths b_relators b_first b_second b_permutations b_images b_other b_order b_place b_known b_actions b_tables : Nat → Int32} {b_keys : Nat → Int64}
theorem zy_kinds41 {post : Int32 → SY → Prop} {J : Int32 → Int32 → Int32 → Int32 → Int32 → (Nat → Int32) → (Nat → Int32) → (Nat → Int32) → (Nat → Int32) → (Nat → Int32) → (Nat → Int32) → (Nat → Int32) → (Nat → Int32) → (Nat → Int32) → (Nat → Int32) → (Nat → Int32) → (Nat → Int32) → (Nat → Int32) → (Nat → Int64) → Prop} {k m : Nat} {F : Nat → Nat} (h1 : 0 < n) (hn : n ≤ 5) (hk : k < 461) (hA : za_act n F) (hS : za_std n F) (him : zy_im n F b_images) (hx : b_keys (461 * n + k) = lN (za_k5 n F))
    (K : ∀ ord pla : Nat → Int32, J (nI (if zx_kg n F = true then m + 1 else m)) (nI (k + 1)) g_length g_count g_many b_word b_lengths b_relators b_first b_second b_permutations b_images b_other ord pla b_known b_actions b_tables b_keys) :
    ∀ d p (ord pla : Nat → Int32) (b : Bool), p + d = n → 0 < p → (b = true ↔ ∀ j, 0 < j → j < p → ¬ za_k5 n (zb_T F j) < za_k5 n F) →
      wY_kinds_41 post J (nI n) (nI m) (nI k) (d + 1) (if b = true then 1 else 0) (nI p) g_length g_count g_many b_word b_lengths b_relators b_first b_second b_permutations b_images b_other ord pla b_known b_actions b_tables b_keys := by
  have lF : ∀ q, q < 4 * n → F q < 5 := fun q hq => by have := hA.1 q hq; omega
  have bF := za_k5_lt hn lF
  intro d
  induction d with
  | zero =>
    intro p ord pla b hp hp0 hb
    have KK := K ord pla
    have e : b = zx_kg n F := by
      rw [Bool.eq_iff_iff, hb, zy_kg h1 hn hA hS, show p = n by omega]
    rw [← e] at KK
    refine br_t (nI_le (by omega) (by omega)) ?_
    cases b with
    | true => exact br_f zx_1n0 (nm_r (nI_1 m) (nm_r (nI_1 k) KK))
    | false => exact br_t rfl (nm_r (nI_1 k) KK)
  | succ d ih =>
    intro p ord pla b hp hp0 hb
    refine br_f (nI_ge (by omega) (by omega)) ?_
    cases b with
    | false =>
      have hb' : (false = true) ↔ ∀ j, 0 < j → j < p + 1 → ¬ za_k5 n (zb_T F j) < za_k5 n F := ⟨fun z => (nomatch z), fun z => hb.mpr fun j h0 hj => z j h0 (by omega)⟩
      exact br_t rfl (nm_r (nI_1 p) (ih (p + 1) ord pla false (by omega) (by omega) hb'))
    | true =>
      refine br_f zx_1n0 (zy_from hn hA hS (by omega) him fun ord' pla' => ?_)
      have lT : ∀ q, q < 4 * n → zb_T F p q < 5 := fun q hq => by have := zb_T_lt hA hS (show p < n by omega) hq; omega
      have bT := za_k5_lt hn lT
      have hall := hb.mp rfl
      dsimp only
      rw [zy_m461, nI_clamp (by omega), hx]
      refine ⟨vp_in_nI (by omega) (by omega), ?_⟩
      by_cases z : ¬ za_k5 n (zb_T F p) < za_k5 n F
      · have hb' : (true = true) ↔ ∀ j, 0 < j → j < p + 1 → ¬ za_k5 n (zb_T F j) < za_k5 n F := ⟨fun _ j h0 hj => by
          rcases Nat.lt_or_ge j p with y | y
          · exact hall j h0 y
          · have e : j = p := by omega
            subst e; exact z, fun _ => rfl⟩
        have IH := ih (p + 1) ord' pla' true (by omega) (by omega) hb'
        exact br_f (fun y => z ((pk_lLT (by omega) (by omega)).mp y)) (nm_r (nI_1 p) IH)
      · have hb' : (false = true) ↔ ∀ j, 0 < j → j < p + 1 → ¬ za_k5 n (zb_T F j) < za_k5 n F := ⟨fun z => (nomatch z), fun y => absurd (y p hp0 (by omega)) z⟩
        have IH := ih (p + 1) ord' pla' false (by omega) (by omega) hb'
        exact br_t ((pk_lLT (by omega) (by omega)).mpr (Classical.not_not.mp z)) (nm_r (nI_1 p) IH)
theorem zy_kinds {post : Int32 → SY → Prop} (hc4 : c ≤ 4) (hsz : ∀ i, sz i ≤ 8) (hrl : ∀ i, rl i < 4) (h1 : 0 < n) (hn : n ≤ 5) (hY : zy_YI c sz rl b_known b_actions b_tables b_keys)
    (K : ∀ (mn : Int32) (pm im kn ac tb : Nat → Int32) (ky : Nat → Int64) (ord pla : Nat → Int32), zy_YI c sz rl kn ac tb ky → post (nI (zc_cn (fun k => zx_kg n (za_F ((za_TL c sz rl n).getD k 0))) (za_TL c sz rl n).length)) (nI s, nI c, mn, zx_n wd, zx_n sz, zx_n rl, b_first, b_second, pm, im, b_other, ord, pla, kn, ac, tb, ky)) :
    wpY_kinds post (nI s, nI c, g_many, zx_n wd, zx_n sz, zx_n rl, b_first, b_second, b_permutations, b_images, b_other, b_order, b_place, b_known, b_actions, b_tables, b_keys) (nI n) := by
  have hlen := za_TL4 (c := c) (sz := sz) (rl := rl) h1 hn
  unfold wpY_kinds
  dsimp only
  refine zy_nbad h1 hn ?_
  refine br_t rfl (zy_work hc4 hsz hrl h1 hn hY fun mn pm im kn ac tb ky hY' h => Exists.intro ((za_TL c sz rl n).length + 1) ?_)
  have key : ∀ d k (im ord pla : Nat → Int32), k + d = (za_TL c sz rl n).length → wY_kinds_19 post (nI n) (d + 1) (nI (zc_cn (fun k => zx_kg n (za_F ((za_TL c sz rl n).getD k 0))) k)) (nI k) (nI s) (nI c) mn (zx_n wd) (zx_n sz) (zx_n rl) b_first b_second pm im b_other ord pla kn ac tb ky := by
    intro d
    induction d with
    | zero =>
      intro k im ord pla hk
      refine And.intro (vp_in_nI (by omega) (by omega)) (br_t (by rw [nI_clamp (by omega), h.2.1]; exact nI_le (by omega) (by omega)) ?_)
      rw [show k = (za_TL c sz rl n).length by omega]
      exact K _ _ _ _ _ _ _ _ _ hY'
    | succ d ih =>
      intro k im ord pla hk
      have hk' : k < (za_TL c sz rl n).length := by omega
      obtain ⟨hA, hS, _⟩ := zx_tF (c := c) (sz := sz) h1 hn hrl hk'
      refine And.intro (vp_in_nI (by omega) (by omega)) (br_f (by rw [nI_clamp (by omega), h.2.1]; exact nI_ge (by omega) (by omega)) (zy_spread h1 hn (by omega) hA.1 (h.2.2 k hk') fun im' him => Exists.intro (n - 1 + 1) ?_))
      refine zy_kinds41 h1 hn (by omega) hA hS him (h.2.2 k hk') (fun ord' pla' => ?_) (n - 1) 1 ord pla true (by omega) (by omega) ⟨fun _ j h0 hj => absurd hj (by omega), fun _ => rfl⟩
      have IH := ih (k + 1) im' ord' pla' (by omega)
      rw [zc_cn_s] at IH
      have e : zc_cn (fun k => zx_kg n (za_F ((za_TL c sz rl n).getD k 0))) k + (if zx_kg n (za_F ((za_TL c sz rl n).getD k 0)) = true then 1 else 0) = if zx_kg n (za_F ((za_TL c sz rl n).getD k 0)) = true then zc_cn (fun k => zx_kg n (za_F ((za_TL c sz rl n).getD k 0))) k + 1 else zc_cn (fun k => zx_kg n (za_F ((za_TL c sz rl n).getD k 0))) k := by
        split <;> rfl
      rw [e] at IH
      exact IH
  exact key (za_TL c sz rl n).length 0 im b_order b_place (by omega)
end
end
section
/-- all points are fixed in all tables of n points -/
def zy_PA (c : Nat) (sz rl wd : Nat → Nat) (s n : Nat) : Prop := ∀ k, k < (za_TL c sz rl n).length → ∀ p, p < n → za_wk (za_F ((za_TL c sz rl n).getD k 0)) wd s p = p
theorem zy_PA_iff {c s : Nat} {sz rl wd : Nat → Nat} {n : Nat} (h1 : 0 < n) (hn : n ≤ 5) (hrl : ∀ i, rl i < 4) (hwd : ∀ i, wd i < 4) : zx_P0 c sz rl wd s n ↔ zy_PA c sz rl wd s n := by
  constructor
  · intro h k hk p hp
    have hT := zx_tF (c := c) (sz := sz) h1 hn hrl hk
    obtain ⟨G, hG, hW⟩ := zb_root hrl hT hp
    refine hW wd hwd s ?_
    obtain ⟨x, hx, hd⟩ := za_TL2 h1 hn hG
    obtain ⟨i, e⟩ := zb_ix hx
    have := h _ i
    rw [e] at this
    have key : ∀ m, za_wk G wd m 0 = za_wk (za_F x) wd m 0 := by
      intro m
      induction m with
      | zero => rfl
      | succ m ih =>
        show G (4 * za_wk G wd m 0 + wd m) = za_F x (4 * za_wk (za_F x) wd m 0 + wd m)
        have lt := za_wk_lt hG.1.1 hwd h1 m
        have := hwd m
        have := hd (4 * za_wk G wd m 0 + wd m) (by omega)
        rw [← ih]
        unfold za_F
        omega
    rw [key]
    exact this
  · intro h k hk
    exact h k hk 0 h1
section
variable {c s : Nat} {sz rl wd : Nat → Nat} {g_length g_count g_many : Int32} {b_word b_lengths b_relators b_first b_second b_permutations b_images b_other b_order b_place b_known b_actions b_tables : Nat → Int32} {b_keys : Nat → Int64}
theorem zy_still {post : Int32 → SY → Prop} (hs : s ≤ 8) (hwd : ∀ i, wd i < 4) (hc4 : c ≤ 4) (hsz : ∀ i, sz i ≤ 8) (hrl : ∀ i, rl i < 4) (hY : zy_YI c sz rl b_known b_actions b_tables b_keys)
    (K1 : ∀ (mn : Int32) (pm im kn ac tb : Nat → Int32) (ky : Nat → Int64), zy_YI c sz rl kn ac tb ky → (∀ n, 0 < n → n ≤ 5 → zy_PA c sz rl wd s n) → post 1 (nI s, nI c, mn, zx_n wd, zx_n sz, zx_n rl, b_first, b_second, pm, im, b_other, b_order, b_place, kn, ac, tb, ky))
    (K0 : ∀ (mn : Int32) (pm im kn ac tb : Nat → Int32) (ky : Nat → Int64), zy_YI c sz rl kn ac tb ky → ∀ n, 0 < n → n ≤ 5 → ¬ zy_PA c sz rl wd s n → post 0 (nI s, nI c, mn, zx_n wd, zx_n sz, zx_n rl, b_first, b_second, pm, im, b_other, b_order, b_place, kn, ac, tb, ky)) : wpY_still post (nI s, nI c, g_many, zx_n wd, zx_n sz, zx_n rl, b_first, b_second, b_permutations, b_images, b_other, b_order, b_place, b_known, b_actions, b_tables, b_keys) := by
  have k32 : ∀ (J2 J14 : Int32 → Int32 → Int32 → Int32 → (Nat → Int32) → (Nat → Int32) → (Nat → Int32) → (Nat → Int32) → (Nat → Int32) → (Nat → Int32) → (Nat → Int32) → (Nat → Int32) → (Nat → Int32) → (Nat → Int32) → (Nat → Int32) → (Nat → Int32) → (Nat → Int32) → (Nat → Int64) → Prop) n k (mn : Int32) (pm im kn ac tb : Nat → Int32) (ky : Nat → Int64), 0 < n → n ≤ 5 → k < (za_TL c sz rl n).length → zy_YI c sz rl kn ac tb ky → zy_im n (za_F ((za_TL c sz rl n).getD k 0)) im →
      ((∀ p, p < n → za_wk (za_F ((za_TL c sz rl n).getD k 0)) wd s p = p) → J14 (nI (k + 1)) (nI s) (nI c) mn (zx_n wd) (zx_n sz) (zx_n rl) b_first b_second pm im b_other b_order b_place kn ac tb ky) → ∀ d p, p + d = n → (∀ j, j < p → za_wk (za_F ((za_TL c sz rl n).getD k 0)) wd s j = j) →
      wY_still_32 post J2 J14 (nI n) (nI k) (nI s) (nI c) mn (zx_n wd) (zx_n sz) (zx_n rl) b_first b_second pm im b_other b_order b_place kn ac tb ky (d + 1) (nI p) := by
    intro J2 J14 n k mn pm im kn ac tb ky h1 hn hk hY' him KJ d
    obtain ⟨hA, _, _⟩ := zx_tF (c := c) (sz := sz) h1 hn hrl hk
    induction d with
    | zero =>
      intro p hp H
      exact br_t (nI_le (by omega) (by omega)) (nm_r (nI_1 k) (KJ fun j hj => H j (by omega)))
    | succ d ih =>
      intro p hp H
      have lt := za_wk_lt hA.1 hwd (show p < n by omega) s
      refine br_f (nI_ge (by omega) (by omega)) (zy_go hn hs hwd hA.1 him (by omega) ?_)
      by_cases z : za_wk (za_F ((za_TL c sz rl n).getD k 0)) wd s p = p
      · rw [z]
        refine br_t rfl (nm_r (nI_1 p) (ih (p + 1) (by omega) fun j hj => ?_))
        rcases Nat.lt_or_ge j p with y | y
        · exact H j y
        · have e : j = p := by omega
          subst e; exact z
      · exact br_f (fun y => z ((nI_eq (by omega) (by omega)).mp y)) (K0 _ _ _ _ _ _ _ hY' n h1 hn fun y => z (y k hk p (by omega)))
  have k14 : ∀ (J2 : Int32 → Int32 → Int32 → Int32 → (Nat → Int32) → (Nat → Int32) → (Nat → Int32) → (Nat → Int32) → (Nat → Int32) → (Nat → Int32) → (Nat → Int32) → (Nat → Int32) → (Nat → Int32) → (Nat → Int32) → (Nat → Int32) → (Nat → Int32) → (Nat → Int32) → (Nat → Int64) → Prop) n (mn : Int32) (pm kn ac tb : Nat → Int32) (ky : Nat → Int64), 0 < n → n ≤ 5 → zy_YI c sz rl kn ac tb ky → zy_Y1 c sz rl n ac tb ky → (zy_PA c sz rl wd s n → ∀ im : Nat → Int32, J2 (nI (n + 1)) (nI s) (nI c) mn (zx_n wd) (zx_n sz) (zx_n rl) b_first b_second pm im b_other b_order b_place kn ac tb ky) →
      ∀ d k (im : Nat → Int32), k + d = (za_TL c sz rl n).length → (∀ j, j < k → ∀ p, p < n → za_wk (za_F ((za_TL c sz rl n).getD j 0)) wd s p = p) → wY_still_14 post J2 (nI n) (d + 1) (nI k) (nI s) (nI c) mn (zx_n wd) (zx_n sz) (zx_n rl) b_first b_second pm im b_other b_order b_place kn ac tb ky := by
    intro J2 n mn pm kn ac tb ky h1 hn hY' h KJ d
    have hlen := za_TL4 (c := c) (sz := sz) (rl := rl) h1 hn
    induction d with
    | zero =>
      intro k im hk H
      exact And.intro (vp_in_nI (by omega) (by omega)) (br_t (by rw [nI_clamp (by omega), h.2.1]; exact nI_le (by omega) (by omega)) (nm_r (nI_1 n) (KJ (fun j hj => H j (by omega)) im)))
    | succ d ih =>
      intro k im hk H
      have hk' : k < (za_TL c sz rl n).length := by omega
      obtain ⟨hA, _, _⟩ := zx_tF (c := c) (sz := sz) h1 hn hrl hk'
      refine And.intro (vp_in_nI (by omega) (by omega)) (br_f (by rw [nI_clamp (by omega), h.2.1]; exact nI_ge (by omega) (by omega)) (zy_spread h1 hn (by omega) hA.1 (h.2.2 k hk') fun im' him => Exists.intro (n + 1) ?_))
      refine k32 _ _ n k mn pm im' kn ac tb ky h1 hn hk' hY' him (fun e => ih (k + 1) im' (by omega) fun j hj => ?_) n 0 (by omega) fun j hj => absurd hj (Nat.not_lt_zero j)
      rcases Nat.lt_or_ge j k with y | y
      · exact H j y
      · have ej : j = k := by omega
        subst ej; exact e
  have k2 : ∀ d n (mn : Int32) (pm im kn ac tb : Nat → Int32) (ky : Nat → Int64), n + d = 6 → 0 < n → zy_YI c sz rl kn ac tb ky → (∀ j, 0 < j → j < n → zy_PA c sz rl wd s j) → wY_still_2 post (d + 1) (nI n) (nI s) (nI c) mn (zx_n wd) (zx_n sz) (zx_n rl) b_first b_second pm im b_other b_order b_place kn ac tb ky := by
    intro d
    induction d with
    | zero =>
      intro n mn pm im kn ac tb ky hn h0 hY' H
      exact br_t (nI_lt (a := 5) (by omega) (by omega)) (K1 _ _ _ _ _ _ _ hY' fun j a b => H j a (by omega))
    | succ d ih =>
      intro n mn pm im kn ac tb ky hn h0 hY' H
      refine br_f (nI_nlt (b := n) (a := 5) (by omega) (by omega)) (zy_work hc4 hsz hrl h0 (by omega) hY' fun mn' pm' im' kn' ac' tb' ky' hY2 h2 => Exists.intro ((za_TL c sz rl n).length + 1) ?_)
      refine k14 _ n mn' pm' kn' ac' tb' ky' h0 (by omega) hY2 h2 (fun hP im2 => ih (n + 1) mn' pm' im2 kn' ac' tb' ky' (by omega) (by omega) hY2 fun j a b => ?_) (za_TL c sz rl n).length 0 im' (by omega) fun j hj => absurd hj (Nat.not_lt_zero j)
      rcases Nat.lt_or_ge j n with y | y
      · exact H j a y
      · have ej : j = n := by omega
        subst ej; exact hP
  exact Exists.intro 6 (k2 5 1 _ _ _ _ _ _ _ (by omega) (by omega) hY fun j a b => absurd b (by omega))
end
end
section
/-! counting solutions -/
theorem zy_rem {Z : Int} {M : Nat} (hZ : Z.natAbs < 2 ^ 31) (h1 : 0 < M) (hM : M < 2 ^ 31) : zx_i Z - zx_i Z / nI M * nI M = zx_i (Z.tmod M) := by
  have hne : nI M ≠ -1 := fun h => by
    have := congrArg Int32.toInt h
    rw [nI_toInt hM, show (-1 : Int32).toInt = -1 from by decide] at this
    omega
  have e : zx_i Z / nI M = zx_i (Z.tdiv M) := by
    have h := Int32.toInt_div_of_ne_right (zx_i Z) (nI M) hne
    rw [zx_i_t (by omega) (by omega), nI_toInt hM] at h
    rw [← h]
    exact (Int32.ofInt_toInt _).symm
  rw [e, ← zx_i_n M, Int.tmod_def, Int.mul_comm (M : Int)]
  unfold zx_i
  rw [Int32.ofInt_sub, Int32.ofInt_mul]
theorem zy_tm {Z : Int} {M : Nat} (h1 : 0 < M) : (Z.tmod M + M).tmod M = Z % M := by
  have a := Int.lt_tmod_of_pos Z (show (0 : Int) < M by omega)
  rw [Int.tmod_eq_emod_of_nonneg (by omega), Int.add_emod_right, Int.tmod_def]
  have : Z - (M : Int) * Z.tdiv M = Z + (M : Int) * (-(Z.tdiv M)) := by rw [Int.mul_neg]; rfl
  rw [this, Int.add_mul_emod_self_left]
theorem zy_mod {Z : Int} {M : Nat} (hZ : Z.natAbs < 2 ^ 20) (h1 : 0 < M) (hM : M < 2 ^ 20) : ((zx_i Z - zx_i Z / nI M * nI M) + nI M) - ((zx_i Z - zx_i Z / nI M * nI M) + nI M) / nI M * nI M = nI (Z % M).toNat := by
  have a := Int.lt_tmod_of_pos Z (show (0 : Int) < M by omega)
  have b := Int.tmod_lt_of_pos Z (show (0 : Int) < M by omega)
  have e : zx_i (Z.tmod M) + nI M = zx_i (Z.tmod M + M) := by
    rw [← zx_i_n M]
    exact (Int32.ofInt_add _ _).symm
  rw [zy_rem (by omega) h1 (by omega), e, zy_rem (by omega) h1 (by omega), zy_tm h1, ← zx_i_n]
  exact congrArg zx_i (Int.toNat_of_nonneg (Int.emod_nonneg Z (by omega))).symm
theorem zy_z0 {Z : Int} {M : Nat} (hZ : Z.natAbs < 2 ^ 20) (h1 : 0 < M) (hM : M < 2 ^ 20) : zx_i Z - zx_i Z / nI M * nI M = 0 ↔ (M : Int) ∣ Z := by
  have a := Int.lt_tmod_of_pos Z (show (0 : Int) < M by omega)
  have b := Int.tmod_lt_of_pos Z (show (0 : Int) < M by omega)
  rw [zy_rem (by omega) h1 (by omega), Int.dvd_iff_tmod_eq_zero]
  constructor
  · intro h
    have := congrArg Int32.toInt h
    rw [zx_i_t (by omega) (by omega), show (0 : Int32).toInt = 0 from by decide] at this
    exact this
  · intro h
    rw [h]
    rfl
theorem zy_im1 (Z : Int) : zx_i Z + (-1) = zx_i (Z + -1) := by
  have e : (-1 : Int32) = Int32.ofInt (-1) := by decide
  rw [e]
  exact (Int32.ofInt_add Z (-1)).symm
theorem zy_lin (x y : Nat) (A B : Int) : nI x * zx_i A + nI y * zx_i B = zx_i ((x : Int) * A + (y : Int) * B) := by
  rw [← zx_i_n x, ← zx_i_n y]
  unfold zx_i
  rw [Int32.ofInt_add, Int32.ofInt_mul, Int32.ofInt_mul]
theorem zy_ab {x m : Nat} {A : Int} (hx : x < m) (hm : m ≤ 1000) (hA : A.natAbs ≤ 8) : ((x : Int) * A).natAbs ≤ 8000 := by
  rw [Int.natAbs_mul]
  have : (x : Int).natAbs * A.natAbs ≤ 1000 * 8 := Nat.mul_le_mul (by omega) hA
  exact this
theorem zy_cn_t : ∀ m, zc_cn (fun _ => true) m = m := fun m => (zc_cn_full _ m).mpr fun _ _ => rfl
theorem zy_sm_k (k : Nat) : ∀ n, za_sm (fun _ => k) n = n * k := by
  intro n
  induction n with
  | zero => rw [Nat.zero_mul]; rfl
  | succ n ih => show za_sm _ n + k = _; rw [ih, Nat.add_mul, Nat.one_mul]
section
variable {c : Nat} {sz rl : Nat → Nat} {g_length g_count g_many : Int32} {b_word b_lengths b_relators b_first b_second b_permutations b_images b_other b_order b_place b_known b_actions b_tables : Nat → Int32} {b_keys : Nat → Int64}
theorem zy_sum {post : Int32 → Prop} {k l : Nat} (hk : k < 4) (hl : l < 4) (hsz : ∀ i, sz i ≤ 8) (hrl : ∀ i, rl i < 4) (K : post (zx_i (zx_ex (fun i => rl (8 * k + i)) l (sz k)))) : wpY_sum post (g_length, g_count, g_many, b_word, zx_n sz, zx_n rl, b_first, b_second, b_permutations, b_images, b_other, b_order, b_place, b_known, b_actions, b_tables, b_keys) (nI k) (nI l) := by
  have hs := hsz k
  have key : ∀ d i, i + d = sz k → wY_sum_5 post (nI k) (nI l) g_length g_count g_many b_word (zx_n sz) (zx_n rl) b_first b_second b_permutations b_images b_other b_order b_place b_known b_actions b_tables b_keys (d + 1) (zx_i (zx_ex (fun i => rl (8 * k + i)) l i)) (nI i) := by
    intro d
    induction d with
    | zero =>
      intro i hi
      have e : i = sz k := by omega
      subst e
      exact And.intro (vp_in_nI hk (by omega)) (br_t (by rw [zx_at _ (by omega)]; exact nI_le (Nat.le_refl _) (by omega)) K)
    | succ d ih =>
      intro i hi
      have IH := ih (i + 1) (by omega)
      rw [zx_ex_s] at IH
      have hr := hrl (8 * k + i)
      have hin : vp_in (nI (8 * k + i)) 32 := vp_in_nI (by omega) (by omega)
      refine And.intro (vp_in_nI hk (by omega)) (br_f (by rw [zx_at _ (by omega)]; exact nI_ge (by omega) (by omega)) ?_)
      unfold wY_sum_35
      rw [zx_m8, zx_at _ (by omega), nI_1 l]
      refine ⟨hin, ?_⟩
      by_cases e1 : rl (8 * k + i) = l
      · rw [if_pos e1] at IH
        exact br_t (congrArg nI e1) (nm_r (zx_i_1 _) ⟨hin, br_f (fun z => by have := (nI_eq (by omega) (by omega)).mp z; omega) (nm_r (nI_1 i) IH)⟩)
      · rw [if_neg e1] at IH
        refine br_f (fun z => e1 ((nI_eq (by omega) (by omega)).mp z)) ⟨hin, ?_⟩
        by_cases e2 : rl (8 * k + i) = l + 1
        · rw [if_pos e2] at IH
          exact br_t (congrArg nI e2) (nm_r (zy_im1 _) (nm_r (nI_1 i) IH))
        · rw [if_neg e2, Int.add_zero] at IH
          exact br_f (fun z => e2 ((nI_eq (by omega) (by omega)).mp z)) (nm_r (nI_1 i) IH)
  exact Exists.intro (sz k + 1) (key (sz k) 0 (by omega))
def zy_P (c : Nat) (sz rl : Nat → Nat) (m x y : Nat) : Bool := decide (∀ k, k < c → (m : Int) ∣ zx_eB sz rl k * (y : Int) + zx_eA sz rl k * (x : Int))
theorem zy_P_iff {m x y : Nat} : zy_P c sz rl m x y = true ↔ ∀ k, k < c → (m : Int) ∣ zx_eB sz rl k * (y : Int) + zx_eA sz rl k * (x : Int) := by unfold zy_P; exact decide_eq_true_iff
theorem zy_c130 {post : Int32 → SY → Prop} {J83 : Int32 → Int32 → Prop} {J109 : Int32 → Int32 → Int32 → Prop} {m x y : Nat} {x2 x3 x5 : Int32} {fi se : Nat → Int32} (hc : c ≤ 4) (hm1 : 0 < m) (hm : m ≤ 1000) (hx : x < m) (hy : y < m)
    (bA : ∀ k, (zx_eA sz rl k).natAbs ≤ 8) (bB : ∀ k, (zx_eB sz rl k).natAbs ≤ 8) (hfi : ∀ k, k < c → fi k = zx_i (zx_eA sz rl k)) (hse : ∀ k, k < c → se k = zx_i (zx_eB sz rl k))
    (K : wY_cyclic_183 post J83 J109 (nI m) x2 x3 (nI x) x5 (nI y) (if zy_P c sz rl m x y = true then 1 else 0) g_length (nI c) g_many b_word (zx_n sz) (zx_n rl) fi se b_permutations b_images b_other b_order b_place b_known b_actions b_tables b_keys) :
    ∀ d k (b : Bool), k + d = c → (b = true ↔ ∀ j, j < k → (m : Int) ∣ zx_eB sz rl j * (y : Int) + zx_eA sz rl j * (x : Int)) → wY_cyclic_130 post J83 J109 (nI m) x2 x3 (nI x) x5 (nI y) g_length (nI c) g_many b_word (zx_n sz) (zx_n rl) fi se b_permutations b_images b_other b_order b_place b_known b_actions b_tables b_keys (d + 1) (if b = true then 1 else 0) (nI k) := by
  intro d
  induction d with
  | zero =>
    intro k b hk hb
    have e : b = zy_P c sz rl m x y := by rw [Bool.eq_iff_iff, hb, zy_P_iff, show k = c by omega]
    rw [e]
    exact br_t (nI_le (by omega) (by omega)) K
  | succ d ih =>
    intro k b hk hb
    refine br_f (nI_ge (by omega) (by omega)) ?_
    cases b with
    | false =>
      have e : zy_P c sz rl m x y = false := by
        rw [← Bool.not_eq_true, zy_P_iff]
        exact fun z => Bool.false_ne_true (hb.mpr fun j hj => z j (by omega))
      rw [e] at K
      exact br_t rfl K
    | true =>
      have hall := hb.mp rfl
      have h1 := zy_ab hx hm (bA k)
      have h2 := zy_ab hy hm (bB k)
      refine br_f zx_1n0 ⟨vp_in_nI (by omega) (by omega), vp_in_nI (by omega) (by omega), nI_ne0 hm1 (by omega), ?_⟩
      rw [nI_clamp (n := k) (by omega), hfi k (by omega), hse k (by omega), zy_lin]
      have iff := zy_z0 (Z := (x : Int) * zx_eA sz rl k + (y : Int) * zx_eB sz rl k) (M := m) (by omega) hm1 (by omega)
      have comm : (x : Int) * zx_eA sz rl k + (y : Int) * zx_eB sz rl k = zx_eB sz rl k * (y : Int) + zx_eA sz rl k * (x : Int) := by
        rw [Int.mul_comm (x : Int), Int.mul_comm (y : Int), Int.add_comm]
      by_cases z : (m : Int) ∣ zx_eB sz rl k * (y : Int) + zx_eA sz rl k * (x : Int)
      · have hb' : (true = true) ↔ ∀ j, j < k + 1 → (m : Int) ∣ zx_eB sz rl j * (y : Int) + zx_eA sz rl j * (x : Int) := ⟨fun _ j hj => by
          rcases Nat.lt_or_ge j k with w | w
          · exact hall j w
          · have e : j = k := by omega
            subst e; exact z, fun _ => rfl⟩
        exact br_t (iff.mpr (comm ▸ z)) (nm_r (nI_1 k) (ih (k + 1) true (by omega) hb'))
      · have hb' : (false = true) ↔ ∀ j, j < k + 1 → (m : Int) ∣ zx_eB sz rl j * (y : Int) + zx_eA sz rl j * (x : Int) := ⟨fun z => (nomatch z), fun w => absurd (w k (by omega)) z⟩
        exact br_f (fun w => z (comm ▸ iff.mp w)) (nm_r (nI_1 k) (ih (k + 1) false (by omega) hb'))
theorem zy_c109 {post : Int32 → SY → Prop} {J83 : Int32 → Int32 → Prop} {m x a St : Nat} {fi se : Nat → Int32} (hc : c ≤ 4) (hc0 : 0 < c) (hm1 : 0 < m) (hm : m ≤ 1000) (hx : x < m)
    (bA : ∀ k, (zx_eA sz rl k).natAbs ≤ 8) (bB : ∀ k, (zx_eB sz rl k).natAbs ≤ 8) (hfi : ∀ k, k < c → fi k = zx_i (zx_eA sz rl k)) (hse : ∀ k, k < c → se k = zx_i (zx_eB sz rl k))
    (hSt : (St : Int) = zx_eB sz rl 0 % m) (K : J83 (nI (a + zc_cn (zy_P c sz rl m x) m)) (nI (x + 1))) :
    ∀ d y R : Nat, y + d = m → (R : Int) = (zx_eB sz rl 0 * (y : Int) + zx_eA sz rl 0 * (x : Int)) % m → wY_cyclic_109 post J83 (nI m) (nI St) (nI x) g_length (nI c) g_many b_word (zx_n sz) (zx_n rl) fi se b_permutations b_images b_other b_order b_place b_known b_actions b_tables b_keys (d + 1) (nI (a + zc_cn (zy_P c sz rl m x) y)) (nI R) (nI y) := by
  have hmI : (0 : Int) < m := by omega
  have sl := Int.emod_lt_of_pos (zx_eB sz rl 0) hmI
  intro d
  induction d with
  | zero =>
    intro y R hy hR
    have e : y = m := by omega
    rw [e]
    exact br_t (nI_le (Nat.le_refl _) (by omega)) (nm_r (nI_1 x) K)
  | succ d ih =>
    intro y R hy hR
    have rl' := Int.emod_lt_of_pos (zx_eB sz rl 0 * (y : Int) + zx_eA sz rl 0 * (x : Int)) hmI
    have next : ∀ R' : Nat, (R' : Int) = (zx_eB sz rl 0 * ((y + 1 : Nat) : Int) + zx_eA sz rl 0 * (x : Int)) % m → wY_cyclic_109 post J83 (nI m) (nI St) (nI x) g_length (nI c) g_many b_word (zx_n sz) (zx_n rl) fi se b_permutations b_images b_other b_order b_place b_known b_actions b_tables b_keys (d + 1) (nI (a + zc_cn (zy_P c sz rl m x) y + (if zy_P c sz rl m x y = true then 1 else 0))) (nI R') (nI (y + 1)) := by
      intro R' h
      have := ih (y + 1) R' (by omega) h
      rw [zc_cn_s, ← Nat.add_assoc] at this
      exact this
    have eN : (zx_eB sz rl 0 * ((y + 1 : Nat) : Int) + zx_eA sz rl 0 * (x : Int)) % m = ((R : Int) + St) % m := by
      rw [hR, hSt, ← Int.add_emod]
      congr 1
      rw [Int.natCast_add, Int.mul_add]
      omega
    have j191 : wY_cyclic_191 post J83 (wY_cyclic_109 post J83 (nI m) (nI St) (nI x) g_length (nI c) g_many b_word (zx_n sz) (zx_n rl) fi se b_permutations b_images b_other b_order b_place b_known b_actions b_tables b_keys (d + 1)) (nI m) (nI (a + zc_cn (zy_P c sz rl m x) y + (if zy_P c sz rl m x y = true then 1 else 0))) (nI St) (nI x) (nI R) (nI y) g_length (nI c) g_many b_word (zx_n sz) (zx_n rl) fi se b_permutations b_images b_other b_order b_place b_known b_actions b_tables b_keys := by
      refine nm_r (nI_add R St) ?_
      rcases Nat.lt_or_ge (R + St) m with z | z
      · refine br_t (nI_lt z (by omega)) (nm_r (nI_1 y) (next (R + St) ?_))
        rw [eN, Int.emod_eq_of_lt (by omega) (by omega)]
        omega
      · refine br_f (nI_nlt z (by omega)) (nm_r (pk_sub z) (nm_r (nI_1 y) (next (R + St - m) ?_)))
        have : (R : Int) + St = (R + St - m : Nat) + (m : Int) := by omega
        rw [eN, this, Int.add_emod_right, Int.emod_eq_of_lt (by omega) (by omega)]
    have j183 : wY_cyclic_183 post J83 (wY_cyclic_109 post J83 (nI m) (nI St) (nI x) g_length (nI c) g_many b_word (zx_n sz) (zx_n rl) fi se b_permutations b_images b_other b_order b_place b_known b_actions b_tables b_keys (d + 1)) (nI m) (nI (a + zc_cn (zy_P c sz rl m x) y)) (nI St) (nI x) (nI R) (nI y) (if zy_P c sz rl m x y = true then 1 else 0) g_length (nI c) g_many b_word (zx_n sz) (zx_n rl) fi se b_permutations b_images b_other b_order b_place b_known b_actions b_tables b_keys := by
      by_cases z : zy_P c sz rl m x y = true
      · rw [if_pos z] at j191 ⊢
        exact br_f zx_1n0 (nm_r (nI_1 _) j191)
      · rw [if_neg z] at j191 ⊢
        exact br_t rfl j191
    have k130 := zy_c130 (post := post) (J83 := J83) hc hm1 hm hx (show y < m by omega) bA bB hfi hse j183 (c - 1) 1
    refine br_f (nI_ge (by omega) (by omega)) ?_
    have d0 : (R = 0) ↔ (m : Int) ∣ zx_eB sz rl 0 * (y : Int) + zx_eA sz rl 0 * (x : Int) := by
      rw [Int.dvd_iff_emod_eq_zero, ← hR]
      omega
    rcases Nat.eq_zero_or_pos R with z | z
    · refine br_t (congrArg nI z) (Exists.intro (c - 1 + 1) (k130 true (by omega) ⟨fun _ j hj => ?_, fun _ => rfl⟩))
      have e : j = 0 := by omega
      subst e; exact d0.mp z
    · refine br_f (nI_ne0 z (by omega)) (Exists.intro (c - 1 + 1) (k130 false (by omega) ⟨fun w => (nomatch w), fun w => ?_⟩))
      have := d0.mpr (w 0 (by omega))
      omega
theorem zy_cyclic {post : Int32 → SY → Prop} {m : Nat} (hc : c ≤ 4) (hsz : ∀ i, sz i ≤ 8) (hrl : ∀ i, rl i < 4) (hm1 : 0 < m) (hm : m ≤ 1000)
    (K : ∀ fi se : Nat → Int32, post (nI (zx_cy c sz rl m)) (g_length, nI c, g_many, b_word, zx_n sz, zx_n rl, fi, se, b_permutations, b_images, b_other, b_order, b_place, b_known, b_actions, b_tables, b_keys)) : wpY_cyclic post (g_length, nI c, g_many, b_word, zx_n sz, zx_n rl, b_first, b_second, b_permutations, b_images, b_other, b_order, b_place, b_known, b_actions, b_tables, b_keys) (nI m) := by
  have bA : ∀ k, (zx_eA sz rl k).natAbs ≤ 8 := fun k => Nat.le_trans (zx_ex_b _ _ _) (hsz k)
  have bB : ∀ k, (zx_eB sz rl k).natAbs ≤ 8 := fun k => Nat.le_trans (zx_ex_b _ _ _) (hsz k)
  have hmI : (m : Int) ≠ 0 := by omega
  have k16 : ∀ d k (fi se : Nat → Int32), k + d = c → (∀ j, j < k → fi j = zx_i (zx_eA sz rl j)) → (∀ j, j < k → se j = zx_i (zx_eB sz rl j)) → wY_cyclic_16 post (nI m) g_length (nI c) g_many (d + 1) (nI k) b_word (zx_n sz) (zx_n rl) fi se b_permutations b_images b_other b_order b_place b_known b_actions b_tables b_keys := by
    intro d
    induction d with
    | zero =>
      intro k fi se hk hfi hse
      have e : k = c := by omega
      subst e
      refine br_t (nI_le (Nat.le_refl _) (by omega)) ?_
      rcases Nat.eq_zero_or_pos k with z | z
      · refine br_t (congrArg nI z) ?_
        have KK := K fi se
        have e : zx_cy k sz rl m = m * m := by
          unfold zx_cy
          rw [zc_sm_c (h' := fun _ => m) m fun x _ => ?_, zy_sm_k]
          rw [zc_cn_c (q := fun _ => true) m fun y _ => decide_eq_true fun j hj => by omega, zy_cn_t]
        rw [e] at KK
        rw [pk_mul]
        exact KK
      · refine br_f (nI_ne0 z (by omega)) ⟨nI_ne0 hm1 (by omega), nI_ne0 hm1 (by omega), ?_⟩
        have b0 := bB 0
        have a0 := bA 0
        rw [hse 0 z, zy_mod (by omega) hm1 (by omega)]
        have k83 : ∀ d x, x + d = m → wY_cyclic_83 post (nI m) (nI (zx_eB sz rl 0 % m).toNat) g_length (nI k) g_many b_word (zx_n sz) (zx_n rl) fi se b_permutations b_images b_other b_order b_place b_known b_actions b_tables b_keys (d + 1) (nI (za_sm (fun x => zc_cn (zy_P k sz rl m x) m) x)) (nI x) := by
          intro d
          induction d with
          | zero =>
            intro x hx
            have e : x = m := by omega
            subst e
            exact br_t (nI_le (Nat.le_refl _) (by omega)) (K fi se)
          | succ d ih =>
            intro x hx
            have h1 := zy_ab (show x < m by omega) hm a0
            have ez : nI x * zx_i (zx_eA sz rl 0) = zx_i ((x : Int) * zx_eA sz rl 0) := by
              rw [← zx_i_n x]
              exact (Int32.ofInt_mul _ _).symm
            refine br_f (nI_ge (by omega) (by omega)) ⟨nI_ne0 hm1 (by omega), nI_ne0 hm1 (by omega), ?_⟩
            rw [hfi 0 z, ez, zy_mod (by omega) hm1 (by omega)]
            have h := zy_c109 (post := post) (J83 := wY_cyclic_83 post (nI m) (nI (zx_eB sz rl 0 % m).toNat) g_length (nI k) g_many b_word (zx_n sz) (zx_n rl) fi se b_permutations b_images b_other b_order b_place b_known b_actions b_tables b_keys (d + 1)) (g_length := g_length) (g_many := g_many) (b_word := b_word) (b_permutations := b_permutations) (b_images := b_images) (b_other := b_other) (b_order := b_order) (b_place := b_place) (b_known := b_known) (b_actions := b_actions) (b_tables := b_tables) (b_keys := b_keys) hc z hm1 hm (show x < m by omega) bA bB hfi hse (Int.toNat_of_nonneg (Int.emod_nonneg (zx_eB sz rl 0) hmI)) (a := za_sm (fun x => zc_cn (zy_P k sz rl m x) m) x) (ih (x + 1) (by omega)) m 0 ((x : Int) * zx_eA sz rl 0 % m).toNat (by omega) (by
              rw [Int.toNat_of_nonneg (Int.emod_nonneg _ hmI), Int.mul_comm (x : Int)]
              show _ = (zx_eB sz rl 0 * 0 + _) % _
              rw [Int.mul_zero, Int.zero_add])
            exact nm_e (Exists.intro (m + 1) h)
        exact nm_e (Exists.intro (m + 1) (k83 m 0 (by omega)))
    | succ d ih =>
      intro k fi se hk hfi hse
      refine br_f (nI_ge (by omega) (by omega)) (zy_sum (l := 0) (by omega) (by omega) hsz hrl ⟨vp_in_nI (by omega) (by omega), nm_r (e' := upd fi k (zx_i (zx_eA sz rl k))) (by rw [nI_clamp (by omega)]; rfl) (zy_sum (l := 2) (by omega) (by omega) hsz hrl ⟨vp_in_nI (by omega) (by omega), nm_r (e' := upd se k (zx_i (zx_eB sz rl k))) (by rw [nI_clamp (by omega)]; rfl) (nm_r (nI_1 k) (ih (k + 1) _ _ (by omega) (fun j hj => ?_) fun j hj => ?_))⟩)⟩)
      · by_cases e : j = k
        · subst e; exact pk_us
        · rw [pk_un e]; exact hfi j (by omega)
      · by_cases e : j = k
        · subst e; exact pk_us
        · rw [pk_un e]; exact hse j (by omega)
  exact br_f (nI_nlt (b := 1) (by omega) (by omega)) (br_t (nI_le (b := 1000) (by omega) (by omega)) (Exists.intro (c + 1) (k16 c 0 b_first b_second (by omega) (fun j hj => absurd hj (Nat.not_lt_zero j)) fun j hj => absurd hj (Nat.not_lt_zero j))))
end
end
section
/-! words and relators on both sides -/
def zz_fl (x : Nat) : Nat := x + 1 - 2 * (x % 2)
theorem zz_fl_lt {x : Nat} (h : x < 4) : zz_fl x < 4 := by unfold zz_fl; omega
theorem zz_xor {x : Nat} (h : x < 4) : nI x ^^^ 1 = nI (zz_fl x) := by
  rw [show (1 : Int32) = nI 1 from rfl, nx_xor]
  exact congrArg nI (zx_fl x h)
def zz_iv (wd : Nat → Nat) (s : Nat) : Nat → Nat → Nat
  | 0 => wd
  | i + 1 => zx_u (zx_u (zz_iv wd s i) i (zz_fl (zz_iv wd s i (s - 1 - i)))) (s - 1 - i) (zz_fl (zz_iv wd s i i))
theorem zx_u_all {P : Nat → Prop} {f : Nat → Nat} {k v : Nat} (hf : ∀ i, P (f i)) (hv : P v) : ∀ i, P (zx_u f k v i) := by
  intro i
  unfold zx_u
  split
  · exact hv
  · exact hf i
theorem zz_iv_lt {wd : Nat → Nat} {s : Nat} (h : ∀ i, wd i < 4) : ∀ i j, zz_iv wd s i j < 4 := by
  intro i
  induction i with
  | zero => exact h
  | succ i ih => exact zx_u_all (P := fun x => x < 4) (zx_u_all (P := fun x => x < 4) ih (zz_fl_lt (ih _))) (zz_fl_lt (ih _))
def zz_cp (rl wd : Nat → Nat) (c : Nat) : Nat → Nat → Nat
  | 0 => rl
  | i + 1 => zx_u (zz_cp rl wd c i) (8 * c + i) (wd i)
theorem zz_cp_lt {rl wd : Nat → Nat} {c : Nat} (h : ∀ i, wd i < 4) (h' : ∀ i, rl i < 4) : ∀ i j, zz_cp rl wd c i j < 4 := by
  intro i
  induction i with
  | zero => exact h'
  | succ i ih => exact zx_u_all (P := fun x => x < 4) ih (h i)
def zz_sh (f : Nat → Nat) (a b d : Nat) : Nat → Nat := fun j => if a ≤ j ∧ j < b then f (j + d) else f j
theorem zz_sh_all {P : Nat → Prop} {f : Nat → Nat} {a b d : Nat} (h : ∀ i, P (f i)) : ∀ i, P (zz_sh f a b d i) := by
  intro i
  unfold zz_sh
  split <;> exact h _
theorem zz_sh_0 (f : Nat → Nat) (a d : Nat) : zz_sh f a a d = f := by
  funext j
  exact if_neg (by omega)
theorem zz_sh_at (f : Nat → Nat) {a b d : Nat} (hd : 0 < d) : zz_sh f a b d (b + d) = f (b + d) := if_neg (by omega)
theorem zz_sh_s (f : Nat → Nat) {a b d : Nat} (h : a ≤ b) : zx_u (zz_sh f a b d) b (f (b + d)) = zz_sh f a (b + 1) d := by
  funext j
  show (if j = b then f (b + d) else if a ≤ j ∧ j < b then f (j + d) else f j) = if a ≤ j ∧ j < b + 1 then f (j + d) else f j
  by_cases e : j = b
  · subst e
    rw [if_pos rfl, if_pos (by omega)]
  · rw [if_neg e]
    by_cases z : a ≤ j ∧ j < b
    · rw [if_pos z, if_pos (by omega)]
    · rw [if_neg z, if_neg (by omega)]
def zz_w (wd : Nat → Nat) : Nat → Nat
  | 0 => 1
  | i + 1 => 4 * zz_w wd i + wd i
section
variable {s c : Nat} {wd sz rl : Nat → Nat} {f_size f_relators f_points f_depth f_foundFor f_found : Int32} {a_word a_relatorSize a_relator a_table a_tried a_grew a_chosen a_other a_order a_place a_many a_actionsOf : Nat → Int32} {a_tables : Nat → Int64}
theorem zx_invert {post : Int32 → SX → Prop} (hs : s ≤ 8) (hwd : ∀ i, wd i < 4) (K : post (nI s) (nI s, f_relators, f_points, f_depth, f_foundFor, f_found, zx_n (zz_iv wd s ((s + 1) / 2)), a_relatorSize, a_relator, a_table, a_tried, a_grew, a_chosen, a_tables, a_other, a_order, a_place, a_many, a_actionsOf)) : wpX_invert post (nI s, f_relators, f_points, f_depth, f_foundFor, f_found, zx_n wd, a_relatorSize, a_relator, a_table, a_tried, a_grew, a_chosen, a_tables, a_other, a_order, a_place, a_many, a_actionsOf) := by
  have key : ∀ d i, i + d = (s + 1) / 2 → wX_invert_2 post (nI s) f_relators f_points f_depth f_foundFor f_found (d + 1) (nI i) (zx_n (zz_iv wd s i)) a_relatorSize a_relator a_table a_tried a_grew a_chosen a_tables a_other a_order a_place a_many a_actionsOf := by
    intro d
    induction d with
    | zero =>
      intro i hi
      have e : (s + 1) / 2 = i := by omega
      rw [e] at K
      refine br_t ?_ K
      rw [show (2 : Int32) = nI 2 from rfl, pk_mul]
      exact nI_le (by omega) (by omega)
    | succ d ih =>
      intro i hi
      have l1 := zz_iv_lt (s := s) hwd i i
      have l2 := zz_iv_lt (s := s) hwd i (s - 1 - i)
      have f1 := zz_fl_lt l1
      have f2 := zz_fl_lt l2
      have ej : (nI s - 1) - nI i = nI (s - 1 - i) := by
        rw [show (1 : Int32) = nI 1 from rfl, pk_sub (by omega), pk_sub (by omega)]
      refine br_f (by rw [show (2 : Int32) = nI 2 from rfl, pk_mul]; exact nI_ge (by omega) (by omega)) (nm_r ej ⟨vp_in_nI (by omega) (by omega), nm_r (e' := nI (zz_fl (zz_iv wd s i i))) ?_ ⟨vp_in_nI (by omega) (by omega), nm_r (e' := nI (zz_fl (zz_iv wd s i (s - 1 - i)))) ?_ ⟨vp_in_nI (by omega) (by omega), nm_r (e' := zx_n (zx_u (zz_iv wd s i) i (zz_fl (zz_iv wd s i (s - 1 - i))))) ?_ ⟨vp_in_nI (by omega) (by omega), nm_r (e' := zx_n (zz_iv wd s (i + 1))) ?_ (nm_r (nI_1 i) (ih (i + 1) (by omega)))⟩⟩⟩⟩)
      · rw [zx_at _ (by omega), zz_xor l1]
      · rw [zx_at _ (by omega), zz_xor l2]
      · rw [nI_clamp (by omega), zx_nb2 (by omega), zx_un]
      · rw [nI_clamp (by omega), zx_nb2 (by omega), zx_un]; rfl
  exact Exists.intro ((s + 1) / 2 + 1) (key ((s + 1) / 2) 0 (by omega))
theorem zx_relate {post : Int32 → SX → Prop} (hs : s ≤ 8) (hc : c < 4) (hwd : ∀ i, wd i < 4) (K : post (nI (c + 1)) (nI s, nI (c + 1), f_points, f_depth, 0, f_found, zx_n wd, zx_n (zx_u sz c s), zx_n (zz_cp rl wd c s), a_table, a_tried, a_grew, a_chosen, a_tables, a_other, a_order, a_place, a_many, a_actionsOf)) :
    wpX_relate post (nI s, nI c, f_points, f_depth, f_foundFor, f_found, zx_n wd, zx_n sz, zx_n rl, a_table, a_tried, a_grew, a_chosen, a_tables, a_other, a_order, a_place, a_many, a_actionsOf) := by
  have key : ∀ d i, i + d = s → wX_relate_13 post (nI s) (nI c) f_points f_depth f_foundFor f_found (d + 1) (nI i) (zx_n wd) (zx_n sz) (zx_n (zz_cp rl wd c i)) a_table a_tried a_grew a_chosen a_tables a_other a_order a_place a_many a_actionsOf := by
    intro d
    induction d with
    | zero =>
      intro i hi
      have e : i = s := by omega
      subst e
      refine br_t (nI_le (Nat.le_refl _) (by omega)) ⟨vp_in_nI hc (by omega), nm_r (e' := zx_n (zx_u sz c i)) ?_ (nm_r (nI_1 c) K)⟩
      rw [nI_clamp (by omega), zx_nb2 (by omega), zx_un]
    | succ d ih =>
      intro i hi
      have hw := hwd i
      refine br_f (nI_ge (by omega) (by omega)) ⟨vp_in_nI (by omega) (by omega), ?_⟩
      rw [zx_m8, zx_at _ (by omega), nI_clamp (by omega), zx_nb (by omega), zx_un]
      exact ⟨vp_in_nI (by omega) (by omega), nm_e (nm_r (nI_1 i) (ih (i + 1) (by omega)))⟩
  exact br_f (fun z => by have := (nI_eq (a := c) (b := 4) (by omega) (by omega)).mp z; omega) (Exists.intro (s + 1) (key s 0 (by omega)))
theorem zx_drop_w {post : Int32 → SX → Prop} {k : Nat} (hc : c < 4) (hk : k ≤ c) (hsz : ∀ i, sz i ≤ 8) (hrl : ∀ i, rl i < 4) (K : post (nI c) (f_size, nI c, f_points, f_depth, 0, f_found, a_word, zx_n (zz_sh sz k c 1), zx_n (zz_sh rl (8 * k) (8 * c) 8), a_table, a_tried, a_grew, a_chosen, a_tables, a_other, a_order, a_place, a_many, a_actionsOf)) :
    wpX_drop post (f_size, nI (c + 1), f_points, f_depth, f_foundFor, f_found, a_word, zx_n sz, zx_n rl, a_table, a_tried, a_grew, a_chosen, a_tables, a_other, a_order, a_place, a_many, a_actionsOf) (nI k) := by
  have k64 : ∀ d i, i + d = c → k ≤ i → wX_drop_64 post f_size (nI c) f_points f_depth f_foundFor f_found (d + 1) (nI i) a_word (zx_n (zz_sh sz k i 1)) (zx_n (zz_sh rl (8 * k) (8 * c) 8)) a_table a_tried a_grew a_chosen a_tables a_other a_order a_place a_many a_actionsOf := by
    intro d
    induction d with
    | zero =>
      intro i hi _
      have e : i = c := by omega
      subst e
      exact br_t (nI_le (Nat.le_refl _) (by omega)) K
    | succ d ih =>
      intro i hi hki
      have h8 := hsz (i + 1)
      refine br_f (nI_ge (by omega) (by omega)) ?_
      rw [nI_1, zx_at _ (by omega), nI_clamp (by omega), zz_sh_at _ (by omega), zx_nb (by omega), zx_un, zz_sh_s _ hki]
      exact ⟨vp_in_nI (by omega) (by omega), vp_in_nI (by omega) (by omega), nm_e (nm_e (ih (i + 1) (by omega) (by omega)))⟩
  have k30 : ∀ d i, i + d = 8 * c → 8 * k ≤ i → wX_drop_30 post (nI k) f_size (nI c) f_points f_depth f_foundFor f_found (d + 1) (nI i) a_word (zx_n sz) (zx_n (zz_sh rl (8 * k) i 8)) a_table a_tried a_grew a_chosen a_tables a_other a_order a_place a_many a_actionsOf := by
    intro d
    induction d with
    | zero =>
      intro i hi _
      have e : i = 8 * c := by omega
      subst e
      have h := k64 (c - k) k (by omega) (Nat.le_refl _)
      rw [zz_sh_0] at h
      exact br_t (by rw [zx_c8]; exact nI_le (Nat.le_refl _) (by omega)) (Exists.intro (c - k + 1) h)
    | succ d ih =>
      intro i hi hki
      have h4 := hrl (i + 8)
      have e8 : nI i + 8 = nI (i + 8) := nI_add i 8
      refine br_f (by rw [zx_c8]; exact nI_ge (by omega) (by omega)) ?_
      rw [e8, zx_at _ (by omega), nI_clamp (by omega), zz_sh_at _ (by omega), zx_nb (by omega), zx_un, zz_sh_s _ hki]
      exact ⟨vp_in_nI (by omega) (by omega), vp_in_nI (by omega) (by omega), nm_e (nm_r (nI_1 i) (ih (i + 1) (by omega) (by omega)))⟩
  have h := k30 (8 * c - 8 * k) (8 * k) (by omega) (Nat.le_refl _)
  rw [zz_sh_0] at h
  exact br_f (nI_pos (by omega)) (br_t (nI_lt (by omega) (by omega)) (nm_r (nI_pred c) (nm_r (zx_c8 k) (Exists.intro (8 * c - 8 * k + 1) h))))
theorem zx_word {post : Int32 → Prop} (hs : s ≤ 8) (K : post (nI (zz_w wd s))) : wpX_word post (nI s, f_relators, f_points, f_depth, f_foundFor, f_found, zx_n wd, a_relatorSize, a_relator, a_table, a_tried, a_grew, a_chosen, a_tables, a_other, a_order, a_place, a_many, a_actionsOf) := by
  have key : ∀ d i, i + d = s → wX_word_4 post (nI s) f_relators f_points f_depth f_foundFor f_found (zx_n wd) a_relatorSize a_relator a_table a_tried a_grew a_chosen a_tables a_other a_order a_place a_many a_actionsOf (d + 1) (nI (zz_w wd i)) (nI i) := by
    intro d
    induction d with
    | zero =>
      intro i hi
      have e : i = s := by omega
      subst e
      exact br_t (nI_le (Nat.le_refl _) (by omega)) K
    | succ d ih =>
      intro i hi
      refine br_f (nI_ge (by omega) (by omega)) ⟨vp_in_nI (by omega) (by omega), ?_⟩
      rw [zx_at _ (by omega), zx_m4]
      exact nm_e (nm_r (nI_1 i) (ih (i + 1) (by omega)))
  exact Exists.intro (s + 1) (key s 0 (by omega))
end
section
variable {s c : Nat} {wd sz rl : Nat → Nat} {g_length g_count g_many : Int32} {b_word b_lengths b_relators b_first b_second b_permutations b_images b_other b_order b_place b_known b_actions b_tables : Nat → Int32} {b_keys : Nat → Int64}
theorem zy_invert {post : Int32 → SY → Prop} (hs : s ≤ 8) (hwd : ∀ i, wd i < 4) (K : post (nI s) (nI s, g_count, g_many, zx_n (zz_iv wd s ((s + 1) / 2)), b_lengths, b_relators, b_first, b_second, b_permutations, b_images, b_other, b_order, b_place, b_known, b_actions, b_tables, b_keys)) : wpY_invert post (nI s, g_count, g_many, zx_n wd, b_lengths, b_relators, b_first, b_second, b_permutations, b_images, b_other, b_order, b_place, b_known, b_actions, b_tables, b_keys) := by
  have e2 : (nI s + 1) / 2 = nI ((s + 1) / 2) := by
    rw [nI_1, show (2 : Int32) = nI 2 from rfl, pk_div (by omega) (by omega) (by omega)]
  have key : ∀ d i, i + d = (s + 1) / 2 → wY_invert_2 post (nI s) g_count g_many (d + 1) (nI i) (zx_n (zz_iv wd s i)) b_lengths b_relators b_first b_second b_permutations b_images b_other b_order b_place b_known b_actions b_tables b_keys := by
    intro d
    induction d with
    | zero =>
      intro i hi
      have e : (s + 1) / 2 = i := by omega
      rw [e] at K
      exact And.intro (by decide) (br_t (by rw [e2]; exact nI_le (by omega) (by omega)) K)
    | succ d ih =>
      intro i hi
      have l1 := zz_iv_lt (s := s) hwd i i
      have l2 := zz_iv_lt (s := s) hwd i (s - 1 - i)
      have ej : (nI s - 1) - nI i = nI (s - 1 - i) := by
        rw [show (1 : Int32) = nI 1 from rfl, pk_sub (by omega), pk_sub (by omega)]
      refine And.intro (by decide) (br_f (by rw [e2]; exact nI_ge (by omega) (by omega)) ⟨vp_in_nI (by omega) (by omega), nm_r (e' := nI (zz_fl (zz_iv wd s i i))) ?_ ⟨?_, vp_in_nI (by omega) (by omega), nm_r (e' := zx_n (zx_u (zz_iv wd s i) i (zz_fl (zz_iv wd s i (s - 1 - i))))) ?_ ⟨?_, nm_r (e' := zx_n (zz_iv wd s (i + 1))) ?_ (nm_r (nI_1 i) (ih (i + 1) (by omega)))⟩⟩⟩)
      · rw [zx_at _ (by omega), zz_xor l1]
      · rw [ej]; exact vp_in_nI (by omega) (by omega)
      · rw [ej, nI_clamp (n := i) (by omega), zx_at _ (by omega), zz_xor l2, zx_un]
      · rw [ej]; exact vp_in_nI (by omega) (by omega)
      · rw [ej, nI_clamp (by omega), zx_un]; rfl
  exact Exists.intro ((s + 1) / 2 + 1) (key ((s + 1) / 2) 0 (by omega))
theorem zy_relate {post : Int32 → SY → Prop} (hs : s ≤ 8) (hc : c < 4) (K : ∀ kn : Nat → Int32, (∀ j, j < 6 → kn j = 0) → post (nI (c + 1)) (nI s, nI (c + 1), g_many, zx_n wd, zx_n (zx_u sz c s), zx_n (zz_cp rl wd c s), b_first, b_second, b_permutations, b_images, b_other, b_order, b_place, kn, b_actions, b_tables, b_keys)) :
    wpY_relate post (nI s, nI c, g_many, zx_n wd, zx_n sz, zx_n rl, b_first, b_second, b_permutations, b_images, b_other, b_order, b_place, b_known, b_actions, b_tables, b_keys) := by
  have key : ∀ d i, i + d = s → wY_relate_26 post (nI s) (nI c) g_many (d + 1) (nI i) (zx_n wd) (zx_n (zx_u sz c s)) (zx_n (zz_cp rl wd c i)) b_first b_second b_permutations b_images b_other b_order b_place b_known b_actions b_tables b_keys := by
    intro d
    induction d with
    | zero =>
      intro i hi
      have e : i = s := by omega
      subst e
      exact br_t (nI_le (Nat.le_refl _) (by omega)) (nm_r (nI_1 c) (zy_forget fun kn hkn => K kn hkn))
    | succ d ih =>
      intro i hi
      refine br_f (nI_ge (by omega) (by omega)) ⟨vp_in_nI (by omega) (by omega), ?_⟩
      rw [zx_m8, zx_at _ (by omega), nI_clamp (by omega), zx_un]
      exact ⟨vp_in_nI (by omega) (by omega), nm_e (nm_r (nI_1 i) (ih (i + 1) (by omega)))⟩
  refine br_f (fun z => by have := (nI_eq (a := c) (b := 4) (by omega) (by omega)).mp z; omega) ⟨vp_in_nI hc (by omega), nm_r (e' := zx_n (zx_u sz c s)) ?_ (Exists.intro (s + 1) (key s 0 (by omega)))⟩
  rw [nI_clamp (by omega), zx_un]
theorem zy_drop {post : Int32 → SY → Prop} {k : Nat} (hc : c < 4) (hk : k ≤ c) (K : ∀ kn : Nat → Int32, (∀ j, j < 6 → kn j = 0) → post (nI c) (g_length, nI c, g_many, b_word, zx_n (zz_sh sz k c 1), zx_n (zz_sh rl (8 * k) (8 * c) 8), b_first, b_second, b_permutations, b_images, b_other, b_order, b_place, kn, b_actions, b_tables, b_keys)) :
    wpY_drop post (g_length, nI (c + 1), g_many, b_word, zx_n sz, zx_n rl, b_first, b_second, b_permutations, b_images, b_other, b_order, b_place, b_known, b_actions, b_tables, b_keys) (nI k) := by
  have k51 : ∀ (J : Int32 → (Nat → Int32) → (Nat → Int32) → (Nat → Int32) → (Nat → Int32) → (Nat → Int32) → (Nat → Int32) → (Nat → Int32) → (Nat → Int32) → (Nat → Int32) → (Nat → Int32) → (Nat → Int32) → (Nat → Int32) → (Nat → Int32) → (Nat → Int64) → Prop) m, k ≤ m → m < c → J (nI (m + 1)) b_word (zx_n (zz_sh sz k (m + 1) 1)) (zx_n (zz_sh rl (8 * k) (8 * (m + 1)) 8)) b_first b_second b_permutations b_images b_other b_order b_place b_known b_actions b_tables b_keys → ∀ d i, i + d = 8 →
      wY_drop_51 post J (nI m) g_length (nI c) g_many (d + 1) (nI i) b_word (zx_n (zz_sh sz k (m + 1) 1)) (zx_n (zz_sh rl (8 * k) (8 * m + i) 8)) b_first b_second b_permutations b_images b_other b_order b_place b_known b_actions b_tables b_keys := by
    intro J m hkm hmc KJ d
    induction d with
    | zero =>
      intro i hi
      have e : i = 8 := by omega
      subst e
      exact br_t (by decide) (nm_r (nI_1 m) KJ)
    | succ d ih =>
      intro i hi
      have e8 : ((8 : Int32) * nI m + 8) + nI i = nI (8 * m + i + 8) := by
        rw [zx_c8, show (8 : Int32) = nI 8 from rfl, nI_add, nI_add]
        exact congrArg nI (by omega)
      refine br_f (nI_ge (b := 8) (by omega) (by omega)) ?_
      rw [e8, zx_m8, zx_at _ (by omega), nI_clamp (by omega), zz_sh_at _ (by omega), zx_un, zz_sh_s _ (by omega)]
      exact ⟨vp_in_nI (by omega) (by omega), vp_in_nI (by omega) (by omega), nm_e (nm_r (nI_1 i) (ih (i + 1) (by omega)))⟩
  have k27 : ∀ d m, m + d = c → k ≤ m → wY_drop_27 post g_length (nI c) g_many (d + 1) (nI m) b_word (zx_n (zz_sh sz k m 1)) (zx_n (zz_sh rl (8 * k) (8 * m) 8)) b_first b_second b_permutations b_images b_other b_order b_place b_known b_actions b_tables b_keys := by
    intro d
    induction d with
    | zero =>
      intro m hm _
      have e : m = c := by omega
      subst e
      exact br_t (nI_le (Nat.le_refl _) (by omega)) (zy_forget fun kn hkn => K kn hkn)
    | succ d ih =>
      intro m hm hkm
      refine br_f (nI_ge (by omega) (by omega)) ?_
      rw [nI_1, zx_at _ (by omega), nI_clamp (by omega), zz_sh_at _ (by omega), zx_un, zz_sh_s _ hkm]
      exact ⟨vp_in_nI (by omega) (by omega), vp_in_nI (by omega) (by omega), nm_e (Exists.intro 9 (k51 _ m hkm (by omega) (ih (m + 1) (by omega) (by omega)) 8 0 (by omega)))⟩
  have h := k27 (c - k) k (by omega) (Nat.le_refl _)
  rw [zz_sh_0, zz_sh_0] at h
  exact br_f (nI_pos (by omega)) (br_t (nI_lt (by omega) (by omega)) (nm_r (nI_pred c) (Exists.intro (c - k + 1) h)))
theorem zy_word {post : Int32 → Prop} (hs : s ≤ 8) (K : post (nI (zz_w wd s))) : wpY_word post (nI s, g_count, g_many, zx_n wd, b_lengths, b_relators, b_first, b_second, b_permutations, b_images, b_other, b_order, b_place, b_known, b_actions, b_tables, b_keys) := by
  have key : ∀ d i, i + d = s → wY_word_4 post (nI s) g_count g_many (zx_n wd) b_lengths b_relators b_first b_second b_permutations b_images b_other b_order b_place b_known b_actions b_tables b_keys (d + 1) (nI (zz_w wd i)) (nI i) := by
    intro d
    induction d with
    | zero =>
      intro i hi
      have e : i = s := by omega
      subst e
      exact br_t (nI_le (Nat.le_refl _) (by omega)) K
    | succ d ih =>
      intro i hi
      refine br_f (nI_ge (by omega) (by omega)) ⟨vp_in_nI (by omega) (by omega), ?_⟩
      rw [zx_at _ (by omega), zx_m4]
      exact nm_e (nm_r (nI_1 i) (ih (i + 1) (by omega)))
  exact Exists.intro (s + 1) (key s 0 (by omega))
end
end
section
def zz_F (s c : Nat) (wd sz rl : Nat → Nat) : Prop := s ≤ 8 ∧ c ≤ 4 ∧ (∀ i, wd i < 4) ∧ (∀ i, sz i ≤ 8) ∧ (∀ i, rl i < 4)
/-- the same word and relators; what the component has found, and what the reference knows, is right for these relators -/
def i_Rel (_ : Nat) (u : SX) (v : SY) : Prop := match u, v with
  | (f_size, f_relators, f_points, f_depth, f_foundFor, f_found, a_word, a_relatorSize, a_relator, a_table, a_tried, a_grew, a_chosen, a_tables, a_other, a_order, a_place, a_many, a_actionsOf), (g_length, g_count, g_many, b_word, b_lengths, b_relators, b_first, b_second, b_permutations, b_images, b_other, b_order, b_place, b_known, b_actions, b_tables, b_keys) =>
    ∃ (s c : Nat) (wd sz rl : Nat → Nat), zz_F s c wd sz rl ∧ (f_size = nI s ∧ f_relators = nI c ∧ a_word = zx_n wd ∧ a_relatorSize = zx_n sz ∧ a_relator = zx_n rl) ∧
      (g_length = nI s ∧ g_count = nI c ∧ b_word = zx_n wd ∧ b_lengths = zx_n sz ∧ b_relators = zx_n rl) ∧ zx_XI c sz rl f_foundFor f_found a_tables ∧ zy_YI c sz rl b_known b_actions b_tables b_keys
theorem zz_mk {k s c : Nat} {wd sz rl : Nat → Nat} {f_points f_depth f_foundFor f_found : Int32} {a_table a_tried a_grew a_chosen a_other a_order a_place a_many a_actionsOf : Nat → Int32} {a_tables : Nat → Int64} {g_many : Int32} {b_first b_second b_permutations b_images b_other b_order b_place b_known b_actions b_tables : Nat → Int32} {b_keys : Nat → Int64} (hF : zz_F s c wd sz rl) (hX : zx_XI c sz rl f_foundFor f_found a_tables) (hY : zy_YI c sz rl b_known b_actions b_tables b_keys) : i_Rel k (nI s, nI c, f_points, f_depth, f_foundFor, f_found, zx_n wd, zx_n sz, zx_n rl, a_table, a_tried, a_grew, a_chosen, a_tables, a_other, a_order, a_place, a_many, a_actionsOf) (nI s, nI c, g_many, zx_n wd, zx_n sz, zx_n rl, b_first, b_second, b_permutations, b_images, b_other, b_order, b_place, b_known, b_actions, b_tables, b_keys) :=
  Exists.intro s (Exists.intro c (Exists.intro wd (Exists.intro sz (Exists.intro rl ⟨hF, ⟨rfl, rfl, rfl, rfl, rfl⟩, ⟨rfl, rfl, rfl, rfl, rfl⟩, hX, hY⟩))))
theorem zz_el {P : SX → SY → Prop} {k : Nat} {u : SX} {v : SY}
    (h : ∀ (s c : Nat) (wd sz rl : Nat → Nat) (f_points f_depth f_foundFor f_found : Int32) (a_table a_tried a_grew a_chosen a_other a_order a_place a_many a_actionsOf : Nat → Int32) (a_tables : Nat → Int64) (g_many : Int32) (b_first b_second b_permutations b_images b_other b_order b_place b_known b_actions b_tables : Nat → Int32) (b_keys : Nat → Int64),
      zz_F s c wd sz rl → zx_XI c sz rl f_foundFor f_found a_tables → zy_YI c sz rl b_known b_actions b_tables b_keys → P (nI s, nI c, f_points, f_depth, f_foundFor, f_found, zx_n wd, zx_n sz, zx_n rl, a_table, a_tried, a_grew, a_chosen, a_tables, a_other, a_order, a_place, a_many, a_actionsOf) (nI s, nI c, g_many, zx_n wd, zx_n sz, zx_n rl, b_first, b_second, b_permutations, b_images, b_other, b_order, b_place, b_known, b_actions, b_tables, b_keys)) (I : i_Rel k u v) : P u v := by
  obtain ⟨f_size, f_relators, f_points, f_depth, f_foundFor, f_found, a_word, a_relatorSize, a_relator, a_table, a_tried, a_grew, a_chosen, a_tables, a_other, a_order, a_place, a_many, a_actionsOf⟩ := u
  obtain ⟨g_length, g_count, g_many, b_word, b_lengths, b_relators, b_first, b_second, b_permutations, b_images, b_other, b_order, b_place, b_known, b_actions, b_tables, b_keys⟩ := v
  obtain ⟨s, c, wd, sz, rl, hF, ⟨rfl, rfl, rfl, rfl, rfl⟩, ⟨rfl, rfl, rfl, rfl, rfl⟩, hX, hY⟩ := I
  exact h _ _ _ _ _ _ _ _ _ _ _ _ _ _ _ _ _ _ _ _ _ _ _ _ _ _ _ _ _ _ _ hF hX hY
theorem zz_arg (x : Int32) : (∃ n : Nat, 0 < n ∧ n ≤ 5 ∧ x = nI n) ∨ (x < 1 ∨ ¬ x ≤ 5) := by
  by_cases h1 : x < 1
  · exact Or.inr (Or.inl h1)
  · by_cases h5 : x ≤ 5
    · have h0 : ¬ x < 0 := fun z => h1 (Int32.lt_trans z (by decide))
      obtain ⟨j, hj, e⟩ := nI_of2 (M := 5) (n := 5) (by decide) h0 h5
      subst e
      refine Or.inl ⟨j, ?_, hj, rfl⟩
      rcases Nat.eq_zero_or_pos j with z | z
      · subst z; exact absurd (by decide) h1
      · exact z
    · exact Or.inr (Or.inr h5)
theorem zz_XI0 {c : Nat} {sz rl : Nat → Nat} {fo : Int32} {tbl : Nat → Int64} : zx_XI c sz rl 0 fo tbl := Or.inl rfl
theorem zz_XI1 {c n : Nat} {sz rl : Nat → Nat} {fo : Int32} {tbl : Nat → Int64} (h1 : 0 < n) (hn : n ≤ 5) (h : zx_X1 c sz rl n fo tbl) : zx_XI c sz rl (nI n) fo tbl := Or.inr ⟨n, h1, hn, rfl, h⟩
theorem zz_YI0 {c : Nat} {sz rl : Nat → Nat} {kn ac tb : Nat → Int32} {ky : Nat → Int64} (h : ∀ j, j < 6 → kn j = 0) : zy_YI c sz rl kn ac tb ky := fun n _ hn hk => absurd (h n (by omega)) hk
theorem i_up {k : Nat} {u : SX} {v : SY} (h : i_Rel k u v) : i_Rel (k + 5) u v := h
theorem i_vc0 : wpX_init (fun u => wpY_init (fun v => i_Rel 0 u v)) :=
  Exists.intro 0 (Exists.intro 0 (Exists.intro (fun _ => 0) (Exists.intro (fun _ => 0) (Exists.intro (fun _ => 0) ⟨⟨by omega, by omega, fun _ => (by decide : 0 < 4), fun _ => (by decide : 0 ≤ 8), fun _ => (by decide : 0 < 4)⟩, ⟨rfl, rfl, rfl, rfl, rfl⟩, ⟨rfl, rfl, rfl, rfl, rfl⟩, zz_XI0, zz_YI0 fun _ _ => rfl⟩))))
theorem i_vc_letter {k : Nat} {u : SX} {v : SY} (I : i_Rel k u v) (hk : k + 5 ≤ 2560) (v1 : Int32) : wpX_letter (fun r u' => wpY_letter (fun r' v' => r' = r ∧ i_Rel (k + 5) u' v') v v1) u v1 := by
  refine zz_el (P := fun u v => wpX_letter (fun r u' => wpY_letter (fun r' v' => r' = r ∧ i_Rel (k + 5) u' v') v v1) u v1) ?_ I
  intro s c wd sz rl f_points f_depth f_foundFor f_found a_table a_tried a_grew a_chosen a_other a_order a_place a_many a_actionsOf a_tables g_many b_first b_second b_permutations b_images b_other b_order b_place b_known b_actions b_tables b_keys hF hX hY
  obtain ⟨hs, hc, hwd, hsz, hrl⟩ := id hF
  rcases pk_ix v1 (n := 4) (by omega) with z | z | ⟨l, hl, z⟩
  · exact br_t z (br_t z ⟨rfl, zz_mk hF hX hY⟩)
  · have h0 : ¬ v1 < 0 := fun y => by
      rw [Int32.lt_iff_toInt_lt] at y
      rw [Int32.le_iff_toInt_le, nI_toInt (by omega)] at z
      have : (0 : Int32).toInt = 0 := by decide
      omega
    have h4 : ¬ v1 < 4 := Int32.not_lt.mpr z
    have h3 : ¬ v1 ≤ 3 := fun y => h4 (Int32.lt_of_le_of_lt y (by decide))
    exact br_f h0 (br_f h4 (br_f h0 (br_f h3 ⟨rfl, zz_mk hF hX hY⟩)))
  · subst z
    refine br_f (nI_pos (by omega)) (br_t (nI_lt (b := 4) (by omega) (by omega)) ?_)
    by_cases e : s = 8
    · subst e
      exact br_t rfl (br_f (nI_pos (by omega)) (br_t (nI_le (b := 3) (by omega) (by omega)) (br_t rfl ⟨rfl, zz_mk hF hX hY⟩)))
    · have ne : ¬ nI s = 8 := fun y => e ((nI_eq (b := 8) (by omega) (by omega)).mp y)
      have hin : vp_in (nI s) 8 := vp_in_nI (by omega) (by omega)
      refine br_f ne ⟨hin, nm_r (e' := zx_n (zx_u wd s l)) (by rw [nI_clamp (by omega), zx_nb2 (by omega), zx_un]) (nm_r (nI_1 s) ?_)⟩
      refine br_f (nI_pos (by omega)) (br_t (nI_le (b := 3) (by omega) (by omega)) (br_f ne ⟨hin, nm_r (e' := zx_n (zx_u wd s l)) (by rw [nI_clamp (by omega), zx_un]) (nm_r (nI_1 s) ⟨rfl, zz_mk ⟨by omega, hc, zx_u_all (P := fun x => x < 4) hwd hl, hsz, hrl⟩ hX hY⟩)⟩))
theorem i_vc_clear {k : Nat} {u : SX} {v : SY} (I : i_Rel k u v) (hk : k + 5 ≤ 2560) : wpX_clear (fun r u' => wpY_clear (fun r' v' => r' = r ∧ i_Rel (k + 5) u' v') v) u := by
  refine zz_el (P := fun u v => wpX_clear (fun r u' => wpY_clear (fun r' v' => r' = r ∧ i_Rel (k + 5) u' v') v) u) ?_ I
  intro s c wd sz rl f_points f_depth f_foundFor f_found a_table a_tried a_grew a_chosen a_other a_order a_place a_many a_actionsOf a_tables g_many b_first b_second b_permutations b_images b_other b_order b_place b_known b_actions b_tables b_keys hF hX hY
  obtain ⟨hs, hc, hwd, hsz, hrl⟩ := id hF
  exact And.intro rfl (zz_mk (s := 0) ⟨by omega, hc, hwd, hsz, hrl⟩ hX hY)
theorem i_vc_invert {k : Nat} {u : SX} {v : SY} (I : i_Rel k u v) (hk : k + 5 ≤ 2560) : wpX_invert (fun r u' => wpY_invert (fun r' v' => r' = r ∧ i_Rel (k + 5) u' v') v) u := by
  refine zz_el (P := fun u v => wpX_invert (fun r u' => wpY_invert (fun r' v' => r' = r ∧ i_Rel (k + 5) u' v') v) u) ?_ I
  intro s c wd sz rl f_points f_depth f_foundFor f_found a_table a_tried a_grew a_chosen a_other a_order a_place a_many a_actionsOf a_tables g_many b_first b_second b_permutations b_images b_other b_order b_place b_known b_actions b_tables b_keys hF hX hY
  obtain ⟨hs, hc, hwd, hsz, hrl⟩ := id hF
  exact zx_invert hs hwd (zy_invert hs hwd ⟨rfl, zz_mk ⟨hs, hc, zz_iv_lt hwd _, hsz, hrl⟩ hX hY⟩)
theorem i_vc_relate {k : Nat} {u : SX} {v : SY} (I : i_Rel k u v) (hk : k + 5 ≤ 2560) : wpX_relate (fun r u' => wpY_relate (fun r' v' => r' = r ∧ i_Rel (k + 5) u' v') v) u := by
  refine zz_el (P := fun u v => wpX_relate (fun r u' => wpY_relate (fun r' v' => r' = r ∧ i_Rel (k + 5) u' v') v) u) ?_ I
  intro s c wd sz rl f_points f_depth f_foundFor f_found a_table a_tried a_grew a_chosen a_other a_order a_place a_many a_actionsOf a_tables g_many b_first b_second b_permutations b_images b_other b_order b_place b_known b_actions b_tables b_keys hF hX hY
  obtain ⟨hs, hc, hwd, hsz, hrl⟩ := id hF
  by_cases e : c = 4
  · subst e
    exact br_t rfl (br_t rfl ⟨rfl, zz_mk hF hX hY⟩)
  · exact zx_relate hs (by omega) hwd (zy_relate hs (by omega) fun kn hkn => ⟨rfl, zz_mk ⟨hs, by omega, hwd, zx_u_all (P := fun x => x ≤ 8) hsz hs, zz_cp_lt hwd hrl _⟩ zz_XI0 (zz_YI0 hkn)⟩)
theorem i_vc_drop {k : Nat} {u : SX} {v : SY} (I : i_Rel k u v) (hk : k + 5 ≤ 2560) (v1 : Int32) : wpX_drop (fun r u' => wpY_drop (fun r' v' => r' = r ∧ i_Rel (k + 5) u' v') v v1) u v1 := by
  refine zz_el (P := fun u v => wpX_drop (fun r u' => wpY_drop (fun r' v' => r' = r ∧ i_Rel (k + 5) u' v') v v1) u v1) ?_ I
  intro s c wd sz rl f_points f_depth f_foundFor f_found a_table a_tried a_grew a_chosen a_other a_order a_place a_many a_actionsOf a_tables g_many b_first b_second b_permutations b_images b_other b_order b_place b_known b_actions b_tables b_keys hF hX hY
  obtain ⟨hs, hc, hwd, hsz, hrl⟩ := id hF
  rcases pk_ix v1 (n := c) (by omega) with z | z | ⟨l, hl, z⟩
  · exact br_t z (br_t z ⟨rfl, zz_mk hF hX hY⟩)
  · have h4 : ¬ v1 < nI c := Int32.not_lt.mpr z
    have h0 : ¬ v1 < 0 := fun y => nI_pos (n := c) (by omega) (Int32.lt_of_le_of_lt z y)
    exact br_f h0 (br_f h4 (br_f h0 (br_f h4 ⟨rfl, zz_mk hF hX hY⟩)))
  · subst z
    obtain ⟨c', rfl⟩ : ∃ c', c = c' + 1 := ⟨c - 1, by omega⟩
    exact zx_drop_w (by omega) (by omega) hsz hrl (zy_drop (by omega) (by omega) fun kn hkn => ⟨rfl, zz_mk ⟨hs, by omega, hwd, zz_sh_all (P := fun x => x ≤ 8) hsz, zz_sh_all (P := fun x => x < 4) hrl⟩ zz_XI0 (zz_YI0 hkn)⟩)
theorem i_vc_word {k : Nat} {u : SX} {v : SY} (I : i_Rel k u v) (hk : k + 5 ≤ 2560) : wpX_word (fun r => wpY_word (fun r' => r' = r ∧ i_Rel (k + 5) u v) v) u := by
  refine zz_el (P := fun u v => wpX_word (fun r => wpY_word (fun r' => r' = r ∧ i_Rel (k + 5) u v) v) u) ?_ I
  intro s c wd sz rl f_points f_depth f_foundFor f_found a_table a_tried a_grew a_chosen a_other a_order a_place a_many a_actionsOf a_tables g_many b_first b_second b_permutations b_images b_other b_order b_place b_known b_actions b_tables b_keys hF hX hY
  exact zx_word hF.1 (zy_word hF.1 ⟨rfl, zz_mk hF hX hY⟩)
theorem i_vc_tables {k : Nat} {u : SX} {v : SY} (I : i_Rel k u v) (hk : k + 5 ≤ 2560) (v1 : Int32) : wpX_tables (fun r u' => wpY_tables (fun r' v' => r' = r ∧ i_Rel (k + 5) u' v') v v1) u v1 := by
  refine zz_el (P := fun u v => wpX_tables (fun r u' => wpY_tables (fun r' v' => r' = r ∧ i_Rel (k + 5) u' v') v v1) u v1) ?_ I
  intro s c wd sz rl f_points f_depth f_foundFor f_found a_table a_tried a_grew a_chosen a_other a_order a_place a_many a_actionsOf a_tables g_many b_first b_second b_permutations b_images b_other b_order b_place b_known b_actions b_tables b_keys hF hX hY
  obtain ⟨hs, hc, hwd, hsz, hrl⟩ := id hF
  rcases zz_arg v1 with ⟨n, h1, hn, e⟩ | hb
  · subst e
    exact zx_tables hc hsz hrl h1 hn hX fun pp dd fo tb tr gr ch tbl h => zy_tables hc hsz hrl h1 hn hY fun mn pm im kn ac tb' ky h' => ⟨rfl, zz_mk hF (zz_XI1 h1 hn h) h'⟩
  · unfold wpX_tables
    dsimp only
    refine zx_isbad hb (br_f zx_1n0 ?_)
    unfold wpY_tables
    dsimp only
    exact zy_isbad hb (br_f zx_1n0 ⟨rfl, zz_mk hF hX hY⟩)
theorem i_vc_image {k : Nat} {u : SX} {v : SY} (I : i_Rel k u v) (hk : k + 5 ≤ 2560) (v1 : Int32) (v2 : Int32) (v3 : Int32) (v4 : Int32) : wpX_image (fun r u' => wpY_image (fun r' v' => r' = r ∧ i_Rel (k + 5) u' v') v v1 v2 v3 v4) u v1 v2 v3 v4 := by
  refine zz_el (P := fun u v => wpX_image (fun r u' => wpY_image (fun r' v' => r' = r ∧ i_Rel (k + 5) u' v') v v1 v2 v3 v4) u v1 v2 v3 v4) ?_ I
  intro s c wd sz rl f_points f_depth f_foundFor f_found a_table a_tried a_grew a_chosen a_other a_order a_place a_many a_actionsOf a_tables g_many b_first b_second b_permutations b_images b_other b_order b_place b_known b_actions b_tables b_keys hF hX hY
  obtain ⟨hs, hc, hwd, hsz, hrl⟩ := id hF
  rcases zz_arg v1 with ⟨n, h1, hn, e⟩ | hb
  · subst e
    rcases pk_ix v3 (n := n) (by omega) with z3 | z3 | ⟨p, hp, z3⟩
    · unfold wpX_image
      dsimp only
      refine zx_nbad h1 hn (br_t rfl (br_t z3 ?_))
      unfold wpY_image
      dsimp only
      exact zy_nbad h1 hn (br_t rfl (br_t z3 ⟨rfl, zz_mk hF hX hY⟩))
    · have n3 : ¬ v3 < 0 := fun y => nI_pos (n := n) (by omega) (Int32.lt_of_le_of_lt z3 y)
      unfold wpX_image
      dsimp only
      refine zx_nbad h1 hn (br_t rfl (br_f n3 (br_t z3 ?_)))
      unfold wpY_image
      dsimp only
      exact zy_nbad h1 hn (br_t rfl (br_f n3 (br_t z3 ⟨rfl, zz_mk hF hX hY⟩)))
    · subst z3
      have n3 : ¬ nI p < 0 := nI_pos (by omega)
      have m3 : ¬ nI n ≤ nI p := nI_ge hp (by omega)
      rcases pk_ix v4 (n := 4) (by omega) with z4 | z4 | ⟨l, hl, z4⟩
      · unfold wpX_image
        dsimp only
        refine zx_nbad h1 hn (br_t rfl (br_f n3 (br_f m3 (br_t z4 ?_))))
        unfold wpY_image
        dsimp only
        exact zy_nbad h1 hn (br_t rfl (br_f n3 (br_f m3 (br_t z4 ⟨rfl, zz_mk hF hX hY⟩))))
      · have n4 : ¬ v4 < 0 := fun y => nI_pos (n := 4) (by omega) (Int32.lt_of_le_of_lt z4 y)
        have h4 : ¬ v4 < 4 := Int32.not_lt.mpr z4
        have h3 : ¬ v4 ≤ 3 := fun y => h4 (Int32.lt_of_le_of_lt y (by decide))
        unfold wpX_image
        dsimp only
        refine zx_nbad h1 hn (br_t rfl (br_f n3 (br_f m3 (br_f n4 (br_f h4 ?_)))))
        unfold wpY_image
        dsimp only
        exact zy_nbad h1 hn (br_t rfl (br_f n3 (br_f m3 (br_f n4 (br_f h3 ⟨rfl, zz_mk hF hX hY⟩)))))
      · subst z4
        have len := za_TL4 (c := c) (sz := sz) (rl := rl) h1 hn
        refine zx_image hc hsz hrl h1 hn hp hl hX (fun pp dd fo tb tr gr ch tbl h hno => ?_) (fun pp dd fo tb tr gr ch tbl h j hj ej => ?_)
        · exact zy_image hc hsz hrl h1 hn hp hl hY (fun mn pm im kn ac tb' ky h' _ => ⟨rfl, zz_mk hF (zz_XI1 h1 hn h) h'⟩) (fun mn pm im kn ac tb' ky h' j hj ej => absurd ej (hno j hj))
        · refine zy_image hc hsz hrl h1 hn hp hl hY (fun mn pm im kn ac tb' ky h' hno => absurd ej (hno j hj)) (fun mn pm im kn ac tb' ky h' j' hj' ej' => ⟨?_, zz_mk hF (zz_XI1 h1 hn h) h'⟩)
          have : j' = j := (nI_eq (by omega) (by omega)).mp (ej'.symm.trans ej)
          rw [this]
  · unfold wpX_image
    dsimp only
    refine zx_isbad hb (br_f zx_1n0 ?_)
    unfold wpY_image
    dsimp only
    exact zy_isbad hb (br_f zx_1n0 ⟨rfl, zz_mk hF hX hY⟩)
theorem i_vc_actions {k : Nat} {u : SX} {v : SY} (I : i_Rel k u v) (hk : k + 5 ≤ 2560) (v1 : Int32) : wpX_actions (fun r u' => wpY_actions (fun r' v' => r' = r ∧ i_Rel (k + 5) u' v') v v1) u v1 := by
  refine zz_el (P := fun u v => wpX_actions (fun r u' => wpY_actions (fun r' v' => r' = r ∧ i_Rel (k + 5) u' v') v v1) u v1) ?_ I
  intro s c wd sz rl f_points f_depth f_foundFor f_found a_table a_tried a_grew a_chosen a_other a_order a_place a_many a_actionsOf a_tables g_many b_first b_second b_permutations b_images b_other b_order b_place b_known b_actions b_tables b_keys hF hX hY
  obtain ⟨hs, hc, hwd, hsz, hrl⟩ := id hF
  rcases zz_arg v1 with ⟨n, h1, hn, e⟩ | hb
  · subst e
    exact zx_actions hc hsz hrl h1 hn hX fun pp dd ff fo tb tr gr ch tbl mn' ac' h => zy_actions hc hsz hrl h1 hn hY fun mn pm im kn ac tb' ky h' => ⟨rfl, zz_mk hF h h'⟩
  · unfold wpX_actions
    dsimp only
    refine zx_isbad hb (br_f zx_1n0 ?_)
    unfold wpY_actions
    dsimp only
    exact zy_isbad hb (br_f zx_1n0 ⟨rfl, zz_mk hF hX hY⟩)
theorem i_vc_even {k : Nat} {u : SX} {v : SY} (I : i_Rel k u v) (hk : k + 5 ≤ 2560) (v1 : Int32) : wpX_even (fun r u' => wpY_even (fun r' v' => r' = r ∧ i_Rel (k + 5) u' v') v v1) u v1 := by
  refine zz_el (P := fun u v => wpX_even (fun r u' => wpY_even (fun r' v' => r' = r ∧ i_Rel (k + 5) u' v') v v1) u v1) ?_ I
  intro s c wd sz rl f_points f_depth f_foundFor f_found a_table a_tried a_grew a_chosen a_other a_order a_place a_many a_actionsOf a_tables g_many b_first b_second b_permutations b_images b_other b_order b_place b_known b_actions b_tables b_keys hF hX hY
  obtain ⟨hs, hc, hwd, hsz, hrl⟩ := id hF
  rcases zz_arg v1 with ⟨n, h1, hn, e⟩ | hb
  · subst e
    exact zx_even hc hsz hrl h1 hn hX fun pp dd fo tb tr gr ch tbl oth ord pla h => zy_even hc hsz hrl h1 hn hY fun mn pm im kn ac tb' ky ord' pla' h' => ⟨rfl, zz_mk hF (zz_XI1 h1 hn h) h'⟩
  · unfold wpX_even
    dsimp only
    refine zx_isbad hb (br_f zx_1n0 ?_)
    unfold wpY_even
    dsimp only
    exact zy_isbad hb (br_f zx_1n0 ⟨rfl, zz_mk hF hX hY⟩)
theorem i_vc_kinds {k : Nat} {u : SX} {v : SY} (I : i_Rel k u v) (hk : k + 5 ≤ 2560) (v1 : Int32) : wpX_kinds (fun r u' => wpY_kinds (fun r' v' => r' = r ∧ i_Rel (k + 5) u' v') v v1) u v1 := by
  refine zz_el (P := fun u v => wpX_kinds (fun r u' => wpY_kinds (fun r' v' => r' = r ∧ i_Rel (k + 5) u' v') v v1) u v1) ?_ I
  intro s c wd sz rl f_points f_depth f_foundFor f_found a_table a_tried a_grew a_chosen a_other a_order a_place a_many a_actionsOf a_tables g_many b_first b_second b_permutations b_images b_other b_order b_place b_known b_actions b_tables b_keys hF hX hY
  obtain ⟨hs, hc, hwd, hsz, hrl⟩ := id hF
  rcases zz_arg v1 with ⟨n, h1, hn, e⟩ | hb
  · subst e
    exact zx_kinds hc hsz hrl h1 hn hX fun pp dd fo tb tr gr ch tbl oth ord pla h => zy_kinds hc hsz hrl h1 hn hY fun mn pm im kn ac tb' ky ord' pla' h' => ⟨rfl, zz_mk hF (zz_XI1 h1 hn h) h'⟩
  · unfold wpX_kinds
    dsimp only
    refine zx_isbad hb (br_f zx_1n0 ?_)
    unfold wpY_kinds
    dsimp only
    exact zy_isbad hb (br_f zx_1n0 ⟨rfl, zz_mk hF hX hY⟩)
theorem i_vc_period {k : Nat} {u : SX} {v : SY} (I : i_Rel k u v) (hk : k + 5 ≤ 2560) (v1 : Int32) (v2 : Int32) : wpX_period (fun r u' => wpY_period (fun r' v' => r' = r ∧ i_Rel (k + 5) u' v') v v1 v2) u v1 v2 := by
  refine zz_el (P := fun u v => wpX_period (fun r u' => wpY_period (fun r' v' => r' = r ∧ i_Rel (k + 5) u' v') v v1 v2) u v1 v2) ?_ I
  intro s c wd sz rl f_points f_depth f_foundFor f_found a_table a_tried a_grew a_chosen a_other a_order a_place a_many a_actionsOf a_tables g_many b_first b_second b_permutations b_images b_other b_order b_place b_known b_actions b_tables b_keys hF hX hY
  obtain ⟨hs, hc, hwd, hsz, hrl⟩ := id hF
  rcases zz_arg v1 with ⟨n, h1, hn, e⟩ | hb
  · subst e
    have len := za_TL4 (c := c) (sz := sz) (rl := rl) h1 hn
    refine zx_period hs hwd hc hsz hrl h1 hn hX (fun pp dd fo tb tr gr ch tbl h hno => ?_) (fun pp dd fo tb tr gr ch tbl h j hj ej m m1 m2 m3 m4 => ?_)
    · exact zy_period hs hwd hc hsz hrl h1 hn hY (fun mn pm im kn ac tb' ky h' _ => ⟨rfl, zz_mk hF (zz_XI1 h1 hn h) h'⟩) (fun mn pm im kn ac tb' ky h' j hj ej => absurd ej (hno j hj))
    · refine zy_period hs hwd hc hsz hrl h1 hn hY (fun mn pm im kn ac tb' ky h' hno => absurd ej (hno j hj)) (fun mn pm im kn ac tb' ky h' j' hj' ej' m' q1 q2 q3 q4 => ⟨?_, zz_mk hF (zz_XI1 h1 hn h) h'⟩)
      have e : j' = j := (nI_eq (by omega) (by omega)).mp (ej'.symm.trans ej)
      rw [e] at q3 q4
      have : m' = m := by
        rcases Nat.lt_trichotomy m' m with z | z | z
        · exact absurd q3 (m4 m' q1 z)
        · exact z
        · exact absurd m3 (q4 m m1 z)
      rw [this]
  · unfold wpX_period
    dsimp only
    refine zx_isbad hb (br_f zx_1n0 ?_)
    unfold wpY_period
    dsimp only
    exact zy_isbad hb (br_f zx_1n0 ⟨rfl, zz_mk hF hX hY⟩)
theorem i_vc_fixing {k : Nat} {u : SX} {v : SY} (I : i_Rel k u v) (hk : k + 5 ≤ 2560) (v1 : Int32) : wpX_fixing (fun r u' => wpY_fixing (fun r' v' => r' = r ∧ i_Rel (k + 5) u' v') v v1) u v1 := by
  refine zz_el (P := fun u v => wpX_fixing (fun r u' => wpY_fixing (fun r' v' => r' = r ∧ i_Rel (k + 5) u' v') v v1) u v1) ?_ I
  intro s c wd sz rl f_points f_depth f_foundFor f_found a_table a_tried a_grew a_chosen a_other a_order a_place a_many a_actionsOf a_tables g_many b_first b_second b_permutations b_images b_other b_order b_place b_known b_actions b_tables b_keys hF hX hY
  obtain ⟨hs, hc, hwd, hsz, hrl⟩ := id hF
  rcases zz_arg v1 with ⟨n, h1, hn, e⟩ | hb
  · subst e
    exact zx_fixing hs hwd hc hsz hrl h1 hn hX fun pp dd fo tb tr gr ch tbl h => zy_fixing hs hwd hc hsz hrl h1 hn hY fun mn pm im kn ac tb' ky h' => ⟨rfl, zz_mk hF (zz_XI1 h1 hn h) h'⟩
  · unfold wpX_fixing
    dsimp only
    refine zx_isbad hb (br_f zx_1n0 ?_)
    unfold wpY_fixing
    dsimp only
    exact zy_isbad hb (br_f zx_1n0 ⟨rfl, zz_mk hF hX hY⟩)
theorem i_vc_still {k : Nat} {u : SX} {v : SY} (I : i_Rel k u v) (hk : k + 5 ≤ 2560) : wpX_still (fun r u' => wpY_still (fun r' v' => r' = r ∧ i_Rel (k + 5) u' v') v) u := by
  refine zz_el (P := fun u v => wpX_still (fun r u' => wpY_still (fun r' v' => r' = r ∧ i_Rel (k + 5) u' v') v) u) ?_ I
  intro s c wd sz rl f_points f_depth f_foundFor f_found a_table a_tried a_grew a_chosen a_other a_order a_place a_many a_actionsOf a_tables g_many b_first b_second b_permutations b_images b_other b_order b_place b_known b_actions b_tables b_keys hF hX hY
  obtain ⟨hs, hc, hwd, hsz, hrl⟩ := id hF
  refine zx_still hs hwd hc hsz hrl hX (fun pp dd ff fo tb tr gr ch tbl h hall => ?_) (fun pp dd ff fo tb tr gr ch tbl h n h1 hn hno => ?_)
  · exact zy_still hs hwd hc hsz hrl hY (fun mn pm im kn ac tb' ky h' _ => ⟨rfl, zz_mk hF h h'⟩) (fun mn pm im kn ac tb' ky h' n h1 hn hno => absurd ((zy_PA_iff h1 hn hrl hwd).mp (hall n h1 hn)) hno)
  · exact zy_still hs hwd hc hsz hrl hY (fun mn pm im kn ac tb' ky h' hall => absurd ((zy_PA_iff h1 hn hrl hwd).mpr (hall n h1 hn)) hno) (fun mn pm im kn ac tb' ky h' _ _ _ _ => ⟨rfl, zz_mk hF h h'⟩)
theorem i_vc_cyclic {k : Nat} {u : SX} {v : SY} (I : i_Rel k u v) (hk : k + 5 ≤ 2560) (v1 : Int32) : wpX_cyclic (fun r => wpY_cyclic (fun r' v' => r' = r ∧ i_Rel (k + 5) u v') v v1) u v1 := by
  refine zz_el (P := fun u v => wpX_cyclic (fun r => wpY_cyclic (fun r' v' => r' = r ∧ i_Rel (k + 5) u v') v v1) u v1) ?_ I
  intro s c wd sz rl f_points f_depth f_foundFor f_found a_table a_tried a_grew a_chosen a_other a_order a_place a_many a_actionsOf a_tables g_many b_first b_second b_permutations b_images b_other b_order b_place b_known b_actions b_tables b_keys hF hX hY
  obtain ⟨hs, hc, hwd, hsz, hrl⟩ := id hF
  by_cases z1 : v1 < 1
  · exact br_t z1 (br_t z1 ⟨rfl, zz_mk hF hX hY⟩)
  · by_cases z2 : v1 ≤ 1000
    · have h0 : ¬ v1 < 0 := fun z => z1 (Int32.lt_trans z (by decide))
      obtain ⟨m, hm, e⟩ := nI_of2 (M := 1000) (n := 1000) (by decide) h0 z2
      subst e
      have hm1 : 0 < m := by
        rcases Nat.eq_zero_or_pos m with z | z
        · subst z; exact absurd (by decide) z1
        · exact z
      exact zx_cyclic hc hsz hrl hm1 hm (zy_cyclic hc hsz hrl hm1 hm fun fi se => ⟨rfl, zz_mk hF hX hY⟩)
    · exact br_f z1 (br_f z2 (br_f z1 (br_f z2 ⟨rfl, zz_mk hF hX hY⟩)))
end
