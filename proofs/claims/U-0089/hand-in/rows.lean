section
/-! pure rows to paste: stores, nI and lN arithmetic, masks, shifts, narrowing, branches by naturals (pk_le, pk_lt, pk_eq), loops (lp1 .. lp16: the measure of the state; rp1 ..: recursion), negatives. Take what you need -/
theorem pk_us {f : Nat → Int32} {k : Nat} {x : Int32} : upd f k x k = x := if_pos rfl
theorem pk_un {f : Nat → Int32} {k j : Nat} {x : Int32} (h : j ≠ k) : upd f k x j = f j := if_neg h
theorem pk_uLs {f : Nat → Int64} {k : Nat} {x : Int64} : vp_updL f k x k = x := if_pos rfl
theorem pk_uLn {f : Nat → Int64} {k j : Nat} {x : Int64} (h : j ≠ k) : vp_updL f k x j = f j := if_neg h
theorem pk_sub {a b : Nat} (h : b ≤ a) : nI a - nI b = nI (a - b) := by
  obtain ⟨c, rfl⟩ : ∃ c, a = c + b := ⟨a - b, by omega⟩
  rw [← nI_add, Int32.add_sub_cancel, Nat.add_sub_cancel]
theorem pk_m1 (n : Nat) : nI (n + 1) + (-1) = nI n := by
  rw [← nI_1, Int32.add_assoc, show (1 : Int32) + (-1) = 0 from rfl, Int32.add_zero]
theorem pk_mul (a b : Nat) : nI a * nI b = nI (a * b) := (Int32.ofNat_mul a b).symm
theorem pk_div {a d : Nat} (ha : a < 2 ^ 31) (h0 : 0 < d) (hd : d < 2 ^ 31) : nI a / nI d = nI (a / d) := by
  apply Int32.toInt_inj.mp
  rw [lg_idiv_nonneg (by rw [nI_toInt ha]; omega) (by rw [nI_toInt hd]; omega), nI_toInt ha, nI_toInt hd, nI_toInt (Nat.lt_of_le_of_lt (Nat.div_le_self a d) ha)]
  first | rfl | exact (Int.natCast_ediv _ _).symm
theorem pk_rem {a d : Nat} (ha : a < 2 ^ 31) (h0 : 0 < d) (hd : d < 2 ^ 31) : nI a - nI a / nI d * nI d = nI (a % d) := by
  rw [pk_div ha h0 hd, pk_mul, pk_sub (Nat.div_mul_le_self a d)]
  exact congrArg nI (by have := Nat.div_add_mod' a d; omega)
theorem pk_sub_toInt {a b : Nat} (ha : a < 2 ^ 30) (hb : b < 2 ^ 30) : (nI a - nI b).toInt = (a : Int) - b := by
  rw [Int32.toInt_sub, nI_toInt (by omega), nI_toInt (by omega)]
  exact Int.bmod_eq_of_le (by omega) (by omega)
theorem pk_sneg {a b : Nat} (hb : b < 2 ^ 30) (h : a < b) : nI a - nI b < 0 := by
  rw [Int32.lt_iff_toInt_lt, pk_sub_toInt (by omega) hb, show (0 : Int32).toInt = 0 from by decide]
  omega
theorem pk_ix (x : Int32) {n : Nat} (hn : n < 2 ^ 31) : x < 0 ∨ nI n ≤ x ∨ ∃ j : Nat, j < n ∧ x = nI j := by
  by_cases h : x < 0
  · exact Or.inl h
  · obtain ⟨j, hj, rfl⟩ := nI_of h
    by_cases h2 : j < n
    · exact Or.inr (Or.inr ⟨j, h2, rfl⟩)
    · exact Or.inr (Or.inl (nI_le (by omega) hj))
theorem pk_le {x y : Int32} {A B : Prop} (a b : Nat) (f : a ≤ b → A) (g : b < a → B) (hx : x = nI a := by rfl) (hy : y = nI b := by rfl) (ha : a < 2 ^ 31 := by omega) (hb : b < 2 ^ 31 := by omega) : (x ≤ y → A) ∧ (¬ x ≤ y → B) := by
  subst hx hy
  rw [nI_leI ha hb]
  exact ⟨f, fun z => g (by omega)⟩
theorem pk_lt {x y : Int32} {A B : Prop} (a b : Nat) (f : a < b → A) (g : b ≤ a → B) (hx : x = nI a := by rfl) (hy : y = nI b := by rfl) (ha : a < 2 ^ 31 := by omega) (hb : b < 2 ^ 31 := by omega) : (x < y → A) ∧ (¬ x < y → B) := by
  subst hx hy
  rw [nI_ltI ha hb]
  exact ⟨f, fun z => g (by omega)⟩
theorem pk_eq {x y : Int32} {A B : Prop} (a b : Nat) (f : a = b → A) (g : a ≠ b → B) (hx : x = nI a := by rfl) (hy : y = nI b := by rfl) (ha : a < 2 ^ 31 := by omega) (hb : b < 2 ^ 31 := by omega) : (x = y → A) ∧ (¬ x = y → B) := by
  subst hx hy
  rw [nI_eq ha hb]
  exact ⟨f, g⟩
theorem pk_in {x : Int32} (n N : Nat) (h : n < N) (hx : x = nI n := by rfl) (hN : N < 2 ^ 31 := by omega) : vp_in x N := by
  subst hx
  exact vp_in_nI h hN
theorem pk_cl {x : Int32} (n : Nat) (hx : x = nI n := by rfl) (h : n < 2 ^ 31 := by omega) : x.toNatClampNeg = n := by
  subst hx
  exact nI_clamp h
theorem pk_tn {n : Nat} (h : n < 2 ^ 32) : (nI n).toBitVec.toNat = n := Nat.mod_eq_of_lt h
theorem pk_and (x : Int32) {m : Int32} (k : Nat) (hm : m.toBitVec.toNat = 2 ^ k - 1) : x &&& m = nI (x.toBitVec.toNat % 2 ^ k) := by
  apply Int32.toBitVec_inj.mp
  apply BitVec.eq_of_toNat_eq
  rw [Int32.toBitVec_and, BitVec.toNat_and, hm, Nat.and_two_pow_sub_one_eq_mod]
  show _ = (BitVec.ofNat 32 _).toNat
  rw [BitVec.toNat_ofNat]
  exact (Nat.mod_eq_of_lt (Nat.lt_of_le_of_lt (Nat.mod_le _ _) x.toBitVec.isLt)).symm
theorem pk_andN {n : Nat} (h : n < 2 ^ 32) {m : Int32} (k : Nat) (hm : m.toBitVec.toNat = 2 ^ k - 1) : nI n &&& m = nI (n % 2 ^ k) := by
  rw [pk_and _ k hm, pk_tn h]
theorem pk_andE (x : Int32) {m : Int32} (k : Nat) (hm : m.toBitVec.toNat = 2 ^ k - 1) : ∃ j : Nat, j < 2 ^ k ∧ x &&& m = nI j := ⟨_, Nat.mod_lt _ (Nat.two_pow_pos k), pk_and x k hm⟩
theorem pk_andIn (x : Int32) {m : Int32} (k : Nat) (hm : m.toBitVec.toNat = 2 ^ k - 1) (hk : k ≤ 30) : vp_in (x &&& m) (2 ^ k) := by
  obtain ⟨j, hj, e⟩ := pk_andE x k hm
  rw [e]
  exact vp_in_nI hj (Nat.lt_of_le_of_lt (Nat.pow_le_pow_right (by decide) hk) (by decide))
theorem pk_shl (a s : Int32) (k : Nat) (hs : (s.toBitVec.smod 32).toNat = k) : (a <<< s).toBitVec.toNat = a.toBitVec.toNat * 2 ^ k % 2 ^ 32 := by
  show (a.toBitVec <<< (s.toBitVec.smod 32).toNat).toNat = _
  rw [hs, BitVec.toNat_shiftLeft, Nat.shiftLeft_eq]
theorem pk_shlN {n : Nat} (s : Int32) (k : Nat) (hs : (s.toBitVec.smod 32).toNat = k) (h : n * 2 ^ k < 2 ^ 32) : nI n <<< s = nI (n * 2 ^ k) := by
  apply Int32.toBitVec_inj.mp
  apply BitVec.eq_of_toNat_eq
  have hn : n < 2 ^ 32 := Nat.lt_of_le_of_lt (Nat.le_mul_of_pos_right n (Nat.two_pow_pos k)) h
  rw [pk_shl _ _ k hs, pk_tn hn, pk_tn h, Nat.mod_eq_of_lt h]
theorem pk_shr (a s : Int32) (k : Nat) (hs : (s.toBitVec.smod 32).toNat = k) : (a >>> s).toInt = a.toInt >>> k := by
  show (a.toBitVec.sshiftRight (s.toBitVec.smod 32).toNat).toInt = _
  rw [hs, BitVec.toInt_sshiftRight]
  rfl
theorem pk_shrN {n : Nat} (h : n < 2 ^ 31) (s : Int32) (k : Nat) (hs : (s.toBitVec.smod 32).toNat = k) : nI n >>> s = nI (n / 2 ^ k) := by
  apply Int32.toInt_inj.mp
  have h2 : n / 2 ^ k ≤ n := Nat.div_le_self _ _
  rw [pk_shr _ _ k hs, nI_toInt h, nI_toInt (by omega), Int.shiftRight_eq_div_pow]
  rfl
theorem pk_ushr (x s : Int32) (k : Nat) (hs : ((s.toUInt32 &&& Int32.toUInt32 31).toBitVec % 32).toNat = k) : (x.toUInt32 >>> (s.toUInt32 &&& Int32.toUInt32 31)).toInt32.toBitVec.toNat = x.toBitVec.toNat / 2 ^ k := by
  have e : (x.toUInt32 >>> (s.toUInt32 &&& Int32.toUInt32 31)).toInt32.toBitVec = x.toBitVec >>> k := by
    rw [← hs]
    exact UInt32.toBitVec_shiftRight _ _
  rw [e, BitVec.toNat_ushiftRight, Nat.shiftRight_eq_div_pow]
theorem pk_ushrN {n : Nat} (hn : n < 2 ^ 32) (s : Int32) (k : Nat) (hs : ((s.toUInt32 &&& Int32.toUInt32 31).toBitVec % 32).toNat = k) : ((nI n).toUInt32 >>> (s.toUInt32 &&& Int32.toUInt32 31)).toInt32 = nI (n / 2 ^ k) := by
  apply Int32.toBitVec_inj.mp
  apply BitVec.eq_of_toNat_eq
  rw [pk_ushr _ s k hs, pk_tn hn, pk_tn (Nat.lt_of_le_of_lt (Nat.div_le_self _ _) hn)]
theorem pk_nb (z : Int32) : narrow .byte (.int z.toInt8.toInt32) = .int z.toInt8.toInt32 := congrArg Value.int (by simp)
theorem pk_ns (z : Int32) : narrow .short (.int z.toInt16.toInt32) = .int z.toInt16.toInt32 := congrArg Value.int (by simp)
theorem pk_fb (r : Int32) : fits .byte (.int r.toInt8.toInt32) = true := by
  have ⟨a, b⟩ := lg_i2b_range r
  have h1 : (-128 : Int32).toInt = -128 := by decide
  have h2 : (127 : Int32).toInt = 127 := by decide
  simp only [fits, Bool.and_eq_true, decide_eq_true_eq, Int32.le_iff_toInt_le, h1, h2]
  omega
theorem pk_fs (r : Int32) : fits .short (.int r.toInt16.toInt32) = true := by
  have ⟨a, b⟩ := lg_i2s_range r
  have h1 : (-32768 : Int32).toInt = -32768 := by decide
  have h2 : (32767 : Int32).toInt = 32767 := by decide
  simp only [fits, Bool.and_eq_true, decide_eq_true_eq, Int32.le_iff_toInt_le, h1, h2]
  omega
theorem pk_charN {q : Nat} (hq : q < 65536) : narrow .char (.int (nI q)) = .int (nI q) ∧ fits .char (.int (nI q)) = true := by
  constructor
  · have e : (nI q).toUInt32.toUInt16.toUInt32.toInt32 = nI q := by
      apply Int32.toBitVec_inj.mp
      apply BitVec.eq_of_toNat_eq
      show (nI q).toUInt32.toUInt16.toUInt32.toNat = q % 2 ^ 32
      rw [UInt16.toNat_toUInt32, UInt32.toNat_toUInt16, show (nI q).toUInt32.toNat = q % 2 ^ 32 from rfl]
      omega
    exact congrArg Value.int e
  · have a : (0 : Int32) ≤ nI q := nI_pos' (by omega)
    have b : nI q ≤ 65535 := nI_le (b := 65535) (by omega) (by decide)
    show (decide ((0 : Int32) ≤ nI q) && decide (nI q ≤ 65535)) = true
    rw [decide_eq_true a, decide_eq_true b]
    rfl
theorem pk_char (x : Int32) : (x.toUInt32 % 65536).toInt32 = nI (x.toBitVec.toNat % 65536) := by
  apply Int32.toBitVec_inj.mp
  apply BitVec.eq_of_toNat_eq
  rw [pk_tn (by omega)]
  show (x.toUInt32 % 65536).toNat = _
  rw [UInt32.toNat_mod]
  rfl
theorem pk_nc (x : Int32) : narrow .char (.int (x.toUInt32 % 65536).toInt32) = .int (x.toUInt32 % 65536).toInt32 := by
  rw [pk_char]
  exact (pk_charN (Nat.mod_lt _ (by decide))).1
theorem pk_fc (x : Int32) : fits .char (.int (x.toUInt32 % 65536).toInt32) = true := by
  rw [pk_char]
  exact (pk_charN (Nat.mod_lt _ (by decide))).2
theorem pk_vb (z : Int32) : vp_nar .byte z.toInt8.toInt32 = z.toInt8.toInt32 := by rw [vp_nar_byte]; simp
theorem pk_vs (z : Int32) : vp_nar .short z.toInt16.toInt32 = z.toInt16.toInt32 := by rw [vp_nar_short]; simp
theorem pk_vc (z : Int32) : vp_nar .char (z.toUInt32 % 65536).toInt32 = (z.toUInt32 % 65536).toInt32 := Value.int.inj (pk_nc z)
theorem pk_lT {n : Nat} (h : n < 2 ^ 63) : (lN n).toInt = (n : Int) := lg_ofNat_toInt h
theorem pk_lLT {a b : Nat} (ha : a < 2 ^ 63) (hb : b < 2 ^ 63) : lN a < lN b ↔ a < b := by
  rw [Int64.lt_iff_toInt_lt, pk_lT ha, pk_lT hb]; omega
theorem pk_lLE {a b : Nat} (ha : a < 2 ^ 63) (hb : b < 2 ^ 63) : lN a ≤ lN b ↔ a ≤ b := by
  rw [Int64.le_iff_toInt_le, pk_lT ha, pk_lT hb]; omega
theorem pk_lEQ {a b : Nat} (ha : a < 2 ^ 63) (hb : b < 2 ^ 63) : lN a = lN b ↔ a = b := by
  rw [← Int64.toInt_inj, pk_lT ha, pk_lT hb]; omega
theorem pk_lOf {x : Int64} (h : ¬ x < 0) : ∃ k : Nat, k < 2 ^ 63 ∧ x = lN k := by
  rw [Int64.lt_iff_toInt_lt] at h
  have h0 : (0 : Int64).toInt = 0 := by decide
  have hx := Int64.toInt_lt x
  refine ⟨x.toInt.toNat, by omega, Int64.toInt_inj.mp ?_⟩
  rw [pk_lT (by omega)]
  omega
theorem pk_lDiv {a b : Nat} (ha : a < 2 ^ 63) (h0 : 0 < b) (hb : b < 2 ^ 63) : lN a / lN b = lN (a / b) := by
  apply Int64.toInt_inj.mp
  rw [lg_ldiv_nonneg (by rw [pk_lT ha]; omega) (by rw [pk_lT hb]; omega), pk_lT ha, pk_lT hb, pk_lT (Nat.lt_of_le_of_lt (Nat.div_le_self a b) ha)]
  rfl
theorem pk_lRem {a b : Nat} (ha : a < 2 ^ 63) (h0 : 0 < b) (hb : b < 2 ^ 63) : lN a - lN a / lN b * lN b = lN (a % b) := by
  rw [pk_lDiv ha h0 hb, lN_mul, lN_sub (Nat.div_mul_le_self a b)]
  exact congrArg lN (by have := Nat.div_add_mod' a b; omega)
theorem pk_loop {σ : Type} (W : Nat → Nat → σ → Prop) (I : Nat → σ → Prop) (e i0 : Nat) (s : σ) (hi : i0 ≤ e) (h0 : I i0 s) (hx : ∀ n s, I e s → W (n + 1) e s)
    (hs : ∀ n i s, i < e → I i s → (∀ s', I (i + 1) s' → W n (i + 1) s') → W (n + 1) i s) : ∃ n, W n i0 s :=
  ⟨e + 1, loop_i W I e hx hs (e + 1) i0 s hi (by omega) h0⟩
theorem pk_loopD {σ : Type} (W : Nat → Nat → σ → Prop) (I : Nat → σ → Prop) (hx : ∀ n s, I 0 s → W (n + 1) 0 s)
    (hs : ∀ n i s, I (i + 1) s → (∀ s', I i s' → W n i s') → W (n + 1) (i + 1) s) : ∀ (e : Nat) (s : σ), I e s → W (e + 1) e s := by
  intro e
  induction e with
  | zero => exact fun s h => hx 0 s h
  | succ e ih => exact fun s h => hs (e + 1) e s h (fun s' h' => ih s' h')
theorem lp1 {A1 : Type} (W : Nat → A1 → Prop) (I : A1 → Prop) (μ : A1 → Nat) (hs : ∀ (n : Nat) (a1 : A1), I a1 → (∀ (b1 : A1), I b1 → μ b1 < μ a1 → W n b1) → W (n + 1) a1) (a1 : A1) (h : I a1) : ∃ n, W n a1 :=
  loop_m (σ := A1) (fun n s => W n s) (fun s => I s) (fun s => μ s) (fun n s hI hk => hs n s hI (fun b1 h9 hm => hk b1 h9 hm)) a1 h
theorem lp2 {A1 A2 : Type} (W : Nat → A1 → A2 → Prop) (I : A1 → A2 → Prop) (μ : A1 → A2 → Nat) (hs : ∀ (n : Nat) (a1 : A1) (a2 : A2), I a1 a2 → (∀ (b1 : A1) (b2 : A2), I b1 b2 → μ b1 b2 < μ a1 a2 → W n b1 b2) → W (n + 1) a1 a2) (a1 : A1) (a2 : A2) (h : I a1 a2) : ∃ n, W n a1 a2 :=
  loop_m (σ := A1 × A2) (fun n s => W n s.1 s.2) (fun s => I s.1 s.2) (fun s => μ s.1 s.2) (fun n s hI hk => hs n s.1 s.2 hI (fun b1 b2 h9 hm => hk (b1, b2) h9 hm)) (a1, a2) h
theorem lp3 {A1 A2 A3 : Type} (W : Nat → A1 → A2 → A3 → Prop) (I : A1 → A2 → A3 → Prop) (μ : A1 → A2 → A3 → Nat) (hs : ∀ (n : Nat) (a1 : A1) (a2 : A2) (a3 : A3), I a1 a2 a3 → (∀ (b1 : A1) (b2 : A2) (b3 : A3), I b1 b2 b3 → μ b1 b2 b3 < μ a1 a2 a3 → W n b1 b2 b3) → W (n + 1) a1 a2 a3) (a1 : A1) (a2 : A2) (a3 : A3) (h : I a1 a2 a3) : ∃ n, W n a1 a2 a3 :=
  loop_m (σ := A1 × A2 × A3) (fun n s => W n s.1 s.2.1 s.2.2) (fun s => I s.1 s.2.1 s.2.2) (fun s => μ s.1 s.2.1 s.2.2) (fun n s hI hk => hs n s.1 s.2.1 s.2.2 hI (fun b1 b2 b3 h9 hm => hk (b1, b2, b3) h9 hm)) (a1, a2, a3) h
theorem lp4 {A1 A2 A3 A4 : Type} (W : Nat → A1 → A2 → A3 → A4 → Prop) (I : A1 → A2 → A3 → A4 → Prop) (μ : A1 → A2 → A3 → A4 → Nat) (hs : ∀ (n : Nat) (a1 : A1) (a2 : A2) (a3 : A3) (a4 : A4), I a1 a2 a3 a4 → (∀ (b1 : A1) (b2 : A2) (b3 : A3) (b4 : A4), I b1 b2 b3 b4 → μ b1 b2 b3 b4 < μ a1 a2 a3 a4 → W n b1 b2 b3 b4) → W (n + 1) a1 a2 a3 a4) (a1 : A1) (a2 : A2) (a3 : A3) (a4 : A4) (h : I a1 a2 a3 a4) : ∃ n, W n a1 a2 a3 a4 :=
  loop_m (σ := A1 × A2 × A3 × A4) (fun n s => W n s.1 s.2.1 s.2.2.1 s.2.2.2) (fun s => I s.1 s.2.1 s.2.2.1 s.2.2.2) (fun s => μ s.1 s.2.1 s.2.2.1 s.2.2.2) (fun n s hI hk => hs n s.1 s.2.1 s.2.2.1 s.2.2.2 hI (fun b1 b2 b3 b4 h9 hm => hk (b1, b2, b3, b4) h9 hm)) (a1, a2, a3, a4) h
theorem lp5 {A1 A2 A3 A4 A5 : Type} (W : Nat → A1 → A2 → A3 → A4 → A5 → Prop) (I : A1 → A2 → A3 → A4 → A5 → Prop) (μ : A1 → A2 → A3 → A4 → A5 → Nat) (hs : ∀ (n : Nat) (a1 : A1) (a2 : A2) (a3 : A3) (a4 : A4) (a5 : A5), I a1 a2 a3 a4 a5 → (∀ (b1 : A1) (b2 : A2) (b3 : A3) (b4 : A4) (b5 : A5), I b1 b2 b3 b4 b5 → μ b1 b2 b3 b4 b5 < μ a1 a2 a3 a4 a5 → W n b1 b2 b3 b4 b5) → W (n + 1) a1 a2 a3 a4 a5) (a1 : A1) (a2 : A2) (a3 : A3) (a4 : A4) (a5 : A5) (h : I a1 a2 a3 a4 a5) : ∃ n, W n a1 a2 a3 a4 a5 :=
  loop_m (σ := A1 × A2 × A3 × A4 × A5) (fun n s => W n s.1 s.2.1 s.2.2.1 s.2.2.2.1 s.2.2.2.2) (fun s => I s.1 s.2.1 s.2.2.1 s.2.2.2.1 s.2.2.2.2) (fun s => μ s.1 s.2.1 s.2.2.1 s.2.2.2.1 s.2.2.2.2) (fun n s hI hk => hs n s.1 s.2.1 s.2.2.1 s.2.2.2.1 s.2.2.2.2 hI (fun b1 b2 b3 b4 b5 h9 hm => hk (b1, b2, b3, b4, b5) h9 hm)) (a1, a2, a3, a4, a5) h
theorem lp6 {A1 A2 A3 A4 A5 A6 : Type} (W : Nat → A1 → A2 → A3 → A4 → A5 → A6 → Prop) (I : A1 → A2 → A3 → A4 → A5 → A6 → Prop) (μ : A1 → A2 → A3 → A4 → A5 → A6 → Nat) (hs : ∀ (n : Nat) (a1 : A1) (a2 : A2) (a3 : A3) (a4 : A4) (a5 : A5) (a6 : A6), I a1 a2 a3 a4 a5 a6 → (∀ (b1 : A1) (b2 : A2) (b3 : A3) (b4 : A4) (b5 : A5) (b6 : A6), I b1 b2 b3 b4 b5 b6 → μ b1 b2 b3 b4 b5 b6 < μ a1 a2 a3 a4 a5 a6 → W n b1 b2 b3 b4 b5 b6) → W (n + 1) a1 a2 a3 a4 a5 a6) (a1 : A1) (a2 : A2) (a3 : A3) (a4 : A4) (a5 : A5) (a6 : A6) (h : I a1 a2 a3 a4 a5 a6) : ∃ n, W n a1 a2 a3 a4 a5 a6 :=
  loop_m (σ := A1 × A2 × A3 × A4 × A5 × A6) (fun n s => W n s.1 s.2.1 s.2.2.1 s.2.2.2.1 s.2.2.2.2.1 s.2.2.2.2.2) (fun s => I s.1 s.2.1 s.2.2.1 s.2.2.2.1 s.2.2.2.2.1 s.2.2.2.2.2) (fun s => μ s.1 s.2.1 s.2.2.1 s.2.2.2.1 s.2.2.2.2.1 s.2.2.2.2.2) (fun n s hI hk => hs n s.1 s.2.1 s.2.2.1 s.2.2.2.1 s.2.2.2.2.1 s.2.2.2.2.2 hI (fun b1 b2 b3 b4 b5 b6 h9 hm => hk (b1, b2, b3, b4, b5, b6) h9 hm)) (a1, a2, a3, a4, a5, a6) h
theorem lp7 {A1 A2 A3 A4 A5 A6 A7 : Type} (W : Nat → A1 → A2 → A3 → A4 → A5 → A6 → A7 → Prop) (I : A1 → A2 → A3 → A4 → A5 → A6 → A7 → Prop) (μ : A1 → A2 → A3 → A4 → A5 → A6 → A7 → Nat) (hs : ∀ (n : Nat) (a1 : A1) (a2 : A2) (a3 : A3) (a4 : A4) (a5 : A5) (a6 : A6) (a7 : A7), I a1 a2 a3 a4 a5 a6 a7 → (∀ (b1 : A1) (b2 : A2) (b3 : A3) (b4 : A4) (b5 : A5) (b6 : A6) (b7 : A7), I b1 b2 b3 b4 b5 b6 b7 → μ b1 b2 b3 b4 b5 b6 b7 < μ a1 a2 a3 a4 a5 a6 a7 → W n b1 b2 b3 b4 b5 b6 b7) → W (n + 1) a1 a2 a3 a4 a5 a6 a7) (a1 : A1) (a2 : A2) (a3 : A3) (a4 : A4) (a5 : A5) (a6 : A6) (a7 : A7) (h : I a1 a2 a3 a4 a5 a6 a7) : ∃ n, W n a1 a2 a3 a4 a5 a6 a7 :=
  loop_m (σ := A1 × A2 × A3 × A4 × A5 × A6 × A7) (fun n s => W n s.1 s.2.1 s.2.2.1 s.2.2.2.1 s.2.2.2.2.1 s.2.2.2.2.2.1 s.2.2.2.2.2.2) (fun s => I s.1 s.2.1 s.2.2.1 s.2.2.2.1 s.2.2.2.2.1 s.2.2.2.2.2.1 s.2.2.2.2.2.2) (fun s => μ s.1 s.2.1 s.2.2.1 s.2.2.2.1 s.2.2.2.2.1 s.2.2.2.2.2.1 s.2.2.2.2.2.2) (fun n s hI hk => hs n s.1 s.2.1 s.2.2.1 s.2.2.2.1 s.2.2.2.2.1 s.2.2.2.2.2.1 s.2.2.2.2.2.2 hI (fun b1 b2 b3 b4 b5 b6 b7 h9 hm => hk (b1, b2, b3, b4, b5, b6, b7) h9 hm)) (a1, a2, a3, a4, a5, a6, a7) h
theorem lp8 {A1 A2 A3 A4 A5 A6 A7 A8 : Type} (W : Nat → A1 → A2 → A3 → A4 → A5 → A6 → A7 → A8 → Prop) (I : A1 → A2 → A3 → A4 → A5 → A6 → A7 → A8 → Prop) (μ : A1 → A2 → A3 → A4 → A5 → A6 → A7 → A8 → Nat) (hs : ∀ (n : Nat) (a1 : A1) (a2 : A2) (a3 : A3) (a4 : A4) (a5 : A5) (a6 : A6) (a7 : A7) (a8 : A8), I a1 a2 a3 a4 a5 a6 a7 a8 → (∀ (b1 : A1) (b2 : A2) (b3 : A3) (b4 : A4) (b5 : A5) (b6 : A6) (b7 : A7) (b8 : A8), I b1 b2 b3 b4 b5 b6 b7 b8 → μ b1 b2 b3 b4 b5 b6 b7 b8 < μ a1 a2 a3 a4 a5 a6 a7 a8 → W n b1 b2 b3 b4 b5 b6 b7 b8) → W (n + 1) a1 a2 a3 a4 a5 a6 a7 a8) (a1 : A1) (a2 : A2) (a3 : A3) (a4 : A4) (a5 : A5) (a6 : A6) (a7 : A7) (a8 : A8) (h : I a1 a2 a3 a4 a5 a6 a7 a8) : ∃ n, W n a1 a2 a3 a4 a5 a6 a7 a8 :=
  loop_m (σ := A1 × A2 × A3 × A4 × A5 × A6 × A7 × A8) (fun n s => W n s.1 s.2.1 s.2.2.1 s.2.2.2.1 s.2.2.2.2.1 s.2.2.2.2.2.1 s.2.2.2.2.2.2.1 s.2.2.2.2.2.2.2) (fun s => I s.1 s.2.1 s.2.2.1 s.2.2.2.1 s.2.2.2.2.1 s.2.2.2.2.2.1 s.2.2.2.2.2.2.1 s.2.2.2.2.2.2.2) (fun s => μ s.1 s.2.1 s.2.2.1 s.2.2.2.1 s.2.2.2.2.1 s.2.2.2.2.2.1 s.2.2.2.2.2.2.1 s.2.2.2.2.2.2.2) (fun n s hI hk => hs n s.1 s.2.1 s.2.2.1 s.2.2.2.1 s.2.2.2.2.1 s.2.2.2.2.2.1 s.2.2.2.2.2.2.1 s.2.2.2.2.2.2.2 hI (fun b1 b2 b3 b4 b5 b6 b7 b8 h9 hm => hk (b1, b2, b3, b4, b5, b6, b7, b8) h9 hm)) (a1, a2, a3, a4, a5, a6, a7, a8) h
theorem lp9 {A1 A2 A3 A4 A5 A6 A7 A8 A9 : Type} (W : Nat → A1 → A2 → A3 → A4 → A5 → A6 → A7 → A8 → A9 → Prop) (I : A1 → A2 → A3 → A4 → A5 → A6 → A7 → A8 → A9 → Prop) (μ : A1 → A2 → A3 → A4 → A5 → A6 → A7 → A8 → A9 → Nat) (hs : ∀ (n : Nat) (a1 : A1) (a2 : A2) (a3 : A3) (a4 : A4) (a5 : A5) (a6 : A6) (a7 : A7) (a8 : A8) (a9 : A9), I a1 a2 a3 a4 a5 a6 a7 a8 a9 → (∀ (b1 : A1) (b2 : A2) (b3 : A3) (b4 : A4) (b5 : A5) (b6 : A6) (b7 : A7) (b8 : A8) (b9 : A9), I b1 b2 b3 b4 b5 b6 b7 b8 b9 → μ b1 b2 b3 b4 b5 b6 b7 b8 b9 < μ a1 a2 a3 a4 a5 a6 a7 a8 a9 → W n b1 b2 b3 b4 b5 b6 b7 b8 b9) → W (n + 1) a1 a2 a3 a4 a5 a6 a7 a8 a9) (a1 : A1) (a2 : A2) (a3 : A3) (a4 : A4) (a5 : A5) (a6 : A6) (a7 : A7) (a8 : A8) (a9 : A9) (h : I a1 a2 a3 a4 a5 a6 a7 a8 a9) : ∃ n, W n a1 a2 a3 a4 a5 a6 a7 a8 a9 :=
  loop_m (σ := A1 × A2 × A3 × A4 × A5 × A6 × A7 × A8 × A9) (fun n s => W n s.1 s.2.1 s.2.2.1 s.2.2.2.1 s.2.2.2.2.1 s.2.2.2.2.2.1 s.2.2.2.2.2.2.1 s.2.2.2.2.2.2.2.1 s.2.2.2.2.2.2.2.2) (fun s => I s.1 s.2.1 s.2.2.1 s.2.2.2.1 s.2.2.2.2.1 s.2.2.2.2.2.1 s.2.2.2.2.2.2.1 s.2.2.2.2.2.2.2.1 s.2.2.2.2.2.2.2.2) (fun s => μ s.1 s.2.1 s.2.2.1 s.2.2.2.1 s.2.2.2.2.1 s.2.2.2.2.2.1 s.2.2.2.2.2.2.1 s.2.2.2.2.2.2.2.1 s.2.2.2.2.2.2.2.2) (fun n s hI hk => hs n s.1 s.2.1 s.2.2.1 s.2.2.2.1 s.2.2.2.2.1 s.2.2.2.2.2.1 s.2.2.2.2.2.2.1 s.2.2.2.2.2.2.2.1 s.2.2.2.2.2.2.2.2 hI (fun b1 b2 b3 b4 b5 b6 b7 b8 b9 h9 hm => hk (b1, b2, b3, b4, b5, b6, b7, b8, b9) h9 hm)) (a1, a2, a3, a4, a5, a6, a7, a8, a9) h
theorem lp10 {A1 A2 A3 A4 A5 A6 A7 A8 A9 A10 : Type} (W : Nat → A1 → A2 → A3 → A4 → A5 → A6 → A7 → A8 → A9 → A10 → Prop) (I : A1 → A2 → A3 → A4 → A5 → A6 → A7 → A8 → A9 → A10 → Prop) (μ : A1 → A2 → A3 → A4 → A5 → A6 → A7 → A8 → A9 → A10 → Nat) (hs : ∀ (n : Nat) (a1 : A1) (a2 : A2) (a3 : A3) (a4 : A4) (a5 : A5) (a6 : A6) (a7 : A7) (a8 : A8) (a9 : A9) (a10 : A10), I a1 a2 a3 a4 a5 a6 a7 a8 a9 a10 → (∀ (b1 : A1) (b2 : A2) (b3 : A3) (b4 : A4) (b5 : A5) (b6 : A6) (b7 : A7) (b8 : A8) (b9 : A9) (b10 : A10), I b1 b2 b3 b4 b5 b6 b7 b8 b9 b10 → μ b1 b2 b3 b4 b5 b6 b7 b8 b9 b10 < μ a1 a2 a3 a4 a5 a6 a7 a8 a9 a10 → W n b1 b2 b3 b4 b5 b6 b7 b8 b9 b10) → W (n + 1) a1 a2 a3 a4 a5 a6 a7 a8 a9 a10) (a1 : A1) (a2 : A2) (a3 : A3) (a4 : A4) (a5 : A5) (a6 : A6) (a7 : A7) (a8 : A8) (a9 : A9) (a10 : A10) (h : I a1 a2 a3 a4 a5 a6 a7 a8 a9 a10) : ∃ n, W n a1 a2 a3 a4 a5 a6 a7 a8 a9 a10 :=
  loop_m (σ := A1 × A2 × A3 × A4 × A5 × A6 × A7 × A8 × A9 × A10) (fun n s => W n s.1 s.2.1 s.2.2.1 s.2.2.2.1 s.2.2.2.2.1 s.2.2.2.2.2.1 s.2.2.2.2.2.2.1 s.2.2.2.2.2.2.2.1 s.2.2.2.2.2.2.2.2.1 s.2.2.2.2.2.2.2.2.2) (fun s => I s.1 s.2.1 s.2.2.1 s.2.2.2.1 s.2.2.2.2.1 s.2.2.2.2.2.1 s.2.2.2.2.2.2.1 s.2.2.2.2.2.2.2.1 s.2.2.2.2.2.2.2.2.1 s.2.2.2.2.2.2.2.2.2) (fun s => μ s.1 s.2.1 s.2.2.1 s.2.2.2.1 s.2.2.2.2.1 s.2.2.2.2.2.1 s.2.2.2.2.2.2.1 s.2.2.2.2.2.2.2.1 s.2.2.2.2.2.2.2.2.1 s.2.2.2.2.2.2.2.2.2) (fun n s hI hk => hs n s.1 s.2.1 s.2.2.1 s.2.2.2.1 s.2.2.2.2.1 s.2.2.2.2.2.1 s.2.2.2.2.2.2.1 s.2.2.2.2.2.2.2.1 s.2.2.2.2.2.2.2.2.1 s.2.2.2.2.2.2.2.2.2 hI (fun b1 b2 b3 b4 b5 b6 b7 b8 b9 b10 h9 hm => hk (b1, b2, b3, b4, b5, b6, b7, b8, b9, b10) h9 hm)) (a1, a2, a3, a4, a5, a6, a7, a8, a9, a10) h
theorem lp11 {A1 A2 A3 A4 A5 A6 A7 A8 A9 A10 A11 : Type} (W : Nat → A1 → A2 → A3 → A4 → A5 → A6 → A7 → A8 → A9 → A10 → A11 → Prop) (I : A1 → A2 → A3 → A4 → A5 → A6 → A7 → A8 → A9 → A10 → A11 → Prop) (μ : A1 → A2 → A3 → A4 → A5 → A6 → A7 → A8 → A9 → A10 → A11 → Nat) (hs : ∀ (n : Nat) (a1 : A1) (a2 : A2) (a3 : A3) (a4 : A4) (a5 : A5) (a6 : A6) (a7 : A7) (a8 : A8) (a9 : A9) (a10 : A10) (a11 : A11), I a1 a2 a3 a4 a5 a6 a7 a8 a9 a10 a11 → (∀ (b1 : A1) (b2 : A2) (b3 : A3) (b4 : A4) (b5 : A5) (b6 : A6) (b7 : A7) (b8 : A8) (b9 : A9) (b10 : A10) (b11 : A11), I b1 b2 b3 b4 b5 b6 b7 b8 b9 b10 b11 → μ b1 b2 b3 b4 b5 b6 b7 b8 b9 b10 b11 < μ a1 a2 a3 a4 a5 a6 a7 a8 a9 a10 a11 → W n b1 b2 b3 b4 b5 b6 b7 b8 b9 b10 b11) → W (n + 1) a1 a2 a3 a4 a5 a6 a7 a8 a9 a10 a11) (a1 : A1) (a2 : A2) (a3 : A3) (a4 : A4) (a5 : A5) (a6 : A6) (a7 : A7) (a8 : A8) (a9 : A9) (a10 : A10) (a11 : A11) (h : I a1 a2 a3 a4 a5 a6 a7 a8 a9 a10 a11) : ∃ n, W n a1 a2 a3 a4 a5 a6 a7 a8 a9 a10 a11 :=
  loop_m (σ := A1 × A2 × A3 × A4 × A5 × A6 × A7 × A8 × A9 × A10 × A11) (fun n s => W n s.1 s.2.1 s.2.2.1 s.2.2.2.1 s.2.2.2.2.1 s.2.2.2.2.2.1 s.2.2.2.2.2.2.1 s.2.2.2.2.2.2.2.1 s.2.2.2.2.2.2.2.2.1 s.2.2.2.2.2.2.2.2.2.1 s.2.2.2.2.2.2.2.2.2.2) (fun s => I s.1 s.2.1 s.2.2.1 s.2.2.2.1 s.2.2.2.2.1 s.2.2.2.2.2.1 s.2.2.2.2.2.2.1 s.2.2.2.2.2.2.2.1 s.2.2.2.2.2.2.2.2.1 s.2.2.2.2.2.2.2.2.2.1 s.2.2.2.2.2.2.2.2.2.2) (fun s => μ s.1 s.2.1 s.2.2.1 s.2.2.2.1 s.2.2.2.2.1 s.2.2.2.2.2.1 s.2.2.2.2.2.2.1 s.2.2.2.2.2.2.2.1 s.2.2.2.2.2.2.2.2.1 s.2.2.2.2.2.2.2.2.2.1 s.2.2.2.2.2.2.2.2.2.2) (fun n s hI hk => hs n s.1 s.2.1 s.2.2.1 s.2.2.2.1 s.2.2.2.2.1 s.2.2.2.2.2.1 s.2.2.2.2.2.2.1 s.2.2.2.2.2.2.2.1 s.2.2.2.2.2.2.2.2.1 s.2.2.2.2.2.2.2.2.2.1 s.2.2.2.2.2.2.2.2.2.2 hI (fun b1 b2 b3 b4 b5 b6 b7 b8 b9 b10 b11 h9 hm => hk (b1, b2, b3, b4, b5, b6, b7, b8, b9, b10, b11) h9 hm)) (a1, a2, a3, a4, a5, a6, a7, a8, a9, a10, a11) h
theorem lp12 {A1 A2 A3 A4 A5 A6 A7 A8 A9 A10 A11 A12 : Type} (W : Nat → A1 → A2 → A3 → A4 → A5 → A6 → A7 → A8 → A9 → A10 → A11 → A12 → Prop) (I : A1 → A2 → A3 → A4 → A5 → A6 → A7 → A8 → A9 → A10 → A11 → A12 → Prop) (μ : A1 → A2 → A3 → A4 → A5 → A6 → A7 → A8 → A9 → A10 → A11 → A12 → Nat) (hs : ∀ (n : Nat) (a1 : A1) (a2 : A2) (a3 : A3) (a4 : A4) (a5 : A5) (a6 : A6) (a7 : A7) (a8 : A8) (a9 : A9) (a10 : A10) (a11 : A11) (a12 : A12), I a1 a2 a3 a4 a5 a6 a7 a8 a9 a10 a11 a12 → (∀ (b1 : A1) (b2 : A2) (b3 : A3) (b4 : A4) (b5 : A5) (b6 : A6) (b7 : A7) (b8 : A8) (b9 : A9) (b10 : A10) (b11 : A11) (b12 : A12), I b1 b2 b3 b4 b5 b6 b7 b8 b9 b10 b11 b12 → μ b1 b2 b3 b4 b5 b6 b7 b8 b9 b10 b11 b12 < μ a1 a2 a3 a4 a5 a6 a7 a8 a9 a10 a11 a12 → W n b1 b2 b3 b4 b5 b6 b7 b8 b9 b10 b11 b12) → W (n + 1) a1 a2 a3 a4 a5 a6 a7 a8 a9 a10 a11 a12) (a1 : A1) (a2 : A2) (a3 : A3) (a4 : A4) (a5 : A5) (a6 : A6) (a7 : A7) (a8 : A8) (a9 : A9) (a10 : A10) (a11 : A11) (a12 : A12) (h : I a1 a2 a3 a4 a5 a6 a7 a8 a9 a10 a11 a12) : ∃ n, W n a1 a2 a3 a4 a5 a6 a7 a8 a9 a10 a11 a12 :=
  loop_m (σ := A1 × A2 × A3 × A4 × A5 × A6 × A7 × A8 × A9 × A10 × A11 × A12) (fun n s => W n s.1 s.2.1 s.2.2.1 s.2.2.2.1 s.2.2.2.2.1 s.2.2.2.2.2.1 s.2.2.2.2.2.2.1 s.2.2.2.2.2.2.2.1 s.2.2.2.2.2.2.2.2.1 s.2.2.2.2.2.2.2.2.2.1 s.2.2.2.2.2.2.2.2.2.2.1 s.2.2.2.2.2.2.2.2.2.2.2) (fun s => I s.1 s.2.1 s.2.2.1 s.2.2.2.1 s.2.2.2.2.1 s.2.2.2.2.2.1 s.2.2.2.2.2.2.1 s.2.2.2.2.2.2.2.1 s.2.2.2.2.2.2.2.2.1 s.2.2.2.2.2.2.2.2.2.1 s.2.2.2.2.2.2.2.2.2.2.1 s.2.2.2.2.2.2.2.2.2.2.2) (fun s => μ s.1 s.2.1 s.2.2.1 s.2.2.2.1 s.2.2.2.2.1 s.2.2.2.2.2.1 s.2.2.2.2.2.2.1 s.2.2.2.2.2.2.2.1 s.2.2.2.2.2.2.2.2.1 s.2.2.2.2.2.2.2.2.2.1 s.2.2.2.2.2.2.2.2.2.2.1 s.2.2.2.2.2.2.2.2.2.2.2) (fun n s hI hk => hs n s.1 s.2.1 s.2.2.1 s.2.2.2.1 s.2.2.2.2.1 s.2.2.2.2.2.1 s.2.2.2.2.2.2.1 s.2.2.2.2.2.2.2.1 s.2.2.2.2.2.2.2.2.1 s.2.2.2.2.2.2.2.2.2.1 s.2.2.2.2.2.2.2.2.2.2.1 s.2.2.2.2.2.2.2.2.2.2.2 hI (fun b1 b2 b3 b4 b5 b6 b7 b8 b9 b10 b11 b12 h9 hm => hk (b1, b2, b3, b4, b5, b6, b7, b8, b9, b10, b11, b12) h9 hm)) (a1, a2, a3, a4, a5, a6, a7, a8, a9, a10, a11, a12) h
theorem lp13 {A1 A2 A3 A4 A5 A6 A7 A8 A9 A10 A11 A12 A13 : Type} (W : Nat → A1 → A2 → A3 → A4 → A5 → A6 → A7 → A8 → A9 → A10 → A11 → A12 → A13 → Prop) (I : A1 → A2 → A3 → A4 → A5 → A6 → A7 → A8 → A9 → A10 → A11 → A12 → A13 → Prop) (μ : A1 → A2 → A3 → A4 → A5 → A6 → A7 → A8 → A9 → A10 → A11 → A12 → A13 → Nat) (hs : ∀ (n : Nat) (a1 : A1) (a2 : A2) (a3 : A3) (a4 : A4) (a5 : A5) (a6 : A6) (a7 : A7) (a8 : A8) (a9 : A9) (a10 : A10) (a11 : A11) (a12 : A12) (a13 : A13), I a1 a2 a3 a4 a5 a6 a7 a8 a9 a10 a11 a12 a13 → (∀ (b1 : A1) (b2 : A2) (b3 : A3) (b4 : A4) (b5 : A5) (b6 : A6) (b7 : A7) (b8 : A8) (b9 : A9) (b10 : A10) (b11 : A11) (b12 : A12) (b13 : A13), I b1 b2 b3 b4 b5 b6 b7 b8 b9 b10 b11 b12 b13 → μ b1 b2 b3 b4 b5 b6 b7 b8 b9 b10 b11 b12 b13 < μ a1 a2 a3 a4 a5 a6 a7 a8 a9 a10 a11 a12 a13 → W n b1 b2 b3 b4 b5 b6 b7 b8 b9 b10 b11 b12 b13) → W (n + 1) a1 a2 a3 a4 a5 a6 a7 a8 a9 a10 a11 a12 a13) (a1 : A1) (a2 : A2) (a3 : A3) (a4 : A4) (a5 : A5) (a6 : A6) (a7 : A7) (a8 : A8) (a9 : A9) (a10 : A10) (a11 : A11) (a12 : A12) (a13 : A13) (h : I a1 a2 a3 a4 a5 a6 a7 a8 a9 a10 a11 a12 a13) : ∃ n, W n a1 a2 a3 a4 a5 a6 a7 a8 a9 a10 a11 a12 a13 :=
  loop_m (σ := A1 × A2 × A3 × A4 × A5 × A6 × A7 × A8 × A9 × A10 × A11 × A12 × A13) (fun n s => W n s.1 s.2.1 s.2.2.1 s.2.2.2.1 s.2.2.2.2.1 s.2.2.2.2.2.1 s.2.2.2.2.2.2.1 s.2.2.2.2.2.2.2.1 s.2.2.2.2.2.2.2.2.1 s.2.2.2.2.2.2.2.2.2.1 s.2.2.2.2.2.2.2.2.2.2.1 s.2.2.2.2.2.2.2.2.2.2.2.1 s.2.2.2.2.2.2.2.2.2.2.2.2) (fun s => I s.1 s.2.1 s.2.2.1 s.2.2.2.1 s.2.2.2.2.1 s.2.2.2.2.2.1 s.2.2.2.2.2.2.1 s.2.2.2.2.2.2.2.1 s.2.2.2.2.2.2.2.2.1 s.2.2.2.2.2.2.2.2.2.1 s.2.2.2.2.2.2.2.2.2.2.1 s.2.2.2.2.2.2.2.2.2.2.2.1 s.2.2.2.2.2.2.2.2.2.2.2.2) (fun s => μ s.1 s.2.1 s.2.2.1 s.2.2.2.1 s.2.2.2.2.1 s.2.2.2.2.2.1 s.2.2.2.2.2.2.1 s.2.2.2.2.2.2.2.1 s.2.2.2.2.2.2.2.2.1 s.2.2.2.2.2.2.2.2.2.1 s.2.2.2.2.2.2.2.2.2.2.1 s.2.2.2.2.2.2.2.2.2.2.2.1 s.2.2.2.2.2.2.2.2.2.2.2.2) (fun n s hI hk => hs n s.1 s.2.1 s.2.2.1 s.2.2.2.1 s.2.2.2.2.1 s.2.2.2.2.2.1 s.2.2.2.2.2.2.1 s.2.2.2.2.2.2.2.1 s.2.2.2.2.2.2.2.2.1 s.2.2.2.2.2.2.2.2.2.1 s.2.2.2.2.2.2.2.2.2.2.1 s.2.2.2.2.2.2.2.2.2.2.2.1 s.2.2.2.2.2.2.2.2.2.2.2.2 hI (fun b1 b2 b3 b4 b5 b6 b7 b8 b9 b10 b11 b12 b13 h9 hm => hk (b1, b2, b3, b4, b5, b6, b7, b8, b9, b10, b11, b12, b13) h9 hm)) (a1, a2, a3, a4, a5, a6, a7, a8, a9, a10, a11, a12, a13) h
theorem lp14 {A1 A2 A3 A4 A5 A6 A7 A8 A9 A10 A11 A12 A13 A14 : Type} (W : Nat → A1 → A2 → A3 → A4 → A5 → A6 → A7 → A8 → A9 → A10 → A11 → A12 → A13 → A14 → Prop) (I : A1 → A2 → A3 → A4 → A5 → A6 → A7 → A8 → A9 → A10 → A11 → A12 → A13 → A14 → Prop) (μ : A1 → A2 → A3 → A4 → A5 → A6 → A7 → A8 → A9 → A10 → A11 → A12 → A13 → A14 → Nat) (hs : ∀ (n : Nat) (a1 : A1) (a2 : A2) (a3 : A3) (a4 : A4) (a5 : A5) (a6 : A6) (a7 : A7) (a8 : A8) (a9 : A9) (a10 : A10) (a11 : A11) (a12 : A12) (a13 : A13) (a14 : A14), I a1 a2 a3 a4 a5 a6 a7 a8 a9 a10 a11 a12 a13 a14 → (∀ (b1 : A1) (b2 : A2) (b3 : A3) (b4 : A4) (b5 : A5) (b6 : A6) (b7 : A7) (b8 : A8) (b9 : A9) (b10 : A10) (b11 : A11) (b12 : A12) (b13 : A13) (b14 : A14), I b1 b2 b3 b4 b5 b6 b7 b8 b9 b10 b11 b12 b13 b14 → μ b1 b2 b3 b4 b5 b6 b7 b8 b9 b10 b11 b12 b13 b14 < μ a1 a2 a3 a4 a5 a6 a7 a8 a9 a10 a11 a12 a13 a14 → W n b1 b2 b3 b4 b5 b6 b7 b8 b9 b10 b11 b12 b13 b14) → W (n + 1) a1 a2 a3 a4 a5 a6 a7 a8 a9 a10 a11 a12 a13 a14) (a1 : A1) (a2 : A2) (a3 : A3) (a4 : A4) (a5 : A5) (a6 : A6) (a7 : A7) (a8 : A8) (a9 : A9) (a10 : A10) (a11 : A11) (a12 : A12) (a13 : A13) (a14 : A14) (h : I a1 a2 a3 a4 a5 a6 a7 a8 a9 a10 a11 a12 a13 a14) : ∃ n, W n a1 a2 a3 a4 a5 a6 a7 a8 a9 a10 a11 a12 a13 a14 :=
  loop_m (σ := A1 × A2 × A3 × A4 × A5 × A6 × A7 × A8 × A9 × A10 × A11 × A12 × A13 × A14) (fun n s => W n s.1 s.2.1 s.2.2.1 s.2.2.2.1 s.2.2.2.2.1 s.2.2.2.2.2.1 s.2.2.2.2.2.2.1 s.2.2.2.2.2.2.2.1 s.2.2.2.2.2.2.2.2.1 s.2.2.2.2.2.2.2.2.2.1 s.2.2.2.2.2.2.2.2.2.2.1 s.2.2.2.2.2.2.2.2.2.2.2.1 s.2.2.2.2.2.2.2.2.2.2.2.2.1 s.2.2.2.2.2.2.2.2.2.2.2.2.2) (fun s => I s.1 s.2.1 s.2.2.1 s.2.2.2.1 s.2.2.2.2.1 s.2.2.2.2.2.1 s.2.2.2.2.2.2.1 s.2.2.2.2.2.2.2.1 s.2.2.2.2.2.2.2.2.1 s.2.2.2.2.2.2.2.2.2.1 s.2.2.2.2.2.2.2.2.2.2.1 s.2.2.2.2.2.2.2.2.2.2.2.1 s.2.2.2.2.2.2.2.2.2.2.2.2.1 s.2.2.2.2.2.2.2.2.2.2.2.2.2) (fun s => μ s.1 s.2.1 s.2.2.1 s.2.2.2.1 s.2.2.2.2.1 s.2.2.2.2.2.1 s.2.2.2.2.2.2.1 s.2.2.2.2.2.2.2.1 s.2.2.2.2.2.2.2.2.1 s.2.2.2.2.2.2.2.2.2.1 s.2.2.2.2.2.2.2.2.2.2.1 s.2.2.2.2.2.2.2.2.2.2.2.1 s.2.2.2.2.2.2.2.2.2.2.2.2.1 s.2.2.2.2.2.2.2.2.2.2.2.2.2) (fun n s hI hk => hs n s.1 s.2.1 s.2.2.1 s.2.2.2.1 s.2.2.2.2.1 s.2.2.2.2.2.1 s.2.2.2.2.2.2.1 s.2.2.2.2.2.2.2.1 s.2.2.2.2.2.2.2.2.1 s.2.2.2.2.2.2.2.2.2.1 s.2.2.2.2.2.2.2.2.2.2.1 s.2.2.2.2.2.2.2.2.2.2.2.1 s.2.2.2.2.2.2.2.2.2.2.2.2.1 s.2.2.2.2.2.2.2.2.2.2.2.2.2 hI (fun b1 b2 b3 b4 b5 b6 b7 b8 b9 b10 b11 b12 b13 b14 h9 hm => hk (b1, b2, b3, b4, b5, b6, b7, b8, b9, b10, b11, b12, b13, b14) h9 hm)) (a1, a2, a3, a4, a5, a6, a7, a8, a9, a10, a11, a12, a13, a14) h
theorem lp15 {A1 A2 A3 A4 A5 A6 A7 A8 A9 A10 A11 A12 A13 A14 A15 : Type} (W : Nat → A1 → A2 → A3 → A4 → A5 → A6 → A7 → A8 → A9 → A10 → A11 → A12 → A13 → A14 → A15 → Prop) (I : A1 → A2 → A3 → A4 → A5 → A6 → A7 → A8 → A9 → A10 → A11 → A12 → A13 → A14 → A15 → Prop) (μ : A1 → A2 → A3 → A4 → A5 → A6 → A7 → A8 → A9 → A10 → A11 → A12 → A13 → A14 → A15 → Nat) (hs : ∀ (n : Nat) (a1 : A1) (a2 : A2) (a3 : A3) (a4 : A4) (a5 : A5) (a6 : A6) (a7 : A7) (a8 : A8) (a9 : A9) (a10 : A10) (a11 : A11) (a12 : A12) (a13 : A13) (a14 : A14) (a15 : A15), I a1 a2 a3 a4 a5 a6 a7 a8 a9 a10 a11 a12 a13 a14 a15 → (∀ (b1 : A1) (b2 : A2) (b3 : A3) (b4 : A4) (b5 : A5) (b6 : A6) (b7 : A7) (b8 : A8) (b9 : A9) (b10 : A10) (b11 : A11) (b12 : A12) (b13 : A13) (b14 : A14) (b15 : A15), I b1 b2 b3 b4 b5 b6 b7 b8 b9 b10 b11 b12 b13 b14 b15 → μ b1 b2 b3 b4 b5 b6 b7 b8 b9 b10 b11 b12 b13 b14 b15 < μ a1 a2 a3 a4 a5 a6 a7 a8 a9 a10 a11 a12 a13 a14 a15 → W n b1 b2 b3 b4 b5 b6 b7 b8 b9 b10 b11 b12 b13 b14 b15) → W (n + 1) a1 a2 a3 a4 a5 a6 a7 a8 a9 a10 a11 a12 a13 a14 a15) (a1 : A1) (a2 : A2) (a3 : A3) (a4 : A4) (a5 : A5) (a6 : A6) (a7 : A7) (a8 : A8) (a9 : A9) (a10 : A10) (a11 : A11) (a12 : A12) (a13 : A13) (a14 : A14) (a15 : A15) (h : I a1 a2 a3 a4 a5 a6 a7 a8 a9 a10 a11 a12 a13 a14 a15) : ∃ n, W n a1 a2 a3 a4 a5 a6 a7 a8 a9 a10 a11 a12 a13 a14 a15 :=
  loop_m (σ := A1 × A2 × A3 × A4 × A5 × A6 × A7 × A8 × A9 × A10 × A11 × A12 × A13 × A14 × A15) (fun n s => W n s.1 s.2.1 s.2.2.1 s.2.2.2.1 s.2.2.2.2.1 s.2.2.2.2.2.1 s.2.2.2.2.2.2.1 s.2.2.2.2.2.2.2.1 s.2.2.2.2.2.2.2.2.1 s.2.2.2.2.2.2.2.2.2.1 s.2.2.2.2.2.2.2.2.2.2.1 s.2.2.2.2.2.2.2.2.2.2.2.1 s.2.2.2.2.2.2.2.2.2.2.2.2.1 s.2.2.2.2.2.2.2.2.2.2.2.2.2.1 s.2.2.2.2.2.2.2.2.2.2.2.2.2.2) (fun s => I s.1 s.2.1 s.2.2.1 s.2.2.2.1 s.2.2.2.2.1 s.2.2.2.2.2.1 s.2.2.2.2.2.2.1 s.2.2.2.2.2.2.2.1 s.2.2.2.2.2.2.2.2.1 s.2.2.2.2.2.2.2.2.2.1 s.2.2.2.2.2.2.2.2.2.2.1 s.2.2.2.2.2.2.2.2.2.2.2.1 s.2.2.2.2.2.2.2.2.2.2.2.2.1 s.2.2.2.2.2.2.2.2.2.2.2.2.2.1 s.2.2.2.2.2.2.2.2.2.2.2.2.2.2) (fun s => μ s.1 s.2.1 s.2.2.1 s.2.2.2.1 s.2.2.2.2.1 s.2.2.2.2.2.1 s.2.2.2.2.2.2.1 s.2.2.2.2.2.2.2.1 s.2.2.2.2.2.2.2.2.1 s.2.2.2.2.2.2.2.2.2.1 s.2.2.2.2.2.2.2.2.2.2.1 s.2.2.2.2.2.2.2.2.2.2.2.1 s.2.2.2.2.2.2.2.2.2.2.2.2.1 s.2.2.2.2.2.2.2.2.2.2.2.2.2.1 s.2.2.2.2.2.2.2.2.2.2.2.2.2.2) (fun n s hI hk => hs n s.1 s.2.1 s.2.2.1 s.2.2.2.1 s.2.2.2.2.1 s.2.2.2.2.2.1 s.2.2.2.2.2.2.1 s.2.2.2.2.2.2.2.1 s.2.2.2.2.2.2.2.2.1 s.2.2.2.2.2.2.2.2.2.1 s.2.2.2.2.2.2.2.2.2.2.1 s.2.2.2.2.2.2.2.2.2.2.2.1 s.2.2.2.2.2.2.2.2.2.2.2.2.1 s.2.2.2.2.2.2.2.2.2.2.2.2.2.1 s.2.2.2.2.2.2.2.2.2.2.2.2.2.2 hI (fun b1 b2 b3 b4 b5 b6 b7 b8 b9 b10 b11 b12 b13 b14 b15 h9 hm => hk (b1, b2, b3, b4, b5, b6, b7, b8, b9, b10, b11, b12, b13, b14, b15) h9 hm)) (a1, a2, a3, a4, a5, a6, a7, a8, a9, a10, a11, a12, a13, a14, a15) h
theorem lp16 {A1 A2 A3 A4 A5 A6 A7 A8 A9 A10 A11 A12 A13 A14 A15 A16 : Type} (W : Nat → A1 → A2 → A3 → A4 → A5 → A6 → A7 → A8 → A9 → A10 → A11 → A12 → A13 → A14 → A15 → A16 → Prop) (I : A1 → A2 → A3 → A4 → A5 → A6 → A7 → A8 → A9 → A10 → A11 → A12 → A13 → A14 → A15 → A16 → Prop) (μ : A1 → A2 → A3 → A4 → A5 → A6 → A7 → A8 → A9 → A10 → A11 → A12 → A13 → A14 → A15 → A16 → Nat) (hs : ∀ (n : Nat) (a1 : A1) (a2 : A2) (a3 : A3) (a4 : A4) (a5 : A5) (a6 : A6) (a7 : A7) (a8 : A8) (a9 : A9) (a10 : A10) (a11 : A11) (a12 : A12) (a13 : A13) (a14 : A14) (a15 : A15) (a16 : A16), I a1 a2 a3 a4 a5 a6 a7 a8 a9 a10 a11 a12 a13 a14 a15 a16 → (∀ (b1 : A1) (b2 : A2) (b3 : A3) (b4 : A4) (b5 : A5) (b6 : A6) (b7 : A7) (b8 : A8) (b9 : A9) (b10 : A10) (b11 : A11) (b12 : A12) (b13 : A13) (b14 : A14) (b15 : A15) (b16 : A16), I b1 b2 b3 b4 b5 b6 b7 b8 b9 b10 b11 b12 b13 b14 b15 b16 → μ b1 b2 b3 b4 b5 b6 b7 b8 b9 b10 b11 b12 b13 b14 b15 b16 < μ a1 a2 a3 a4 a5 a6 a7 a8 a9 a10 a11 a12 a13 a14 a15 a16 → W n b1 b2 b3 b4 b5 b6 b7 b8 b9 b10 b11 b12 b13 b14 b15 b16) → W (n + 1) a1 a2 a3 a4 a5 a6 a7 a8 a9 a10 a11 a12 a13 a14 a15 a16) (a1 : A1) (a2 : A2) (a3 : A3) (a4 : A4) (a5 : A5) (a6 : A6) (a7 : A7) (a8 : A8) (a9 : A9) (a10 : A10) (a11 : A11) (a12 : A12) (a13 : A13) (a14 : A14) (a15 : A15) (a16 : A16) (h : I a1 a2 a3 a4 a5 a6 a7 a8 a9 a10 a11 a12 a13 a14 a15 a16) : ∃ n, W n a1 a2 a3 a4 a5 a6 a7 a8 a9 a10 a11 a12 a13 a14 a15 a16 :=
  loop_m (σ := A1 × A2 × A3 × A4 × A5 × A6 × A7 × A8 × A9 × A10 × A11 × A12 × A13 × A14 × A15 × A16) (fun n s => W n s.1 s.2.1 s.2.2.1 s.2.2.2.1 s.2.2.2.2.1 s.2.2.2.2.2.1 s.2.2.2.2.2.2.1 s.2.2.2.2.2.2.2.1 s.2.2.2.2.2.2.2.2.1 s.2.2.2.2.2.2.2.2.2.1 s.2.2.2.2.2.2.2.2.2.2.1 s.2.2.2.2.2.2.2.2.2.2.2.1 s.2.2.2.2.2.2.2.2.2.2.2.2.1 s.2.2.2.2.2.2.2.2.2.2.2.2.2.1 s.2.2.2.2.2.2.2.2.2.2.2.2.2.2.1 s.2.2.2.2.2.2.2.2.2.2.2.2.2.2.2) (fun s => I s.1 s.2.1 s.2.2.1 s.2.2.2.1 s.2.2.2.2.1 s.2.2.2.2.2.1 s.2.2.2.2.2.2.1 s.2.2.2.2.2.2.2.1 s.2.2.2.2.2.2.2.2.1 s.2.2.2.2.2.2.2.2.2.1 s.2.2.2.2.2.2.2.2.2.2.1 s.2.2.2.2.2.2.2.2.2.2.2.1 s.2.2.2.2.2.2.2.2.2.2.2.2.1 s.2.2.2.2.2.2.2.2.2.2.2.2.2.1 s.2.2.2.2.2.2.2.2.2.2.2.2.2.2.1 s.2.2.2.2.2.2.2.2.2.2.2.2.2.2.2) (fun s => μ s.1 s.2.1 s.2.2.1 s.2.2.2.1 s.2.2.2.2.1 s.2.2.2.2.2.1 s.2.2.2.2.2.2.1 s.2.2.2.2.2.2.2.1 s.2.2.2.2.2.2.2.2.1 s.2.2.2.2.2.2.2.2.2.1 s.2.2.2.2.2.2.2.2.2.2.1 s.2.2.2.2.2.2.2.2.2.2.2.1 s.2.2.2.2.2.2.2.2.2.2.2.2.1 s.2.2.2.2.2.2.2.2.2.2.2.2.2.1 s.2.2.2.2.2.2.2.2.2.2.2.2.2.2.1 s.2.2.2.2.2.2.2.2.2.2.2.2.2.2.2) (fun n s hI hk => hs n s.1 s.2.1 s.2.2.1 s.2.2.2.1 s.2.2.2.2.1 s.2.2.2.2.2.1 s.2.2.2.2.2.2.1 s.2.2.2.2.2.2.2.1 s.2.2.2.2.2.2.2.2.1 s.2.2.2.2.2.2.2.2.2.1 s.2.2.2.2.2.2.2.2.2.2.1 s.2.2.2.2.2.2.2.2.2.2.2.1 s.2.2.2.2.2.2.2.2.2.2.2.2.1 s.2.2.2.2.2.2.2.2.2.2.2.2.2.1 s.2.2.2.2.2.2.2.2.2.2.2.2.2.2.1 s.2.2.2.2.2.2.2.2.2.2.2.2.2.2.2 hI (fun b1 b2 b3 b4 b5 b6 b7 b8 b9 b10 b11 b12 b13 b14 b15 b16 h9 hm => hk (b1, b2, b3, b4, b5, b6, b7, b8, b9, b10, b11, b12, b13, b14, b15, b16) h9 hm)) (a1, a2, a3, a4, a5, a6, a7, a8, a9, a10, a11, a12, a13, a14, a15, a16) h
theorem pk_least (P : Nat → Prop) (h : ∃ k, P k) : ∃ k, P k ∧ ∀ j, j < k → ¬ P j := by
  obtain ⟨k, hk⟩ := h
  induction k using Nat.strongRecOn with
  | ind k ih =>
    by_cases e : ∃ j, j < k ∧ P j
    · obtain ⟨j, hj, pj⟩ := e
      exact ih j hj pj
    · exact ⟨k, hk, fun j hj pj => e ⟨j, hj, pj⟩⟩
theorem rp1 {ρ A1 : Type} (W : Nat → (ρ → Prop) → A1 → Prop) (ok : A1 → Prop) (μ : A1 → Nat) (val : A1 → ρ)
    (hs : ∀ (d : Nat) (post : ρ → Prop) (a1 : A1), ok a1 → post (val a1) → (∀ (post' : ρ → Prop) (b1 : A1), ok b1 → μ b1 < μ a1 → post' (val b1) → W d post' b1) → W (d + 1) post a1) :
    ∀ (d : Nat) (post : ρ → Prop) (a1 : A1), ok a1 → μ a1 < d → post (val a1) → W d post a1 := by
  intro d
  induction d with
  | zero => intro post a1 _ h; omega
  | succ d ih =>
    intro post a1 ho hm hp
    exact hs d post a1 ho hp (fun post' b1 ho' hm' hp' => ih post' b1 ho' (by omega) hp')
theorem rp2 {ρ A1 A2 : Type} (W : Nat → (ρ → Prop) → A1 → A2 → Prop) (ok : A1 → A2 → Prop) (μ : A1 → A2 → Nat) (val : A1 → A2 → ρ)
    (hs : ∀ (d : Nat) (post : ρ → Prop) (a1 : A1) (a2 : A2), ok a1 a2 → post (val a1 a2) → (∀ (post' : ρ → Prop) (b1 : A1) (b2 : A2), ok b1 b2 → μ b1 b2 < μ a1 a2 → post' (val b1 b2) → W d post' b1 b2) → W (d + 1) post a1 a2) :
    ∀ (d : Nat) (post : ρ → Prop) (a1 : A1) (a2 : A2), ok a1 a2 → μ a1 a2 < d → post (val a1 a2) → W d post a1 a2 := by
  intro d
  induction d with
  | zero => intro post a1 a2 _ h; omega
  | succ d ih =>
    intro post a1 a2 ho hm hp
    exact hs d post a1 a2 ho hp (fun post' b1 b2 ho' hm' hp' => ih post' b1 b2 ho' (by omega) hp')
theorem rp3 {ρ A1 A2 A3 : Type} (W : Nat → (ρ → Prop) → A1 → A2 → A3 → Prop) (ok : A1 → A2 → A3 → Prop) (μ : A1 → A2 → A3 → Nat) (val : A1 → A2 → A3 → ρ)
    (hs : ∀ (d : Nat) (post : ρ → Prop) (a1 : A1) (a2 : A2) (a3 : A3), ok a1 a2 a3 → post (val a1 a2 a3) → (∀ (post' : ρ → Prop) (b1 : A1) (b2 : A2) (b3 : A3), ok b1 b2 b3 → μ b1 b2 b3 < μ a1 a2 a3 → post' (val b1 b2 b3) → W d post' b1 b2 b3) → W (d + 1) post a1 a2 a3) :
    ∀ (d : Nat) (post : ρ → Prop) (a1 : A1) (a2 : A2) (a3 : A3), ok a1 a2 a3 → μ a1 a2 a3 < d → post (val a1 a2 a3) → W d post a1 a2 a3 := by
  intro d
  induction d with
  | zero => intro post a1 a2 a3 _ h; omega
  | succ d ih =>
    intro post a1 a2 a3 ho hm hp
    exact hs d post a1 a2 a3 ho hp (fun post' b1 b2 b3 ho' hm' hp' => ih post' b1 b2 b3 ho' (by omega) hp')
theorem rp4 {ρ A1 A2 A3 A4 : Type} (W : Nat → (ρ → Prop) → A1 → A2 → A3 → A4 → Prop) (ok : A1 → A2 → A3 → A4 → Prop) (μ : A1 → A2 → A3 → A4 → Nat) (val : A1 → A2 → A3 → A4 → ρ)
    (hs : ∀ (d : Nat) (post : ρ → Prop) (a1 : A1) (a2 : A2) (a3 : A3) (a4 : A4), ok a1 a2 a3 a4 → post (val a1 a2 a3 a4) → (∀ (post' : ρ → Prop) (b1 : A1) (b2 : A2) (b3 : A3) (b4 : A4), ok b1 b2 b3 b4 → μ b1 b2 b3 b4 < μ a1 a2 a3 a4 → post' (val b1 b2 b3 b4) → W d post' b1 b2 b3 b4) → W (d + 1) post a1 a2 a3 a4) :
    ∀ (d : Nat) (post : ρ → Prop) (a1 : A1) (a2 : A2) (a3 : A3) (a4 : A4), ok a1 a2 a3 a4 → μ a1 a2 a3 a4 < d → post (val a1 a2 a3 a4) → W d post a1 a2 a3 a4 := by
  intro d
  induction d with
  | zero => intro post a1 a2 a3 a4 _ h; omega
  | succ d ih =>
    intro post a1 a2 a3 a4 ho hm hp
    exact hs d post a1 a2 a3 a4 ho hp (fun post' b1 b2 b3 b4 ho' hm' hp' => ih post' b1 b2 b3 b4 ho' (by omega) hp')
theorem rp5 {ρ A1 A2 A3 A4 A5 : Type} (W : Nat → (ρ → Prop) → A1 → A2 → A3 → A4 → A5 → Prop) (ok : A1 → A2 → A3 → A4 → A5 → Prop) (μ : A1 → A2 → A3 → A4 → A5 → Nat) (val : A1 → A2 → A3 → A4 → A5 → ρ)
    (hs : ∀ (d : Nat) (post : ρ → Prop) (a1 : A1) (a2 : A2) (a3 : A3) (a4 : A4) (a5 : A5), ok a1 a2 a3 a4 a5 → post (val a1 a2 a3 a4 a5) → (∀ (post' : ρ → Prop) (b1 : A1) (b2 : A2) (b3 : A3) (b4 : A4) (b5 : A5), ok b1 b2 b3 b4 b5 → μ b1 b2 b3 b4 b5 < μ a1 a2 a3 a4 a5 → post' (val b1 b2 b3 b4 b5) → W d post' b1 b2 b3 b4 b5) → W (d + 1) post a1 a2 a3 a4 a5) :
    ∀ (d : Nat) (post : ρ → Prop) (a1 : A1) (a2 : A2) (a3 : A3) (a4 : A4) (a5 : A5), ok a1 a2 a3 a4 a5 → μ a1 a2 a3 a4 a5 < d → post (val a1 a2 a3 a4 a5) → W d post a1 a2 a3 a4 a5 := by
  intro d
  induction d with
  | zero => intro post a1 a2 a3 a4 a5 _ h; omega
  | succ d ih =>
    intro post a1 a2 a3 a4 a5 ho hm hp
    exact hs d post a1 a2 a3 a4 a5 ho hp (fun post' b1 b2 b3 b4 b5 ho' hm' hp' => ih post' b1 b2 b3 b4 b5 ho' (by omega) hp')
theorem rp6 {ρ A1 A2 A3 A4 A5 A6 : Type} (W : Nat → (ρ → Prop) → A1 → A2 → A3 → A4 → A5 → A6 → Prop) (ok : A1 → A2 → A3 → A4 → A5 → A6 → Prop) (μ : A1 → A2 → A3 → A4 → A5 → A6 → Nat) (val : A1 → A2 → A3 → A4 → A5 → A6 → ρ)
    (hs : ∀ (d : Nat) (post : ρ → Prop) (a1 : A1) (a2 : A2) (a3 : A3) (a4 : A4) (a5 : A5) (a6 : A6), ok a1 a2 a3 a4 a5 a6 → post (val a1 a2 a3 a4 a5 a6) → (∀ (post' : ρ → Prop) (b1 : A1) (b2 : A2) (b3 : A3) (b4 : A4) (b5 : A5) (b6 : A6), ok b1 b2 b3 b4 b5 b6 → μ b1 b2 b3 b4 b5 b6 < μ a1 a2 a3 a4 a5 a6 → post' (val b1 b2 b3 b4 b5 b6) → W d post' b1 b2 b3 b4 b5 b6) → W (d + 1) post a1 a2 a3 a4 a5 a6) :
    ∀ (d : Nat) (post : ρ → Prop) (a1 : A1) (a2 : A2) (a3 : A3) (a4 : A4) (a5 : A5) (a6 : A6), ok a1 a2 a3 a4 a5 a6 → μ a1 a2 a3 a4 a5 a6 < d → post (val a1 a2 a3 a4 a5 a6) → W d post a1 a2 a3 a4 a5 a6 := by
  intro d
  induction d with
  | zero => intro post a1 a2 a3 a4 a5 a6 _ h; omega
  | succ d ih =>
    intro post a1 a2 a3 a4 a5 a6 ho hm hp
    exact hs d post a1 a2 a3 a4 a5 a6 ho hp (fun post' b1 b2 b3 b4 b5 b6 ho' hm' hp' => ih post' b1 b2 b3 b4 b5 b6 ho' (by omega) hp')
theorem rec_p {σ ρ : Type} (W : Nat → (ρ → Prop) → σ → Prop) (ok : σ → Prop) (μ : σ → Nat) (val : σ → ρ)
    (hs : ∀ d s post, ok s → post (val s) → (∀ s' post', ok s' → μ s' < μ s → post' (val s') → W d post' s') → W (d + 1) post s) :
    ∀ d s post, ok s → μ s < d → post (val s) → W d post s := by
  intro d
  induction d with
  | zero => intro s post _ h; omega
  | succ d ih =>
    intro s post ho hm hp
    exact hs d s post ho hp (fun s' post' ho' hm' hp' => ih s' post' ho' (by omega) hp')
theorem rec_q {σ ρ : Type} (W : Nat → (ρ → Prop) → σ → Prop) (ok : σ → Prop) (μ : σ → Nat) (Q : σ → ρ → Prop)
    (hs : ∀ d s post, ok s → (∀ r, Q s r → post r) → (∀ s' post', ok s' → μ s' < μ s → (∀ r, Q s' r → post' r) → W d post' s') → W (d + 1) post s) :
    ∀ d s post, ok s → μ s < d → (∀ r, Q s r → post r) → W d post s := by
  intro d
  induction d with
  | zero => intro s post _ h; omega
  | succ d ih =>
    intro s post ho hm hp
    exact hs d s post ho hp (fun s' post' ho' hm' hp' => ih s' post' ho' (by omega) hp')
def bx_sum (f : Nat → Int32) : Nat → Int32
  | 0 => 0
  | n + 1 => bx_sum f n + f n
theorem ek_u {A : Prop} {B : Nat → Prop} {k N : Nat} (hk : k < N) (h : B k) : (some k = none → A) ∧ (∀ y : Nat, some k = some y → (y < N ∧ B y)) :=
  ⟨fun z => absurd z (Option.some_ne_none k), fun _ e => (by cases e; exact ⟨hk, h⟩)⟩
theorem ek_nu {A : Prop} {B : Nat → Prop} (h : A) : ((none : Option Nat) = none → A) ∧ (∀ y : Nat, (none : Option Nat) = some y → B y) :=
  ⟨fun _ => h, fun _ e => (by cases e)⟩
theorem ek_if {c d A B : Prop} (e : c ↔ d) (f : d → A) (g : ¬ d → B) : (c → A) ∧ (¬ c → B) :=
  ⟨fun z => f (e.mp z), fun z => g (fun y => z (e.mpr y))⟩
theorem ek_v {α : Sort _} {P : α → Prop} {a b : α} (e : a = b) (h : P b) : P a := e ▸ h
theorem co_some {x : Option Nat} {A : Prop} {B : Nat → Prop} (i : Nat) (h : B i) (hx : x = some i := by rfl) : (x = none → A) ∧ (∀ y : Nat, x = some y → B y) := by
  subst hx
  exact ⟨fun e => (nomatch e), fun y e => Option.some.inj e ▸ h⟩
theorem co_none {x : Option Nat} {A : Prop} {B : Nat → Prop} (h : A) (hx : x = none := by rfl) : (x = none → A) ∧ (∀ y : Nat, x = some y → B y) := by
  subst hx
  exact ⟨fun _ => h, fun y e => (nomatch e)⟩
theorem co_any {x : Option Nat} {A : Prop} {B : Nat → Prop} (hn : x = none → A) (hs : ∀ i : Nat, x = some i → B i) : (x = none → A) ∧ (∀ y : Nat, x = some y → B y) := ⟨hn, hs⟩
theorem co_2 {P : Nat → Prop} (h0 : P 0) (h1 : P 1) {i : Nat} (hi : i < 2) : P i :=
  match i, hi with
  | 0, _ => h0
  | 1, _ => h1
theorem co_3 {P : Nat → Prop} (h0 : P 0) (h1 : P 1) (h2 : P 2) {i : Nat} (hi : i < 3) : P i :=
  match i, hi with
  | 0, _ => h0
  | 1, _ => h1
  | 2, _ => h2
theorem co_4 {P : Nat → Prop} (h0 : P 0) (h1 : P 1) (h2 : P 2) (h3 : P 3) {i : Nat} (hi : i < 4) : P i :=
  match i, hi with
  | 0, _ => h0
  | 1, _ => h1
  | 2, _ => h2
  | 3, _ => h3
theorem co_dec {N : Nat} {P : Nat → Prop} [DecidablePred P] (h : (List.range N).all (fun i => decide (P i)) = true) {i : Nat} (hi : i < N) : P i := by
  have := List.all_eq_true.mp h i (List.mem_range.mpr hi)
  exact of_decide_eq_true this
theorem co_tab {α : Type} {l : List α} {d : α} {P : α → Prop} (h : ∀ a, a ∈ l → P a) {i : Nat} (hi : i < l.length) : P (l.getD i d) := by
  rw [List.getD_eq_getElem?_getD, List.getElem?_eq_getElem hi]
  exact h _ (List.getElem_mem hi)
theorem pk_mu {x : Int32} {L : Nat} (h0 : ¬ x < 0) (h : ¬ nI L ≤ x) (hL : L < 2 ^ 31) : ∃ j : Nat, j < L ∧ x = nI j ∧ x + 1 = nI (j + 1) ∧ x.toNatClampNeg = j ∧ L - (x + 1).toNatClampNeg < L - x.toNatClampNeg := by
  obtain ⟨j, hj, rfl⟩ := nI_of h0
  have hl : j < L := Nat.not_le.mp fun q => h (nI_le q hj)
  refine ⟨j, hl, rfl, nI_1 j, nI_clamp hj, ?_⟩
  rw [nI_1, nI_clamp (by omega), nI_clamp hj]
  omega
theorem op_s {α : Type} {r : Option α} {A : Prop} {B : α → Prop} {y : α} (h : r = some y) (b : B y) : (r = none → A) ∧ ∀ z, r = some z → B z :=
  ⟨fun e => (by rw [h] at e; cases e), fun z e => (by rw [h] at e; cases e; exact b)⟩
def l_holds {α : Type} (a : Nat → Option Nat) (LP : List Nat) (p : Nat → α) (c : Nat) (b : Nat → α) : Prop :=
  ∀ j, j < c → ∃ y, a j = some y ∧ y ∈ LP ∧ p y = b j
theorem l_holds_0 {α : Type} {a : Nat → Option Nat} {LP : List Nat} {p b : Nat → α} : l_holds a LP p 0 b := fun j h => absurd h (Nat.not_lt_zero j)
theorem l_in_new (LP : List Nat) (q : Nat) : q ∈ LP ++ [q] := List.mem_append.mpr (Or.inr (List.mem_singleton.mpr rfl))
def l_sum (b : Nat → Int32) : Nat → Int32
  | 0 => 0
  | k + 1 => l_sum b k + b k
theorem sb_shr0 (x : Int32) : x >>> ((0 : Int32) &&& 31) = x := by
  rw [show ((0 : Int32) &&& 31) = 0 by decide]
  simp
theorem sb_shl0 (x : Int32) : x <<< ((0 : Int32) &&& 31) = x := by
  rw [show ((0 : Int32) &&& 31) = 0 by decide]
  simp
theorem sb_cl0 : (0 : Int32).toNatClampNeg = 0 := by decide
theorem sb_m1 {p : Nat} (h : 0 < p) : nI p + (-1) = nI (p - 1) := by
  obtain ⟨q, rfl⟩ : ∃ q, p = q + 1 := ⟨p - 1, by omega⟩
  exact pk_m1 q
def sb_b (c : Nat) : Int32 := (nI c).toInt8.toInt32
theorem sb_byte : ∀ c, c < 256 → sb_b c &&& 255 = nI c ∧ ((nI c).toUInt32 % 65536).toInt32 = nI c ∧ nI c ≤ 255 := by decide +kernel
def sb_Fit (a : Nat → Int32) : Prop := ∀ j, fits .byte (.int (a j)) = true
def sb_Lat (t : Nat → Nat) (n : Nat) (a : Nat → Int32) : Prop := ∀ j, j < n → t j < 256 ∧ a j = sb_b (t j)
theorem sb_fitB (c : Nat) : fits .byte (.int (sb_b c)) = true := pk_fb _
theorem sb_fit0 : sb_Fit (fun _ => 0) := fun _ => by
  show fits .byte (.int 0) = true
  decide
theorem sb_fitU {a : Nat → Int32} {k : Nat} {x : Int32} (h : sb_Fit a) (hx : fits .byte (.int x) = true) : sb_Fit (upd a k x) := by
  intro j
  by_cases e : j = k
  · subst e
    rw [pk_us]
    exact hx
  · rw [pk_un e]
    exact h j
def sb_cat (t : Nat → Nat) (n : Nat) (s : Nat → Nat) : Nat → Nat := fun j => if j < n then t j else s (j - n)
theorem sb_cat_lo {t s : Nat → Nat} {n j : Nat} (h : j < n) : sb_cat t n s j = t j := if_pos h
theorem sb_cat_hi {t s : Nat → Nat} {n j : Nat} : sb_cat t n s (n + j) = s j := by
  show (if n + j < n then t (n + j) else s (n + j - n)) = s j
  rw [if_neg (by omega), Nat.add_sub_cancel_left]
theorem sb_latPut {t s : Nat → Nat} {n w : Nat} {a a' : Nat → Int32} (h : sb_Lat t n a) (hk : ∀ j, j < n → a' j = a j) (hs : ∀ i, i < w → s i < 256 ∧ a' (n + i) = sb_b (s i)) : sb_Lat (sb_cat t n s) (n + w) a' := by
  intro j hj
  by_cases e : j < n
  · rw [sb_cat_lo e, hk j e]
    exact h j e
  · obtain ⟨i, rfl⟩ : ∃ i, j = n + i := ⟨j - n, by omega⟩
    rw [sb_cat_hi]
    exact hs i (by omega)
theorem sb_latKeep {t : Nat → Nat} {n : Nat} {a a' : Nat → Int32} (h : sb_Lat t n a) (hk : ∀ j, j < n → a' j = a j) : sb_Lat t n a' := fun j hj => by
  rw [hk j hj]
  exact h j hj
def sb_cap (q m : Nat) : Nat := if q ≤ m then m else if 2 * m + 2 < q then q else 2 * m + 2
def sb_Room (q m mc ms : Nat) : Prop := q ≤ m ∨ (1 ≤ mc ∧ sb_cap q m ≤ ms ∧ sb_cap q m ≤ 65536)
theorem sb_cap_ge (q m : Nat) : q ≤ sb_cap q m := by
  unfold sb_cap
  split
  · omega
  · split <;> omega
theorem sb_cap_gem (q m : Nat) : m ≤ sb_cap q m := by
  unfold sb_cap
  split
  · omega
  · split <;> omega
theorem sb_cap_le {q m mc ms : Nat} (hm : m ≤ 65536) (hr : sb_Room q m mc ms) : sb_cap q m ≤ 65536 := by
  rcases hr with h | h
  · rw [sb_cap, if_pos h]
    exact hm
  · exact h.2.2
theorem sb_at {P : Int32 → Prop} {x y : Int32} (e : x = y) (h : P y) : P x := e ▸ h
def sb_dg (w : Nat) : Nat := if w < 10 then 1 else if w < 100 then 2 else if w < 1000 then 3 else if w < 10000 then 4 else if w < 100000 then 5 else if w < 1000000 then 6 else if w < 10000000 then 7 else if w < 100000000 then 8 else if w < 1000000000 then 9 else 10
def sb_dec (v : Nat) : Nat → Nat := fun i => 48 + v / 10 ^ (sb_dg v - 1 - i) % 10
theorem sb_dg_in (w : Nat) : 1 ≤ sb_dg w ∧ sb_dg w ≤ 10 := by
  unfold sb_dg
  constructor <;> (repeat' split) <;> omega
theorem sb_dg100 {w : Nat} (h : 100 ≤ w) (hw : w < 2 ^ 31) : sb_dg w = sb_dg (w / 100) + 2 := by
  rw [sb_dg, sb_dg, if_neg (show ¬ w < 10 by omega), if_neg (show ¬ w < 100 by omega)]
  by_cases h3 : w < 1000
  · rw [if_pos h3, if_pos (show w / 100 < 10 by omega)]
  rw [if_neg h3, if_neg (show ¬ w / 100 < 10 by omega)]
  by_cases h4 : w < 10000
  · rw [if_pos h4, if_pos (show w / 100 < 100 by omega)]
  rw [if_neg h4, if_neg (show ¬ w / 100 < 100 by omega)]
  by_cases h5 : w < 100000
  · rw [if_pos h5, if_pos (show w / 100 < 1000 by omega)]
  rw [if_neg h5, if_neg (show ¬ w / 100 < 1000 by omega)]
  by_cases h6 : w < 1000000
  · rw [if_pos h6, if_pos (show w / 100 < 10000 by omega)]
  rw [if_neg h6, if_neg (show ¬ w / 100 < 10000 by omega)]
  by_cases h7 : w < 10000000
  · rw [if_pos h7, if_pos (show w / 100 < 100000 by omega)]
  rw [if_neg h7, if_neg (show ¬ w / 100 < 100000 by omega)]
  by_cases h8 : w < 100000000
  · rw [if_pos h8, if_pos (show w / 100 < 1000000 by omega)]
  rw [if_neg h8, if_neg (show ¬ w / 100 < 1000000 by omega)]
  by_cases h9 : w < 1000000000
  · rw [if_pos h9, if_pos (show w / 100 < 10000000 by omega)]
  rw [if_neg h9, if_neg (show ¬ w / 100 < 10000000 by omega)]
  rw [if_pos (show w / 100 < 100000000 by omega)]
theorem sb_negT {w : Nat} (h : w < 2 ^ 31) : (-nI w).toInt = -(w : Int) := by
  rw [Int32.toInt_neg, nI_toInt h]
  exact Int.bmod_eq_of_le (by omega) (by omega)
theorem sb_nle {a b : Nat} (ha : a < 2 ^ 31) (hb : b < 2 ^ 31) : -nI a ≤ -nI b ↔ b ≤ a := by
  rw [Int32.le_iff_toInt_le, sb_negT ha, sb_negT hb]
  omega
theorem sb_nlt {a b : Nat} (ha : a < 2 ^ 31) (hb : b < 2 ^ 31) : -nI a < -nI b ↔ b < a := by
  rw [Int32.lt_iff_toInt_lt, sb_negT ha, sb_negT hb]
  omega
theorem sb_cmp {A B : Prop} {x : Int32} (v c : Nat) (f : c ≤ v → A) (g : v < c → B) (hv : v < 2 ^ 31) (hx : x = -nI c := by rfl) (hc : c < 2 ^ 31 := by omega) : (-nI v ≤ x → A) ∧ (¬ -nI v ≤ x → B) := by
  subst hx
  rw [sb_nle hv hc]
  exact ⟨f, fun z => g (by omega)⟩
theorem sb_ndiv {w : Nat} (hw : w < 2 ^ 31) : (-nI w) / 100 = -nI (w / 100) := by
  apply Int32.toInt_inj.mp
  have h100 : (100 : Int32).toInt = 100 := by decide
  rw [Int32.toInt_div, sb_negT hw, h100, sb_negT (by omega), Int.neg_tdiv, Int.tdiv_eq_ediv_of_nonneg (by omega), Int.bmod_eq_of_le (by omega) (by omega)]
  omega
theorem sb_nrem {w : Nat} (hw : w < 2 ^ 31) : (-nI (w / 100)) * 100 - (-nI w) = nI (w % 100) := by
  have h := pk_rem (a := w) (d := 100) hw (by decide) (by decide)
  rw [pk_div hw (by decide) (by decide)] at h
  rw [← h]
  show (-nI (w / 100)) * nI 100 - (-nI w) = nI w - nI (w / 100) * nI 100
  rw [Int32.neg_mul, Int32.sub_neg, Int32.add_comm, ← Int32.sub_eq_add_neg]
end
section
/-! rows on bits, shifts and unsigned numbers, to paste: each family out of a closed proof of our own, whole with what it rests on; each by itself clean at Lean in its own claim (generation 39, form 5). Take a family whole -/
/-! ===== Int32 by its bits: bt x i ===== -/
def bt (x : Int32) (i : Nat) : Bool := x.toBitVec.getLsbD i
theorem b_ext {x y : Int32} (h : ∀ i, i < 32 → bt x i = bt y i) : x = y := Int32.toBitVec_inj.mp (BitVec.eq_of_getLsbD_eq (fun i hi => h i hi))
theorem b_or (x y : Int32) (i : Nat) : bt (x ||| y) i = (bt x i || bt y i) := by unfold bt; rw [Int32.toBitVec_or, BitVec.getLsbD_or]
theorem b_and (x y : Int32) (i : Nat) : bt (x &&& y) i = (bt x i && bt y i) := by unfold bt; rw [Int32.toBitVec_and, BitVec.getLsbD_and]
theorem b_xor (x y : Int32) (i : Nat) : bt (x ^^^ y) i = (bt x i ^^ bt y i) := by unfold bt; rw [Int32.toBitVec_xor, BitVec.getLsbD_xor]
theorem b_big {x : Int32} {i : Nat} (h : 32 ≤ i) : bt x i = false := BitVec.getLsbD_of_ge _ _ h
theorem b_255 (i : Nat) : bt 255 i = decide (i < 8) := by
  rcases Nat.lt_or_ge i 32 with h | h
  · exact (by decide +kernel : ∀ i, i < 32 → bt 255 i = decide (i < 8)) i h
  · rw [b_big h, decide_eq_false (by omega)]
theorem b_65535 (i : Nat) : bt 65535 i = decide (i < 16) := by
  rcases Nat.lt_or_ge i 32 with h | h
  · exact (by decide +kernel : ∀ i, i < 32 → bt 65535 i = decide (i < 16)) i h
  · rw [b_big h, decide_eq_false (by omega)]
theorem b_m1 : ∀ i, i < 32 → bt (-1) i = true := by decide +kernel
theorem b_0 (i : Nat) : bt 0 i = false := BitVec.getLsbD_zero
theorem s_l : ∀ n, n < 32 → ((nI n &&& 31).toBitVec.smod 32).toNat = n := by decide +kernel
theorem s_u : ∀ n, n < 32 → (((nI n).toUInt32 &&& Int32.toUInt32 31).toBitVec % 32).toNat = n := by decide +kernel
theorem b_shl (n : Nat) (hn : n < 32) (x : Int32) {i : Nat} (hi : i < 32) : bt (x <<< (nI n &&& 31)) i = (decide (n ≤ i) && bt x (i - n)) := by
  unfold bt
  rw [Int32.toBitVec_shiftLeft]
  show (x.toBitVec <<< ((nI n &&& 31).toBitVec.smod 32).toNat).getLsbD i = _
  rw [s_l n hn, BitVec.getLsbD_shiftLeft]
  rcases Nat.lt_or_ge i n with h | h
  · simp [h, Nat.not_le.mpr h]
  · simp [hi, h, Nat.not_lt.mpr h]
theorem b_ushr (n : Nat) (hn : n < 32) (x : Int32) (i : Nat) : bt ((x.toUInt32 >>> ((nI n).toUInt32 &&& Int32.toUInt32 31)).toInt32) i = bt x (n + i) := by
  show (x.toUInt32 >>> ((nI n).toUInt32 &&& Int32.toUInt32 31)).toBitVec.getLsbD i = x.toUInt32.toBitVec.getLsbD (n + i)
  rw [UInt32.toBitVec_shiftRight]
  show (x.toUInt32.toBitVec >>> (((nI n).toUInt32 &&& Int32.toUInt32 31).toBitVec % 32).toNat).getLsbD i = _
  rw [s_u n hn, BitVec.getLsbD_ushiftRight]
theorem b_sshr (n : Nat) (hn : n < 32) (x : Int32) {i : Nat} (hi : i < 32) : bt (x >>> (nI n &&& 31)) i = if n + i < 32 then bt x (n + i) else bt x 31 := by
  unfold bt
  rw [Int32.toBitVec_shiftRight]
  show (x.toBitVec.sshiftRight ((nI n &&& 31).toBitVec.smod 32).toNat).getLsbD i = _
  rw [s_l n hn, BitVec.getLsbD_sshiftRight, BitVec.msb_eq_getLsbD_last]
  simp [hi]
theorem b_shl8 (x : Int32) {i : Nat} (hi : i < 32) : bt (x <<< ((8 : Int32) &&& 31)) i = (decide (8 ≤ i) && bt x (i - 8)) := b_shl 8 (by omega) x hi
theorem b_shl16 (x : Int32) {i : Nat} (hi : i < 32) : bt (x <<< ((16 : Int32) &&& 31)) i = (decide (16 ≤ i) && bt x (i - 16)) := b_shl 16 (by omega) x hi
theorem b_shl24 (x : Int32) {i : Nat} (hi : i < 32) : bt (x <<< ((24 : Int32) &&& 31)) i = (decide (24 ≤ i) && bt x (i - 24)) := b_shl 24 (by omega) x hi
theorem b_sshr8 (x : Int32) {i : Nat} (hi : i < 32) : bt (x >>> ((8 : Int32) &&& 31)) i = if 8 + i < 32 then bt x (8 + i) else bt x 31 := b_sshr 8 (by omega) x hi
/-! ===== nI under and, xor, >>>, one bit, 65535 ===== -/
theorem nx_and (a b : Nat) : nI a &&& nI b = nI (a &&& b) := by
  apply Int32.toBitVec_inj.1
  show BitVec.ofNat 32 a &&& BitVec.ofNat 32 b = BitVec.ofNat 32 (a &&& b)
  apply BitVec.eq_of_getLsbD_eq
  intro i hi
  simp [hi]
theorem nx_xor (a b : Nat) : nI a ^^^ nI b = nI (a ^^^ b) := by
  apply Int32.toBitVec_inj.1
  show BitVec.ofNat 32 a ^^^ BitVec.ofNat 32 b = BitVec.ofNat 32 (a ^^^ b)
  apply BitVec.eq_of_getLsbD_eq
  intro i hi
  simp [hi]
theorem nx_cnt : ∀ j : Fin 32, (UInt32.ofNat j.val &&& Int32.toUInt32 31).toNat % 32 = j.val := by decide +kernel
theorem nx_ush {k j : Nat} (hk : k < 65536) (hj : j < 32) : ((nI k).toUInt32 >>> ((nI j).toUInt32 &&& Int32.toUInt32 31)).toInt32 = nI (k >>> j) := by
  have hs : k >>> j ≤ k := by
    rw [Nat.shiftRight_eq_div_pow]
    exact Nat.div_le_self _ _
  have e2 : UInt32.ofNat k >>> (UInt32.ofNat j &&& Int32.toUInt32 31) = UInt32.ofNat (k >>> j) := by
    apply UInt32.toNat_inj.1
    have h1 : (UInt32.ofNat k).toNat = k := Nat.mod_eq_of_lt (by omega)
    have h2 : (UInt32.ofNat (k >>> j)).toNat = k >>> j := Nat.mod_eq_of_lt (by omega)
    rw [UInt32.toNat_shiftRight, nx_cnt ⟨j, hj⟩, h1, h2]
  show (UInt32.ofNat k >>> (UInt32.ofNat j &&& Int32.toUInt32 31)).toInt32 = _
  rw [e2]
  rfl
theorem nx_bit {k j : Nat} (hk : k < 65536) (hj : j < 16) : (((nI k).toUInt32 >>> ((nI j).toUInt32 &&& Int32.toUInt32 31)).toInt32 &&& 1) = 0 ↔ k.testBit j = false := by
  rw [nx_ush hk (by omega)]
  show nI (k >>> j) &&& nI 1 = 0 ↔ _
  rw [nx_and, Nat.and_one_is_mod, ← nI_0, nI_eq (by omega) (by omega), Nat.testBit_eq_decide_div_mod_eq, Nat.shiftRight_eq_div_pow, decide_eq_false_iff_not]
  generalize k / 2 ^ j = z
  omega
theorem nx_mod (k : Nat) : nI k &&& 65535 = nI (k % 65536) := by
  show nI k &&& nI 65535 = _
  rw [nx_and, show (65535 : Nat) = 2 ^ 16 - 1 from rfl, Nat.and_two_pow_sub_one_eq_mod]
theorem nx_m16 {k : Nat} (h : k < 65536) : nI k &&& 65535 = nI k := by rw [nx_mod, Nat.mod_eq_of_lt h]
theorem nx_mask (x : Int32) : ∃ k, k < 65536 ∧ x &&& 65535 = nI k := by
  have e : x = nI x.toBitVec.toNat := by
    apply Int32.toBitVec_inj.1
    show x.toBitVec = BitVec.ofNat 32 x.toBitVec.toNat
    simp
  refine ⟨x.toBitVec.toNat % 65536, Nat.mod_lt _ (by omega), ?_⟩
  rw [← nx_mod, ← e]
/-! ===== Int32 as a set of bits: test, set ===== -/
def nf_M (m : Int32) : Nat := 4294967296 - m.toBitVec.toNat
theorem nf_sh : ∀ l, l < 32 → ((1 : Int32) <<< (nI l &&& 31)).toBitVec = BitVec.twoPow 32 l := by decide +kernel
theorem nf_sl : ∀ l, l < 32 → (((nI l).toUInt32 &&& Int32.toUInt32 31).toBitVec % 32).toNat = l := by decide +kernel
theorem nf_tp : ∀ l, l < 32 → BitVec.twoPow 32 l ≠ 0#32 := by decide +kernel
theorem nf_bit (m : Int32) (l : Nat) (hl : l < 32) : ((m.toUInt32 >>> ((nI l).toUInt32 &&& Int32.toUInt32 31)).toInt32 &&& 1) = 0 ↔ (m &&& ((1 : Int32) <<< (nI l &&& 31))) = 0 := by
  have e : ((m.toUInt32 >>> ((nI l).toUInt32 &&& Int32.toUInt32 31)).toInt32).toBitVec = m.toBitVec >>> l := by
    show m.toBitVec >>> (((nI l).toUInt32 &&& Int32.toUInt32 31).toBitVec % 32) = m.toBitVec >>> l
    rw [BitVec.ushiftRight_eq', nf_sl l hl]
  rw [← Int32.toBitVec_inj, ← Int32.toBitVec_inj, Int32.toBitVec_and, Int32.toBitVec_and, nf_sh l hl, e, BitVec.and_twoPow]
  show (m.toBitVec >>> l &&& 1#32) = 0#32 ↔ _ = 0#32
  rw [BitVec.and_one_eq_setWidth_ofBool_getLsbD, BitVec.getLsbD_ushiftRight, Nat.add_zero]
  cases hb : m.toBitVec.getLsbD l
  · exact ⟨fun _ => by simp, fun _ => by decide⟩
  · exact ⟨fun z => absurd z (by decide), fun z => absurd ((if_pos rfl).symm.trans z) (nf_tp l hl)⟩
theorem nf_gr (m k : Int32) (h : m &&& k = 0) (hk : k ≠ 0) : nf_M (m ||| k) < nf_M m := by
  have hm := m.toBitVec.isLt
  have hm' := (m ||| k).toBitVec.isLt
  have h1 : m.toBitVec.toNat ≤ (m ||| k).toBitVec.toNat := by
    rw [Int32.toBitVec_or, BitVec.toNat_or]
    exact Nat.left_le_or
  have h2 : m.toBitVec.toNat ≠ (m ||| k).toBitVec.toNat := by
    intro e
    have e2 : m = m ||| k := Int32.toBitVec_inj.mp (BitVec.eq_of_toNat_eq e)
    apply hk
    apply Int32.toBitVec_inj.mp
    show k.toBitVec = 0#32
    apply BitVec.eq_of_getLsbD_eq
    intro i hi
    have a : m.toBitVec.getLsbD i = (m.toBitVec.getLsbD i || k.toBitVec.getLsbD i) := by rw [← BitVec.getLsbD_or, ← Int32.toBitVec_or, ← e2]
    have b : (m.toBitVec.getLsbD i && k.toBitVec.getLsbD i) = false := by
      rw [← BitVec.getLsbD_and, ← Int32.toBitVec_and, h]
      exact BitVec.getLsbD_zero
    rw [BitVec.getLsbD_zero]
    revert a b
    cases m.toBitVec.getLsbD i <;> cases k.toBitVec.getLsbD i <;> simp
  unfold nf_M
  omega
/-! ===== a byte read unsigned ===== -/
theorem bp_b (x : Int32) : x.toInt8.toInt32 &&& 255 = x &&& 255 := by
  apply Int32.toBitVec_inj.mp
  rw [Int32.toBitVec_and, Int32.toBitVec_and, Int8.toBitVec_toInt32, Int32.toBitVec_toInt8]
  apply BitVec.eq_of_getLsbD_eq
  intro i hi
  rw [BitVec.getLsbD_and, BitVec.getLsbD_and]
  have hm : ∀ i < 32, 8 ≤ i → (255 : Int32).toBitVec.getLsbD i = false := by decide
  rcases Nat.lt_or_ge i 8 with z | z
  · rw [BitVec.getLsbD_signExtend, BitVec.getLsbD_signExtend, if_pos z, if_pos hi]
    simp only [z, hi, decide_true, Bool.true_and]
  · rw [hm i hi z]; simp
/-! ===== the char cast and 65535 ===== -/
theorem em_w (v : Int32) : ∃ w : Nat, w < 65536 ∧ (v.toUInt32 % 65536).toInt32 = nI w ∧ v &&& 65535 = nI w := by
  have hr := lw_u16_r v
  have h0 : (0 : Int32).toInt = 0 := by decide
  obtain ⟨w, h1, h2⟩ := nI_of (x := lw_u16 v) (by rw [Int32.lt_iff_toInt_lt]; omega)
  have h3 : (v.toUInt32 % 65536).toInt32 = nI w := h2
  rw [h2, nI_toInt h1] at hr
  exact ⟨w, by omega, h3, by rw [← lg_i2c_mask, ← lg_i2c_nf, h3]⟩
/-! ===== Int64 as a set of bits: test, set, clear ===== -/
theorem ts_nf {x : Bool} (h : ¬ x = false) : x = true := by cases x <;> first | rfl | exact absurd rfl h
theorem ts_nt {x : Bool} (h : ¬ x = true) : x = false := by cases x <;> first | rfl | exact absurd rfl h
theorem ts_bit {w : Int64} {s : UInt64} {j : Nat} (hj : j < 64) (hs : s.toNat = j) : ((w.toUInt64 >>> s).toInt64 &&& 1) = 0 ↔ w.toBitVec.getLsbD j = false := by
  have e : (w.toUInt64 >>> s).toInt64.toBitVec = w.toBitVec >>> j := by
    apply BitVec.eq_of_toNat_eq
    show (w.toUInt64 >>> s).toNat = _
    rw [UInt64.toNat_shiftRight, hs, Nat.mod_eq_of_lt hj, BitVec.toNat_ushiftRight]
    rfl
  rw [← Int64.toBitVec_inj, Int64.toBitVec_and, e]
  show w.toBitVec >>> j &&& 1#64 = 0#64 ↔ _
  constructor
  · intro h
    have t := congrArg (fun x => x.getLsbD 0) h
    simpa using t
  · intro h
    apply BitVec.eq_of_getLsbD_eq
    intro i hi
    cases i with
    | zero => simp [h]
    | succ i => simp
theorem ts_or {w m : Int64} {j : Nat} (hj : j < 64) (hm : m.toBitVec = BitVec.twoPow 64 j) : (w ||| m) = w ↔ w.toBitVec.getLsbD j = true := by
  rw [← Int64.toBitVec_inj, Int64.toBitVec_or, hm]
  constructor
  · intro h
    have t := congrArg (fun x => x.getLsbD j) h
    simp only [BitVec.getLsbD_or, BitVec.getLsbD_twoPow] at t
    simpa [hj] using t.symm
  · intro h
    apply BitVec.eq_of_getLsbD_eq
    intro i hi
    rw [BitVec.getLsbD_or, BitVec.getLsbD_twoPow]
    by_cases e : j = i
    · subst e; rw [h, Bool.true_or]
    · simp [e]
theorem ts_and {w m : Int64} {j : Nat} (hj : j < 64) (hm : m.toBitVec = BitVec.twoPow 64 j) : (w &&& (m ^^^ (-1))) = w ↔ w.toBitVec.getLsbD j = false := by
  have ha : (-1 : Int64).toBitVec = BitVec.allOnes 64 := by decide
  rw [← Int64.toBitVec_inj, Int64.toBitVec_and, Int64.toBitVec_xor, hm, ha]
  constructor
  · intro h
    have t := congrArg (fun x => x.getLsbD j) h
    simp only [BitVec.getLsbD_and, BitVec.getLsbD_xor, BitVec.getLsbD_twoPow, BitVec.getLsbD_allOnes] at t
    simpa [hj] using t.symm
  · intro h
    apply BitVec.eq_of_getLsbD_eq
    intro i hi
    rw [BitVec.getLsbD_and, BitVec.getLsbD_xor, BitVec.getLsbD_twoPow, BitVec.getLsbD_allOnes]
    by_cases e : j = i
    · subst e; rw [h, Bool.false_and]
    · simp [e, hi]
/-! ===== lN n to 2^64: shifts, and, or, masks, one bit ===== -/
theorem wb_tb (n : Nat) : (lN n).toBitVec = BitVec.ofNat 64 n := rfl
theorem wb_inj {a b : Int64} (h : a.toBitVec = b.toBitVec) : a = b := Int64.toBitVec_inj.mp h
theorem wb_tn {n : Nat} (h : n < 2 ^ 64) : (lN n).toBitVec.toNat = n := by rw [wb_tb, BitVec.toNat_ofNat, Nat.mod_eq_of_lt h]
theorem wb_of (x : Int64) : ∃ n, n < 2 ^ 64 ∧ x = lN n := ⟨x.toBitVec.toNat, x.toBitVec.isLt, wb_inj (by rw [wb_tb]; simp)⟩
theorem wb_of32 (x : Int32) : ∃ n, n < 2 ^ 32 ∧ x = nI n := ⟨x.toBitVec.toNat, x.toBitVec.isLt, Int32.toBitVec_inj.mp (by show _ = BitVec.ofNat 32 _; simp)⟩
theorem wb_c : ∀ k, k < 64 → ((nI k).toInt64 &&& 63) = lN k := by decide +kernel
theorem wb_cu : ∀ k, k < 64 → ((nI k).toInt64.toUInt64 &&& Int64.toUInt64 63) = UInt64.ofNat k := by decide +kernel
theorem wb_sm : ∀ k, k < 64 → (BitVec.ofNat 64 k).smod 64 = BitVec.ofNat 64 k := by decide +kernel
theorem wb_pw {a b : Nat} (h : a ≤ b) : 2 ^ b = 2 ^ a * 2 ^ (b - a) := by rw [← Nat.pow_add]; congr 1; omega
theorem wb_lt2 {a b : Nat} (h : a < b) : 2 ^ a < 2 ^ b := Nat.pow_lt_pow_right (by decide) h
theorem wb_mod (n : Nat) : lN n = lN (n % 2 ^ 64) := wb_inj (by rw [wb_tb, wb_tb]; apply BitVec.eq_of_toNat_eq; rw [BitVec.toNat_ofNat, BitVec.toNat_ofNat, Nat.mod_mod])
theorem wb_shr {n k : Nat} (hn : n < 2 ^ 64) (hk : k < 64) : ((lN n).toUInt64 >>> ((nI k).toInt64.toUInt64 &&& Int64.toUInt64 63)).toInt64 = lN (n / 2 ^ k) := by
  rw [wb_cu k hk]
  apply wb_inj
  apply BitVec.eq_of_toNat_eq
  show ((lN n).toUInt64 >>> UInt64.ofNat k).toNat = (BitVec.ofNat 64 _).toNat
  have h1 : (UInt64.ofNat k).toNat = k := by
    show (BitVec.ofNat 64 k).toNat = k
    rw [BitVec.toNat_ofNat, Nat.mod_eq_of_lt (by omega)]
  have h2 : (lN n).toUInt64.toNat = n := wb_tn hn
  rw [UInt64.toNat_shiftRight, h1, h2, Nat.mod_eq_of_lt hk, Nat.shiftRight_eq_div_pow, BitVec.toNat_ofNat, Nat.mod_eq_of_lt (Nat.lt_of_le_of_lt (Nat.div_le_self _ _) hn)]
theorem wb_shl (n : Nat) {k : Nat} (hk : k < 64) : lN n <<< ((nI k).toInt64 &&& 63) = lN (n * 2 ^ k) := by
  rw [wb_c k hk]
  apply wb_inj
  rw [Int64.toBitVec_shiftLeft, wb_tb, wb_tb, wb_tb, wb_sm k hk]
  apply BitVec.eq_of_toNat_eq
  rw [BitVec.shiftLeft_eq', BitVec.toNat_shiftLeft, BitVec.toNat_ofNat, BitVec.toNat_ofNat, BitVec.toNat_ofNat, Nat.mod_eq_of_lt (show k < 2 ^ 64 by omega), Nat.shiftLeft_eq, Nat.mul_mod, Nat.mod_mod, ← Nat.mul_mod]
theorem wb_and {a b : Nat} (ha : a < 2 ^ 64) (hb : b < 2 ^ 64) : lN a &&& lN b = lN (a &&& b) := by
  apply wb_inj
  rw [Int64.toBitVec_and, wb_tb, wb_tb, wb_tb]
  apply BitVec.eq_of_toNat_eq
  rw [BitVec.toNat_and, BitVec.toNat_ofNat, BitVec.toNat_ofNat, BitVec.toNat_ofNat, Nat.mod_eq_of_lt ha, Nat.mod_eq_of_lt hb, Nat.mod_eq_of_lt (Nat.and_lt_two_pow _ hb)]
theorem wb_or {a b : Nat} (ha : a < 2 ^ 64) (hb : b < 2 ^ 64) : lN a ||| lN b = lN (a ||| b) := by
  apply wb_inj
  rw [Int64.toBitVec_or, wb_tb, wb_tb, wb_tb]
  apply BitVec.eq_of_toNat_eq
  rw [BitVec.toNat_or, BitVec.toNat_ofNat, BitVec.toNat_ofNat, BitVec.toNat_ofNat, Nat.mod_eq_of_lt ha, Nat.mod_eq_of_lt hb, Nat.mod_eq_of_lt (Nat.or_lt_two_pow ha hb)]
theorem wb_mask {n k : Nat} (hn : n < 2 ^ 64) (hk : k < 64) : lN n &&& lN (2 ^ k - 1) = lN (n % 2 ^ k) := by
  rw [wb_and hn (by have := wb_lt2 hk; omega), Nat.and_two_pow_sub_one_eq_mod]
theorem wb_a1 {n : Nat} (hn : n < 2 ^ 64) : lN n &&& 1 = lN (n % 2) := wb_mask (k := 1) hn (by decide)
theorem wb_bit {n k : Nat} (hn : n < 2 ^ 64) (hk : k < 64) : ((lN n).toUInt64 >>> ((nI k).toInt64.toUInt64 &&& Int64.toUInt64 63)).toInt64 &&& 1 = lN (n / 2 ^ k % 2) := by
  rw [wb_shr hn hk, wb_a1 (Nat.lt_of_le_of_lt (Nat.div_le_self _ _) hn)]
theorem wb_xor {q k : Nat} (hk : k < 63) (h : 2 ^ k ≤ q) (h2 : q < 2 ^ (k + 1)) : lN q ^^^ lN (2 ^ k) = lN (q - 2 ^ k) := by
  obtain ⟨r, rfl⟩ : ∃ r, q = 2 ^ k + r := ⟨q - 2 ^ k, by omega⟩
  have hr : r < 2 ^ k := by rw [Nat.pow_succ] at h2; omega
  have hx : (2 ^ k + r) ^^^ 2 ^ k = r := by
    apply Nat.eq_of_testBit_eq
    intro i
    rw [Nat.testBit_xor, Nat.testBit_two_pow]
    rcases Nat.lt_trichotomy i k with h | h | h
    · rw [Nat.testBit_two_pow_add_gt h]
      simp [show ¬ k = i by omega]
    · subst h
      rw [Nat.testBit_two_pow_add_eq]
      simp
    · have a1 : 2 ^ (k + 1) ≤ 2 ^ i := Nat.pow_le_pow_right (by decide) h
      rw [Nat.testBit_lt_two_pow (show 2 ^ k + r < 2 ^ i by omega), Nat.testBit_lt_two_pow (show r < 2 ^ i by omega)]
      simp [show ¬ k = i by omega]
  have b1 := wb_lt2 (show k + 1 < 64 by omega)
  have b2 := wb_lt2 (show k < 64 by omega)
  apply wb_inj
  rw [Int64.toBitVec_xor, wb_tb, wb_tb, wb_tb]
  apply BitVec.eq_of_toNat_eq
  rw [BitVec.toNat_xor, BitVec.toNat_ofNat, BitVec.toNat_ofNat, BitVec.toNat_ofNat, Nat.mod_eq_of_lt (by omega : 2 ^ k + r < 2 ^ 64), Nat.mod_eq_of_lt b2, hx, Nat.add_sub_cancel_left, Nat.mod_eq_of_lt (by omega)]
/-! ===== lN: masks, 'or' of parts that don't overlap is a sum ===== -/
theorem u_tn {n : Nat} (h : n < 2 ^ 64) : (UInt64.ofNat n).toNat = n := Nat.mod_eq_of_lt h
theorem g_and {a b c : Nat} (ha : a < 2 ^ 64) (hb : b < 2 ^ 64) (hc : a &&& b = c) : lN a &&& lN b = lN c := by
  subst hc
  have h : UInt64.ofNat a &&& UInt64.ofNat b = UInt64.ofNat (a &&& b) := UInt64.toNat_inj.mp (by rw [UInt64.toNat_and, u_tn ha, u_tn hb, u_tn (Nat.and_lt_two_pow a hb)])
  have h2 := congrArg UInt64.toInt64 h
  exact h2
theorem g_and1 {a : Nat} (ha : a < 2 ^ 64) : lN a &&& 1 = lN (a % 2) := g_and (b := 1) ha (by decide) (Nat.and_two_pow_sub_one_eq_mod a 1)
theorem g_mask {a s p : Nat} (hp : 2 ^ s = p) (hs : s < 64) (ha : a < 2 ^ 64) : lN a &&& lN (p - 1) = lN (a % p) := by
  subst hp
  have := Nat.pow_lt_pow_right (show 1 < 2 by decide) hs
  exact g_and ha (by omega) (Nat.and_two_pow_sub_one_eq_mod a s)
theorem g_or {k p a b : Nat} (hp : 2 ^ k = p) (ha : a < p) (h : b * p + a < 2 ^ 64) : lN (b * p) ||| lN a = lN (b * p + a) := by
  subst hp
  have h1 : b * 2 ^ k ||| a = b * 2 ^ k + a := by rw [← Nat.shiftLeft_eq, Nat.shiftLeft_add_eq_or_of_lt ha]
  have h3 : UInt64.ofNat (b * 2 ^ k) ||| UInt64.ofNat a = UInt64.ofNat (b * 2 ^ k + a) := UInt64.toNat_inj.mp (by rw [UInt64.toNat_or, u_tn (by omega), u_tn (by omega), u_tn h, h1])
  have h2 := congrArg UInt64.toInt64 h3
  exact h2
theorem g_or' {k p a b : Nat} (hp : 2 ^ k = p) (ha : a < p) (h : a + b * p < 2 ^ 64) : lN a ||| lN (b * p) = lN (a + b * p) := by
  rw [Int64.or_comm, g_or hp ha (by omega), Nat.add_comm]
theorem g_ushr {a k p : Nat} {y : UInt64} (hy : y = UInt64.ofNat k) (hk : k < 64) (hp : 2 ^ k = p) (ha : a < 2 ^ 64) : ((lN a).toUInt64 >>> y).toInt64 = lN (a / p) := by
  subst hy hp
  have h : UInt64.ofNat a >>> UInt64.ofNat k = UInt64.ofNat (a / 2 ^ k) := UInt64.toNat_inj.mp (by rw [UInt64.toNat_shiftRight, u_tn ha, u_tn (by omega), u_tn (Nat.lt_of_le_of_lt (Nat.div_le_self _ _) ha), Nat.mod_eq_of_lt hk, Nat.shiftRight_eq_div_pow])
  have h2 := congrArg UInt64.toInt64 h
  exact h2
theorem g_shl {a k p : Nat} {y : Int64} (hy : y.toBitVec.smod 64 = BitVec.ofNat 64 k) (hk : k < 64) (hp : 2 ^ k = p) (ha : a < 2 ^ 64) : lN a <<< y = lN (a * p) := by
  subst hp
  apply Int64.toBitVec_inj.mp
  rw [Int64.toBitVec_shiftLeft, hy]
  apply BitVec.eq_of_toNat_eq
  have hb : (lN a).toBitVec.toNat = a := Nat.mod_eq_of_lt ha
  have hk' : (BitVec.ofNat 64 k).toNat = k := Nat.mod_eq_of_lt (by omega)
  have h : ((lN a).toBitVec <<< BitVec.ofNat 64 k).toNat = (a * 2 ^ k) % 2 ^ 64 := by simp only [BitVec.shiftLeft_eq', BitVec.toNat_shiftLeft, hb, hk', Nat.shiftLeft_eq]
  exact h
/-! ===== lN to 2^62 under >> and >>> ===== -/
theorem pf_lI {a : Nat} (h : a < 2 ^ 63) : (lN a).toInt = (a : Int) := lg_ofNat_toInt h
theorem pf_shr {a d : Nat} {D : Int64} (hD : (D.toBitVec.smod 64).toNat = d) (h : a < 2 ^ 62) : lN a >>> D = lN (a / 2 ^ d) := by
  have hd : a / 2 ^ d ≤ a := Nat.div_le_self _ _
  apply Int64.toInt_inj.mp
  have e : (lN a >>> D).toInt = (lN a).toInt >>> d := by
    rw [← hD]
    exact BitVec.toInt_sshiftRight ..
  rw [e, Int.shiftRight_eq_div_pow, pf_lI (by omega), pf_lI (by omega)]
  rfl
theorem pf_ushr {a d : Nat} {D : UInt64} (hD : D.toNat % 64 = d) (h : a < 2 ^ 62) : ((lN a).toUInt64 >>> D).toInt64 = lN (a / 2 ^ d) := by
  have hd : a / 2 ^ d ≤ a := Nat.div_le_self _ _
  have e : (lN a).toUInt64 >>> D = UInt64.ofNat (a / 2 ^ d) := UInt64.toNat_inj.mp (by
    rw [UInt64.toNat_shiftRight, hD, Nat.shiftRight_eq_div_pow, UInt64.toNat_ofNat']
    show (UInt64.ofNat a).toNat / 2 ^ d = _
    rw [UInt64.toNat_ofNat', Nat.mod_eq_of_lt (by omega), Nat.mod_eq_of_lt (by omega)])
  rw [e]
  rfl
theorem pf_andw (x : Int64) : ∃ m, m < 2 ^ 32 ∧ x &&& 4294967295 = lN m := ⟨x.toBitVec.toNat % 2 ^ 32, Nat.mod_lt _ (by decide), Int64.toBitVec_inj.mp (BitVec.eq_of_toNat_eq (by
  show (x.toBitVec &&& 4294967295#64).toNat = (BitVec.ofNat 64 (x.toBitVec.toNat % 2 ^ 32)).toNat
  rw [BitVec.toNat_and, show (4294967295#64).toNat = 2 ^ 32 - 1 from by decide, Nat.and_two_pow_sub_one_eq_mod, BitVec.toNat_ofNat]
  omega))⟩
/-! ===== Int64 as an unsigned number: uN x ===== -/
def uN (x : Int64) : Nat := x.toUInt64.toNat
theorem uN_lt (x : Int64) : uN x < 18446744073709551616 := x.toUInt64.toNat_lt
theorem uN_inj {x y : Int64} (h : uN x = uN y) : x = y := congrArg UInt64.toInt64 (UInt64.toNat_inj.mp h)
theorem uN_add (x y : Int64) : uN (x + y) = (uN x + uN y) % 18446744073709551616 := by
  show (x.toUInt64 + y.toUInt64).toNat = _
  exact UInt64.toNat_add _ _
theorem uN_mul (x y : Int64) : uN (x * y) = (uN x * uN y) % 18446744073709551616 := by
  show (x.toUInt64 * y.toUInt64).toNat = _
  exact UInt64.toNat_mul _ _
theorem uN_shl (x : Int64) : uN (x <<< ((1 : Int32).toInt64 &&& 63)) = (2 * uN x) % 18446744073709551616 := by
  have h : (((1 : Int32).toInt64 &&& 63).toBitVec.smod 64).toNat = 1 := by decide
  show (x.toBitVec <<< (((1 : Int32).toInt64 &&& 63).toBitVec.smod 64).toNat).toNat = _
  rw [h, BitVec.toNat_shiftLeft, Nat.shiftLeft_eq, Nat.mul_comm]
  rfl
theorem uN_shr (x : Int64) (s : UInt64) : uN (x.toUInt64 >>> s).toInt64 = uN x / 2 ^ (s.toNat % 64) := by
  show (x.toUInt64 >>> s).toNat = _
  rw [UInt64.toNat_shiftRight, Nat.shiftRight_eq_div_pow]
  rfl
theorem uN_s32 (x : Int64) : uN (x.toUInt64 >>> ((32 : Int32).toInt64.toUInt64 &&& Int64.toUInt64 63)).toInt64 = uN x / 4294967296 := by
  have h : ((32 : Int32).toInt64.toUInt64 &&& Int64.toUInt64 63).toNat % 64 = 32 := by decide
  rw [uN_shr, h]
theorem uN_s63 (x : Int64) : uN (x.toUInt64 >>> ((63 : Int32).toInt64.toUInt64 &&& Int64.toUInt64 63)).toInt64 = uN x / 9223372036854775808 := by
  have h : ((63 : Int32).toInt64.toUInt64 &&& Int64.toUInt64 63).toNat % 64 = 63 := by decide
  rw [uN_shr, h]
theorem uN_lo (x : Int64) : uN (x &&& 4294967295) = uN x % 4294967296 := by
  show (x.toUInt64 &&& Int64.toUInt64 4294967295).toNat = _
  rw [UInt64.toNat_and]
  exact Nat.and_two_pow_sub_one_eq_mod _ 32
theorem uN_bit (x : Int64) : (x &&& 1) = 0 ↔ uN x % 2 = 0 := by
  have h : uN (x &&& 1) = uN x % 2 := by
    show (x.toUInt64 &&& Int64.toUInt64 1).toNat = _
    rw [UInt64.toNat_and]
    exact Nat.and_two_pow_sub_one_eq_mod _ 1
  rw [← h]
  exact ⟨fun z => by rw [z]; rfl, fun z => uN_inj (z.trans rfl)⟩
theorem uN_or {x y : Int64} (hy : uN y < 2) : uN ((x <<< ((1 : Int32).toInt64 &&& 63)) ||| y) = (2 * uN x) % 18446744073709551616 + uN y := by
  have h1 : uN ((x <<< ((1 : Int32).toInt64 &&& 63)) ||| y) = uN (x <<< ((1 : Int32).toInt64 &&& 63)) ||| uN y := UInt64.toNat_or _ _
  have h2 : (2 * uN x) % 18446744073709551616 = 2 ^ 1 * (uN x % 9223372036854775808) := by omega
  rw [h1, uN_shl, h2]
  exact (Nat.two_pow_add_eq_or_of_lt (i := 1) hy _).symm
theorem nat_xor {a : Nat} (h : a < 18446744073709551616) : a ^^^ 2 ^ 63 = (a + 9223372036854775808) % 18446744073709551616 := by
  have h1 : (a ^^^ 2 ^ 63) % 2 ^ 63 = a % 2 ^ 63 := by rw [Nat.xor_mod_two_pow, Nat.mod_self, Nat.xor_zero]
  have h2 : (a ^^^ 2 ^ 63) / 2 ^ 63 = (a / 2 ^ 63) ^^^ 1 := by rw [Nat.xor_div_two_pow, Nat.div_self (Nat.two_pow_pos 63)]
  have h3 : a / 2 ^ 63 = 0 ∨ a / 2 ^ 63 = 1 := by omega
  generalize a ^^^ 2 ^ 63 = t at h1 h2
  rcases h3 with h3 | h3
  · rw [h3] at h2
    have h2 : t / 2 ^ 63 = 1 := h2
    omega
  · rw [h3] at h2
    have h2 : t / 2 ^ 63 = 0 := h2
    omega
theorem uN_xor (x : Int64) : uN (x ^^^ (-9223372036854775808)) = (uN x + 9223372036854775808) % 18446744073709551616 := by
  rw [← nat_xor (uN_lt x)]
  exact UInt64.toNat_xor _ _
theorem uN_int (x : Int64) : x.toInt = if 2 * uN x < 18446744073709551616 then (uN x : Int) else (uN x : Int) - 18446744073709551616 := BitVec.toInt_eq_toNat_cond _
theorem uN_le (x y : Int64) : (x ^^^ (-9223372036854775808)) ≤ (y ^^^ (-9223372036854775808)) ↔ uN x ≤ uN y := by
  have hx := uN_lt x
  have hy := uN_lt y
  rw [Int64.le_iff_toInt_le, uN_int, uN_int, uN_xor, uN_xor]
  omega
theorem uN_sk (x : Int64) {k : Nat} (hk : k < 64) : uN (x.toUInt64 >>> ((nI k).toInt64.toUInt64 &&& Int64.toUInt64 63)).toInt64 = uN x / 2 ^ k := by
  have h : ((nI k).toInt64.toUInt64 &&& Int64.toUInt64 63).toNat % 64 = k := by
    rw [nI_l (by omega), UInt64.toNat_and]
    have e : (lN k).toUInt64.toNat = k % 2 ^ 64 := rfl
    have e2 : (Int64.toUInt64 63).toNat = 2 ^ 6 - 1 := by decide
    rw [e, e2, Nat.and_two_pow_sub_one_eq_mod]
    omega
  rw [uN_shr, h]
/-! ===== unsigned comparison by xor with the least ===== -/
theorem lN_bv (n : Nat) : (lN n).toBitVec = BitVec.ofNat 64 n := rfl
theorem lN_nat {n : Nat} (h : n < 2 ^ 64) : (lN n).toBitVec.toNat = n := by rw [lN_bv, BitVec.toNat_ofNat]; exact Nat.mod_eq_of_lt h
theorem lN_xor (a b : Nat) : lN a ^^^ lN b = lN (a ^^^ b) := by
  apply Int64.toBitVec_inj.mp; rw [Int64.toBitVec_xor, lN_bv, lN_bv, lN_bv]; apply BitVec.eq_of_getLsbD_eq; intro i hi; simp [BitVec.getLsbD_ofNat, Nat.testBit_xor, hi]
theorem lN_ti {m : Nat} (h : m < 2 ^ 64) : (lN m).toInt = if m < 2 ^ 63 then (m : Int) else (m : Int) - 2 ^ 64 := by
  have c := BitVec.toInt_eq_toNat_cond (lN m).toBitVec
  rw [lN_nat h] at c
  show (lN m).toBitVec.toInt = _
  rw [c]
  split <;> split <;> omega
theorem xor63 {x : Nat} (h : x < 2 ^ 63) : x ^^^ 2 ^ 63 = 2 ^ 63 + x := by
  apply Nat.eq_of_testBit_eq
  intro i
  rw [Nat.testBit_xor, Nat.testBit_two_pow]
  rcases Nat.lt_trichotomy i 63 with z | z | z
  · rw [Nat.testBit_two_pow_add_gt z, decide_eq_false (by omega)]; simp
  · subst z; rw [Nat.testBit_two_pow_add_eq]; simp
  · have hp : 2 ^ 64 ≤ 2 ^ i := Nat.pow_le_pow_right (by decide) z
    rw [Nat.testBit_lt_two_pow (show x < 2 ^ i by omega), Nat.testBit_lt_two_pow (show 2 ^ 63 + x < 2 ^ i by omega), decide_eq_false (by omega)]; rfl
theorem xorS {a : Nat} (h : a < 2 ^ 64) : (lN a ^^^ (-9223372036854775808)).toInt = (a : Int) - 2 ^ 63 := by
  rw [show (-9223372036854775808 : Int64) = lN (2 ^ 63) from by decide +kernel, lN_xor]
  rcases Nat.lt_or_ge a (2 ^ 63) with z | z
  · rw [xor63 z, lN_ti (by omega), if_neg (by omega)]; omega
  · obtain ⟨x, rfl⟩ : ∃ x, a = 2 ^ 63 + x := ⟨a - 2 ^ 63, by omega⟩
    rw [← xor63 (by omega), Nat.xor_assoc, Nat.xor_self, Nat.xor_zero, lN_ti (by omega), if_pos (by omega), xor63 (by omega)]; omega
theorem ultL {a b : Nat} (ha : a < 2 ^ 64) (hb : b < 2 ^ 64) : ((lN b ^^^ (-9223372036854775808)) ≤ (lN a ^^^ (-9223372036854775808))) ↔ b ≤ a := by
  rw [Int64.le_iff_toInt_le, xorS ha, xorS hb]; omega
/-! ===== Int64 masks of n low bits ===== -/
theorem cr_bits (W U M : BitVec 64) : ((W &&& U) &&& (U &&& (M ^^^ BitVec.allOnes 64))) = 0#64 ↔ (W &&& U) &&& M = W &&& U := by
  constructor
  · intro h
    apply BitVec.eq_of_getLsbD_eq
    intro i hi
    have e := congrArg (fun x => BitVec.getLsbD x i) h
    simp only [BitVec.getLsbD_and, BitVec.getLsbD_xor, BitVec.getLsbD_allOnes, BitVec.getLsbD_zero, hi, decide_true] at e ⊢
    revert e
    cases W.getLsbD i <;> cases U.getLsbD i <;> cases M.getLsbD i <;> decide
  · intro h
    apply BitVec.eq_of_getLsbD_eq
    intro i hi
    have e := congrArg (fun x => BitVec.getLsbD x i) h
    simp only [BitVec.getLsbD_and, BitVec.getLsbD_xor, BitVec.getLsbD_allOnes, BitVec.getLsbD_zero, hi, decide_true] at e ⊢
    revert e
    cases W.getLsbD i <;> cases U.getLsbD i <;> cases M.getLsbD i <;> decide
theorem cr_mask (w U m : Int64) (n : Nat) (hm : m.toBitVec.toNat = 2 ^ n - 1) : ((w &&& U) &&& (U &&& (m ^^^ (-1)))) = 0 ↔ (w &&& U).toBitVec.toNat < 2 ^ n := by
  have e0 : (-1 : Int64).toBitVec = BitVec.allOnes 64 := by decide
  have z0 : (0 : Int64).toBitVec = 0#64 := by decide
  rw [← Int64.toBitVec_inj, z0, Int64.toBitVec_and, Int64.toBitVec_and, Int64.toBitVec_and, Int64.toBitVec_xor, e0, cr_bits]
  generalize w.toBitVec &&& U.toBitVec = T
  rw [← BitVec.toNat_inj, BitVec.toNat_and, hm, Nat.and_two_pow_sub_one_eq_mod]
  constructor
  · intro h
    have t := Nat.mod_lt T.toNat (Nat.two_pow_pos n)
    rw [h] at t
    exact t
  · exact Nat.mod_eq_of_lt
theorem cr_shr (t : Int64) (x : UInt64) (n : Nat) (hx : x.toNat % 64 = n) : (t.toUInt64 >>> x).toInt64 = 0 ↔ t.toBitVec.toNat < 2 ^ n := by
  rw [← Int64.toBitVec_inj, ← BitVec.toNat_inj]
  show (t.toUInt64 >>> x).toNat = 0 ↔ t.toUInt64.toNat < 2 ^ n
  rw [UInt64.toNat_shiftRight, hx, Nat.shiftRight_eq_div_pow]
  constructor
  · intro h
    have d : t.toUInt64.toNat / 2 ^ n < 1 := by
      rw [h]
      decide
    have e := (Nat.div_lt_iff_lt_mul (Nat.two_pow_pos n)).mp d
    rw [Nat.one_mul] at e
    exact e
  · exact Nat.div_eq_of_lt
theorem cr_amt (s : Int64) : ∃ n, n < 64 ∧ s &&& 63 = lN n ∧ (s.toUInt64 &&& Int64.toUInt64 63).toNat % 64 = n := by
  have e : (s.toUInt64 &&& Int64.toUInt64 63).toNat = s.toUInt64.toNat % 2 ^ 6 := by
    rw [UInt64.toNat_and, show (Int64.toUInt64 63).toNat = 2 ^ 6 - 1 from by decide, Nat.and_two_pow_sub_one_eq_mod]
  refine ⟨s.toUInt64.toNat % 2 ^ 6, by omega, ?_, by omega⟩
  rw [← Int64.toBitVec_inj, ← BitVec.toNat_inj]
  show (s.toUInt64 &&& Int64.toUInt64 63).toNat = (BitVec.ofNat 64 (s.toUInt64.toNat % 2 ^ 6)).toNat
  rw [e, BitVec.toNat_ofNat]
  omega
end
section
/-! items, semirings by mode, Option sums -/
abbrev qa_T := Int32 × Int64 × Int64
abbrev qa_K := Int32 × Int64
def qa_key (x : qa_T) : qa_K := (x.1, x.2.1)
theorem qa_k1 {x : qa_T} {k : qa_K} (h : qa_key x = k) : x.1 = k.1 := by rw [← h]; rfl
theorem qa_k2 {x : qa_T} {k : qa_K} (h : qa_key x = k) : x.2.1 = k.2 := by rw [← h]; rfl
def qs_mn (a b : Int64) : Int64 := if a ≤ b then a else b
def qs_mx (a b : Int64) : Int64 := if a ≤ b then b else a
def qs_p (s : Nat) (a b : Int64) : Int64 := if s = 0 then a + b else if s = 4 then a + b else if s = 3 then qs_mx a b else qs_mn a b
def qs_t (s : Nat) (a b : Int64) : Int64 := if s = 1 then (if a = 9999 then 9999 else if b = 9999 then 9999 else a + b) else if s = 0 then a * b else if s = 4 then a * b else if s = 2 then qs_mx a b else qs_mn a b
def qs_1 (s : Nat) : Int64 := if s = 0 then 1 else if s = 4 then 1 else if s = 3 then 1 else 0
def qs_0 (s : Nat) : Int64 := if s = 1 then 9999 else if s = 2 then 5 else 0
theorem qs_mn_i (a b : Int64) : (qs_mn a b).toInt = min a.toInt b.toInt := by
  unfold qs_mn
  split
  · rename_i h; rw [Int64.le_iff_toInt_le] at h; omega
  · rename_i h; rw [Int64.le_iff_toInt_le] at h; omega
theorem qs_mx_i (a b : Int64) : (qs_mx a b).toInt = max a.toInt b.toInt := by
  unfold qs_mx
  split
  · rename_i h; rw [Int64.le_iff_toInt_le] at h; omega
  · rename_i h; rw [Int64.le_iff_toInt_le] at h; omega
theorem qs_mn_c (a b : Int64) : qs_mn a b = qs_mn b a := by
  apply Int64.toInt_inj.mp; rw [qs_mn_i, qs_mn_i]; omega
theorem qs_mx_c (a b : Int64) : qs_mx a b = qs_mx b a := by
  apply Int64.toInt_inj.mp; rw [qs_mx_i, qs_mx_i]; omega
theorem qs_mn_a (a b c : Int64) : qs_mn (qs_mn a b) c = qs_mn a (qs_mn b c) := by
  apply Int64.toInt_inj.mp; rw [qs_mn_i, qs_mn_i, qs_mn_i, qs_mn_i]; omega
theorem qs_mx_a (a b c : Int64) : qs_mx (qs_mx a b) c = qs_mx a (qs_mx b c) := by
  apply Int64.toInt_inj.mp; rw [qs_mx_i, qs_mx_i, qs_mx_i, qs_mx_i]; omega
theorem qs_mn_s (a : Int64) : qs_mn a a = a := by
  apply Int64.toInt_inj.mp; rw [qs_mn_i]; omega
theorem qs_mx_s (a : Int64) : qs_mx a a = a := by
  apply Int64.toInt_inj.mp; rw [qs_mx_i]; omega
theorem qs_mnx (a b c : Int64) : qs_mx (qs_mn a b) c = qs_mn (qs_mx a c) (qs_mx b c) := by
  apply Int64.toInt_inj.mp; rw [qs_mn_i, qs_mx_i, qs_mn_i, qs_mx_i, qs_mx_i]; omega
theorem qs_mxn (a b c : Int64) : qs_mn (qs_mx a b) c = qs_mx (qs_mn a c) (qs_mn b c) := by
  apply Int64.toInt_inj.mp; rw [qs_mx_i, qs_mn_i, qs_mx_i, qs_mn_i, qs_mn_i]; omega
theorem qs_p_c (s : Nat) (a b : Int64) : qs_p s a b = qs_p s b a := by
  unfold qs_p; rw [Int64.add_comm a b, qs_mx_c a b, qs_mn_c a b]
theorem qs_p_a (s : Nat) (a b c : Int64) : qs_p s (qs_p s a b) c = qs_p s a (qs_p s b c) := by
  unfold qs_p
  by_cases h0 : s = 0
  · simp only [if_pos h0]; exact Int64.add_assoc a b c
  by_cases h4 : s = 4
  · simp only [if_neg h0, if_pos h4]; exact Int64.add_assoc a b c
  by_cases h3 : s = 3
  · simp only [if_neg h0, if_neg h4, if_pos h3]; exact qs_mx_a a b c
  · simp only [if_neg h0, if_neg h4, if_neg h3]; exact qs_mn_a a b c
theorem qs_t_c (s : Nat) (a b : Int64) : qs_t s a b = qs_t s b a := by
  unfold qs_t
  rw [Int64.mul_comm a b, qs_mx_c a b, qs_mn_c a b, Int64.add_comm a b]
  by_cases ha : a = 9999 <;> by_cases hb : b = 9999 <;> simp only [ha, hb, if_true, if_false]
def qa_o (s : Nat) : Option Int64 → Option Int64 → Option Int64
  | none, y => y
  | some a, none => some a
  | some a, some b => some (qs_p s a b)
theorem qa_o_n (s : Nat) (x : Option Int64) : qa_o s x none = x := by cases x <;> rfl
theorem qa_o_l (s : Nat) (x : Option Int64) : qa_o s none x = x := rfl
theorem qa_o_c (s : Nat) (x y : Option Int64) : qa_o s x y = qa_o s y x := by
  cases x <;> cases y <;> try rfl
  exact congrArg some (qs_p_c _ _ _)
theorem qa_o_a (s : Nat) (x y z : Option Int64) : qa_o s (qa_o s x y) z = qa_o s x (qa_o s y z) := by
  cases x <;> cases y <;> cases z <;> try rfl
  exact congrArg some (qs_p_a _ _ _ _)
theorem qa_o_lc (s : Nat) (x y z : Option Int64) : qa_o s x (qa_o s y z) = qa_o s y (qa_o s x z) := by
  rw [← qa_o_a, qa_o_c s x y, qa_o_a]
theorem qa_o_4 (s : Nat) (x y z w : Option Int64) : qa_o s (qa_o s x y) (qa_o s z w) = qa_o s (qa_o s x z) (qa_o s y w) := by
  rw [qa_o_a, qa_o_lc s y z w, ← qa_o_a]
theorem qa_o_none {s : Nat} {x y : Option Int64} : qa_o s x y = none ↔ x = none ∧ y = none := by
  cases x <;> cases y <;> simp [qa_o]
def qa_S {α : Type} (s : Nat) (f : α → Option Int64) : List α → Option Int64
  | [] => none
  | x :: L => qa_o s (f x) (qa_S s f L)
theorem qa_S_app {α : Type} (s : Nat) (f : α → Option Int64) : ∀ A B : List α, qa_S s f (A ++ B) = qa_o s (qa_S s f A) (qa_S s f B)
  | [], B => rfl
  | x :: A, B => by
    show qa_o s (f x) (qa_S s f (A ++ B)) = qa_o s (qa_o s (f x) (qa_S s f A)) (qa_S s f B)
    rw [qa_S_app s f A B, qa_o_a]
theorem qa_S_perm {α : Type} (s : Nat) (f : α → Option Int64) {A B : List α} (h : List.Perm A B) : qa_S s f A = qa_S s f B := by
  induction h with
  | nil => rfl
  | cons x _ ih => show qa_o s (f x) _ = qa_o s (f x) _; rw [ih]
  | swap x y l => exact qa_o_lc s _ _ _
  | trans _ _ i1 i2 => exact i1.trans i2
theorem qa_S_congr {α : Type} (s : Nat) {f g : α → Option Int64} : ∀ {L : List α}, (∀ x, x ∈ L → f x = g x) → qa_S s f L = qa_S s g L
  | [], _ => rfl
  | x :: L, h => by
    show qa_o s (f x) _ = qa_o s (g x) _
    rw [h x (List.mem_cons_self), qa_S_congr s (L := L) (fun y hy => h y (List.mem_cons_of_mem _ hy))]
theorem qa_S_map {α β : Type} (s : Nat) (f : β → Option Int64) (h : α → β) : ∀ L : List α, qa_S s f (L.map h) = qa_S s (fun x => f (h x)) L
  | [] => rfl
  | x :: L => by
    show qa_o s (f (h x)) _ = qa_o s (f (h x)) _
    rw [qa_S_map s f h L]
theorem qa_S_flat {α β : Type} (s : Nat) (f : β → Option Int64) (h : α → List β) : ∀ L : List α, qa_S s f (L.flatMap h) = qa_S s (fun x => qa_S s f (h x)) L
  | [] => rfl
  | x :: L => by
    rw [List.flatMap_cons, qa_S_app, qa_S_flat s f h L]; rfl
theorem qa_S_add {α : Type} (s : Nat) (f g : α → Option Int64) : ∀ L : List α, qa_S s (fun x => qa_o s (f x) (g x)) L = qa_o s (qa_S s f L) (qa_S s g L)
  | [] => rfl
  | x :: L => by
    show qa_o s (qa_o s (f x) (g x)) _ = qa_o s (qa_o s (f x) _) (qa_o s (g x) _)
    rw [qa_S_add s f g L, qa_o_4]
theorem qa_S_none {α : Type} {s : Nat} {f : α → Option Int64} : ∀ {L : List α}, qa_S s f L = none ↔ ∀ x, x ∈ L → f x = none
  | [] => ⟨fun _ x hx => (nomatch hx), fun _ => rfl⟩
  | x :: L => by
    show qa_o s (f x) (qa_S s f L) = none ↔ _
    rw [qa_o_none, qa_S_none (L := L)]
    exact ⟨fun h y hy => (List.mem_cons.mp hy).elim (fun e => e ▸ h.1) (h.2 y), fun h => ⟨h x (List.mem_cons_self), fun y hy => h y (List.mem_cons_of_mem _ hy)⟩⟩
theorem qa_S_nf {α : Type} (s : Nat) : ∀ L : List α, qa_S s (fun _ => none) L = none := fun L => qa_S_none.mpr (fun _ _ => rfl)
theorem qa_S_swap {α β : Type} (s : Nat) (f : α → β → Option Int64) (B : List β) : ∀ A : List α, qa_S s (fun a => qa_S s (fun b => f a b) B) A = qa_S s (fun b => qa_S s (fun a => f a b) A) B
  | [] => (qa_S_nf s B).symm
  | a :: A => by
    show qa_o s (qa_S s (fun b => f a b) B) _ = qa_S s (fun b => qa_o s (f a b) (qa_S s (fun a => f a b) A)) B
    rw [qa_S_swap s f B A, qa_S_add]
/-- the contribution of an item to a key -/
def qa_v (k : qa_K) (x : qa_T) : Option Int64 := if qa_key x = k then some x.2.2 else none
def qa_os (s : Nat) (L : List qa_T) (k : qa_K) : Option Int64 := qa_S s (qa_v k) L
def qa_E (s : Nat) (A B : List qa_T) : Prop := ∀ k, qa_os s A k = qa_os s B k
def qa_ND (L : List qa_T) : Prop := (L.map qa_key).Nodup
theorem qa_v_eq (x : qa_T) : qa_v (qa_key x) x = some x.2.2 := if_pos rfl
theorem qa_v_ne {x : qa_T} {k : qa_K} (h : qa_key x ≠ k) : qa_v k x = none := if_neg h
theorem qa_v_none {x : qa_T} {k : qa_K} : qa_v k x = none ↔ qa_key x ≠ k := by
  unfold qa_v; split <;> simp [*]
theorem qa_os_none {s : Nat} {L : List qa_T} {k : qa_K} : qa_os s L k = none ↔ ∀ x, x ∈ L → qa_key x ≠ k := by
  unfold qa_os; rw [qa_S_none]
  exact ⟨fun h x hx => qa_v_none.mp (h x hx), fun h x hx => qa_v_none.mpr (h x hx)⟩
theorem qa_ND_cons {x : qa_T} {L : List qa_T} : qa_ND (x :: L) ↔ (∀ y, y ∈ L → qa_key y ≠ qa_key x) ∧ qa_ND L := by
  unfold qa_ND; rw [List.map_cons, List.nodup_cons]
  refine and_congr_left' ?_
  rw [List.mem_map]
  exact ⟨fun h y hy e => h ⟨y, hy, e⟩, fun h ⟨y, hy, e⟩ => h y hy e⟩
theorem qa_os_mem {s : Nat} : ∀ {L : List qa_T}, qa_ND L → ∀ {x : qa_T}, x ∈ L → qa_os s L (qa_key x) = some x.2.2
  | [], _, x, hx => (nomatch hx)
  | y :: L, hn, x, hx => by
    obtain ⟨h1, h2⟩ := qa_ND_cons.mp hn
    show qa_o s (qa_v (qa_key x) y) (qa_os s L (qa_key x)) = _
    rcases List.mem_cons.mp hx with e | e
    · subst e
      rw [qa_v_eq, qa_os_none.mpr h1, qa_o_n]
    · rw [qa_v_ne (fun z => h1 x e z.symm), qa_os_mem h2 e]; rfl
theorem qa_mem_os {s : Nat} {L : List qa_T} (hn : qa_ND L) {k : qa_K} {v : Int64} (h : qa_os s L k = some v) : (k.1, k.2, v) ∈ L := by
  rcases Classical.em (∀ x, x ∈ L → qa_key x ≠ k) with z | z
  · rw [qa_os_none.mpr z] at h; cases h
  · have ⟨x, hx⟩ := Classical.not_forall.mp z
    have ⟨hm, hk⟩ := Classical.not_imp.mp hx
    have hk : qa_key x = k := Classical.not_not.mp hk
    have e := qa_os_mem (s := s) hn hm
    rw [hk, h] at e
    have e := Option.some.inj e
    have : (k.1, k.2, v) = x := by rw [e, ← hk]; rfl
    rw [this]; exact hm
theorem qa_ND_nodup {L : List qa_T} (h : qa_ND L) : L.Nodup := by
  unfold qa_ND at h
  unfold List.Nodup at *
  rw [List.pairwise_map] at h
  exact h.imp (fun hab e => hab (congrArg qa_key e))
theorem qa_E_perm {s : Nat} {A B : List qa_T} (ha : qa_ND A) (hb : qa_ND B) (h : qa_E s A B) : List.Perm A B := by
  rw [List.perm_ext_iff_of_nodup (qa_ND_nodup ha) (qa_ND_nodup hb)]
  intro x
  constructor
  · intro hx
    have e := qa_os_mem (s := s) ha hx
    rw [h] at e
    exact qa_mem_os hb e
  · intro hx
    have e := qa_os_mem (s := s) hb hx
    rw [← h] at e
    exact qa_mem_os ha e
theorem qa_E_refl (s : Nat) (A : List qa_T) : qa_E s A A := fun _ => rfl
theorem qa_E_symm {s : Nat} {A B : List qa_T} (h : qa_E s A B) : qa_E s B A := fun k => (h k).symm
theorem qa_E_trans {s : Nat} {A B C : List qa_T} (h : qa_E s A B) (h' : qa_E s B C) : qa_E s A C := fun k => (h k).trans (h' k)
theorem qa_E_key {s : Nat} {A B : List qa_T} (h : qa_E s A B) {x : qa_T} (hx : x ∈ A) : ∃ y, y ∈ B ∧ qa_key y = qa_key x := by
  refine Classical.byContradiction fun z => ?_
  have : qa_os s B (qa_key x) = none := qa_os_none.mpr (fun y hy e => z ⟨y, hy, e⟩)
  rw [← h] at this
  exact qa_os_none.mp this x hx rfl
theorem qa_os_app (s : Nat) (A B : List qa_T) (k : qa_K) : qa_os s (A ++ B) k = qa_o s (qa_os s A k) (qa_os s B k) := qa_S_app s _ A B
theorem qa_os_1 (s : Nat) (x : qa_T) (k : qa_K) : qa_os s [x] k = qa_v k x := qa_o_n s _
/-- adding an item: plus at its key, or behind -/
def qa_add (s : Nat) (x : qa_T) : List qa_T → List qa_T
  | [] => [x]
  | y :: L => if qa_key y = qa_key x then (y.1, y.2.1, qs_p s y.2.2 x.2.2) :: L else y :: qa_add s x L
def qa_N (s : Nat) (C : List qa_T) : List qa_T := C.foldl (fun L x => qa_add s x L) []
def qa_ad (s : Nat) (x : qa_T) (L : List qa_T) : List qa_T := if x.1 < 0 then L else qa_add s x L
def qa_F (s : Nat) (C : List qa_T) : List qa_T := C.foldl (fun L x => qa_ad s x L) []
def qa_nn (C : List qa_T) : List qa_T := C.filter (fun x => !decide (x.1 < 0))
theorem qa_nn_app (A B : List qa_T) : qa_nn (A ++ B) = qa_nn A ++ qa_nn B := List.filter_append ..
theorem qa_nn_neg {x : qa_T} (h : x.1 < 0) : qa_nn [x] = [] := by
  unfold qa_nn; simp [List.filter_cons, h]
theorem qa_nn_pos {x : qa_T} (h : ¬ x.1 < 0) : qa_nn [x] = [x] := by
  unfold qa_nn; rw [List.filter_cons, if_pos (by simp [h]), List.filter_nil]
theorem qa_N_snoc (s : Nat) (C : List qa_T) (x : qa_T) : qa_N s (C ++ [x]) = qa_add s x (qa_N s C) := by
  unfold qa_N; rw [List.foldl_append]; rfl
theorem qa_F_snoc (s : Nat) (C : List qa_T) (x : qa_T) : qa_F s (C ++ [x]) = qa_ad s x (qa_F s C) := by
  unfold qa_F; rw [List.foldl_append]; rfl
/-- induction from behind -/
theorem qa_rev {α : Type} {P : List α → Prop} (h0 : P []) (h1 : ∀ L x, P L → P (L ++ [x])) (L : List α) : P L := by
  have key : ∀ M : List α, P M.reverse := by
    intro M
    induction M with
    | nil => exact h0
    | cons x M ih => rw [List.reverse_cons]; exact h1 _ _ ih
  have := key L.reverse
  rwa [List.reverse_reverse] at this
theorem qa_F_N (s : Nat) (C : List qa_T) : qa_F s C = qa_N s (qa_nn C) := by
  refine qa_rev (P := fun C => qa_F s C = qa_N s (qa_nn C)) rfl ?_ C
  intro L x ih
  rw [qa_F_snoc, qa_nn_app, ih]
  by_cases h : x.1 < 0
  · rw [qa_nn_neg h, List.append_nil]; exact if_pos h
  · rw [qa_nn_pos h, qa_N_snoc]; exact if_neg h
theorem qa_add_key {s : Nat} {x : qa_T} {k : qa_K} : ∀ {L : List qa_T}, (∃ y, y ∈ qa_add s x L ∧ qa_key y = k) ↔ (∃ y, y ∈ L ∧ qa_key y = k) ∨ qa_key x = k
  | [] => ⟨fun ⟨y, hy, e⟩ => Or.inr (by rw [← List.mem_singleton.mp hy]; exact e), fun h => h.elim (fun ⟨y, hy, _⟩ => (nomatch hy)) (fun e => ⟨x, List.mem_singleton.mpr rfl, e⟩)⟩
  | y :: L => by
    unfold qa_add
    by_cases h : qa_key y = qa_key x
    · rw [if_pos h]
      constructor
      · rintro ⟨z, hz, e⟩
        rcases List.mem_cons.mp hz with q | q
        · exact Or.inl ⟨y, List.mem_cons_self, by rw [← e, q]; rfl⟩
        · exact Or.inl ⟨z, List.mem_cons_of_mem _ q, e⟩
      · rintro (⟨z, hz, e⟩ | e)
        · rcases List.mem_cons.mp hz with q | q
          · exact ⟨_, List.mem_cons_self, by rw [← e, q]; rfl⟩
          · exact ⟨z, List.mem_cons_of_mem _ q, e⟩
        · exact ⟨_, List.mem_cons_self, by rw [← e, ← h]; rfl⟩
    · rw [if_neg h]
      have ih := qa_add_key (s := s) (x := x) (k := k) (L := L)
      constructor
      · rintro ⟨z, hz, e⟩
        rcases List.mem_cons.mp hz with q | q
        · exact Or.inl ⟨y, List.mem_cons_self, by rw [← e, q]⟩
        · rcases ih.mp ⟨z, q, e⟩ with ⟨w, hw, e'⟩ | e'
          · exact Or.inl ⟨w, List.mem_cons_of_mem _ hw, e'⟩
          · exact Or.inr e'
      · rintro (⟨z, hz, e⟩ | e)
        · rcases List.mem_cons.mp hz with q | q
          · exact ⟨y, List.mem_cons_self, by rw [← e, q]⟩
          · have ⟨w, hw, e'⟩ := ih.mpr (Or.inl ⟨z, q, e⟩)
            exact ⟨w, List.mem_cons_of_mem _ hw, e'⟩
        · have ⟨w, hw, e'⟩ := ih.mpr (Or.inr e)
          exact ⟨w, List.mem_cons_of_mem _ hw, e'⟩
theorem qa_add_ND {s : Nat} {x : qa_T} : ∀ {L : List qa_T}, qa_ND L → qa_ND (qa_add s x L)
  | [], _ => by unfold qa_add qa_ND; simp
  | y :: L, hn => by
    obtain ⟨h1, h2⟩ := qa_ND_cons.mp hn
    unfold qa_add
    by_cases h : qa_key y = qa_key x
    · rw [if_pos h]; exact qa_ND_cons.mpr ⟨h1, h2⟩
    · rw [if_neg h]
      refine qa_ND_cons.mpr ⟨?_, qa_add_ND h2⟩
      intro z hz e
      rcases (qa_add_key (s := s) (k := qa_key y)).mp ⟨z, hz, e⟩ with ⟨w, hw, e'⟩ | e'
      · exact h1 w hw e'
      · exact h e'.symm
theorem qa_add_len {s : Nat} {x : qa_T} : ∀ {L : List qa_T}, (qa_add s x L).length ≤ L.length + 1
  | [] => Nat.le_refl _
  | y :: L => by
    unfold qa_add
    by_cases h : qa_key y = qa_key x
    · rw [if_pos h]; simp
    · rw [if_neg h]; have := qa_add_len (s := s) (x := x) (L := L); simp only [List.length_cons]; omega
theorem qa_add_G {s s' : Nat} {g : qa_T → Option Int64} {Dm : Int64 → Prop} (hg : ∀ t c a b, Dm a → Dm b → g (t, c, qs_p s a b) = qa_o s' (g (t, c, a)) (g (t, c, b))) {x : qa_T} (hx : Dm x.2.2) : ∀ {L : List qa_T}, (∀ y, y ∈ L → Dm y.2.2) → qa_S s' g (qa_add s x L) = qa_o s' (qa_S s' g L) (g x)
  | [], _ => by show qa_o s' (g x) none = g x; rw [qa_o_n]
  | y :: L, hL => by
    have hy := hL y List.mem_cons_self
    unfold qa_add
    by_cases h : qa_key y = qa_key x
    · rw [if_pos h]
      show qa_o s' (g (y.1, y.2.1, qs_p s y.2.2 x.2.2)) (qa_S s' g L) = qa_o s' (qa_o s' (g y) (qa_S s' g L)) (g x)
      have e : (y.1, y.2.1, x.2.2) = x := by
        have h1 : y.1 = x.1 := qa_k1 h
        have h2 : y.2.1 = x.2.1 := qa_k2 h
        rw [h1, h2]
      rw [hg _ _ _ _ hy hx, e, qa_o_a, qa_o_a, qa_o_c s' (g x)]
    · rw [if_neg h]
      show qa_o s' (g y) (qa_S s' g (qa_add s x L)) = _
      rw [qa_add_G hg hx (fun z hz => hL z (List.mem_cons_of_mem _ hz)), ← qa_o_a]; rfl
theorem qa_add_D {s : Nat} {Dm : Int64 → Prop} (hp : ∀ a b, Dm a → Dm b → Dm (qs_p s a b)) {x : qa_T} (hx : Dm x.2.2) : ∀ {L : List qa_T}, (∀ y, y ∈ L → Dm y.2.2) → ∀ y, y ∈ qa_add s x L → Dm y.2.2
  | [], _, y, hy => by rw [List.mem_singleton.mp hy]; exact hx
  | z :: L, hL, y, hy => by
    unfold qa_add at hy
    by_cases h : qa_key z = qa_key x
    · rw [if_pos h] at hy
      rcases List.mem_cons.mp hy with q | q
      · rw [q]; exact hp _ _ (hL z List.mem_cons_self) hx
      · exact hL y (List.mem_cons_of_mem _ q)
    · rw [if_neg h] at hy
      rcases List.mem_cons.mp hy with q | q
      · rw [q]; exact hL z List.mem_cons_self
      · exact qa_add_D hp hx (fun w hw => hL w (List.mem_cons_of_mem _ hw)) y q
theorem qa_N_ND (s : Nat) (C : List qa_T) : qa_ND (qa_N s C) :=
  qa_rev (P := fun C => qa_ND (qa_N s C)) List.nodup_nil (fun L x ih => by rw [qa_N_snoc]; exact qa_add_ND ih) C
theorem qa_N_len (s : Nat) (C : List qa_T) : (qa_N s C).length ≤ C.length :=
  qa_rev (P := fun C => (qa_N s C).length ≤ C.length) (Nat.le_refl _) (fun L x ih => by
    rw [qa_N_snoc, List.length_append]; have := qa_add_len (s := s) (x := x) (L := qa_N s L); simp only [List.length_singleton]; omega) C
theorem qa_F_ND (s : Nat) (C : List qa_T) : qa_ND (qa_F s C) := by rw [qa_F_N]; exact qa_N_ND _ _
theorem qa_F_len (s : Nat) (C : List qa_T) : (qa_F s C).length ≤ (qa_nn C).length := by rw [qa_F_N]; exact qa_N_len _ _
theorem qa_N_D {s : Nat} {Dm : Int64 → Prop} (hp : ∀ a b, Dm a → Dm b → Dm (qs_p s a b)) (C : List qa_T) : (∀ x, x ∈ C → Dm x.2.2) → ∀ x, x ∈ qa_N s C → Dm x.2.2 := by
  refine qa_rev (P := fun C => (∀ x, x ∈ C → Dm x.2.2) → ∀ x, x ∈ qa_N s C → Dm x.2.2) (fun _ x hx => (nomatch hx)) ?_ C
  intro L x ih h y hy
  rw [qa_N_snoc] at hy
  exact qa_add_D hp (h x (List.mem_append_right _ (List.mem_singleton.mpr rfl))) (ih (fun z hz => h z (List.mem_append_left _ hz))) y hy
theorem qa_N_G {s s' : Nat} {g : qa_T → Option Int64} {Dm : Int64 → Prop} (hp : ∀ a b, Dm a → Dm b → Dm (qs_p s a b)) (hg : ∀ t c a b, Dm a → Dm b → g (t, c, qs_p s a b) = qa_o s' (g (t, c, a)) (g (t, c, b))) (C : List qa_T) : (∀ x, x ∈ C → Dm x.2.2) → qa_S s' g (qa_N s C) = qa_S s' g C := by
  refine qa_rev (P := fun C => (∀ x, x ∈ C → Dm x.2.2) → qa_S s' g (qa_N s C) = qa_S s' g C) (fun _ => rfl) ?_ C
  intro L x ih h
  have hL : ∀ z, z ∈ L → Dm z.2.2 := fun z hz => h z (List.mem_append_left _ hz)
  rw [qa_N_snoc, qa_add_G hg (h x (List.mem_append_right _ (List.mem_singleton.mpr rfl))) (qa_N_D hp L hL), ih hL, qa_S_app]
  show _ = qa_o s' _ (qa_o s' (g x) none)
  rw [qa_o_n]
theorem qa_v_G {s : Nat} (k : qa_K) : ∀ t c a b, qa_v k (t, c, qs_p s a b) = qa_o s (qa_v k (t, c, a)) (qa_v k (t, c, b)) := by
  intro t c a b
  unfold qa_v
  show (if (t, c) = k then some (qs_p s a b) else none) = qa_o s (if (t, c) = k then some a else none) (if (t, c) = k then some b else none)
  by_cases h : (t, c) = k
  · rw [if_pos h, if_pos h, if_pos h]; rfl
  · rw [if_neg h, if_neg h, if_neg h]; rfl
theorem qa_N_E (s : Nat) (C : List qa_T) : qa_E s (qa_N s C) C := fun k =>
  qa_N_G (Dm := fun _ => True) (fun _ _ _ _ => trivial) (fun t c a b _ _ => qa_v_G k t c a b) C (fun _ _ => trivial)
theorem qa_F_E (s : Nat) (C : List qa_T) : qa_E s (qa_F s C) (qa_nn C) := by rw [qa_F_N]; exact qa_N_E s _
/-- a sum of an additive weight is the same over E-equal lists -/
theorem qa_G_congr {s s' : Nat} {g : qa_T → Option Int64} {Dm : Int64 → Prop} (hp : ∀ a b, Dm a → Dm b → Dm (qs_p s a b)) (hg : ∀ t c a b, Dm a → Dm b → g (t, c, qs_p s a b) = qa_o s' (g (t, c, a)) (g (t, c, b))) {A B : List qa_T} (hA : ∀ x, x ∈ A → Dm x.2.2) (hB : ∀ x, x ∈ B → Dm x.2.2) (h : qa_E s A B) : qa_S s' g A = qa_S s' g B := by
  rw [← qa_N_G hp hg A hA, ← qa_N_G hp hg B hB]
  exact qa_S_perm s' g (qa_E_perm (s := s) (qa_N_ND s A) (qa_N_ND s B) (qa_E_trans (qa_N_E s A) (qa_E_trans h (qa_E_symm (qa_N_E s B)))))
theorem qa_os_D {s : Nat} {Dm : Int64 → Prop} (hp : ∀ a b, Dm a → Dm b → Dm (qs_p s a b)) {k : qa_K} : ∀ {L : List qa_T} {v : Int64}, (∀ x, x ∈ L → Dm x.2.2) → qa_os s L k = some v → Dm v
  | [], v, _, e => (nomatch e)
  | x :: L, v, h, e => by
    have e : qa_o s (qa_v k x) (qa_os s L k) = some v := e
    have hL : ∀ z, z ∈ L → Dm z.2.2 := fun z hz => h z (List.mem_cons_of_mem _ hz)
    have hx := h x List.mem_cons_self
    by_cases hk : qa_key x = k
    · rw [← hk, qa_v_eq, hk] at e
      cases hq : qa_os s L k with
      | none => rw [hq] at e; cases e; exact hx
      | some w => rw [hq] at e; cases e; exact hp _ _ hx (qa_os_D hp hL hq)
    · rw [qa_v_ne hk] at e; exact qa_os_D hp hL e
theorem qa_E_D {s : Nat} {Dm : Int64 → Prop} (hp : ∀ a b, Dm a → Dm b → Dm (qs_p s a b)) {A B : List qa_T} (hn : qa_ND A) (h : qa_E s A B) (hB : ∀ x, x ∈ B → Dm x.2.2) : ∀ x, x ∈ A → Dm x.2.2 := by
  intro x hx
  have e := qa_os_mem (s := s) hn hx
  rw [h] at e
  exact qa_os_D hp hB e
theorem qa_nn_os (s : Nat) (C : List qa_T) (k : qa_K) : qa_os s (qa_nn C) k = if k.1 < 0 then none else qa_os s C k := by
  induction C with
  | nil => show none = _; split <;> rfl
  | cons x C ih =>
    have e : qa_nn (x :: C) = qa_nn [x] ++ qa_nn C := qa_nn_app [x] C
    rw [e, qa_os_app, ih]
    show _ = if k.1 < 0 then none else qa_o s (qa_v k x) (qa_os s C k)
    by_cases h : x.1 < 0
    · rw [qa_nn_neg h]
      show (if k.1 < 0 then none else qa_os s C k) = _
      by_cases hk : k.1 < 0
      · rw [if_pos hk, if_pos hk]
      · rw [if_neg hk, if_neg hk, qa_v_ne (fun e => hk (by rw [← e]; exact h))]; rfl
    · rw [qa_nn_pos h, qa_os_1]
      by_cases hk : k.1 < 0
      · rw [if_pos hk, if_pos hk, qa_v_ne (fun e => h (by rw [qa_k1 e]; exact hk))]; rfl
      · rw [if_neg hk, if_neg hk]
end
section
/-! the laws of the modes on their domains; raw contributions; the key law qa_main -/
def qs_ct (a b : Int64) : Int64 := if a = 9999 then 9999 else if b = 9999 then 9999 else a + b
def qs_DL (s n : Nat) (v : Int64) : Prop := (s = 1 → (0 ≤ v.toInt ∧ v.toInt ≤ 1000 * (n : Int)) ∨ v.toInt = 9999) ∧ (s = 2 → 0 ≤ v.toInt ∧ v.toInt ≤ 5) ∧ (s = 3 → 0 ≤ v.toInt ∧ v.toInt ≤ 1)
theorem qs_p0 (a b : Int64) : qs_p 0 a b = a + b := rfl
theorem qs_p1 (a b : Int64) : qs_p 1 a b = qs_mn a b := rfl
theorem qs_p2 (a b : Int64) : qs_p 2 a b = qs_mn a b := rfl
theorem qs_p3 (a b : Int64) : qs_p 3 a b = qs_mx a b := rfl
theorem qs_p4 (a b : Int64) : qs_p 4 a b = a + b := rfl
theorem qs_t0 (a b : Int64) : qs_t 0 a b = a * b := rfl
theorem qs_t1 (a b : Int64) : qs_t 1 a b = qs_ct a b := rfl
theorem qs_t2 (a b : Int64) : qs_t 2 a b = qs_mx a b := rfl
theorem qs_t3 (a b : Int64) : qs_t 3 a b = qs_mn a b := rfl
theorem qs_t4 (a b : Int64) : qs_t 4 a b = a * b := rfl
theorem qs_5 {s : Nat} (h : s ≤ 4) : s = 0 ∨ s = 1 ∨ s = 2 ∨ s = 3 ∨ s = 4 := by omega
theorem qs_9 : (9999 : Int64).toInt = 9999 := by decide
theorem qs_ai {a b : Int64} (ha : 0 ≤ a.toInt ∧ a.toInt ≤ 9999) (hb : 0 ≤ b.toInt ∧ b.toInt ≤ 9999) : (a + b).toInt = a.toInt + b.toInt := by
  rw [Int64.toInt_add]
  exact Int.bmod_eq_of_le_mul_two (by omega) (by omega)
theorem qs_e9 {a : Int64} : a = 9999 ↔ a.toInt = 9999 := by rw [← Int64.toInt_inj, qs_9]
theorem qs_ct_i {a b : Int64} (ha : 0 ≤ a.toInt ∧ a.toInt ≤ 9999) (hb : 0 ≤ b.toInt ∧ b.toInt ≤ 9999) : (a.toInt = 9999 ∧ (qs_ct a b).toInt = 9999) ∨ (a.toInt ≠ 9999 ∧ b.toInt = 9999 ∧ (qs_ct a b).toInt = 9999) ∨ (a.toInt ≠ 9999 ∧ b.toInt ≠ 9999 ∧ (qs_ct a b).toInt = a.toInt + b.toInt) := by
  unfold qs_ct
  by_cases h : a = 9999
  · rw [if_pos h]; exact Or.inl ⟨qs_e9.mp h, qs_9⟩
  · rw [if_neg h]
    by_cases h' : b = 9999
    · rw [if_pos h']; exact Or.inr (Or.inl ⟨fun e => h (qs_e9.mpr e), qs_e9.mp h', qs_9⟩)
    · rw [if_neg h']; exact Or.inr (Or.inr ⟨fun e => h (qs_e9.mpr e), fun e => h' (qs_e9.mpr e), qs_ai ha hb⟩)
theorem qs_DL_m {s n m : Nat} {v : Int64} (h : qs_DL s n v) (hnm : n ≤ m) : qs_DL s m v :=
  ⟨fun e => by have := h.1 e; omega, h.2⟩
theorem qs_p_D {s n : Nat} {a b : Int64} (ha : qs_DL s n a) (hb : qs_DL s n b) : qs_DL s n (qs_p s a b) := by
  refine ⟨fun e => ?_, fun e => ?_, fun e => ?_⟩
  · subst e; rw [qs_p1, qs_mn_i]; have := ha.1 rfl; have := hb.1 rfl; omega
  · subst e; rw [qs_p2, qs_mn_i]; have := ha.2.1 rfl; have := hb.2.1 rfl; omega
  · subst e; rw [qs_p3, qs_mx_i]; have := ha.2.2 rfl; have := hb.2.2 rfl; omega
theorem qs_t_D {s n m : Nat} {a b : Int64} (hnm : n + m ≤ 4) (ha : qs_DL s n a) (hb : qs_DL s m b) : qs_DL s (n + m) (qs_t s a b) := by
  refine ⟨fun e => ?_, fun e => ?_, fun e => ?_⟩
  · subst e; rw [qs_t1]; have h1 := ha.1 rfl; have h2 := hb.1 rfl
    have := qs_ct_i (a := a) (b := b) (by omega) (by omega); omega
  · subst e; rw [qs_t2, qs_mx_i]; have := ha.2.1 rfl; have := hb.2.1 rfl; omega
  · subst e; rw [qs_t3, qs_mn_i]; have := ha.2.2 rfl; have := hb.2.2 rfl; omega
theorem qs_ct_a {a b c : Int64} (ha : (0 ≤ a.toInt ∧ a.toInt ≤ 4000) ∨ a.toInt = 9999) (hb : (0 ≤ b.toInt ∧ b.toInt ≤ 4000) ∨ b.toInt = 9999) (hc : (0 ≤ c.toInt ∧ c.toInt ≤ 4000) ∨ c.toInt = 9999) : qs_ct (qs_ct a b) c = qs_ct a (qs_ct b c) := by
  apply Int64.toInt_inj.mp
  have h1 := qs_ct_i (a := a) (b := b) (by omega) (by omega)
  have h2 := qs_ct_i (a := b) (b := c) (by omega) (by omega)
  have h3 := qs_ct_i (a := qs_ct a b) (b := c) (by omega) (by omega)
  have h4 := qs_ct_i (a := a) (b := qs_ct b c) (by omega) (by omega)
  omega
theorem qs_ct_p {a b c : Int64} (ha : (0 ≤ a.toInt ∧ a.toInt ≤ 4000) ∨ a.toInt = 9999) (hb : (0 ≤ b.toInt ∧ b.toInt ≤ 4000) ∨ b.toInt = 9999) (hc : (0 ≤ c.toInt ∧ c.toInt ≤ 4000) ∨ c.toInt = 9999) : qs_ct (qs_mn a b) c = qs_mn (qs_ct a c) (qs_ct b c) := by
  apply Int64.toInt_inj.mp
  have e := qs_mn_i a b
  have h1 := qs_ct_i (a := a) (b := c) (by omega) (by omega)
  have h2 := qs_ct_i (a := b) (b := c) (by omega) (by omega)
  have h3 := qs_ct_i (a := qs_mn a b) (b := c) (by omega) (by omega)
  rw [qs_mn_i]
  omega
theorem qs_t_a {s : Nat} (hs : s ≤ 4) {a b c : Int64} (ha : qs_DL s 4 a) (hb : qs_DL s 4 b) (hc : qs_DL s 4 c) : qs_t s (qs_t s a b) c = qs_t s a (qs_t s b c) := by
  rcases qs_5 hs with rfl | rfl | rfl | rfl | rfl
  · rw [qs_t0, qs_t0, qs_t0, qs_t0]; exact Int64.mul_assoc a b c
  · have h1 := ha.1 rfl; have h2 := hb.1 rfl; have h3 := hc.1 rfl
    rw [qs_t1, qs_t1, qs_t1, qs_t1]
    exact qs_ct_a (by omega) (by omega) (by omega)
  · rw [qs_t2, qs_t2, qs_t2, qs_t2]; exact qs_mx_a a b c
  · rw [qs_t3, qs_t3, qs_t3, qs_t3]; exact qs_mn_a a b c
  · rw [qs_t4, qs_t4, qs_t4, qs_t4]; exact Int64.mul_assoc a b c
theorem qs_t_p {s : Nat} (hs : s ≤ 4) {a b c : Int64} (ha : qs_DL s 4 a) (hb : qs_DL s 4 b) (hc : qs_DL s 4 c) : qs_t s (qs_p s a b) c = qs_p s (qs_t s a c) (qs_t s b c) := by
  rcases qs_5 hs with rfl | rfl | rfl | rfl | rfl
  · rw [qs_t0, qs_t0, qs_t0, qs_p0, qs_p0]; exact Int64.add_mul
  · have h1 := ha.1 rfl; have h2 := hb.1 rfl; have h3 := hc.1 rfl
    rw [qs_t1, qs_t1, qs_t1, qs_p1, qs_p1]
    exact qs_ct_p (by omega) (by omega) (by omega)
  · rw [qs_t2, qs_t2, qs_t2, qs_p2, qs_p2]; exact qs_mnx a b c
  · rw [qs_t3, qs_t3, qs_t3, qs_p3, qs_p3]; exact qs_mxn a b c
  · rw [qs_t4, qs_t4, qs_t4, qs_p4, qs_p4]; exact Int64.add_mul
theorem qs_t_1 {s : Nat} (hs : s ≤ 4) {a : Int64} (ha : qs_DL s 4 a) : qs_t s a (qs_1 s) = a := by
  rcases qs_5 hs with rfl | rfl | rfl | rfl | rfl
  · rw [qs_t0]; exact Int64.mul_one a
  · have h1 := ha.1 rfl
    apply Int64.toInt_inj.mp
    have z : (qs_1 1).toInt = 0 := by decide
    have := qs_ct_i (a := a) (b := qs_1 1) (by omega) (by omega)
    rw [qs_t1]; omega
  · have h1 := ha.2.1 rfl
    apply Int64.toInt_inj.mp
    have z : (qs_1 2).toInt = 0 := by decide
    rw [qs_t2, qs_mx_i]; omega
  · have h1 := ha.2.2 rfl
    apply Int64.toInt_inj.mp
    have z : (qs_1 3).toInt = 1 := by decide
    rw [qs_t3, qs_mn_i]; omega
  · rw [qs_t4]; exact Int64.mul_one a
theorem qs_1_D (s n : Nat) : qs_DL s n (qs_1 s) := by
  refine ⟨fun e => ?_, fun e => ?_, fun e => ?_⟩
  · subst e; have : (qs_1 1).toInt = 0 := by decide
    omega
  · subst e; have : (qs_1 2).toInt = 0 := by decide
    omega
  · subst e; have : (qs_1 3).toInt = 1 := by decide
    omega
/-- the value of a list of tokens -/
def qs_val (s : Nat) (tk : Nat → Int64) : List Nat → Int64
  | [] => qs_1 s
  | x :: l => qs_t s (tk x) (qs_val s tk l)
def qs_L (s : Nat) (tk : Nat → Int64) (l : List Nat) : Prop := ∀ x, x ∈ l → qs_DL s 1 (tk x)
theorem qs_L_t {s : Nat} {tk : Nat → Int64} {x : Nat} {l : List Nat} (h : qs_L s tk (x :: l)) : qs_L s tk l := fun y hy => h y (List.mem_cons_of_mem _ hy)
theorem qs_val_D {s : Nat} {tk : Nat → Int64} : ∀ {l : List Nat}, l.length ≤ 4 → qs_L s tk l → qs_DL s l.length (qs_val s tk l)
  | [], _, _ => qs_1_D s 0
  | x :: l, h, hl => by
    have h' : l.length + 1 ≤ 4 := h
    have a := qs_val_D (l := l) (by omega) (qs_L_t hl)
    have b := qs_t_D (n := 1) (m := l.length) (by omega) (hl x List.mem_cons_self) a
    exact qs_DL_m b (by simp only [List.length_cons]; omega)
theorem qs_val_4 {s : Nat} {tk : Nat → Int64} {l : List Nat} (h : l.length ≤ 4) (hl : qs_L s tk l) : qs_DL s 4 (qs_val s tk l) := qs_DL_m (qs_val_D h hl) h
theorem qs_val_app {s : Nat} (hs : s ≤ 4) {tk : Nat → Int64} {l' : List Nat} (hl' : qs_L s tk l') : ∀ {l : List Nat}, l.length + l'.length ≤ 4 → qs_L s tk l → qs_val s tk (l ++ l') = qs_t s (qs_val s tk l) (qs_val s tk l')
  | [], h, _ => by
    show qs_val s tk l' = qs_t s (qs_1 s) (qs_val s tk l')
    rw [qs_t_c, qs_t_1 hs (qs_val_4 (by simpa using h) hl')]
  | x :: l, h, hl => by
    have h' : l.length + 1 + l'.length ≤ 4 := h
    show qs_t s (tk x) (qs_val s tk (l ++ l')) = qs_t s (qs_t s (tk x) (qs_val s tk l)) (qs_val s tk l')
    rw [qs_val_app hs hl' (l := l) (by omega) (qs_L_t hl), qs_t_a hs (qs_DL_m (hl x List.mem_cons_self) (by omega)) (qs_val_4 (by omega) (qs_L_t hl)) (qs_val_4 (by omega) hl')]
theorem qs_val_perm {s : Nat} (hs : s ≤ 4) {tk : Nat → Int64} {l l' : List Nat} (hp : List.Perm l l') : l.length ≤ 4 → qs_L s tk l → qs_val s tk l = qs_val s tk l' := by
  induction hp with
  | nil => intro _ _; rfl
  | cons x _ ih =>
    intro h hl
    simp only [List.length_cons] at h
    show qs_t s (tk x) _ = qs_t s (tk x) _
    rw [ih (by omega) (qs_L_t hl)]
  | swap x y l =>
    intro h hl
    simp only [List.length_cons] at h
    have hy := qs_DL_m (hl y List.mem_cons_self) (show 1 ≤ 4 by omega)
    have hx := qs_DL_m (qs_L_t hl x List.mem_cons_self) (show 1 ≤ 4 by omega)
    have hv := qs_val_4 (by omega) (qs_L_t (qs_L_t hl))
    show qs_t s (tk y) (qs_t s (tk x) (qs_val s tk l)) = qs_t s (tk x) (qs_t s (tk y) (qs_val s tk l))
    rw [← qs_t_a hs hy hx hv, qs_t_c s (tk y) (tk x), qs_t_a hs hx hy hv]
  | trans h1 _ i1 i2 =>
    intro h hl
    rw [i1 h hl, i2 (by rw [← h1.length_eq]; exact h) (fun x hx => hl x (h1.mem_iff.mpr hx))]
/-- codes -/
def qs_cd : List Nat → Nat
  | [] => 0
  | x :: l => 16 ^ x + qs_cd l
theorem qs_cd_app (l' : List Nat) : ∀ l : List Nat, qs_cd (l ++ l') = qs_cd l + qs_cd l'
  | [] => (Nat.zero_add _).symm
  | x :: l => by show 16 ^ x + qs_cd (l ++ l') = 16 ^ x + qs_cd l + qs_cd l'; rw [qs_cd_app l' l]; omega
theorem qs_cd_le : ∀ {l : List Nat}, (∀ x, x ∈ l → x < 16) → qs_cd l ≤ l.length * 1152921504606846976
  | [], _ => Nat.le_refl _
  | x :: l, h => by
    have a := qs_cd_le (l := l) (fun y hy => h y (List.mem_cons_of_mem _ hy))
    have b : 16 ^ x ≤ 16 ^ 15 := Nat.pow_le_pow_right (by omega) (by have := h x List.mem_cons_self; omega)
    have c : (16 : Nat) ^ 15 = 1152921504606846976 := by decide
    show 16 ^ x + qs_cd l ≤ (l.length + 1) * 1152921504606846976
    omega
theorem qs_cd_pos : ∀ {l : List Nat}, l ≠ [] → 0 < qs_cd l
  | [], h => absurd rfl h
  | x :: l, _ => by
    have : 0 < 16 ^ x := Nat.pow_pos (by omega)
    show 0 < 16 ^ x + qs_cd l
    omega
def qs_code (s : Nat) (l : List Nat) : Int64 := if s = 4 then lN (qs_cd l) else 0
theorem qs_code_app (s : Nat) (l l' : List Nat) : qs_code s (l ++ l') = qs_code s l + qs_code s l' := by
  unfold qs_code
  by_cases h : s = 4
  · rw [if_pos h, if_pos h, if_pos h, lN_add, qs_cd_app]
  · rw [if_neg h, if_neg h, if_neg h]; rfl
/-- raw contributions -/
abbrev qa_R := Int32 × List Nat
def qs_ev (s : Nat) (tk : Nat → Int64) (r : qa_R) : qa_T := (r.1, qs_code s r.2, qs_val s tk r.2)
def qa_js (s : Nat) (jn : Int32 → Int32 → Int32) (B : List qa_T) (p : qa_T) : List qa_T := B.map (fun q => (jn p.1 q.1, p.2.1 + q.2.1, qs_t s p.2.2 q.2.2))
def qa_C1 (s kd : Nat) (mv : Int32 → Int32) (jn : Int32 → Int32 → Int32) (B : List qa_T) (p : qa_T) : List qa_T := (mv p.1, p.2.1, p.2.2) :: (if kd = 5 then qa_js s jn B p else [])
def qa_C (s kd : Nat) (mv : Int32 → Int32) (jn : Int32 → Int32 → Int32) (A B : List qa_T) : List qa_T := A.flatMap (qa_C1 s kd mv jn B) ++ (if kd = 4 then B else [])
def qa_jr (jn : Int32 → Int32 → Int32) (B : List qa_R) (p : qa_R) : List qa_R := B.map (fun q => (jn p.1 q.1, p.2 ++ q.2))
def qa_CR1 (kd : Nat) (mv : Int32 → Int32) (jn : Int32 → Int32 → Int32) (B : List qa_R) (p : qa_R) : List qa_R := (mv p.1, p.2) :: (if kd = 5 then qa_jr jn B p else [])
def qa_CR (kd : Nat) (mv : Int32 → Int32) (jn : Int32 → Int32 → Int32) (A B : List qa_R) : List qa_R := A.flatMap (qa_CR1 kd mv jn B) ++ (if kd = 4 then B else [])
def qa_nr (C : List qa_R) : List qa_R := C.filter (fun x => !decide (x.1 < 0))
theorem qa_nr_ev (s : Nat) (tk : Nat → Int64) (C : List qa_R) : qa_nn (C.map (qs_ev s tk)) = (qa_nr C).map (qs_ev s tk) := by
  unfold qa_nn qa_nr
  rw [List.filter_map]; rfl
theorem qa_flat_congr {α β : Type} {f g : α → List β} : ∀ {A : List α}, (∀ a, a ∈ A → f a = g a) → A.flatMap f = A.flatMap g
  | [], _ => rfl
  | a :: A, h => by
    rw [List.flatMap_cons, List.flatMap_cons, h a List.mem_cons_self, qa_flat_congr (A := A) (fun b hb => h b (List.mem_cons_of_mem _ hb))]
theorem qa_flat_map {α β γ : Type} (f : β → List γ) (h : α → β) : ∀ A : List α, (A.map h).flatMap f = A.flatMap (fun a => f (h a))
  | [] => rfl
  | a :: A => by rw [List.map_cons, List.flatMap_cons, List.flatMap_cons, qa_flat_map f h A]
theorem qa_map_flat {α β γ : Type} (f : β → γ) (h : α → List β) : ∀ A : List α, (A.flatMap h).map f = A.flatMap (fun a => (h a).map f)
  | [] => rfl
  | a :: A => by rw [List.flatMap_cons, List.flatMap_cons, List.map_append, qa_map_flat f h A]
theorem qa_C_ev {s : Nat} (hs : s ≤ 4) {tk : Nat → Int64} (kd : Nat) (mv : Int32 → Int32) (jn : Int32 → Int32 → Int32) {A B : List qa_R} (hA : ∀ p, p ∈ A → qs_L s tk p.2) (hB : ∀ p, p ∈ B → qs_L s tk p.2) (hl : kd = 5 → ∀ p, p ∈ A → ∀ q, q ∈ B → p.2.length + q.2.length ≤ 4) : qa_C s kd mv jn (A.map (qs_ev s tk)) (B.map (qs_ev s tk)) = (qa_CR kd mv jn A B).map (qs_ev s tk) := by
  unfold qa_C qa_CR
  rw [List.map_append, qa_flat_map, qa_map_flat]
  congr 1
  · apply qa_flat_congr
    intro p hp
    unfold qa_C1 qa_CR1
    rw [List.map_cons]
    congr 1
    by_cases h : kd = 5
    · rw [if_pos h, if_pos h]
      unfold qa_js qa_jr
      rw [List.map_map, List.map_map]
      apply List.map_congr_left
      intro q hq
      show (jn p.1 q.1, qs_code s p.2 + qs_code s q.2, qs_t s (qs_val s tk p.2) (qs_val s tk q.2)) = (jn p.1 q.1, qs_code s (p.2 ++ q.2), qs_val s tk (p.2 ++ q.2))
      rw [qs_code_app, qs_val_app hs (hB q hq) (hl h p hp q hq) (hA p hp)]
    · rw [if_neg h, if_neg h]; rfl
  · by_cases h : kd = 4
    · rw [if_pos h, if_pos h]
    · rw [if_neg h, if_neg h]; rfl
def qa_w (s : Nat) (k : qa_K) (jn : Int32 → Int32 → Int32) (p q : qa_T) : Option Int64 := qa_v k (jn p.1 q.1, p.2.1 + q.2.1, qs_t s p.2.2 q.2.2)
def qa_g (s kd : Nat) (k : qa_K) (mv : Int32 → Int32) (jn : Int32 → Int32 → Int32) (B : List qa_T) (p : qa_T) : Option Int64 := qa_o s (qa_v k (mv p.1, p.2.1, p.2.2)) (if kd = 5 then qa_S s (fun q => qa_w s k jn p q) B else none)
theorem qa_C_os (s kd : Nat) (mv : Int32 → Int32) (jn : Int32 → Int32 → Int32) (A B : List qa_T) (k : qa_K) : qa_os s (qa_C s kd mv jn A B) k = qa_o s (qa_S s (qa_g s kd k mv jn B) A) (if kd = 4 then qa_os s B k else none) := by
  unfold qa_C
  rw [qa_os_app]
  congr 1
  · unfold qa_os
    rw [qa_S_flat]
    apply qa_S_congr
    intro p _
    unfold qa_C1 qa_g
    show qa_o s _ (qa_S s (qa_v k) (if kd = 5 then qa_js s jn B p else [])) = _
    congr 1
    by_cases h : kd = 5
    · rw [if_pos h, if_pos h]; unfold qa_js; rw [qa_S_map]; rfl
    · rw [if_neg h, if_neg h]; rfl
  · by_cases h : kd = 4
    · rw [if_pos h, if_pos h]
    · rw [if_neg h, if_neg h]; rfl
theorem qa_w_l {s : Nat} (hs : s ≤ 4) {k : qa_K} {jn : Int32 → Int32 → Int32} {q : qa_T} (hq : qs_DL s 4 q.2.2) (t : Int32) (c a b : Int64) (ha : qs_DL s 4 a) (hb : qs_DL s 4 b) : qa_w s k jn (t, c, qs_p s a b) q = qa_o s (qa_w s k jn (t, c, a) q) (qa_w s k jn (t, c, b) q) := by
  unfold qa_w
  show qa_v k (jn t q.1, c + q.2.1, qs_t s (qs_p s a b) q.2.2) = _
  rw [qs_t_p hs ha hb hq]
  exact qa_v_G k _ _ _ _
theorem qa_w_r {s : Nat} (hs : s ≤ 4) {k : qa_K} {jn : Int32 → Int32 → Int32} {p : qa_T} (hp : qs_DL s 4 p.2.2) (t : Int32) (c a b : Int64) (ha : qs_DL s 4 a) (hb : qs_DL s 4 b) : qa_w s k jn p (t, c, qs_p s a b) = qa_o s (qa_w s k jn p (t, c, a)) (qa_w s k jn p (t, c, b)) := by
  unfold qa_w
  show qa_v k (jn p.1 t, p.2.1 + c, qs_t s p.2.2 (qs_p s a b)) = _
  rw [qs_t_c, qs_t_p hs ha hb hp, qs_t_c s a, qs_t_c s b]
  exact qa_v_G k _ _ _ _
theorem qa_g_G {s : Nat} (hs : s ≤ 4) {kd : Nat} {k : qa_K} {mv : Int32 → Int32} {jn : Int32 → Int32 → Int32} {B : List qa_T} (hB : ∀ q, q ∈ B → qs_DL s 4 q.2.2) (t : Int32) (c a b : Int64) (ha : qs_DL s 4 a) (hb : qs_DL s 4 b) : qa_g s kd k mv jn B (t, c, qs_p s a b) = qa_o s (qa_g s kd k mv jn B (t, c, a)) (qa_g s kd k mv jn B (t, c, b)) := by
  unfold qa_g
  rw [qa_o_4]
  congr 1
  · exact qa_v_G k _ _ _ _
  · by_cases h : kd = 5
    · rw [if_pos h, if_pos h, if_pos h, ← qa_S_add]
      apply qa_S_congr
      intro q hq
      exact qa_w_l hs (hB q hq) t c a b ha hb
    · rw [if_neg h, if_neg h, if_neg h]; rfl
theorem qa_C_E {s : Nat} (hs : s ≤ 4) (kd : Nat) (mv : Int32 → Int32) (jn : Int32 → Int32 → Int32) {A B A' B' : List qa_T} (hA : qa_E s A A') (hB : qa_E s B B') (dA : ∀ p, p ∈ A → qs_DL s 4 p.2.2) (dB : ∀ p, p ∈ B → qs_DL s 4 p.2.2) (dA' : ∀ p, p ∈ A' → qs_DL s 4 p.2.2) (dB' : ∀ p, p ∈ B' → qs_DL s 4 p.2.2) : qa_E s (qa_C s kd mv jn A B) (qa_C s kd mv jn A' B') := by
  intro k
  rw [qa_C_os, qa_C_os, hB k]
  congr 1
  rw [qa_G_congr (Dm := qs_DL s 4) (fun _ _ => qs_p_D) (qa_g_G hs dB) dA dA' hA]
  unfold qa_g
  rw [qa_S_add, qa_S_add]
  congr 1
  by_cases h : kd = 5
  · simp only [if_pos h]
    rw [qa_S_swap s (fun p q => qa_w s k jn p q) B A', qa_S_swap s (fun p q => qa_w s k jn p q) B' A']
    refine qa_G_congr (Dm := qs_DL s 4) (fun _ _ => qs_p_D) ?_ dB dB' hB
    intro t c a b ha hb
    rw [← qa_S_add]
    apply qa_S_congr
    intro p hp
    exact qa_w_r hs (dA' p hp) t c a b ha hb
  · simp only [if_neg h]
theorem qa_nn_E {s : Nat} {A B : List qa_T} (h : qa_E s A B) : qa_E s (qa_nn A) (qa_nn B) := by
  intro k
  rw [qa_nn_os, qa_nn_os, h k]
theorem qs_ev_D {s : Nat} {tk : Nat → Int64} {RA : List qa_R} (hl : ∀ p, p ∈ RA → qs_L s tk p.2) (h4 : ∀ p, p ∈ RA → p.2.length ≤ 4) : ∀ x, x ∈ RA.map (qs_ev s tk) → qs_DL s 4 x.2.2 := by
  intro x hx
  obtain ⟨p, hp, rfl⟩ := List.mem_map.mp hx
  exact qs_val_4 (h4 p hp) (hl p hp)
theorem qa_main {s : Nat} (hs : s ≤ 4) {tk : Nat → Int64} (kd : Nat) (mv : Int32 → Int32) (jn : Int32 → Int32 → Int32) {A B : List qa_T} {RA RB : List qa_R} (hA : qa_E s A (RA.map (qs_ev s tk))) (hB : qa_E s B (RB.map (qs_ev s tk))) (nA : qa_ND A) (nB : qa_ND B) (lA : ∀ p, p ∈ RA → qs_L s tk p.2) (lB : ∀ p, p ∈ RB → qs_L s tk p.2) (qA : ∀ p, p ∈ RA → p.2.length ≤ 4) (qB : ∀ p, p ∈ RB → p.2.length ≤ 4) (hl : kd = 5 → ∀ p, p ∈ RA → ∀ q, q ∈ RB → p.2.length + q.2.length ≤ 4) : qa_E s (qa_nn (qa_C s kd mv jn A B)) ((qa_nr (qa_CR kd mv jn RA RB)).map (qs_ev s tk)) := by
  rw [← qa_nr_ev, ← qa_C_ev hs kd mv jn lA lB hl]
  have dA' := qs_ev_D lA qA
  have dB' := qs_ev_D lB qB
  exact qa_nn_E (qa_C_E hs kd mv jn hA hB (qa_E_D (Dm := qs_DL s 4) (fun _ _ => qs_p_D) nA hA dA') (qa_E_D (Dm := qs_DL s 4) (fun _ _ => qs_p_D) nB hB dB') dA' dB')
end
section
/-! arrays that hold lists; sorted lists -/
def qm_sg (t : Nat → Int32) (c v : Nat → Int64) : Nat → List qa_T → Prop
  | _, [] => True
  | p, x :: L => t p = x.1 ∧ c p = x.2.1 ∧ v p = x.2.2 ∧ qm_sg t c v (p + 1) L
section
variable {t t' : Nat → Int32} {c v c' v' : Nat → Int64}
theorem qm_sg_app : ∀ {A B : List qa_T} {p : Nat}, qm_sg t c v p (A ++ B) ↔ qm_sg t c v p A ∧ qm_sg t c v (p + A.length) B
  | [], B, p => ⟨fun h => ⟨trivial, h⟩, fun h => h.2⟩
  | x :: A, B, p => by
    have ih := qm_sg_app (A := A) (B := B) (p := p + 1)
    have e : p + 1 + A.length = p + (x :: A).length := by simp only [List.length_cons]; omega
    rw [e] at ih
    constructor
    · rintro ⟨h1, h2, h3, h4⟩
      exact ⟨⟨h1, h2, h3, (ih.mp h4).1⟩, (ih.mp h4).2⟩
    · rintro ⟨⟨h1, h2, h3, h4⟩, h5⟩
      exact ⟨h1, h2, h3, ih.mpr ⟨h4, h5⟩⟩
theorem qm_sg_congr : ∀ {L : List qa_T} {p : Nat}, (∀ j, p ≤ j → j < p + L.length → t' j = t j ∧ c' j = c j ∧ v' j = v j) → qm_sg t c v p L → qm_sg t' c' v' p L
  | [], _, _, _ => trivial
  | x :: L, p, h, hs => by
    obtain ⟨h1, h2, h3, h4⟩ := hs
    obtain ⟨a, b, d⟩ := h p (Nat.le_refl _) (by simp only [List.length_cons]; omega)
    exact ⟨a.trans h1, b.trans h2, d.trans h3, qm_sg_congr (fun j h5 h6 => h j (by omega) (by simp only [List.length_cons]; omega)) h4⟩
theorem qm_sg_shift : ∀ {L : List qa_T} {p : Nat}, (∀ j, p ≤ j → j < p + L.length → t' (j + 1) = t j ∧ c' (j + 1) = c j ∧ v' (j + 1) = v j) → qm_sg t c v p L → qm_sg t' c' v' (p + 1) L
  | [], _, _, _ => trivial
  | x :: L, p, h, hs => by
    obtain ⟨h1, h2, h3, h4⟩ := hs
    obtain ⟨a, b, d⟩ := h p (Nat.le_refl _) (by simp only [List.length_cons]; omega)
    exact ⟨a.trans h1, b.trans h2, d.trans h3, qm_sg_shift (fun j h5 h6 => h j (by omega) (by simp only [List.length_cons]; omega)) h4⟩
theorem qm_sg_mid {A B : List qa_T} {x : qa_T} {p : Nat} (h : qm_sg t c v p (A ++ x :: B)) : t (p + A.length) = x.1 ∧ c (p + A.length) = x.2.1 ∧ v (p + A.length) = x.2.2 := by
  obtain ⟨_, h1, h2, h3, _⟩ := qm_sg_app.mp h
  exact ⟨h1, h2, h3⟩
theorem qm_sg_mem : ∀ {L : List qa_T} {p : Nat}, qm_sg t c v p L → ∀ i, i < L.length → (t (p + i), c (p + i), v (p + i)) ∈ L
  | [], _, _, i, hi => absurd hi (Nat.not_lt_zero i)
  | x :: L, p, h, 0, _ => by
    obtain ⟨h1, h2, h3, _⟩ := h
    have : (t (p + 0), c (p + 0), v (p + 0)) = x := by rw [Nat.add_zero, h1, h2, h3]
    rw [this]; exact List.mem_cons_self
  | x :: L, p, h, i + 1, hi => by
    have := qm_sg_mem h.2.2.2 i (by simp only [List.length_cons] at hi; omega)
    rw [show p + 1 + i = p + (i + 1) by omega] at this
    exact List.mem_cons_of_mem _ this
end
def qm_sh {α : Type} (a : Nat → α) (k e : Nat) : Nat → α := fun j => if k < j ∧ j ≤ e then a (j - 1) else a j
def qm_in {α : Type} (a : Nat → α) (i e : Nat) (x : α) : Nat → α := fun j => if j = i then x else qm_sh a i e j
theorem qm_sh_e {α : Type} (a : Nat → α) (e : Nat) : qm_sh a e e = a := by
  funext j; unfold qm_sh; rw [if_neg (by omega)]
theorem qm_sh_get {α : Type} (a : Nat → α) (k e : Nat) : qm_sh a k e k = a k := by
  unfold qm_sh; rw [if_neg (by omega)]
theorem qm_sh_at {α : Type} (a : Nat → α) {k e j : Nat} (h : j ≤ k) : qm_sh a k e j = a j := by
  unfold qm_sh; rw [if_neg (by omega)]
theorem qm_sh_up {α : Type} (a : Nat → α) {k e : Nat} (h : k < e) : (fun j => if j = k + 1 then qm_sh a (k + 1) e k else qm_sh a (k + 1) e j) = qm_sh a k e := by
  funext j
  rw [qm_sh_at a (Nat.le_succ k)]
  unfold qm_sh
  by_cases h1 : j = k + 1
  · rw [if_pos h1, if_pos (by omega), h1]; rfl
  · rw [if_neg h1]
    by_cases h2 : k + 1 < j ∧ j ≤ e
    · rw [if_pos h2, if_pos (by omega)]
    · rw [if_neg h2, if_neg (by omega)]
theorem qm_in_lo {α : Type} (a : Nat → α) {i e j : Nat} {x : α} (h : j < i) : qm_in a i e x j = a j := by
  unfold qm_in; rw [if_neg (by omega), qm_sh_at a (by omega)]
theorem qm_in_at {α : Type} (a : Nat → α) {i e : Nat} {x : α} : qm_in a i e x i = x := if_pos rfl
theorem qm_in_hi {α : Type} (a : Nat → α) {i e j : Nat} {x : α} (h : i ≤ j) (h' : j < e) : qm_in a i e x (j + 1) = a j := by
  unfold qm_in qm_sh; rw [if_neg (by omega), if_pos (by omega)]; rfl
theorem qm_sg_ins {t : Nat → Int32} {c v : Nat → Int64} {A B : List qa_T} {p i e : Nat} {x : qa_T} (h : qm_sg t c v p (A ++ B)) (hi : i = p + A.length) (he : e = p + A.length + B.length) : qm_sg (qm_in t i e x.1) (qm_in c i e x.2.1) (qm_in v i e x.2.2) p (A ++ x :: B) := by
  obtain ⟨h1, h2⟩ := qm_sg_app.mp h
  refine qm_sg_app.mpr ⟨qm_sg_congr (fun j _ h4 => ⟨qm_in_lo t (by omega), qm_in_lo c (by omega), qm_in_lo v (by omega)⟩) h1, ?_⟩
  rw [← hi]
  refine ⟨qm_in_at t, qm_in_at c, qm_in_at v, ?_⟩
  rw [← hi] at h2
  exact qm_sg_shift (fun j h3 h4 => ⟨qm_in_hi t h3 (by omega), qm_in_hi c h3 (by omega), qm_in_hi v h3 (by omega)⟩) h2
/-! order -/
def qa_bf (x : qa_T) (t : Int32) (m : Int64) : Prop := x.1 < t ∨ (x.1 = t ∧ x.2.1 < m)
def qa_lt (x y : qa_T) : Prop := qa_bf x y.1 y.2.1
def qa_so (L : List qa_T) : Prop := L.Pairwise qa_lt
theorem qa_bf_i {x : qa_T} {t : Int32} {m : Int64} : qa_bf x t m ↔ x.1.toInt < t.toInt ∨ (x.1.toInt = t.toInt ∧ x.2.1.toInt < m.toInt) := by
  unfold qa_bf
  rw [Int32.lt_iff_toInt_lt, Int64.lt_iff_toInt_lt, Int32.toInt_inj]
theorem qa_bf_tr {x y : qa_T} {t : Int32} {m : Int64} (h : qa_lt x y) (h' : qa_bf y t m) : qa_bf x t m := by
  unfold qa_lt at h
  rw [qa_bf_i] at *
  omega
theorem qa_lt_key {x y : qa_T} (h : qa_lt x y) : qa_key x ≠ qa_key y := by
  intro e
  have e1 : x.1 = y.1 := qa_k1 e
  have e2 : x.2.1 = y.2.1 := qa_k2 e
  unfold qa_lt at h
  rw [qa_bf_i, e1, e2] at h
  omega
theorem qa_so_ND {L : List qa_T} (h : qa_so L) : qa_ND L := by
  unfold qa_ND List.Nodup
  rw [List.pairwise_map]
  exact h.imp qa_lt_key
theorem qa_split (p : qa_T → Prop) (hp : ∀ x y, qa_lt x y → p y → p x) : ∀ {L : List qa_T}, qa_so L → ∃ A B, L = A ++ B ∧ (∀ x, x ∈ A → p x) ∧ (∀ x, x ∈ B → ¬ p x)
  | [], _ => ⟨[], [], rfl, fun _ hx => (nomatch hx), fun _ hx => (nomatch hx)⟩
  | x :: L, h => by
    obtain ⟨h1, h2⟩ := List.pairwise_cons.mp h
    rcases Classical.em (p x) with z | z
    · obtain ⟨A, B, e, a, b⟩ := qa_split p hp (L := L) h2
      refine ⟨x :: A, B, by rw [e]; rfl, ?_, b⟩
      intro y hy
      rcases List.mem_cons.mp hy with q | q
      · rw [q]; exact z
      · exact a y q
    · refine ⟨[], x :: L, rfl, fun _ hx => (nomatch hx), ?_⟩
      intro y hy
      rcases List.mem_cons.mp hy with q | q
      · rw [q]; exact z
      · exact fun w => z (hp x y (h1 y q) w)
theorem qa_split_bf {L : List qa_T} (h : qa_so L) (t : Int32) (m : Int64) : ∃ A B, L = A ++ B ∧ (∀ x, x ∈ A → qa_bf x t m) ∧ (∀ x, x ∈ B → ¬ qa_bf x t m) :=
  qa_split (fun x => qa_bf x t m) (fun _ _ h1 h2 => qa_bf_tr h1 h2) h
theorem qa_tri {x : qa_T} {t : Int32} {m : Int64} (h : ¬ qa_bf x t m) (hk : qa_key x ≠ (t, m)) : t.toInt < x.1.toInt ∨ (t.toInt = x.1.toInt ∧ m.toInt < x.2.1.toInt) := by
  rw [qa_bf_i] at h
  rcases Classical.em (x.1.toInt = t.toInt) with e | e
  · rcases Classical.em (x.2.1.toInt = m.toInt) with e' | e'
    · exact absurd (Prod.ext (Int32.toInt_inj.mp e) (Int64.toInt_inj.mp e')) hk
    · omega
  · omega
/-- where a key can be in a split -/
theorem qa_split_key {A B : List qa_T} {t : Int32} {m : Int64} (h : qa_so (A ++ B)) (ha : ∀ x, x ∈ A → qa_bf x t m) (hb : ∀ x, x ∈ B → ¬ qa_bf x t m) {y : qa_T} (hy : y ∈ A ++ B) (hk : qa_key y = (t, m)) : ∃ B', B = y :: B' := by
  have hk1 : y.1 = t := qa_k1 hk
  have hk2 : y.2.1 = m := qa_k2 hk
  rcases List.mem_append.mp hy with q | q
  · have := ha y q
    rw [qa_bf_i, hk1, hk2] at this; omega
  · match B, hb, q, h with
    | z :: B', hb, q, h =>
      rcases List.mem_cons.mp q with e | e
      · exact ⟨B', by rw [e]⟩
      · have h2 := (List.pairwise_cons.mp (List.pairwise_append.mp h).2.1).1 y e
        have h3 : qa_bf z t m := by rw [← hk1, ← hk2]; exact h2
        exact absurd h3 (hb z List.mem_cons_self)
theorem qa_so_ins {A B : List qa_T} {x : qa_T} (h : qa_so (A ++ B)) (ha : ∀ y, y ∈ A → qa_bf y x.1 x.2.1) (hb : ∀ y, y ∈ B → ¬ qa_bf y x.1 x.2.1) (hk : ∀ y, y ∈ A ++ B → qa_key y ≠ qa_key x) : qa_so (A ++ x :: B) := by
  obtain ⟨h1, h2, h3⟩ := List.pairwise_append.mp h
  refine List.pairwise_append.mpr ⟨h1, List.pairwise_cons.mpr ⟨?_, h2⟩, ?_⟩
  · intro y hy
    have := qa_tri (hb y hy) (hk y (List.mem_append_right _ hy))
    unfold qa_lt; rw [qa_bf_i]; omega
  · intro y hy z hz
    rcases List.mem_cons.mp hz with q | q
    · rw [q]; exact ha y hy
    · exact h3 y hy z q
theorem qa_so_rep {A B : List qa_T} {y z : qa_T} (h : qa_so (A ++ y :: B)) (hk : qa_key z = qa_key y) : qa_so (A ++ z :: B) := by
  have hk1 : z.1 = y.1 := qa_k1 hk
  have hk2 : z.2.1 = y.2.1 := qa_k2 hk
  obtain ⟨h1, h2, h3⟩ := List.pairwise_append.mp h
  obtain ⟨h4, h5⟩ := List.pairwise_cons.mp h2
  refine List.pairwise_append.mpr ⟨h1, List.pairwise_cons.mpr ⟨?_, h5⟩, ?_⟩
  · intro w hw
    have := h4 w hw
    unfold qa_lt qa_bf at *
    rw [hk1, hk2]; exact this
  · intro a ha w hw
    rcases List.mem_cons.mp hw with q | q
    · have := h3 a ha y List.mem_cons_self
      rw [q]; unfold qa_lt at *; rw [hk1, hk2]; exact this
    · exact h3 a ha w (List.mem_cons_of_mem _ q)
theorem qa_os_ins (s : Nat) (A B : List qa_T) (x : qa_T) (k : qa_K) : qa_os s (A ++ x :: B) k = qa_o s (qa_os s (A ++ B) k) (qa_v k x) := by
  have e : qa_os s (A ++ x :: B) k = qa_os s (x :: (A ++ B)) k := qa_S_perm s _ List.perm_middle
  rw [e, qa_o_c]; rfl
theorem qa_os_rep (A B : List qa_T) (y : qa_T) (w : Int64) (k : qa_K) : qa_os 4 (A ++ (y.1, y.2.1, y.2.2 + w) :: B) k = qa_o 4 (qa_os 4 (A ++ y :: B) k) (qa_v k (y.1, y.2.1, w)) := by
  rw [qa_os_ins, qa_os_ins 4 A B y, qa_o_a]
  congr 1
  exact qa_v_G (s := 4) k y.1 y.2.1 y.2.2 w
end
section
/-! X: find, insert, add, enter, finish -/
section
variable {XR XT XM XP XN XK XB XO : Int32} {aS aC aD aF tT tV : Nat → Int32} {tM tC : Nat → Int64}
theorem qx_isBefore {post : Int32 → Prop} {i : Nat} {t : Int32} {m : Int64} (hi : i < 224) (h1 : qa_bf (tT i, tM i, tC i) t m → post 1) (h0 : ¬ qa_bf (tT i, tM i, tC i) t m → post 0) : wpX_isBefore post (XR, XT, XM, XP, XN, XK, XB, XO, aS, aC, aD, aF, tT, tM, tC, tV) (nI i) t m := by
  have hv : vp_in (nI i) 224 := vp_in_nI hi (by omega)
  have hc : (nI i).toNatClampNeg = i := nI_clamp (by omega)
  refine And.intro hv ?_
  rw [hc]
  refine br_c (fun e => ⟨hv, br_c (fun h => h0 ?_) (fun h => h1 ?_)⟩) (fun e => ⟨hv, br_c (fun h => h0 ?_) (fun h => h1 ?_)⟩)
  · rw [qa_bf_i]; rw [Int64.le_iff_toInt_le] at h; dsimp only; rw [e]; omega
  · rw [qa_bf_i]; rw [Int64.le_iff_toInt_le] at h; dsimp only; rw [e]; omega
  · rw [qa_bf_i]; rw [Int32.le_iff_toInt_le] at h; rw [← Int32.toInt_inj] at e; dsimp only; omega
  · rw [qa_bf_i]; rw [Int32.le_iff_toInt_le] at h; rw [← Int32.toInt_inj] at e; dsimp only; omega
theorem qx_mid {a b : Nat} (h : a + b < 2 ^ 31) : (nI a + nI b) >>> ((1 : Int32) &&& 31) = nI ((a + b) / 2) := by
  rw [nI_add, pk_shrN h _ 1 (by decide)]
theorem qx_find_9 {post : Int32 → Prop} {t : Int32} {m : Int64} {a : Nat} (hp : post (nI a)) : ∀ (k lo hi st n : Nat), lo ≤ a → a ≤ hi → hi ≤ 224 → hi - lo < 2 ^ k → k + st ≤ 31 → k < n → (∀ i, lo ≤ i → i < hi → (qa_bf (tT i, tM i, tC i) t m ↔ i < a)) → wX_find_9 post t m XR XT XM XP XN XK XB XO aS aC aD aF tT tM tC tV n (nI lo) (nI hi) (nI st) := by
  intro k
  induction k with
  | zero =>
    intro lo hi st n h1 h2 h3 h4 h5 h6 h7
    obtain ⟨n, rfl⟩ : ∃ q, n = q + 1 := ⟨n - 1, by omega⟩
    have e : lo = a := by omega
    subst e
    exact br_f (nI_ge (b := 32) (by omega) (by decide)) (br_t (nI_le (by omega) (by omega)) hp)
  | succ k ih =>
    intro lo hi st n h1 h2 h3 h4 h5 h6 h7
    obtain ⟨n, rfl⟩ : ∃ q, n = q + 1 := ⟨n - 1, by omega⟩
    refine br_f (nI_ge (b := 32) (by omega) (by decide)) ?_
    rcases Nat.lt_or_ge lo hi with z | z
    · refine br_f (nI_ge z (by omega)) (nm_r (qx_mid (by omega)) ?_)
      have hpw : 2 ^ (k + 1) = 2 * 2 ^ k := by rw [Nat.pow_succ]; omega
      generalize hm : (lo + hi) / 2 = md
      refine qx_isBefore (by omega) (fun hb => ?_) (fun hb => ?_)
      · have := (h7 md (by omega) (by omega)).mp hb
        refine br_f (by decide) (nm_r (nI_1 md) (nm_r (nI_1 st) ?_))
        exact ih (md + 1) hi (st + 1) n (by omega) h2 h3 (by omega) (by omega) (by omega) (fun i hi1 hi2 => h7 i (by omega) hi2)
      · have : ¬ md < a := fun w => hb ((h7 md (by omega) (by omega)).mpr w)
        refine br_t rfl (nm_r (nI_1 st) ?_)
        exact ih lo md (st + 1) n h1 (by omega) (by omega) (by omega) (by omega) (by omega) (fun i hi1 hi2 => h7 i hi1 (by omega))
    · have e : lo = a := by omega
      subst e
      exact br_t (nI_le z (by omega)) hp
theorem qx_find {post : Int32 → Prop} {t : Int32} {m : Int64} {A B : List qa_T} {fr e : Nat} (hs : qm_sg tT tM tC fr (A ++ B)) (he : e = fr + A.length + B.length) (h224 : e ≤ 224) (ha : ∀ x, x ∈ A → qa_bf x t m) (hb : ∀ x, x ∈ B → ¬ qa_bf x t m) (hp : post (nI (fr + A.length))) : wpX_find post (XR, XT, XM, XP, XN, XK, XB, XO, aS, aC, aD, aF, tT, tM, tC, tV) (nI fr) (nI e) t m := by
  obtain ⟨s1, s2⟩ := qm_sg_app.mp hs
  refine Exists.intro 9 (qx_find_9 hp 8 fr e 0 9 (by omega) (by omega) h224 (by omega) (by omega) (by omega) ?_)
  intro i h1 h2
  constructor
  · intro hq
    refine Nat.lt_of_not_le fun z => ?_
    have := qm_sg_mem s2 (i - (fr + A.length)) (by omega)
    rw [show fr + A.length + (i - (fr + A.length)) = i by omega] at this
    exact hb _ this hq
  · intro hq
    have := qm_sg_mem s1 (i - fr) (by omega)
    rw [show fr + (i - fr) = i by omega] at this
    exact ha _ this
theorem qx_isTerm {post : Int32 → Prop} {i e : Nat} {t : Int32} {m : Int64} (he : e ≤ 224) (hi : i ≤ 224) (h1 : i < e → tT i = t → tM i = m → post 1) (h0 : ¬ (i < e ∧ tT i = t ∧ tM i = m) → post 0) : wpX_isTerm post (XR, XT, XM, XP, XN, XK, XB, XO, aS, aC, aD, aF, tT, tM, tC, tV) (nI i) (nI e) t m := by
  refine pk_le e i (fun z => h0 (fun w => by omega)) (fun z => ?_)
  have hv : vp_in (nI i) 224 := vp_in_nI (by omega) (by omega)
  have hc : (nI i).toNatClampNeg = i := nI_clamp (by omega)
  refine And.intro hv ?_
  rw [hc]
  exact br_c (fun e1 => ⟨hv, br_c (fun e2 => h1 z e1 e2) (fun e2 => h0 (fun w => e2 w.2.2))⟩) (fun e1 => h0 (fun w => e1 w.2.1))
theorem qx_insert_3 {post : SX → Prop} {i e : Nat} {t : Int32} {m c : Int64} (hie : i ≤ e) (he : e < 224) (hp : post (XR, XT, XM, XP, XN, XK, XB, XO, aS, aC, aD, aF, qm_in tT i e t, qm_in tM i e m, qm_in tC i e c, tV)) : ∀ (d k n : Nat), k = i + d → k ≤ e → d < n → wX_insert_3 post (nI i) t m c XR XT XM XP XN XK XB XO n (nI k) aS aC aD aF (qm_sh tT k e) (qm_sh tM k e) (qm_sh tC k e) tV := by
  intro d
  induction d with
  | zero =>
    intro k n hk hke hn
    obtain ⟨n, rfl⟩ : ∃ q, n = q + 1 := ⟨n - 1, by omega⟩
    have e0 : k = i := by omega
    subst e0
    have hv : vp_in (nI k) 224 := vp_in_nI (by omega) (by omega)
    have hc : (nI k).toNatClampNeg = k := nI_clamp (by omega)
    refine br_t (nI_le (Nat.le_refl _) (by omega)) ?_
    rw [hc]
    exact ⟨hv, nm_e ⟨hv, nm_e ⟨hv, nm_e hp⟩⟩⟩
  | succ d ih =>
    intro k n hk hke hn
    obtain ⟨n, rfl⟩ : ∃ q, n = q + 1 := ⟨n - 1, by omega⟩
    obtain ⟨k, rfl⟩ : ∃ q, k = q + 1 := ⟨k - 1, by omega⟩
    have hv : vp_in (nI (k + 1)) 224 := vp_in_nI (by omega) (by omega)
    have hc : (nI (k + 1)).toNatClampNeg = k + 1 := nI_clamp (by omega)
    have hv' : vp_in (nI (k + 1) - 1) 224 := by rw [nI_pred]; exact vp_in_nI (by omega) (by omega)
    have hc' : (nI (k + 1) - 1).toNatClampNeg = k := by rw [nI_pred]; exact nI_clamp (by omega)
    refine br_f (nI_ge (by omega) (by omega)) ?_
    rw [hc, hc']
    refine ⟨hv', hv, nm_r (qm_sh_up tT (by omega)) ⟨hv', hv, nm_r (qm_sh_up tM (by omega)) ⟨hv', hv, nm_r (qm_sh_up tC (by omega)) (nm_r (pk_m1 k) ?_)⟩⟩⟩
    exact ih k n (by omega) (by omega) (by omega)
theorem qx_insert {post : SX → Prop} {i e : Nat} {t : Int32} {m c : Int64} (hie : i ≤ e) (he : e < 224) (hp : post (XR, XT, XM, XP, XN, XK, XB, XO, aS, aC, aD, aF, qm_in tT i e t, qm_in tM i e m, qm_in tC i e c, tV)) : wpX_insert post (XR, XT, XM, XP, XN, XK, XB, XO, aS, aC, aD, aF, tT, tM, tC, tV) (nI i) (nI e) t m c := by
  have h := qx_insert_3 (aS := aS) (aC := aC) (aD := aD) (aF := aF) (tT := tT) (tM := tM) (tC := tC) (tV := tV) hie he hp (e - i) e (e - i + 1) (by omega) (Nat.le_refl _) (by omega)
  rw [qm_sh_e, qm_sh_e, qm_sh_e] at h
  exact Exists.intro _ h
end
def qx_B (fr : Nat) (t0 : Nat → Int32) (m0 c0 : Nat → Int64) (L : List qa_T) (t : Nat → Int32) (m c : Nat → Int64) : Prop := qm_sg t m c fr L ∧ qa_so L ∧ ∀ j, j < fr → t j = t0 j ∧ m j = m0 j ∧ c j = c0 j
def qx_I (mx : Nat) (C L : List qa_T) (o : Int32) : Prop := L.length ≤ mx ∧ ((o = 0 ∧ qa_E 4 L C) ∨ (o = 1 ∧ ∃ K : List qa_K, K.Nodup ∧ K.length = mx + 1 ∧ ∀ k, k ∈ K → qa_os 4 C k ≠ none))
theorem qx_mono {C D : List qa_T} {k : qa_K} (h : qa_os 4 C k ≠ none) : qa_os 4 (C ++ D) k ≠ none := by
  rw [qa_os_app]; intro e; exact h (qa_o_none.mp e).1
theorem qx_B_old {fr : Nat} {t0 : Nat → Int32} {m0 c0 : Nat → Int64} {L : List qa_T} {t : Nat → Int32} {m c : Nat → Int64} (b : qx_B fr t0 m0 c0 L t m c) {p : Nat} {M : List qa_T} (h : qm_sg t0 m0 c0 p M) (hp : p + M.length ≤ fr) : qm_sg t m c p M :=
  qm_sg_congr (fun j _ h2 => b.2.2 j (by omega)) h
theorem qx_I_ext {mx : Nat} {C D L : List qa_T} {o : Int32} (h : qx_I mx C L o) (ho : o = 1) : qx_I mx (C ++ D) L o := by
  refine ⟨h.1, Or.inr ⟨ho, ?_⟩⟩
  rcases h.2 with ⟨e, _⟩ | ⟨_, K, k1, k2, k3⟩
  · rw [e] at ho; exact absurd ho (by decide)
  · exact ⟨K, k1, k2, fun k hk => qx_mono (k3 k hk)⟩
section
variable {XR XT XM XP XN XK XB XO : Int32} {aS aC aD aF tT tV : Nat → Int32} {tM tC : Nat → Int64}
theorem qx_add {post : SX → Prop} {n fr mx : Nat} {t0 : Nat → Int32} {m0 c0 : Nat → Int64} {C L : List qa_T} (x : qa_T) (hN : XN = nI n) (hn : n ≤ 8) (hS : aS n = nI fr) (hB : XB = nI L.length) (hM : XM = nI mx) (hmx : mx ≤ 32) (hfr : fr ≤ 192) (b : qx_B fr t0 m0 c0 L tT tM tC) (i : qx_I mx C L XO) (K : ∀ L' o' t' m' c', qx_B fr t0 m0 c0 L' t' m' c' → qx_I mx (C ++ [x]) L' o' → post (XR, XT, XM, XP, XN, XK, nI L'.length, o', aS, aC, aD, aF, t', m', c', tV)) : wpX_add post (XR, XT, XM, XP, XN, XK, XB, XO, aS, aC, aD, aF, tT, tM, tC, tV) x.1 x.2.1 x.2.2 := by
  subst hN hB hM
  obtain ⟨b1, b2, b3⟩ := b
  obtain ⟨A, B, eL, ha, hb⟩ := qa_split_bf b2 x.1 x.2.1
  subst eL
  have hlen : (A ++ B).length = A.length + B.length := List.length_append
  have hL := i.1
  refine And.intro (vp_in_nI (by omega) (by omega)) ?_
  rw [nI_clamp (n := n) (by omega), hS]
  refine nm_e (nm_r (nI_add _ _) ?_)
  refine qx_find b1 (by omega) (by omega) ha hb ?_
  have hc : (nI (fr + A.length)).toNatClampNeg = fr + A.length := nI_clamp (by omega)
  refine qx_isTerm (by omega) (by omega) (fun z1 z2 z3 => br_f (by decide) ?_) (fun z => br_t rfl ?_)
  · -- found
    match B, hb, b1, b2, i, z1, hlen, hL with
    | [], _, _, _, _, z1, hlen, _ => rw [hlen] at z1; simp at z1
    | y :: B, hb, b1, b2, i, z1, hlen, hL =>
      obtain ⟨y1, y2, y3⟩ := qm_sg_mid b1
      have hv : vp_in (nI (fr + A.length)) 224 := vp_in_nI (by omega) (by omega)
      rw [hc]
      have ex1 : y.1 = x.1 := by rw [← y1]; exact z2
      have ex2 : y.2.1 = x.2.1 := by rw [← y2]; exact z3
      have ex : (y.1, y.2.1, x.2.2) = x := by rw [ex1, ex2]
      have hl2 : (A ++ (y.1, y.2.1, y.2.2 + x.2.2) :: B).length = (A ++ y :: B).length := by simp
      have fin := K (A ++ (y.1, y.2.1, y.2.2 + x.2.2) :: B) XO tT tM (vp_updL tC (fr + A.length) (tC (fr + A.length) + x.2.2)) ?_ ?_
      · rw [hl2] at fin
        exact And.intro hv (And.intro hv (nm_e fin))
      · refine ⟨?_, qa_so_rep b2 rfl, fun j hj => ⟨(b3 j hj).1, (b3 j hj).2.1, ?_⟩⟩
        · obtain ⟨g1, g2, g3, g4, g5⟩ := qm_sg_app.mp b1
          refine qm_sg_app.mpr ⟨qm_sg_congr (fun j _ h => ⟨rfl, rfl, pk_uLn (by omega)⟩) g1, g2, g3, ?_, qm_sg_congr (fun j h _ => ⟨rfl, rfl, pk_uLn (by omega)⟩) g5⟩
          rw [pk_uLs, g4]
        · rw [pk_uLn (by omega)]; exact (b3 j hj).2.2
      · refine ⟨by rw [hl2]; exact hL, ?_⟩
        rcases i.2 with ⟨o, hE⟩ | ⟨o, K2, k1, k2, k3⟩
        · refine Or.inl ⟨o, fun k => ?_⟩
          rw [qa_os_rep, hE k, ex, qa_os_app, qa_os_1]
        · exact Or.inr ⟨o, K2, k1, k2, fun k hk => qx_mono (k3 k hk)⟩
  · have nk : ∀ y, y ∈ A ++ B → qa_key y ≠ qa_key x := by
      intro y hy hk
      obtain ⟨B', rfl⟩ := qa_split_key b2 ha hb hy hk
      obtain ⟨y1, y2, _⟩ := qm_sg_mid b1
      refine z ⟨by simp, ?_, ?_⟩
      · rw [y1]; exact qa_k1 hk
      · rw [y2]; exact qa_k2 hk
    refine pk_lt (A ++ B).length mx (fun hlt => ?_) (fun hge => ?_)
    · refine qx_insert (by omega) (by omega) (nm_r (nI_1 _) ?_)
      have hl2 : (A ++ x :: B).length = (A ++ B).length + 1 := by simp; omega
      have fin := K (A ++ x :: B) XO (qm_in tT (fr + A.length) (fr + (A ++ B).length) x.1) (qm_in tM (fr + A.length) (fr + (A ++ B).length) x.2.1) (qm_in tC (fr + A.length) (fr + (A ++ B).length) x.2.2) ?_ ?_
      · rw [hl2] at fin; exact fin
      · exact ⟨qm_sg_ins b1 rfl (by omega), qa_so_ins b2 ha hb nk, fun j hj => ⟨(qm_in_lo tT (by omega)).trans (b3 j hj).1, (qm_in_lo tM (by omega)).trans (b3 j hj).2.1, (qm_in_lo tC (by omega)).trans (b3 j hj).2.2⟩⟩
      · refine ⟨by omega, ?_⟩
        rcases i.2 with ⟨o, hE⟩ | ⟨o, K2, k1, k2, k3⟩
        · refine Or.inl ⟨o, fun k => ?_⟩
          rw [qa_os_ins, hE k, qa_os_app, qa_os_1]
        · exact Or.inr ⟨o, K2, k1, k2, fun k hk => qx_mono (k3 k hk)⟩
    · refine K (A ++ B) 1 tT tM tC ⟨b1, b2, b3⟩ ⟨hL, Or.inr ⟨rfl, ?_⟩⟩
      rcases i.2 with ⟨o, hE⟩ | ⟨o, K, k1, k2, k3⟩
      · refine ⟨qa_key x :: (A ++ B).map qa_key, List.nodup_cons.mpr ⟨?_, qa_so_ND b2⟩, by simp only [List.length_cons, List.length_map]; omega, ?_⟩
        · intro hm
          obtain ⟨y, hy, e⟩ := List.mem_map.mp hm
          exact nk y hy e
        · intro k hk
          rcases List.mem_cons.mp hk with q | q
          · rw [q, qa_os_app, qa_os_1, qa_v_eq]
            intro e; have := (qa_o_none.mp e).2; cases this
          · obtain ⟨y, hy, e⟩ := List.mem_map.mp q
            apply qx_mono
            rw [← hE, ← e]
            intro w; exact qa_os_none.mp w y hy rfl
      · exact ⟨K, k1, k2, fun k hk => qx_mono (k3 k hk)⟩
theorem qx_enter {post : Int32 → SX → Prop} {n : Nat} {w d f z : Int32} (hN : XN = nI n) (hn : n < 8) (hp : post (nI n) (XR, XT, XM, XP, nI (n + 1), XK, XB, XO, upd aS (n + 1) (aS n + z), upd aC n w, upd aD n d, upd aF n (vp_nar .boolean f), tT, tM, tC, tV)) : wpX_enter post (XR, XT, XM, XP, XN, XK, XB, XO, aS, aC, aD, aF, tT, tM, tC, tV) w d f z := by
  subst hN
  have hv : vp_in (nI n) 8 := vp_in_nI (by omega) (by omega)
  have hv9 : vp_in (nI n) 9 := vp_in_nI (by omega) (by omega)
  have hv1 : vp_in (nI n + 1) 9 := by rw [nI_1]; exact vp_in_nI (by omega) (by omega)
  have hc : (nI n).toNatClampNeg = n := nI_clamp (by omega)
  have hc1 : (nI n + 1).toNatClampNeg = n + 1 := by rw [nI_1]; exact nI_clamp (by omega)
  unfold wpX_enter
  dsimp only
  rw [hc, hc1]
  exact ⟨hv, nm_e ⟨hv, nm_e ⟨hv, nm_e ⟨hv9, hv1, nm_e (nm_r (nI_1 n) hp)⟩⟩⟩⟩
theorem qx_finish {post : Int32 → SX → Prop} {n fr b mp : Nat} {w d : Int32} (hN : XN = nI n) (hn : n < 8) (hS : aS n = nI fr) (hB : XB = nI b) (hP : XP = nI mp) (hfr : fr ≤ 192) (hb : b ≤ 32) (hmp : mp ≤ 192) (h1 : ¬ XO = 0 → post (-7) (XR, XT, XM, XP, XN, XK, XB, XO, aS, aC, aD, aF, tT, tM, tC, tV)) (h2 : XO = 0 → mp < fr + b → post (-8) (XR, XT, XM, XP, XN, XK, XB, XO, aS, aC, aD, aF, tT, tM, tC, tV)) (h3 : XO = 0 → fr + b ≤ mp → post (nI n) (XR, XT, XM, XP, nI (n + 1), XK, XB, XO, upd aS (n + 1) (nI (fr + b)), upd aC n w, upd aD n d, upd aF n 0, tT, tM, tC, tV)) : wpX_finish post (XR, XT, XM, XP, XN, XK, XB, XO, aS, aC, aD, aF, tT, tM, tC, tV) w d := by
  subst hN hB hP
  refine br_c (fun h => ?_) h1
  refine And.intro (vp_in_nI (by omega) (by omega)) ?_
  rw [nI_clamp (n := n) (by omega), hS, nI_add]
  refine pk_le (fr + b) mp (fun z => ?_) (h2 h)
  refine qx_enter rfl hn ?_
  rw [hS, nI_add]
  exact h3 h z
end
end
section
/-! X: the loops that build a view -/
def qc_c (t c : Int32) : Int32 := (t >>> ((2 * c) &&& 31)) &&& 3
def qc_wo (t c : Int32) : Int32 := (t &&& (((1 : Int32) <<< ((2 * c) &&& 31)) - 1)) ||| ((t >>> ((2 * c + 2) &&& 31)) <<< ((2 * c) &&& 31))
def qx_p1 (t c0 c1 : Int32) : Int32 := if c1 = -1 then qc_c t c0 else qc_c t c0 ||| (qc_c t c1 <<< ((2 : Int32) &&& 31))
def qx_pj (t c0 c1 c2 : Int32) : Int32 := if c2 = -1 then qx_p1 t c0 c1 else qx_p1 t c0 c1 ||| (qc_c t c2 <<< ((4 : Int32) &&& 31))
theorem qx_I_o {mx : Nat} {C L : List qa_T} {o : Int32} (h : qx_I mx C L o) (ho : ¬ o = 0) : o = 1 := by
  rcases h.2 with ⟨e, _⟩ | ⟨e, _⟩
  · exact absurd e ho
  · exact e
theorem qx_fl_s {f : qa_T → List qa_T} (D : List qa_T) (x : qa_T) : (D ++ [x]).flatMap f = D.flatMap f ++ f x := by
  rw [List.flatMap_append, List.flatMap_cons, List.flatMap_nil, List.append_nil]
section
variable {XR XT XM XP XN XK XB XO : Int32} {aS aC aD aF tT tV : Nat → Int32} {tM tC : Nat → Int64}
theorem qx_projected {post : Int32 → Prop} {t c0 c1 c2 : Int32} (h : post (qx_pj t c0 c1 c2)) : wpX_projected post (XR, XT, XM, XP, XN, XK, XB, XO, aS, aC, aD, aF, tT, tM, tC, tV) t c0 c1 c2 := by
  unfold qx_pj qx_p1 at h
  refine br_c (fun e => ?_) (fun e => ?_)
  · rw [if_pos e] at h
    refine br_c (fun e2 => ?_) (fun e2 => ?_)
    · rw [if_pos e2] at h; exact h
    · rw [if_neg e2] at h; exact nm_e h
  · rw [if_neg e] at h
    refine nm_e ?_
    refine br_c (fun e2 => ?_) (fun e2 => ?_)
    · rw [if_pos e2] at h; exact h
    · rw [if_neg e2] at h; exact nm_e h
variable {n fr mx r p0 : Nat} {t0 : Nat → Int32} {m0 c0 : Nat → Int64} {Lr : List qa_T} {f : qa_T → List qa_T}
theorem qx_select_59 {post : Int32 → SX → Prop} {cl vl : Int32} (hN : XN = nI n) (hn : n ≤ 8) (hS : aS n = nI fr) (hM : XM = nI mx) (hmx : mx ≤ 32) (hfr : fr ≤ 192) (hr : r < n) (hS1 : aS (r + 1) = nI (p0 + Lr.length)) (hseg : qm_sg t0 m0 c0 p0 Lr) (hle : p0 + Lr.length ≤ fr) (hf1 : ∀ x, x ∈ Lr → qc_c x.1 cl = vl → f x = [x]) (hf0 : ∀ x, x ∈ Lr → ¬ qc_c x.1 cl = vl → f x = []) (K : ∀ L o t m c, qx_B fr t0 m0 c0 L t m c → qx_I mx (Lr.flatMap f) L o → wpX_finish post (XR, XT, XM, XP, XN, XK, nI L.length, o, aS, aC, aD, aF, t, m, c, tV) (aC r) (aD r)) : ∀ (Rs D L : List qa_T) (o : Int32) (t : Nat → Int32) (m c : Nat → Int64), Lr = D ++ Rs → qx_B fr t0 m0 c0 L t m c → qx_I mx (D.flatMap f) L o → ∀ fu, Rs.length < fu → wX_select_59 post (nI r) cl vl fu (nI (p0 + D.length)) XR XT XM XP XN XK (nI L.length) o aS aC aD aF t m c tV := by
  have hc1 : (nI r + 1).toNatClampNeg = r + 1 := by rw [nI_1]; exact nI_clamp (by omega)
  have hv1 : vp_in (nI r + 1) 9 := by rw [nI_1]; exact vp_in_nI (by omega) (by omega)
  intro Rs
  induction Rs with
  | nil =>
    intro D L o t m c eL b i fu hfu
    obtain ⟨fu, rfl⟩ : ∃ q, fu = q + 1 := ⟨fu - 1, by simp at hfu; omega⟩
    rw [List.append_nil] at eL
    subst eL
    have hv : vp_in (nI r) 8 := vp_in_nI (by omega) (by omega)
    refine And.intro hv1 ?_
    rw [hc1, hS1, nI_clamp (n := r) (by omega)]
    exact br_t (nI_le (Nat.le_refl _) (by omega)) ⟨hv, hv, K L o t m c b i⟩
  | cons x Rs ih =>
    intro D L o t m c eL b i fu hfu
    obtain ⟨fu, rfl⟩ : ∃ q, fu = q + 1 := ⟨fu - 1, by simp at hfu; omega⟩
    have hmem : x ∈ Lr := by rw [eL]; exact List.mem_append_right _ List.mem_cons_self
    have hlen : Lr.length = D.length + Rs.length + 1 := by rw [eL]; simp; omega
    have hsg := qx_B_old b hseg hle
    rw [eL] at hsg
    obtain ⟨g1, g2, g3⟩ := qm_sg_mid hsg
    have hv : vp_in (nI (p0 + D.length)) 224 := vp_in_nI (by omega) (by omega)
    have hcc : (nI (p0 + D.length)).toNatClampNeg = p0 + D.length := nI_clamp (by omega)
    have eD : Lr = (D ++ [x]) ++ Rs := by rw [eL, List.append_assoc]; rfl
    have eA : p0 + (D ++ [x]).length = p0 + D.length + 1 := by simp; omega
    refine And.intro hv1 ?_
    rw [hc1, hS1, hcc, g1, g2, g3]
    refine br_f (nI_ge (by omega) (by omega)) ⟨hv, ?_⟩
    refine br_c (fun e => ⟨hv, hv, hv, ?_⟩) (fun e => nm_r (nI_1 _) ?_)
    · refine qx_add x hN hn hS rfl hM hmx hfr b i ?_
      intro L' o' t' m' c' b' i'
      refine nm_r (nI_1 _) ?_
      have := ih (D ++ [x]) L' o' t' m' c' eD b' (by rw [qx_fl_s, hf1 x hmem e]; exact i') fu (by simp at hfu; omega)
      rw [eA] at this
      exact this
    · have := ih (D ++ [x]) L o t m c eD b (by rw [qx_fl_s, hf0 x hmem e, List.append_nil]; exact i) fu (by simp at hfu; omega)
      rw [eA] at this
      exact this
theorem qx_match_57 {post : Int32 → SX → Prop} {cl vl : Int32} (hN : XN = nI n) (hn : n ≤ 8) (hS : aS n = nI fr) (hM : XM = nI mx) (hmx : mx ≤ 32) (hfr : fr ≤ 192) (hr : r < n) (hS1 : aS (r + 1) = nI (p0 + Lr.length)) (hseg : qm_sg t0 m0 c0 p0 Lr) (hle : p0 + Lr.length ≤ fr) (hf1 : ∀ x, x ∈ Lr → qc_c x.1 cl = qc_c x.1 vl → f x = [x]) (hf0 : ∀ x, x ∈ Lr → ¬ qc_c x.1 cl = qc_c x.1 vl → f x = []) (K : ∀ L o t m c, qx_B fr t0 m0 c0 L t m c → qx_I mx (Lr.flatMap f) L o → wpX_finish post (XR, XT, XM, XP, XN, XK, nI L.length, o, aS, aC, aD, aF, t, m, c, tV) (aC r) (aD r)) : ∀ (Rs D L : List qa_T) (o : Int32) (t : Nat → Int32) (m c : Nat → Int64), Lr = D ++ Rs → qx_B fr t0 m0 c0 L t m c → qx_I mx (D.flatMap f) L o → ∀ fu, Rs.length < fu → wX_match_57 post (nI r) cl vl fu (nI (p0 + D.length)) XR XT XM XP XN XK (nI L.length) o aS aC aD aF t m c tV := by
  have hc1 : (nI r + 1).toNatClampNeg = r + 1 := by rw [nI_1]; exact nI_clamp (by omega)
  have hv1 : vp_in (nI r + 1) 9 := by rw [nI_1]; exact vp_in_nI (by omega) (by omega)
  intro Rs
  induction Rs with
  | nil =>
    intro D L o t m c eL b i fu hfu
    obtain ⟨fu, rfl⟩ : ∃ q, fu = q + 1 := ⟨fu - 1, by simp at hfu; omega⟩
    rw [List.append_nil] at eL
    subst eL
    have hv : vp_in (nI r) 8 := vp_in_nI (by omega) (by omega)
    refine And.intro hv1 ?_
    rw [hc1, hS1, nI_clamp (n := r) (by omega)]
    exact br_t (nI_le (Nat.le_refl _) (by omega)) ⟨hv, hv, K L o t m c b i⟩
  | cons x Rs ih =>
    intro D L o t m c eL b i fu hfu
    obtain ⟨fu, rfl⟩ : ∃ q, fu = q + 1 := ⟨fu - 1, by simp at hfu; omega⟩
    have hmem : x ∈ Lr := by rw [eL]; exact List.mem_append_right _ List.mem_cons_self
    have hlen : Lr.length = D.length + Rs.length + 1 := by rw [eL]; simp; omega
    have hsg := qx_B_old b hseg hle
    rw [eL] at hsg
    obtain ⟨g1, g2, g3⟩ := qm_sg_mid hsg
    have hv : vp_in (nI (p0 + D.length)) 224 := vp_in_nI (by omega) (by omega)
    have hcc : (nI (p0 + D.length)).toNatClampNeg = p0 + D.length := nI_clamp (by omega)
    have eD : Lr = (D ++ [x]) ++ Rs := by rw [eL, List.append_assoc]; rfl
    have eA : p0 + (D ++ [x]).length = p0 + D.length + 1 := by simp; omega
    refine And.intro hv1 ?_
    rw [hc1, hS1, hcc, g1, g2, g3]
    refine br_f (nI_ge (by omega) (by omega)) ⟨hv, ?_⟩
    refine And.intro hv ?_
    refine br_c (fun e => ⟨hv, hv, hv, ?_⟩) (fun e => nm_r (nI_1 _) ?_)
    · refine qx_add x hN hn hS rfl hM hmx hfr b i ?_
      intro L' o' t' m' c' b' i'
      refine nm_r (nI_1 _) ?_
      have := ih (D ++ [x]) L' o' t' m' c' eD b' (by rw [qx_fl_s, hf1 x hmem e]; exact i') fu (by simp at hfu; omega)
      rw [eA] at this
      exact this
    · have := ih (D ++ [x]) L o t m c eD b (by rw [qx_fl_s, hf0 x hmem e, List.append_nil]; exact i) fu (by simp at hfu; omega)
      rw [eA] at this
      exact this
theorem qx_project_51 {post : Int32 → SX → Prop} {q0 q1 q2 : Int32} (hN : XN = nI n) (hn : n ≤ 8) (hS : aS n = nI fr) (hM : XM = nI mx) (hmx : mx ≤ 32) (hfr : fr ≤ 192) (hr : r < n) (hS1 : aS (r + 1) = nI (p0 + Lr.length)) (hseg : qm_sg t0 m0 c0 p0 Lr) (hle : p0 + Lr.length ≤ fr) (hf : ∀ x, x ∈ Lr → f x = [(qx_pj x.1 q0 q1 q2, x.2.1, x.2.2)]) (K : ∀ L o t m c, qx_B fr t0 m0 c0 L t m c → qx_I mx (Lr.flatMap f) L o → wpX_finish post (XR, XT, XM, XP, XN, XK, nI L.length, o, aS, aC, aD, aF, t, m, c, tV) (if q1 = -1 then 1 else if q2 = -1 then 2 else 3) (aD r)) : ∀ (Rs D L : List qa_T) (o : Int32) (t : Nat → Int32) (m c : Nat → Int64), Lr = D ++ Rs → qx_B fr t0 m0 c0 L t m c → qx_I mx (D.flatMap f) L o → ∀ fu, Rs.length < fu → wX_project_51 post (nI r) q0 q1 q2 fu (nI (p0 + D.length)) XR XT XM XP XN XK (nI L.length) o aS aC aD aF t m c tV := by
  have hc1 : (nI r + 1).toNatClampNeg = r + 1 := by rw [nI_1]; exact nI_clamp (by omega)
  have hv1 : vp_in (nI r + 1) 9 := by rw [nI_1]; exact vp_in_nI (by omega) (by omega)
  intro Rs
  induction Rs with
  | nil =>
    intro D L o t m c eL b i fu hfu
    obtain ⟨fu, rfl⟩ : ∃ q, fu = q + 1 := ⟨fu - 1, by simp at hfu; omega⟩
    rw [List.append_nil] at eL
    subst eL
    have hv : vp_in (nI r) 8 := vp_in_nI (by omega) (by omega)
    have hcr : (nI r).toNatClampNeg = r := nI_clamp (by omega)
    have k := K L o t m c b i
    refine And.intro hv1 ?_
    rw [hc1, hS1]
    refine br_t (nI_le (Nat.le_refl _) (by omega)) (br_c (fun e => ?_) (fun e => br_c (fun e2 => ?_) (fun e2 => ?_)))
    · rw [if_pos e] at k; refine And.intro hv ?_; rw [hcr]; exact k
    · rw [if_neg e, if_pos e2] at k; refine And.intro hv ?_; rw [hcr]; exact k
    · rw [if_neg e, if_neg e2] at k; refine And.intro hv ?_; rw [hcr]; exact k
  | cons x Rs ih =>
    intro D L o t m c eL b i fu hfu
    obtain ⟨fu, rfl⟩ : ∃ q, fu = q + 1 := ⟨fu - 1, by simp at hfu; omega⟩
    have hmem : x ∈ Lr := by rw [eL]; exact List.mem_append_right _ List.mem_cons_self
    have hlen : Lr.length = D.length + Rs.length + 1 := by rw [eL]; simp; omega
    have hsg := qx_B_old b hseg hle
    rw [eL] at hsg
    obtain ⟨g1, g2, g3⟩ := qm_sg_mid hsg
    have hv : vp_in (nI (p0 + D.length)) 224 := vp_in_nI (by omega) (by omega)
    have hcc : (nI (p0 + D.length)).toNatClampNeg = p0 + D.length := nI_clamp (by omega)
    have eD : Lr = (D ++ [x]) ++ Rs := by rw [eL, List.append_assoc]; rfl
    have eA : p0 + (D ++ [x]).length = p0 + D.length + 1 := by simp; omega
    refine And.intro hv1 ?_
    rw [hc1, hS1, hcc, g1, g2, g3]
    refine br_f (nI_ge (by omega) (by omega)) ⟨hv, ?_⟩
    refine qx_projected ⟨hv, hv, ?_⟩
    refine qx_add (qx_pj x.1 q0 q1 q2, x.2.1, x.2.2) hN hn hS rfl hM hmx hfr b i ?_
    intro L' o' t' m' c' b' i'
    refine nm_r (nI_1 _) ?_
    have := ih (D ++ [x]) L' o' t' m' c' eD b' (by rw [qx_fl_s, hf x hmem]; exact i') fu (by simp at hfu; omega)
    rw [eA] at this
    exact this
theorem qx_addAll_7 {post : SX → Prop} {C : List qa_T} (hN : XN = nI n) (hn : n ≤ 8) (hS : aS n = nI fr) (hM : XM = nI mx) (hmx : mx ≤ 32) (hfr : fr ≤ 192) (hr : r < n) (hS1 : aS (r + 1) = nI (p0 + Lr.length)) (hseg : qm_sg t0 m0 c0 p0 Lr) (hle : p0 + Lr.length ≤ fr) (K : ∀ L o t m c, qx_B fr t0 m0 c0 L t m c → qx_I mx (C ++ Lr) L o → post (XR, XT, XM, XP, XN, XK, nI L.length, o, aS, aC, aD, aF, t, m, c, tV)) : ∀ (Rs D L : List qa_T) (o : Int32) (t : Nat → Int32) (m c : Nat → Int64), Lr = D ++ Rs → qx_B fr t0 m0 c0 L t m c → qx_I mx (C ++ D) L o → ∀ fu, Rs.length < fu → wX_addAll_7 post (nI r) fu (nI (p0 + D.length)) XR XT XM XP XN XK (nI L.length) o aS aC aD aF t m c tV := by
  have hc1 : (nI r + 1).toNatClampNeg = r + 1 := by rw [nI_1]; exact nI_clamp (by omega)
  have hv1 : vp_in (nI r + 1) 9 := by rw [nI_1]; exact vp_in_nI (by omega) (by omega)
  intro Rs
  induction Rs with
  | nil =>
    intro D L o t m c eL b i fu hfu
    obtain ⟨fu, rfl⟩ : ∃ q, fu = q + 1 := ⟨fu - 1, by simp at hfu; omega⟩
    rw [List.append_nil] at eL
    subst eL
    refine And.intro hv1 ?_
    rw [hc1, hS1]
    exact br_t (nI_le (Nat.le_refl _) (by omega)) (K L o t m c b i)
  | cons x Rs ih =>
    intro D L o t m c eL b i fu hfu
    obtain ⟨fu, rfl⟩ : ∃ q, fu = q + 1 := ⟨fu - 1, by simp at hfu; omega⟩
    have hlen : Lr.length = D.length + Rs.length + 1 := by rw [eL]; simp; omega
    have hsg := qx_B_old b hseg hle
    rw [eL] at hsg
    obtain ⟨g1, g2, g3⟩ := qm_sg_mid hsg
    have hv : vp_in (nI (p0 + D.length)) 224 := vp_in_nI (by omega) (by omega)
    have hcc : (nI (p0 + D.length)).toNatClampNeg = p0 + D.length := nI_clamp (by omega)
    have eD : Lr = (D ++ [x]) ++ Rs := by rw [eL, List.append_assoc]; rfl
    have eA : p0 + (D ++ [x]).length = p0 + D.length + 1 := by simp; omega
    refine And.intro hv1 ?_
    rw [hc1, hS1, hcc, g1, g2, g3]
    refine br_f (nI_ge (by omega) (by omega)) ⟨hv, hv, hv, ?_⟩
    refine qx_add x hN hn hS rfl hM hmx hfr b i ?_
    intro L' o' t' m' c' b' i'
    refine nm_r (nI_1 _) ?_
    have := ih (D ++ [x]) L' o' t' m' c' eD b' (by rw [← List.append_assoc]; exact i') fu (by simp at hfu; omega)
    rw [eA] at this
    exact this
theorem qx_addAll {post : SX → Prop} {C L : List qa_T} (hN : XN = nI n) (hn : n ≤ 8) (hS : aS n = nI fr) (hM : XM = nI mx) (hmx : mx ≤ 32) (hfr : fr ≤ 192) (hr : r < n) (hS0 : aS r = nI p0) (hS1 : aS (r + 1) = nI (p0 + Lr.length)) (hseg : qm_sg t0 m0 c0 p0 Lr) (hle : p0 + Lr.length ≤ fr) (hB : XB = nI L.length) (b : qx_B fr t0 m0 c0 L tT tM tC) (i : qx_I mx C L XO) (K : ∀ L o t m c, qx_B fr t0 m0 c0 L t m c → qx_I mx (C ++ Lr) L o → post (XR, XT, XM, XP, XN, XK, nI L.length, o, aS, aC, aD, aF, t, m, c, tV)) : wpX_addAll post (XR, XT, XM, XP, XN, XK, XB, XO, aS, aC, aD, aF, tT, tM, tC, tV) (nI r) := by
  subst hB
  refine And.intro (vp_in_nI (by omega) (by omega)) ?_
  rw [nI_clamp (n := r) (by omega), hS0]
  refine nm_e ⟨Lr.length + 1, ?_⟩
  have := qx_addAll_7 (aC := aC) (aD := aD) (aF := aF) (tV := tV) (XR := XR) (XT := XT) (XP := XP) (XK := XK) hN hn hS hM hmx hfr hr hS1 hseg hle K Lr [] L XO tT tM tC rfl b (by rw [List.append_nil]; exact i) (Lr.length + 1) (by omega)
  exact this
end
end
section
/-! X: join -/
def qx_jx (sh j : Int32) (p q : qa_T) : qa_T := (p.1 ||| (qc_wo q.1 j <<< (sh &&& 31)), p.2.1 + q.2.1, p.2.2 * q.2.2)
section
variable {XR XT XM XP XN XK XB XO : Int32} {aS aC aD aF tT tV : Nat → Int32} {tM tC : Nat → Int64}
variable {n fr mx r p0 s ps : Nat} {t0 : Nat → Int32} {m0 c0 : Nat → Int64} {Lr Ls : List qa_T}
theorem qx_joinTerm_9 {post : SX → Prop} {C : List qa_T} {g : qa_T → List qa_T} {p : qa_T} {lf : Nat} {ky sh j : Int32} (hN : XN = nI n) (hn : n ≤ 8) (hS : aS n = nI fr) (hM : XM = nI mx) (hmx : mx ≤ 32) (hfr : fr ≤ 192) (hs : s < n) (hS1 : aS (s + 1) = nI (ps + Ls.length)) (hseg : qm_sg t0 m0 c0 ps Ls) (hle : ps + Ls.length ≤ fr) (hlf : lf < fr) (hp : t0 lf = p.1 ∧ m0 lf = p.2.1 ∧ c0 lf = p.2.2) (hf1 : ∀ q, q ∈ Ls → qc_c q.1 j = ky → g q = [qx_jx sh j p q]) (hf0 : ∀ q, q ∈ Ls → ¬ qc_c q.1 j = ky → g q = []) (K : ∀ L o t m c, qx_B fr t0 m0 c0 L t m c → qx_I mx (C ++ Ls.flatMap g) L o → post (XR, XT, XM, XP, XN, XK, nI L.length, o, aS, aC, aD, aF, t, m, c, tV)) : ∀ (Rs D L : List qa_T) (o : Int32) (t : Nat → Int32) (m c : Nat → Int64), Ls = D ++ Rs → qx_B fr t0 m0 c0 L t m c → qx_I mx (C ++ D.flatMap g) L o → ∀ fu, Rs.length < fu → wX_joinTerm_9 post (nI lf) ky sh (nI s) j fu (nI (ps + D.length)) XR XT XM XP XN XK (nI L.length) o aS aC aD aF t m c tV := by
  have hc1 : (nI s + 1).toNatClampNeg = s + 1 := by rw [nI_1]; exact nI_clamp (by omega)
  have hv1 : vp_in (nI s + 1) 9 := by rw [nI_1]; exact vp_in_nI (by omega) (by omega)
  have hcl : (nI lf).toNatClampNeg = lf := nI_clamp (by omega)
  have hvl : vp_in (nI lf) 224 := vp_in_nI (by omega) (by omega)
  intro Rs
  induction Rs with
  | nil =>
    intro D L o t m c eL b i fu hfu
    obtain ⟨fu, rfl⟩ : ∃ q, fu = q + 1 := ⟨fu - 1, by simp at hfu; omega⟩
    rw [List.append_nil] at eL
    subst eL
    refine And.intro hv1 ?_
    rw [hc1, hS1]
    exact br_t (nI_le (Nat.le_refl _) (by omega)) (K L o t m c b i)
  | cons x Rs ih =>
    intro D L o t m c eL b i fu hfu
    obtain ⟨fu, rfl⟩ : ∃ q, fu = q + 1 := ⟨fu - 1, by simp at hfu; omega⟩
    have hmem : x ∈ Ls := by rw [eL]; exact List.mem_append_right _ List.mem_cons_self
    have hlen : Ls.length = D.length + Rs.length + 1 := by rw [eL]; simp; omega
    have hsg := qx_B_old b hseg hle
    rw [eL] at hsg
    obtain ⟨g1, g2, g3⟩ := qm_sg_mid hsg
    obtain ⟨l1, l2, l3⟩ := b.2.2 lf hlf
    have l1 := l1.trans hp.1
    have l2 := l2.trans hp.2.1
    have l3 := l3.trans hp.2.2
    have hv : vp_in (nI (ps + D.length)) 224 := vp_in_nI (by omega) (by omega)
    have hcc : (nI (ps + D.length)).toNatClampNeg = ps + D.length := nI_clamp (by omega)
    have eD : Ls = (D ++ [x]) ++ Rs := by rw [eL, List.append_assoc]; rfl
    have eA : ps + (D ++ [x]).length = ps + D.length + 1 := by simp; omega
    refine And.intro hv1 ?_
    rw [hc1, hS1, hcc, hcl, g1, g2, g3, l1, l2, l3]
    refine br_f (nI_ge (by omega) (by omega)) (br_c (fun eo => ⟨hv, ?_⟩) (fun eo => ?_))
    · refine br_c (fun e => ⟨hvl, hv, ?_⟩) (fun e => nm_r (nI_1 _) ?_)
      · refine nm_e (nm_e (nm_e (nm_e ⟨hvl, hv, nm_e ⟨hvl, hv, ?_⟩⟩)))
        refine qx_add (qx_jx sh j p x) hN hn hS rfl hM hmx hfr b i ?_
        intro L' o' t' m' c' b' i'
        refine nm_r (nI_1 _) ?_
        have := ih (D ++ [x]) L' o' t' m' c' eD b' (by rw [qx_fl_s, hf1 x hmem e, ← List.append_assoc]; exact i') fu (by simp at hfu; omega)
        rw [eA] at this
        exact this
      · have := ih (D ++ [x]) L o t m c eD b (by rw [qx_fl_s, hf0 x hmem e, List.append_nil]; exact i) fu (by simp at hfu; omega)
        rw [eA] at this
        exact this
    · have := qx_I_ext (D := (x :: Rs).flatMap g) i (qx_I_o i eo)
      rw [List.append_assoc, ← List.flatMap_append, ← eL] at this
      exact K L o t m c b this
theorem qx_joinTerm {post : SX → Prop} {C L : List qa_T} {g : qa_T → List qa_T} {p : qa_T} {lf : Nat} {ky sh j : Int32} (hN : XN = nI n) (hn : n ≤ 8) (hS : aS n = nI fr) (hM : XM = nI mx) (hmx : mx ≤ 32) (hfr : fr ≤ 192) (hs : s < n) (hS0 : aS s = nI ps) (hS1 : aS (s + 1) = nI (ps + Ls.length)) (hseg : qm_sg t0 m0 c0 ps Ls) (hle : ps + Ls.length ≤ fr) (hlf : lf < fr) (hp : t0 lf = p.1 ∧ m0 lf = p.2.1 ∧ c0 lf = p.2.2) (hf1 : ∀ q, q ∈ Ls → qc_c q.1 j = ky → g q = [qx_jx sh j p q]) (hf0 : ∀ q, q ∈ Ls → ¬ qc_c q.1 j = ky → g q = []) (hB : XB = nI L.length) (b : qx_B fr t0 m0 c0 L tT tM tC) (i : qx_I mx C L XO) (K : ∀ L o t m c, qx_B fr t0 m0 c0 L t m c → qx_I mx (C ++ Ls.flatMap g) L o → post (XR, XT, XM, XP, XN, XK, nI L.length, o, aS, aC, aD, aF, t, m, c, tV)) : wpX_joinTerm post (XR, XT, XM, XP, XN, XK, XB, XO, aS, aC, aD, aF, tT, tM, tC, tV) (nI lf) ky sh (nI s) j := by
  subst hB
  refine And.intro (vp_in_nI (by omega) (by omega)) ?_
  rw [nI_clamp (n := s) (by omega), hS0]
  refine nm_e ⟨Ls.length + 1, ?_⟩
  have := qx_joinTerm_9 (aC := aC) (aD := aD) (aF := aF) (tV := tV) (XR := XR) (XT := XT) (XP := XP) (XK := XK) hN hn hS hM hmx hfr hs hS1 hseg hle hlf hp hf1 hf0 K Ls [] L XO tT tM tC rfl b (by rw [List.flatMap_nil, List.append_nil]; exact i) (Ls.length + 1) (by omega)
  exact this
theorem qx_join_116 {post : Int32 → SX → Prop} {g : qa_T → qa_T → List qa_T} {ci j w d : Int32} (hN : XN = nI n) (hn : n ≤ 8) (hS : aS n = nI fr) (hM : XM = nI mx) (hmx : mx ≤ 32) (hfr : fr ≤ 192) (hr : r < n) (hS1r : aS (r + 1) = nI (p0 + Lr.length)) (hsegr : qm_sg t0 m0 c0 p0 Lr) (hler : p0 + Lr.length ≤ fr) (hs : s < n) (hS0 : aS s = nI ps) (hS1 : aS (s + 1) = nI (ps + Ls.length)) (hseg : qm_sg t0 m0 c0 ps Ls) (hle : ps + Ls.length ≤ fr) (hf1 : ∀ p, p ∈ Lr → ∀ q, q ∈ Ls → qc_c q.1 j = qc_c p.1 ci → g p q = [qx_jx (2 * aC r) j p q]) (hf0 : ∀ p, p ∈ Lr → ∀ q, q ∈ Ls → ¬ qc_c q.1 j = qc_c p.1 ci → g p q = []) (K : ∀ L o t m c, qx_B fr t0 m0 c0 L t m c → qx_I mx (Lr.flatMap (fun p => Ls.flatMap (g p))) L o → wpX_finish post (XR, XT, XM, XP, XN, XK, nI L.length, o, aS, aC, aD, aF, t, m, c, tV) w d) : ∀ (Rs D L : List qa_T) (o : Int32) (t : Nat → Int32) (m c : Nat → Int64), Lr = D ++ Rs → qx_B fr t0 m0 c0 L t m c → qx_I mx (D.flatMap (fun p => Ls.flatMap (g p))) L o → ∀ fu, Rs.length < fu → wX_join_116 post (nI r) ci (nI s) j w d fu (nI (p0 + D.length)) XR XT XM XP XN XK (nI L.length) o aS aC aD aF t m c tV := by
  have hc1 : (nI r + 1).toNatClampNeg = r + 1 := by rw [nI_1]; exact nI_clamp (by omega)
  have hv1 : vp_in (nI r + 1) 9 := by rw [nI_1]; exact vp_in_nI (by omega) (by omega)
  intro Rs
  induction Rs with
  | nil =>
    intro D L o t m c eL b i fu hfu
    obtain ⟨fu, rfl⟩ : ∃ q, fu = q + 1 := ⟨fu - 1, by simp at hfu; omega⟩
    rw [List.append_nil] at eL
    subst eL
    refine And.intro hv1 ?_
    rw [hc1, hS1r]
    exact br_t (nI_le (Nat.le_refl _) (by omega)) (K L o t m c b i)
  | cons x Rs ih =>
    intro D L o t m c eL b i fu hfu
    obtain ⟨fu, rfl⟩ : ∃ q, fu = q + 1 := ⟨fu - 1, by simp at hfu; omega⟩
    have hmem : x ∈ Lr := by rw [eL]; exact List.mem_append_right _ List.mem_cons_self
    have hlen : Lr.length = D.length + Rs.length + 1 := by rw [eL]; simp; omega
    have hsg := qx_B_old b hsegr hler
    rw [eL] at hsg
    obtain ⟨g1, g2, g3⟩ := qm_sg_mid hsg
    have hv : vp_in (nI (p0 + D.length)) 224 := vp_in_nI (by omega) (by omega)
    have hvr : vp_in (nI r) 8 := vp_in_nI (by omega) (by omega)
    have hcc : (nI (p0 + D.length)).toNatClampNeg = p0 + D.length := nI_clamp (by omega)
    have hcr : (nI r).toNatClampNeg = r := nI_clamp (by omega)
    have eD : Lr = (D ++ [x]) ++ Rs := by rw [eL, List.append_assoc]; rfl
    have eA : p0 + (D ++ [x]).length = p0 + D.length + 1 := by simp; omega
    rw [eL] at hsegr
    refine And.intro hv1 ?_
    rw [hc1, hS1r, hcc, hcr, g1]
    refine br_f (nI_ge (by omega) (by omega)) (br_c (fun eo => ⟨hv, ?_⟩) (fun eo => ?_))
    · refine And.intro hvr ?_
      refine qx_joinTerm (p := x) (g := g x) hN hn hS hM hmx hfr hs hS0 hS1 hseg hle (by omega) (qm_sg_mid hsegr) (fun q hq e => hf1 x hmem q hq e) (fun q hq e => hf0 x hmem q hq e) rfl b i ?_
      intro L' o' t' m' c' b' i'
      refine nm_r (nI_1 _) ?_
      have := ih (D ++ [x]) L' o' t' m' c' eD b' (by rw [qx_fl_s]; exact i') fu (by simp at hfu; omega)
      rw [eA] at this
      exact this
    · have := qx_I_ext (D := (x :: Rs).flatMap (fun p => Ls.flatMap (g p))) i (qx_I_o i eo)
      rw [← List.flatMap_append, ← eL] at this
      exact K L o t m c b this
end
end
section
/-! Y: cell, find, plus, times, add, moved, joined -/
def qc_y (t c : Int32) : Int32 := if 0 ≤ c then qc_c t c else 0
def qc_mv (kd : Nat) (a b c : Int32) (u : Int32) : Int32 := if kd = 1 then (if qc_y u a = b then u else -1) else if kd = 2 then (if qc_y u a = qc_y u b then u else -1) else if kd = 3 then (qc_y u a + 4 * qc_y u b) + 16 * qc_y u c else if kd = 4 then u else -1
def qc_jl (j : Nat) (v : Int32) : Nat → Nat → Nat → Int32 → Int32
  | 0, _, _, code => code
  | d + 1, k, pl, code => if k = j then qc_jl j v d (k + 1) pl code else qc_jl j v d (k + 1) (pl + 1) (code + (qc_c v (nI k) <<< ((2 * nI pl) &&& 31)))
def qc_jn (a : Int32) (j cl cr : Nat) (u v : Int32) : Int32 := if qc_y u a = qc_y v (nI j) then qc_jl j v cr 0 cl u else -1
def qy_S (sl : Nat) (L : List qa_T) (z t : Nat → Int32) (c v : Nat → Int64) : Prop := z sl = nI L.length ∧ L.length ≤ 1024 ∧ qm_sg t c v (sl * 1024) L
def qy_K (sl : Nat) (z t : Nat → Int32) (c v : Nat → Int64) (z' t' : Nat → Int32) (c' v' : Nat → Int64) : Prop := (∀ j, j ≠ sl → z' j = z j) ∧ (∀ j, (j < sl * 1024 ∨ sl * 1024 + 1024 ≤ j) → t' j = t j ∧ c' j = c j ∧ v' j = v j)
def qy_B (sl : Nat) (z0 t0 : Nat → Int32) (c0 v0 : Nat → Int64) (L : List qa_T) (z t : Nat → Int32) (c v : Nat → Int64) : Prop := qy_S sl L z t c v ∧ qy_K sl z0 t0 c0 v0 z t c v
theorem qy_B_old {sl b : Nat} {z0 t0 z t : Nat → Int32} {c0 v0 c v : Nat → Int64} {L M : List qa_T} (h : qy_B sl z0 t0 c0 v0 L z t c v) (hb : b ≠ sl) (hM : M.length ≤ 1024) (hs : qm_sg t0 c0 v0 (b * 1024) M) : qm_sg t c v (b * 1024) M :=
  qm_sg_congr (fun j h1 h2 => h.2.2 j (by omega)) hs
theorem qa_add_found {s : Nat} {x y : qa_T} {B : List qa_T} (hk : qa_key y = qa_key x) : ∀ {A : List qa_T}, (∀ z, z ∈ A → qa_key z ≠ qa_key x) → qa_add s x (A ++ y :: B) = A ++ (y.1, y.2.1, qs_p s y.2.2 x.2.2) :: B
  | [], _ => if_pos hk
  | z :: A, h => by
    show (if qa_key z = qa_key x then _ else z :: qa_add s x (A ++ y :: B)) = _
    rw [if_neg (h z List.mem_cons_self), qa_add_found hk (fun w hw => h w (List.mem_cons_of_mem _ hw))]; rfl
theorem qa_add_new {s : Nat} {x : qa_T} : ∀ {A : List qa_T}, (∀ z, z ∈ A → qa_key z ≠ qa_key x) → qa_add s x A = A ++ [x]
  | [], _ => rfl
  | z :: A, h => by
    show (if qa_key z = qa_key x then _ else z :: qa_add s x A) = _
    rw [if_neg (h z List.mem_cons_self), qa_add_new (fun w hw => h w (List.mem_cons_of_mem _ hw))]; rfl
theorem qa_add_nn {s : Nat} {x : qa_T} (hx : ¬ x.1 < 0) {L : List qa_T} (hL : ∀ y, y ∈ L → ¬ y.1 < 0) : ∀ y, y ∈ qa_add s x L → ¬ y.1 < 0 := by
  intro y hy
  rcases (qa_add_key (s := s) (x := x) (L := L) (k := qa_key y)).mp ⟨y, hy, rfl⟩ with ⟨z, hz, e⟩ | e
  · have : z.1 = y.1 := qa_k1 e
    rw [← this]; exact hL z hz
  · have : x.1 = y.1 := qa_k1 e
    rw [← this]; exact hx
theorem qa_F_nn (s : Nat) (C : List qa_T) : ∀ y, y ∈ qa_F s C → ¬ y.1 < 0 := by
  refine qa_rev (P := fun C => ∀ y, y ∈ qa_F s C → ¬ y.1 < 0) (fun y hy => (nomatch hy)) ?_ C
  intro L x ih
  rw [qa_F_snoc]
  unfold qa_ad
  by_cases h : x.1 < 0
  · rw [if_pos h]; exact ih
  · rw [if_neg h]; exact qa_add_nn h ih
section
variable {YN YK YR YT YM YP : Int32} {bK bL bR bC bD bA bB bE bO bW bH bZ fT : Nat → Int32} {fC fV : Nat → Int64}
theorem qy_cell {post : Int32 → Prop} {t c : Int32} (h : post (qc_y t c)) : wpY_cell post (YN, YK, YR, YT, YM, YP, bK, bL, bR, bC, bD, bA, bB, bE, bO, bW, bH, bZ, fT, fC, fV) t c := by
  unfold qc_y at h
  refine br_c (fun e => ?_) (fun e => ?_)
  · rw [if_pos e] at h; exact h
  · rw [if_neg e] at h; exact h
theorem qy_find_7 {post : Int32 → Prop} {sl : Nat} {L : List qa_T} {t : Int32} {c : Int64} (hsl : sl < 16) (S : qy_S sl L bZ fT fC fV) (h1 : ∀ A x B, L = A ++ x :: B → qa_key x = (t, c) → (∀ y, y ∈ A → qa_key y ≠ (t, c)) → post (nI (sl * 1024 + A.length))) (h0 : (∀ y, y ∈ L → qa_key y ≠ (t, c)) → post (-1)) : ∀ (Rs D : List qa_T), L = D ++ Rs → (∀ y, y ∈ D → qa_key y ≠ (t, c)) → ∀ fu, Rs.length < fu → wY_find_7 post (nI sl) t c YN YK YR YT YM YP bK bL bR bC bD bA bB bE bO bW bH bZ fT fC fV fu (nI (sl * 1024 + D.length)) := by
  obtain ⟨S1, S2, S3⟩ := S
  have hv : vp_in (nI sl) 16 := vp_in_nI (by omega) (by omega)
  have hcs : (nI sl).toNatClampNeg = sl := nI_clamp (by omega)
  have hm : nI sl * 1024 = nI (sl * 1024) := pk_mul sl 1024
  intro Rs
  induction Rs with
  | nil =>
    intro D eL hD fu hfu
    obtain ⟨fu, rfl⟩ : ∃ q, fu = q + 1 := ⟨fu - 1, by simp at hfu; omega⟩
    rw [List.append_nil] at eL
    subst eL
    refine And.intro hv ?_
    rw [hcs, S1, hm, nI_add]
    exact br_t (nI_le (Nat.le_refl _) (by omega)) (h0 hD)
  | cons x Rs ih =>
    intro D eL hD fu hfu
    obtain ⟨fu, rfl⟩ : ∃ q, fu = q + 1 := ⟨fu - 1, by simp at hfu; omega⟩
    have hlen : L.length = D.length + Rs.length + 1 := by rw [eL]; simp; omega
    have S3' := S3
    rw [eL] at S3'
    obtain ⟨g1, g2, g3⟩ := qm_sg_mid S3'
    have hvx : vp_in (nI (sl * 1024 + D.length)) 16384 := vp_in_nI (by omega) (by omega)
    have hcc : (nI (sl * 1024 + D.length)).toNatClampNeg = sl * 1024 + D.length := nI_clamp (by omega)
    have eD : L = (D ++ [x]) ++ Rs := by rw [eL, List.append_assoc]; rfl
    have eA : sl * 1024 + (D ++ [x]).length = sl * 1024 + D.length + 1 := by simp; omega
    have go : ¬ qa_key x = (t, c) → wY_find_7 post (nI sl) t c YN YK YR YT YM YP bK bL bR bC bD bA bB bE bO bW bH bZ fT fC fV fu (nI (sl * 1024 + D.length + 1)) := by
      intro hx
      have := ih (D ++ [x]) eD (fun y hy => by
        rcases List.mem_append.mp hy with q | q
        · exact hD y q
        · rw [List.mem_singleton.mp q]; exact hx) fu (by simp at hfu; omega)
      rw [eA] at this
      exact this
    refine And.intro hv ?_
    rw [hcs, S1, hm, nI_add, hcc, g1, g2]
    refine br_f (nI_ge (by omega) (by omega)) ⟨hvx, br_c (fun e => ⟨hvx, br_c (fun e2 => ?_) (fun e2 => nm_r (nI_1 _) ?_)⟩) (fun e => nm_r (nI_1 _) ?_)⟩
    · exact h1 D x Rs eL (by show (x.1, x.2.1) = _; rw [e, e2]) hD
    · exact go (fun z => e2 (qa_k2 z))
    · exact go (fun z => e (qa_k1 z))
theorem qy_find {post : Int32 → Prop} {sl : Nat} {L : List qa_T} {t : Int32} {c : Int64} (hsl : sl < 16) (S : qy_S sl L bZ fT fC fV) (h1 : ∀ A x B, L = A ++ x :: B → qa_key x = (t, c) → (∀ y, y ∈ A → qa_key y ≠ (t, c)) → post (nI (sl * 1024 + A.length))) (h0 : (∀ y, y ∈ L → qa_key y ≠ (t, c)) → post (-1)) : wpY_find post (YN, YK, YR, YT, YM, YP, bK, bL, bR, bC, bD, bA, bB, bE, bO, bW, bH, bZ, fT, fC, fV) (nI sl) t c := by
  refine nm_r (e' := nI (sl * 1024)) (pk_mul sl 1024) ⟨L.length + 1, ?_⟩
  exact qy_find_7 hsl S h1 h0 L [] rfl (fun y hy => (nomatch hy)) (L.length + 1) (by omega)
theorem qy_plus {post : Int64 → Prop} {s : Nat} {a b : Int64} (hs : s ≤ 4) (h : post (qs_p s a b)) : wpY_plus post (YN, YK, YR, YT, YM, YP, bK, bL, bR, bC, bD, bA, bB, bE, bO, bW, bH, bZ, fT, fC, fV) (nI s) a b := by
  rcases qs_5 hs with rfl | rfl | rfl | rfl | rfl
  · exact br_t rfl h
  · refine br_f (by decide) (br_f (by decide) (br_c (fun e => br_f (by decide) (br_t rfl ?_)) (fun e => br_f (by decide) (br_f (by decide) ?_))))
    · rw [qs_p1, qs_mn, if_pos e] at h; exact h
    · rw [qs_p1, qs_mn, if_neg e] at h; exact h
  · refine br_f (by decide) (br_f (by decide) (br_c (fun e => br_f (by decide) (br_t rfl ?_)) (fun e => br_f (by decide) (br_f (by decide) ?_))))
    · rw [qs_p2, qs_mn, if_pos e] at h; exact h
    · rw [qs_p2, qs_mn, if_neg e] at h; exact h
  · refine br_f (by decide) (br_f (by decide) (br_c (fun e => br_t rfl (br_f (by decide) ?_)) (fun e => br_t rfl (br_t rfl ?_))))
    · rw [qs_p3, qs_mx, if_pos e] at h; exact h
    · rw [qs_p3, qs_mx, if_neg e] at h; exact h
  · exact br_f (by decide) (br_t rfl h)
theorem qy_times {post : Int64 → Prop} {s : Nat} {a b : Int64} (hs : s ≤ 4) (h : post (qs_t s a b)) : wpY_times post (YN, YK, YR, YT, YM, YP, bK, bL, bR, bC, bD, bA, bB, bE, bO, bW, bH, bZ, fT, fC, fV) (nI s) a b := by
  rcases qs_5 hs with rfl | rfl | rfl | rfl | rfl
  · exact br_f (by decide) (br_t rfl h)
  · rw [qs_t1, qs_ct] at h
    refine br_t rfl (br_c (fun e => ?_) (fun e => br_c (fun e2 => ?_) (fun e2 => ?_)))
    · rw [if_pos e] at h; exact h
    · rw [if_neg e, if_pos e2] at h; exact h
    · rw [if_neg e, if_neg e2] at h; exact h
  · refine br_f (by decide) (br_f (by decide) (br_f (by decide) (br_c (fun e => br_t rfl (br_f (by decide) ?_)) (fun e => br_t rfl (br_t rfl ?_)))))
    · rw [qs_t2, qs_mx, if_pos e] at h; exact h
    · rw [qs_t2, qs_mx, if_neg e] at h; exact h
  · refine br_f (by decide) (br_f (by decide) (br_f (by decide) (br_c (fun e => br_f (by decide) (br_t rfl ?_)) (fun e => br_f (by decide) (br_f (by decide) ?_)))))
    · rw [qs_t3, qs_mn, if_pos e] at h; exact h
    · rw [qs_t3, qs_mn, if_neg e] at h; exact h
  · exact br_f (by decide) (br_f (by decide) (br_t rfl h))
theorem qy_add {post : SY → Prop} {s sl : Nat} {z0 t0 : Nat → Int32} {c0 v0 : Nat → Int64} {L : List qa_T} (x : qa_T) (hs : s ≤ 4) (hsl : sl < 16) (b : qy_B sl z0 t0 c0 v0 L bZ fT fC fV) (hL : ∀ y, y ∈ L → ¬ y.1 < 0) (hcap : x.1 < 0 ∨ L.length < 1024) (K : ∀ z t c v, qy_B sl z0 t0 c0 v0 (qa_ad s x L) z t c v → post (YN, YK, YR, YT, YM, YP, bK, bL, bR, bC, bD, bA, bB, bE, bO, bW, bH, z, t, c, v)) : wpY_add post (YN, YK, YR, YT, YM, YP, bK, bL, bR, bC, bD, bA, bB, bE, bO, bW, bH, bZ, fT, fC, fV) (nI s) (nI sl) x.1 x.2.1 x.2.2 := by
  obtain ⟨⟨S1, S2, S3⟩, K1, K2⟩ := b
  have hv : vp_in (nI sl) 16 := vp_in_nI (by omega) (by omega)
  have hcs : (nI sl).toNatClampNeg = sl := nI_clamp (by omega)
  have hm : nI sl * 1024 = nI (sl * 1024) := pk_mul sl 1024
  refine qy_find hsl ⟨S1, S2, S3⟩ ?_ ?_
  · intro A y B eL hk hA
    have hx : ¬ x.1 < 0 := by
      have : y.1 = x.1 := qa_k1 hk
      rw [← this]; exact hL y (by rw [eL]; exact List.mem_append_right _ List.mem_cons_self)
    have hlen : L.length = A.length + B.length + 1 := by rw [eL]; simp; omega
    have hvx : vp_in (nI (sl * 1024 + A.length)) 16384 := vp_in_nI (by omega) (by omega)
    have hcc : (nI (sl * 1024 + A.length)).toNatClampNeg = sl * 1024 + A.length := nI_clamp (by omega)
    have S3' := S3
    rw [eL] at S3'
    obtain ⟨g1, g2, g3, g4, g5⟩ := qm_sg_app.mp S3'
    refine And.intro hv (nm_e ?_)
    refine br_f (nI_pos (by omega)) ⟨hvx, ?_⟩
    rw [hcc, g4]
    refine qy_plus hs ⟨hvx, nm_e ?_⟩
    refine br_t (nI_pos' (by omega)) ?_
    refine K bZ fT fC _ ⟨⟨?_, ?_, ?_⟩, K1, ?_⟩
    · rw [S1]; unfold qa_ad; rw [if_neg hx, eL, qa_add_found hk hA]; simp
    · unfold qa_ad; rw [if_neg hx, eL, qa_add_found hk hA]; rw [eL] at S2; simpa using S2
    · unfold qa_ad; rw [if_neg hx, eL, qa_add_found hk hA]
      refine qm_sg_app.mpr ⟨qm_sg_congr (fun j _ h => ⟨rfl, rfl, pk_uLn (by omega)⟩) g1, g2, g3, pk_uLs, qm_sg_congr (fun j h _ => ⟨rfl, rfl, pk_uLn (by omega)⟩) g5⟩
    · intro j hj
      refine ⟨(K2 j hj).1, (K2 j hj).2.1, ?_⟩
      rw [pk_uLn (by omega)]; exact (K2 j hj).2.2
  · intro hno
    refine And.intro hv (nm_e ?_)
    refine br_t (by decide) (br_f (by decide) (br_c (fun e => ?_) (fun e => ⟨hv, ?_⟩)))
    · refine K bZ fT fC fV ?_
      unfold qa_ad; rw [if_pos e]; exact ⟨⟨S1, S2, S3⟩, K1, K2⟩
    · have hlt : L.length < 1024 := hcap.resolve_left e
      have hvx : vp_in (nI (sl * 1024 + L.length)) 16384 := vp_in_nI (by omega) (by omega)
      have hcc : (nI (sl * 1024 + L.length)).toNatClampNeg = sl * 1024 + L.length := nI_clamp (by omega)
      rw [hcs, S1, hm, nI_add, hcc]
      refine br_t (nI_lt (b := 1024) hlt (by decide)) ⟨hvx, nm_e ⟨hvx, nm_e ⟨hvx, nm_e ⟨hv, hv, nm_r (congrArg (upd bZ sl) (nI_1 L.length)) ?_⟩⟩⟩⟩
      refine K _ _ _ _ ⟨⟨?_, ?_, ?_⟩, ?_, ?_⟩
      · rw [pk_us]; unfold qa_ad; rw [if_neg e, qa_add_new hno]; simp
      · unfold qa_ad; rw [if_neg e, qa_add_new hno]; simp; omega
      · unfold qa_ad; rw [if_neg e, qa_add_new hno]
        exact qm_sg_app.mpr ⟨qm_sg_congr (fun j _ h => ⟨pk_un (by omega), pk_uLn (by omega), pk_uLn (by omega)⟩) S3, pk_us, pk_uLs, pk_uLs, trivial⟩
      · intro j hj; rw [pk_un hj]; exact K1 j hj
      · intro j hj
        rw [pk_un (by omega), pk_uLn (by omega), pk_uLn (by omega)]; exact K2 j hj
theorem qy_addC {post : SY → Prop} {s sl : Nat} {z0 t0 : Nat → Int32} {c0 v0 : Nat → Int64} {C : List qa_T} (x : qa_T) (hs : s ≤ 4) (hsl : sl < 16) (b : qy_B sl z0 t0 c0 v0 (qa_F s C) bZ fT fC fV) (hcap : (qa_nn (C ++ [x])).length ≤ 1024) (K : ∀ z t c v, qy_B sl z0 t0 c0 v0 (qa_F s (C ++ [x])) z t c v → post (YN, YK, YR, YT, YM, YP, bK, bL, bR, bC, bD, bA, bB, bE, bO, bW, bH, z, t, c, v)) : wpY_add post (YN, YK, YR, YT, YM, YP, bK, bL, bR, bC, bD, bA, bB, bE, bO, bW, bH, bZ, fT, fC, fV) (nI s) (nI sl) x.1 x.2.1 x.2.2 := by
  refine qy_add x hs hsl b (qa_F_nn s C) ?_ ?_
  · by_cases h : x.1 < 0
    · exact Or.inl h
    · refine Or.inr ?_
      rw [qa_nn_app, qa_nn_pos h, List.length_append, List.length_singleton] at hcap
      have := qa_F_len s C
      omega
  · intro z t c v b'
    refine K z t c v ?_
    rw [qa_F_snoc]; exact b'
theorem qy_moved {post : Int32 → Prop} {q kd : Nat} {u : Int32} (hq : q < 8) (hk : bK q = nI kd) (hkd : kd ≤ 5) (h : post (qc_mv kd (bA q) (bB q) (bE q) u)) : wpY_moved post (YN, YK, YR, YT, YM, YP, bK, bL, bR, bC, bD, bA, bB, bE, bO, bW, bH, bZ, fT, fC, fV) (nI q) u := by
  have hv : vp_in (nI q) 8 := vp_in_nI (by omega) (by omega)
  have hc : (nI q).toNatClampNeg = q := nI_clamp (by omega)
  unfold qc_mv at h
  refine And.intro hv ?_
  rw [hc, hk]
  refine nm_e ⟨hv, qy_cell ?_⟩
  refine pk_eq kd 1 (fun e => ⟨hv, ?_⟩) (fun e => pk_eq kd 2 (fun e2 => ⟨hv, qy_cell ?_⟩) (fun e2 => pk_eq kd 3 (fun e3 => ⟨hv, qy_cell ⟨hv, qy_cell ?_⟩⟩) (fun e3 => pk_eq kd 4 (fun e4 => ?_) (fun e4 => ?_))))
  · rw [if_pos e] at h
    refine br_c (fun z => ?_) (fun z => ?_)
    · rw [if_pos z] at h; exact h
    · rw [if_neg z] at h; exact h
  · rw [if_neg e, if_pos e2] at h
    refine br_c (fun z => ?_) (fun z => ?_)
    · rw [if_pos z] at h; exact h
    · rw [if_neg z] at h; exact h
  · rw [if_neg e, if_neg e2, if_pos e3] at h; exact h
  · rw [if_neg e, if_neg e2, if_neg e3, if_pos e4] at h; exact h
  · rw [if_neg e, if_neg e2, if_neg e3, if_neg e4] at h; exact h
theorem qy_joined_50 {post : Int32 → Prop} {q r cr j : Nat} {v : Int32} (hq : q < 8) (hr : r < 8) (hR : bR q = nI r) (hC : bC r = nI cr) (hcr : cr ≤ 3) (hj : j ≤ 3) : ∀ (d k pl : Nat) (code : Int32) (fu : Nat), k + d = cr → d < fu → post (qc_jl j v d k pl code) → wY_joined_50 post (nI q) v (nI j) YN YK YR YT YM YP bK bL bR bC bD bA bB bE bO bW bH bZ fT fC fV fu (nI pl) code (nI k) := by
  have hv : vp_in (nI q) 8 := vp_in_nI (by omega) (by omega)
  have hc : (nI q).toNatClampNeg = q := nI_clamp (by omega)
  have hvr : vp_in (nI r) 8 := vp_in_nI (by omega) (by omega)
  have hcr' : (nI r).toNatClampNeg = r := nI_clamp (by omega)
  intro d
  induction d with
  | zero =>
    intro k pl code fu hk hfu h
    obtain ⟨fu, rfl⟩ : ∃ q, fu = q + 1 := ⟨fu - 1, by omega⟩
    refine And.intro hv ?_
    rw [hc, hR, hcr', hC]
    exact ⟨hvr, br_t (nI_le (by omega) (by omega)) h⟩
  | succ d ih =>
    intro k pl code fu hk hfu h
    obtain ⟨fu, rfl⟩ : ∃ q, fu = q + 1 := ⟨fu - 1, by omega⟩
    have h : post (if k = j then qc_jl j v d (k + 1) pl code else qc_jl j v d (k + 1) (pl + 1) (code + (qc_c v (nI k) <<< ((2 * nI pl) &&& 31)))) := h
    refine And.intro hv ?_
    rw [hc, hR, hcr', hC]
    refine ⟨hvr, br_f (nI_ge (by omega) (by omega)) (pk_eq k j (fun e => ?_) (fun e => ?_))⟩
    · rw [if_pos e] at h
      exact pk_eq k j (fun _ => nm_r (nI_1 k) (ih (k + 1) pl code fu (by omega) (by omega) h)) (fun z => absurd e z)
    · rw [if_neg e] at h
      refine qy_cell ?_
      rw [show qc_y v (nI k) = qc_c v (nI k) from if_pos (nI_pos' (by omega))]
      exact nm_e (pk_eq k j (fun z => absurd z e) (fun _ => nm_r (nI_1 pl) (nm_r (nI_1 k) (ih (k + 1) (pl + 1) _ fu (by omega) (by omega) h))))
theorem qy_joined {post : Int32 → Prop} {q l r cl cr j : Nat} {u v : Int32} (hq : q < 8) (hl : l < 8) (hr : r < 8) (hL : bL q = nI l) (hR : bR q = nI r) (hB : bB q = nI j) (hCl : bC l = nI cl) (hC : bC r = nI cr) (hcr : cr ≤ 3) (hj : j ≤ 3) (h : post (qc_jn (bA q) j cl cr u v)) : wpY_joined post (YN, YK, YR, YT, YM, YP, bK, bL, bR, bC, bD, bA, bB, bE, bO, bW, bH, bZ, fT, fC, fV) (nI q) u v := by
  have hv : vp_in (nI q) 8 := vp_in_nI (by omega) (by omega)
  have hc : (nI q).toNatClampNeg = q := nI_clamp (by omega)
  have hvl : vp_in (nI l) 8 := vp_in_nI (by omega) (by omega)
  have hcl' : (nI l).toNatClampNeg = l := nI_clamp (by omega)
  unfold qc_jn at h
  refine And.intro hv ?_
  rw [hc, hB, hL, hcl', hCl]
  refine nm_e ⟨hv, hvl, nm_e ⟨hv, qy_cell (qy_cell (br_c (fun e => ?_) (fun e => ?_)))⟩⟩
  · rw [if_pos e] at h
    exact ⟨cr + 1, qy_joined_50 hq hr hR hC hcr hj cr 0 cl u (cr + 1) (by omega) (by omega) h⟩
  · rw [if_neg e] at h; exact h
end
end
section
/-! Y: derive -/
def qy_tok (s tk : Nat) (O W H : Nat → Int32) (q : Nat) (x : Nat) : List qa_T := if O x = nI q then [(W x, qs_code s [x], (H (5 * x + s)).toInt64)] else []
theorem qy_nnle (A B : List qa_T) : (qa_nn A).length ≤ (qa_nn (A ++ B)).length := by
  rw [qa_nn_app, List.length_append]; omega
theorem qy_shl {x : Nat} (hx : x < 16) : (1 : Int64) <<< ((4 * nI x).toInt64 &&& 63) = qs_code 4 [x] := by
  have e : 4 * nI x = nI (4 * x) := pk_mul 4 x
  have h := wb_shl 1 (k := 4 * x) (by omega)
  rw [e]
  refine h.trans ?_
  show lN (1 * 2 ^ (4 * x)) = lN (16 ^ x + 0)
  rw [Nat.one_mul, Nat.add_zero, Nat.pow_mul]
section
variable {YN YK YR YT YM YP : Int32} {bK bL bR bC bD bA bB bE bO bW bH bZ fT : Nat → Int32} {fC fV : Nat → Int64}
variable {s sl q kd lb rb : Nat} {z0 t0 : Nat → Int32} {c0 v0 : Nat → Int64} {A B : List qa_T} {post : SY → Prop}
theorem qy_derive_325 {C : List qa_T} (hs : s ≤ 4) (hsl : sl < 16) (h4 : kd = 4) (hrb : rb < 16) (hne : rb ≠ sl) (hB : qm_sg t0 c0 v0 (rb * 1024) B) (hBl : B.length ≤ 1024) (hcap : (qa_nn (C ++ B)).length ≤ 1024) (K : ∀ z t c v, qy_B sl z0 t0 c0 v0 (qa_F s (C ++ B)) z t c v → post (YN, YK, YR, YT, YM, YP, bK, bL, bR, bC, bD, bA, bB, bE, bO, bW, bH, z, t, c, v)) : ∀ (Rs D : List qa_T) (z t : Nat → Int32) (c v : Nat → Int64), B = D ++ Rs → qy_B sl z0 t0 c0 v0 (qa_F s (C ++ D)) z t c v → ∀ fu, Rs.length < fu → wY_derive_325 post (nI s) (nI sl) (nI kd) (nI (rb * 1024)) (nI B.length) fu (nI (rb * 1024 + D.length)) YN YK YR YT YM YP bK bL bR bC bD bA bB bE bO bW bH z t c v := by
  subst h4
  intro Rs
  induction Rs with
  | nil =>
    intro D z t c v eB b fu hfu
    obtain ⟨fu, rfl⟩ : ∃ q, fu = q + 1 := ⟨fu - 1, by simp at hfu; omega⟩
    rw [List.append_nil] at eB
    subst eB
    exact br_t (by rw [nI_add]; exact nI_le (Nat.le_refl _) (by omega)) (K z t c v b)
  | cons x Rs ih =>
    intro D z t c v eB b fu hfu
    obtain ⟨fu, rfl⟩ : ∃ q, fu = q + 1 := ⟨fu - 1, by simp at hfu; omega⟩
    have hlen : B.length = D.length + Rs.length + 1 := by rw [eB]; simp; omega
    have hsg := qy_B_old b hne hBl hB
    rw [eB] at hsg
    obtain ⟨g1, g2, g3⟩ := qm_sg_mid hsg
    have hv : vp_in (nI (rb * 1024 + D.length)) 16384 := vp_in_nI (by omega) (by omega)
    have hcc : (nI (rb * 1024 + D.length)).toNatClampNeg = rb * 1024 + D.length := nI_clamp (by omega)
    have eD : B = (D ++ [x]) ++ Rs := by rw [eB, List.append_assoc]; rfl
    have eA : rb * 1024 + (D ++ [x]).length = rb * 1024 + D.length + 1 := by simp; omega
    refine br_f (by rw [nI_add]; exact nI_ge (by omega) (by omega)) (br_t rfl ⟨hv, hv, hv, ?_⟩)
    rw [hcc, g1, g2, g3]
    refine qy_addC x hs hsl b ?_ ?_
    · have := qy_nnle (C ++ D ++ [x]) Rs
      rw [List.append_assoc, List.append_assoc, List.append_assoc] at this
      rw [eB] at hcap
      rw [List.append_assoc]
      exact Nat.le_trans this hcap
    · intro z' t' c' v' b'
      refine nm_r (nI_1 _) ?_
      have := ih (D ++ [x]) z' t' c' v' eD (by rw [← List.append_assoc]; exact b') fu (by simp at hfu; omega)
      rw [eA] at this
      exact this
theorem qy_derive_325' {C : List qa_T} {m : Nat} (hs : s ≤ 4) (hsl : sl < 16) (hkd : kd ≤ 5) (hB : kd = 4 → rb < 16 ∧ rb ≠ sl ∧ qm_sg t0 c0 v0 (rb * 1024) B ∧ B.length ≤ 1024 ∧ m = B.length ∧ (qa_nn (C ++ B)).length ≤ 1024) (b : qy_B sl z0 t0 c0 v0 (qa_F s C) bZ fT fC fV) (K : ∀ z t c v, qy_B sl z0 t0 c0 v0 (qa_F s (C ++ if kd = 4 then B else [])) z t c v → post (YN, YK, YR, YT, YM, YP, bK, bL, bR, bC, bD, bA, bB, bE, bO, bW, bH, z, t, c, v)) : ∃ fu, wY_derive_325 post (nI s) (nI sl) (nI kd) (nI (rb * 1024)) (nI m) fu (nI (rb * 1024)) YN YK YR YT YM YP bK bL bR bC bD bA bB bE bO bW bH bZ fT fC fV := by
  by_cases h4 : kd = 4
  · obtain ⟨b1, b2, b3, b4, b5, b6⟩ := hB h4
    subst b5
    simp only [if_pos h4] at K
    exact ⟨B.length + 1, qy_derive_325 hs hsl h4 b1 b2 b3 b4 b6 K B [] bZ fT fC fV rfl (by rw [List.append_nil]; exact b) (B.length + 1) (by omega)⟩
  · simp only [if_neg h4, List.append_nil] at K
    refine ⟨1, br_c (fun _ => K _ _ _ _ b) (fun _ => pk_eq kd 4 (fun e => absurd e h4) (fun _ => K _ _ _ _ b))⟩
theorem qy_derive_225 {C : List qa_T} {p : qa_T} {pi : Nat} {x6 x8 : Int32} {J : Int32 → Int32 → Int32 → Int32 → Int32 → Int32 → Int32 → (Nat → Int32) → (Nat → Int32) → (Nat → Int32) → (Nat → Int32) → (Nat → Int32) → (Nat → Int32) → (Nat → Int32) → (Nat → Int32) → (Nat → Int32) → (Nat → Int32) → (Nat → Int32) → (Nat → Int32) → (Nat → Int32) → (Nat → Int64) → (Nat → Int64) → Prop} {jn : Int32 → Int32 → Int32} (hs : s ≤ 4) (hsl : sl < 16) (h5 : kd = 5) (hrb : rb < 16) (hne : rb ≠ sl) (hB : qm_sg t0 c0 v0 (rb * 1024) B) (hBl : B.length ≤ 1024) (hpi : pi < 16384) (hps : pi < sl * 1024 ∨ sl * 1024 + 1024 ≤ pi) (hp : t0 pi = p.1 ∧ c0 pi = p.2.1 ∧ v0 pi = p.2.2) (hjn : ∀ (pst : Int32 → Prop) (u v : Int32) (z t : Nat → Int32) (c w : Nat → Int64), pst (jn u v) → wpY_joined pst (YN, YK, YR, YT, YM, YP, bK, bL, bR, bC, bD, bA, bB, bE, bO, bW, bH, z, t, c, w) (nI q) u v) (hcap : (qa_nn (C ++ qa_js s jn B p)).length ≤ 1024) (K : ∀ z t c v, qy_B sl z0 t0 c0 v0 (qa_F s (C ++ qa_js s jn B p)) z t c v → J (nI (pi + 1)) YN YK YR YT YM YP bK bL bR bC bD bA bB bE bO bW bH z t c v) : ∀ (Rs D : List qa_T) (z t : Nat → Int32) (c v : Nat → Int64), B = D ++ Rs → qy_B sl z0 t0 c0 v0 (qa_F s (C ++ qa_js s jn D p)) z t c v → ∀ fu, Rs.length < fu → wY_derive_225 post J (nI s) (nI q) (nI sl) (nI kd) x6 (nI (rb * 1024)) x8 (nI B.length) (nI pi) fu (nI (rb * 1024 + D.length)) YN YK YR YT YM YP bK bL bR bC bD bA bB bE bO bW bH z t c v := by
  subst h5
  have hvp : vp_in (nI pi) 16384 := vp_in_nI (by omega) (by omega)
  have hcp : (nI pi).toNatClampNeg = pi := nI_clamp (by omega)
  intro Rs
  induction Rs with
  | nil =>
    intro D z t c v eB b fu hfu
    obtain ⟨fu, rfl⟩ : ∃ q, fu = q + 1 := ⟨fu - 1, by simp at hfu; omega⟩
    rw [List.append_nil] at eB
    subst eB
    exact br_t (by rw [nI_add]; exact nI_le (Nat.le_refl _) (by omega)) (nm_r (nI_1 pi) (K z t c v b))
  | cons x Rs ih =>
    intro D z t c v eB b fu hfu
    obtain ⟨fu, rfl⟩ : ∃ q, fu = q + 1 := ⟨fu - 1, by simp at hfu; omega⟩
    have hlen : B.length = D.length + Rs.length + 1 := by rw [eB]; simp; omega
    have hsg := qy_B_old b hne hBl hB
    rw [eB] at hsg
    obtain ⟨g1, g2, g3⟩ := qm_sg_mid hsg
    obtain ⟨l1, l2, l3⟩ := b.2.2 pi hps
    have l1 := l1.trans hp.1
    have l2 := l2.trans hp.2.1
    have l3 := l3.trans hp.2.2
    have hv : vp_in (nI (rb * 1024 + D.length)) 16384 := vp_in_nI (by omega) (by omega)
    have hcc : (nI (rb * 1024 + D.length)).toNatClampNeg = rb * 1024 + D.length := nI_clamp (by omega)
    have eD : B = (D ++ [x]) ++ Rs := by rw [eB, List.append_assoc]; rfl
    have eA : rb * 1024 + (D ++ [x]).length = rb * 1024 + D.length + 1 := by simp; omega
    have ej : qa_js s jn (D ++ [x]) p = qa_js s jn D p ++ [(jn p.1 x.1, p.2.1 + x.2.1, qs_t s p.2.2 x.2.2)] := by
      unfold qa_js; rw [List.map_append]; rfl
    refine br_f (by rw [nI_add]; exact nI_ge (by omega) (by omega)) (br_t rfl ⟨hvp, hv, ?_⟩)
    rw [hcc, hcp, g1, g2, g3, l1, l2, l3]
    refine hjn _ _ _ _ _ _ _ ⟨hvp, hv, qy_times hs ⟨hvp, hv, ?_⟩⟩
    refine qy_addC (jn p.1 x.1, p.2.1 + x.2.1, qs_t s p.2.2 x.2.2) hs hsl b ?_ ?_
    · have h1 : qa_js s jn B p = qa_js s jn (D ++ [x]) p ++ qa_js s jn Rs p := by
        unfold qa_js; rw [← List.map_append, ← eD]
      rw [h1, ej, ← List.append_assoc, ← List.append_assoc] at hcap
      exact Nat.le_trans (qy_nnle _ _) hcap
    · intro z' t' c' v' b'
      refine nm_r (nI_1 _) ?_
      have := ih (D ++ [x]) z' t' c' v' eD (by rw [ej, ← List.append_assoc]; exact b') fu (by simp at hfu; omega)
      rw [eA] at this
      exact this
theorem qy_derive_225' {C : List qa_T} {p : qa_T} {pi m : Nat} {x6 x8 : Int32} {J : Int32 → Int32 → Int32 → Int32 → Int32 → Int32 → Int32 → (Nat → Int32) → (Nat → Int32) → (Nat → Int32) → (Nat → Int32) → (Nat → Int32) → (Nat → Int32) → (Nat → Int32) → (Nat → Int32) → (Nat → Int32) → (Nat → Int32) → (Nat → Int32) → (Nat → Int32) → (Nat → Int32) → (Nat → Int64) → (Nat → Int64) → Prop} {jn : Int32 → Int32 → Int32} (hs : s ≤ 4) (hsl : sl < 16) (hkd : kd ≤ 5) (hB : kd = 5 → rb < 16 ∧ rb ≠ sl ∧ qm_sg t0 c0 v0 (rb * 1024) B ∧ B.length ≤ 1024 ∧ m = B.length) (hpi : pi < 16384) (hps : pi < sl * 1024 ∨ sl * 1024 + 1024 ≤ pi) (hp : t0 pi = p.1 ∧ c0 pi = p.2.1 ∧ v0 pi = p.2.2) (hjn : kd = 5 → ∀ (pst : Int32 → Prop) (u v : Int32) (z t : Nat → Int32) (c w : Nat → Int64), pst (jn u v) → wpY_joined pst (YN, YK, YR, YT, YM, YP, bK, bL, bR, bC, bD, bA, bB, bE, bO, bW, bH, z, t, c, w) (nI q) u v) (hcap : (qa_nn (C ++ if kd = 5 then qa_js s jn B p else [])).length ≤ 1024) (b : qy_B sl z0 t0 c0 v0 (qa_F s C) bZ fT fC fV) (K : ∀ z t c v, qy_B sl z0 t0 c0 v0 (qa_F s (C ++ if kd = 5 then qa_js s jn B p else [])) z t c v → J (nI (pi + 1)) YN YK YR YT YM YP bK bL bR bC bD bA bB bE bO bW bH z t c v) : ∃ fu, wY_derive_225 post J (nI s) (nI q) (nI sl) (nI kd) x6 (nI (rb * 1024)) x8 (nI m) (nI pi) fu (nI (rb * 1024)) YN YK YR YT YM YP bK bL bR bC bD bA bB bE bO bW bH bZ fT fC fV := by
  by_cases h5 : kd = 5
  · obtain ⟨b1, b2, b3, b4, b5⟩ := hB h5
    subst b5
    simp only [if_pos h5] at K hcap
    exact ⟨B.length + 1, qy_derive_225 hs hsl h5 b1 b2 b3 b4 hpi hps hp (hjn h5) hcap K B [] bZ fT fC fV rfl (by show qy_B sl z0 t0 c0 v0 (qa_F s (C ++ [])) bZ fT fC fV; rw [List.append_nil]; exact b) (B.length + 1) (by omega)⟩
  · simp only [if_neg h5, List.append_nil] at K
    refine ⟨1, br_c (fun _ => nm_r (nI_1 pi) (K _ _ _ _ b)) (fun _ => pk_eq kd 5 (fun e => absurd e h5) (fun _ => nm_r (nI_1 pi) (K _ _ _ _ b)))⟩
end
end
section
section
variable {YN YK YR YT YM YP : Int32} {bK bL bR bC bD bA bB bE bO bW bH bZ fT : Nat → Int32} {fC fV : Nat → Int64}
variable {s sl q kd lb rb : Nat} {z0 t0 : Nat → Int32} {c0 v0 : Nat → Int64} {A B : List qa_T} {post : SY → Prop} {jn : Int32 → Int32 → Int32}
theorem qy_derive_174 {C : List qa_T} {m : Nat} (hs : s ≤ 4) (hsl : sl < 16) (hkd : kd ≤ 5) (hq : q < 8) (hbk : bK q = nI kd) (hlb : lb < 16) (hlne : lb ≠ sl) (hA : qm_sg t0 c0 v0 (lb * 1024) A) (hAl : A.length ≤ 1024) (hB : kd = 4 ∨ kd = 5 → rb < 16 ∧ rb ≠ sl ∧ qm_sg t0 c0 v0 (rb * 1024) B ∧ B.length ≤ 1024 ∧ m = B.length) (hjn : kd = 5 → ∀ (pst : Int32 → Prop) (u v : Int32) (z t : Nat → Int32) (c w : Nat → Int64), pst (jn u v) → wpY_joined pst (YN, YK, YR, YT, YM, YP, bK, bL, bR, bC, bD, bA, bB, bE, bO, bW, bH, z, t, c, w) (nI q) u v) (hcap : (qa_nn (C ++ qa_C s kd (qc_mv kd (bA q) (bB q) (bE q)) jn A B)).length ≤ 1024) (K : ∀ z t c v, qy_B sl z0 t0 c0 v0 (qa_F s (C ++ qa_C s kd (qc_mv kd (bA q) (bB q) (bE q)) jn A B)) z t c v → post (YN, YK, YR, YT, YM, YP, bK, bL, bR, bC, bD, bA, bB, bE, bO, bW, bH, z, t, c, v)) : ∀ (Rs D : List qa_T) (z t : Nat → Int32) (c v : Nat → Int64), A = D ++ Rs → qy_B sl z0 t0 c0 v0 (qa_F s (C ++ D.flatMap (qa_C1 s kd (qc_mv kd (bA q) (bB q) (bE q)) jn B))) z t c v → ∀ fu, Rs.length < fu → wY_derive_174 post (nI s) (nI q) (nI sl) (nI kd) (nI (lb * 1024)) (nI (rb * 1024)) (nI A.length) (nI m) fu (nI (lb * 1024 + D.length)) YN YK YR YT YM YP bK bL bR bC bD bA bB bE bO bW bH z t c v := by
  intro Rs
  induction Rs with
  | nil =>
    intro D z t c v eA' b fu hfu
    obtain ⟨fu, rfl⟩ : ∃ q, fu = q + 1 := ⟨fu - 1, by simp at hfu; omega⟩
    rw [List.append_nil] at eA'
    subst eA'
    refine br_t (by rw [nI_add]; exact nI_le (Nat.le_refl _) (by omega)) ?_
    refine qy_derive_325' (B := B) hs hsl hkd (fun e => ?_) b ?_
    · obtain ⟨b1, b2, b3, b4, b5⟩ := hB (Or.inl e)
      refine ⟨b1, b2, b3, b4, b5, ?_⟩
      unfold qa_C at hcap
      rw [if_pos e, ← List.append_assoc] at hcap
      exact hcap
    · intro z' t' c' v' b'
      refine K z' t' c' v' ?_
      unfold qa_C
      rw [← List.append_assoc]; exact b'
  | cons x Rs ih =>
    intro D z t c v eA' b fu hfu
    obtain ⟨fu, rfl⟩ : ∃ q, fu = q + 1 := ⟨fu - 1, by simp at hfu; omega⟩
    have hlen : A.length = D.length + Rs.length + 1 := by rw [eA']; simp; omega
    have hsg := qy_B_old b hlne hAl hA
    rw [eA'] at hsg
    obtain ⟨g1, g2, g3⟩ := qm_sg_mid hsg
    have hv : vp_in (nI (lb * 1024 + D.length)) 16384 := vp_in_nI (by omega) (by omega)
    have hcc : (nI (lb * 1024 + D.length)).toNatClampNeg = lb * 1024 + D.length := nI_clamp (by omega)
    have eD : A = (D ++ [x]) ++ Rs := by rw [eA', List.append_assoc]; rfl
    have eA : lb * 1024 + (D ++ [x]).length = lb * 1024 + D.length + 1 := by simp; omega
    have hA0 := hA
    rw [eA'] at hA0
    have h1 : C ++ qa_C s kd (qc_mv kd (bA q) (bB q) (bE q)) jn A B = C ++ D.flatMap (qa_C1 s kd (qc_mv kd (bA q) (bB q) (bE q)) jn B) ++ [(qc_mv kd (bA q) (bB q) (bE q) x.1, x.2.1, x.2.2)] ++ (if kd = 5 then qa_js s jn B x else []) ++ (Rs.flatMap (qa_C1 s kd (qc_mv kd (bA q) (bB q) (bE q)) jn B) ++ (if kd = 4 then B else [])) := by
      unfold qa_C
      rw [eA', List.flatMap_append, List.flatMap_cons]
      show _ = C ++ D.flatMap _ ++ [_] ++ _ ++ _
      rw [show qa_C1 s kd (qc_mv kd (bA q) (bB q) (bE q)) jn B x = [(qc_mv kd (bA q) (bB q) (bE q) x.1, x.2.1, x.2.2)] ++ (if kd = 5 then qa_js s jn B x else []) from rfl]
      simp only [List.append_assoc]
    have h2 : C ++ (D ++ [x]).flatMap (qa_C1 s kd (qc_mv kd (bA q) (bB q) (bE q)) jn B) = C ++ D.flatMap (qa_C1 s kd (qc_mv kd (bA q) (bB q) (bE q)) jn B) ++ [(qc_mv kd (bA q) (bB q) (bE q) x.1, x.2.1, x.2.2)] ++ (if kd = 5 then qa_js s jn B x else []) := by
      rw [qx_fl_s]
      rw [show qa_C1 s kd (qc_mv kd (bA q) (bB q) (bE q)) jn B x = [(qc_mv kd (bA q) (bB q) (bE q) x.1, x.2.1, x.2.2)] ++ (if kd = 5 then qa_js s jn B x else []) from rfl]
      simp only [List.append_assoc]
    rw [h1] at hcap
    refine br_f (by rw [nI_add]; exact nI_ge (by omega) (by omega)) ⟨hv, ?_⟩
    rw [hcc, g1, g2, g3]
    refine qy_moved hq hbk hkd ⟨hv, hv, ?_⟩
    refine qy_addC (qc_mv kd (bA q) (bB q) (bE q) x.1, x.2.1, x.2.2) hs hsl b ?_ ?_
    · exact Nat.le_trans (qy_nnle _ _) (Nat.le_trans (qy_nnle _ _) hcap)
    · intro z' t' c' v' b'
      refine qy_derive_225' (B := B) (p := x) (jn := jn) hs hsl hkd (fun e => hB (Or.inr e)) (by omega) (by omega) (qm_sg_mid hA0) hjn (Nat.le_trans (qy_nnle _ _) hcap) b' ?_
      intro z2 t2 c2 v2 b2
      have := ih (D ++ [x]) z2 t2 c2 v2 eD (by rw [h2]; exact b2) fu (by simp at hfu; omega)
      rw [eA] at this
      exact this
theorem qy_derive_103 {m tk : Nat} (hs : s ≤ 4) (hsl : sl < 16) (hkd : kd ≤ 5) (hq : q < 8) (hbk : bK q = nI kd) (hlb : lb < 16) (hlne : lb ≠ sl ∨ A = []) (hA : qm_sg t0 c0 v0 (lb * 1024) A) (hAl : A.length ≤ 1024) (hB : kd = 4 ∨ kd = 5 → rb < 16 ∧ rb ≠ sl ∧ qm_sg t0 c0 v0 (rb * 1024) B ∧ B.length ≤ 1024 ∧ m = B.length) (hjn : kd = 5 → ∀ (pst : Int32 → Prop) (u v : Int32) (z t : Nat → Int32) (c w : Nat → Int64), pst (jn u v) → wpY_joined pst (YN, YK, YR, YT, YM, YP, bK, bL, bR, bC, bD, bA, bB, bE, bO, bW, bH, z, t, c, w) (nI q) u v) (htk : YK = nI tk) (ht16 : tk ≤ 16) (hcap : (qa_nn ((List.range tk).flatMap (qy_tok s tk bO bW bH q) ++ qa_C s kd (qc_mv kd (bA q) (bB q) (bE q)) jn A B)).length ≤ 1024) (K : ∀ z t c v, qy_B sl z0 t0 c0 v0 (qa_F s ((List.range tk).flatMap (qy_tok s tk bO bW bH q) ++ qa_C s kd (qc_mv kd (bA q) (bB q) (bE q)) jn A B)) z t c v → post (YN, YK, YR, YT, YM, YP, bK, bL, bR, bC, bD, bA, bB, bE, bO, bW, bH, z, t, c, v)) : ∀ (d i : Nat) (z t : Nat → Int32) (c v : Nat → Int64), i + d = tk → qy_B sl z0 t0 c0 v0 (qa_F s ((List.range i).flatMap (qy_tok s tk bO bW bH q))) z t c v → ∀ fu, d < fu → wY_derive_103 post (nI s) (nI q) (nI sl) (nI kd) (nI (lb * 1024)) (nI (rb * 1024)) (nI A.length) (nI m) fu (nI i) YN YK YR YT YM YP bK bL bR bC bD bA bB bE bO bW bH z t c v := by
  subst htk
  intro d
  induction d with
  | zero =>
    intro i z t c v hi b fu hfu
    obtain ⟨fu, rfl⟩ : ∃ q, fu = q + 1 := ⟨fu - 1, by omega⟩
    have e : i = tk := by omega
    subst e
    refine br_t (nI_le (Nat.le_refl _) (by omega)) ?_
    rcases hlne with hl | hl
    · exact ⟨A.length + 1, qy_derive_174 hs hsl hkd hq hbk hlb hl hA hAl hB hjn hcap K A [] z t c v rfl (by rw [List.flatMap_nil, List.append_nil]; exact b) (A.length + 1) (by omega)⟩
    · subst hl
      refine ⟨1, br_t (by rw [nI_add]; exact nI_le (Nat.le_refl _) (by simp; omega)) ?_⟩
      refine qy_derive_325' (B := B) hs hsl hkd (fun e => ?_) b ?_
      · obtain ⟨b1, b2, b3, b4, b5⟩ := hB (Or.inl e)
        refine ⟨b1, b2, b3, b4, b5, ?_⟩
        unfold qa_C at hcap
        rw [if_pos e, List.flatMap_nil, List.nil_append] at hcap
        exact hcap
      · intro z' t' c' v' b'
        refine K z' t' c' v' ?_
        unfold qa_C
        rw [List.flatMap_nil, List.nil_append]; exact b'
  | succ d ih =>
    intro i z t c v hi b fu hfu
    obtain ⟨fu, rfl⟩ : ∃ q, fu = q + 1 := ⟨fu - 1, by omega⟩
    have hv : vp_in (nI i) 16 := vp_in_nI (by omega) (by omega)
    have hc : (nI i).toNatClampNeg = i := nI_clamp (by omega)
    have hfl : (List.range (i + 1)).flatMap (qy_tok s tk bO bW bH q) = (List.range i).flatMap (qy_tok s tk bO bW bH q) ++ qy_tok s tk bO bW bH q i := by
      rw [List.range_succ, List.flatMap_append, List.flatMap_cons, List.flatMap_nil, List.append_nil]
    refine br_f (nI_ge (by omega) (by omega)) ⟨hv, ?_⟩
    rw [hc]
    have e5 : 5 * nI i + nI s = nI (5 * i + s) := by
      rw [show 5 * nI i = nI (5 * i) from pk_mul 5 i, nI_add]
    have hv5 : vp_in (5 * nI i + nI s) 80 := by rw [e5]; exact vp_in_nI (by omega) (by omega)
    have hc5 : (5 * nI i + nI s).toNatClampNeg = 5 * i + s := by rw [e5]; exact nI_clamp (by omega)
    refine br_c (fun eo => ⟨hv, ?_⟩) (fun eo => nm_r (nI_1 i) ?_)
    · have etk : qy_tok s tk bO bW bH q i = [(bW i, qs_code s [i], (bH (5 * i + s)).toInt64)] := if_pos eo
      have go : ∀ (cd : Int64) (pst : SY → Prop), cd = qs_code s [i] → (∀ z' t' c' v', qy_B sl z0 t0 c0 v0 (qa_F s ((List.range (i + 1)).flatMap (qy_tok s tk bO bW bH q))) z' t' c' v' → pst (YN, nI tk, YR, YT, YM, YP, bK, bL, bR, bC, bD, bA, bB, bE, bO, bW, bH, z', t', c', v')) → wpY_add pst (YN, nI tk, YR, YT, YM, YP, bK, bL, bR, bC, bD, bA, bB, bE, bO, bW, bH, z, t, c, v) (nI s) (nI sl) (bW i) cd (bH (5 * i + s)).toInt64 := by
        intro cd pst hcd hK
        subst hcd
        refine qy_addC (bW i, qs_code s [i], (bH (5 * i + s)).toInt64) hs hsl b ?_ ?_
        · have h1 : List.range tk = List.range (i + 1) ++ (List.range d).map (fun x => i + 1 + x) := by
            rw [← hi, show i + (d + 1) = (i + 1) + d by omega, List.range_add]
          rw [h1, List.flatMap_append, hfl, etk, List.append_assoc] at hcap
          exact Nat.le_trans (qy_nnle _ _) hcap
        · intro z' t' c' v' b'
          refine hK z' t' c' v' ?_
          rw [hfl, etk]; exact b'
      refine pk_eq s 4 (fun e4 => ?_) (fun e4 => ?_)
      · refine And.intro hv5 ?_
        rw [hc5]
        exact go _ _ (by rw [e4]; exact qy_shl (by omega)) (fun z' t' c' v' b' => nm_r (nI_1 i) (ih (i + 1) z' t' c' v' (by omega) b' fu (by omega)))
      · refine And.intro hv5 ?_
        rw [hc5]
        exact go _ _ (if_neg e4).symm (fun z' t' c' v' b' => nm_r (nI_1 i) (ih (i + 1) z' t' c' v' (by omega) b' fu (by omega)))
    · have etk : qy_tok s tk bO bW bH q i = [] := if_neg eo
      exact ih (i + 1) z t c v (by omega) (by rw [hfl, etk, List.append_nil]; exact b) fu (by omega)
theorem qy_derive {l r tk bs : Nat} (hs : s ≤ 4) (hbs : bs = if s = 4 then 0 else 8) (hq : q < 8) (hbk : bK q = nI kd) (hkd : kd ≤ 5) (hbl : bL q = nI l) (hbr : bR q = nI r) (hl : l < 8) (hr : r < 8) (htk : YK = nI tk) (ht16 : tk ≤ 16) (hlr : kd ≠ 0 → l < q ∧ r < q) (hA : kd ≠ 0 → qy_S (bs + l) A bZ fT fC fV) (hA0 : kd = 0 → A = []) (hB : kd = 4 ∨ kd = 5 → qy_S (bs + r) B bZ fT fC fV) (hjn : kd = 5 → ∀ (pst : Int32 → Prop) (u v : Int32) (z t : Nat → Int32) (c w : Nat → Int64), pst (jn u v) → wpY_joined pst (YN, YK, YR, YT, YM, YP, bK, bL, bR, bC, bD, bA, bB, bE, bO, bW, bH, z, t, c, w) (nI q) u v) (hcap : (qa_nn ((List.range tk).flatMap (qy_tok s tk bO bW bH q) ++ qa_C s kd (qc_mv kd (bA q) (bB q) (bE q)) jn A B)).length ≤ 1024) (K : ∀ z t c v, qy_B (bs + q) bZ fT fC fV (qa_F s ((List.range tk).flatMap (qy_tok s tk bO bW bH q) ++ qa_C s kd (qc_mv kd (bA q) (bB q) (bE q)) jn A B)) z t c v → post (YN, YK, YR, YT, YM, YP, bK, bL, bR, bC, bD, bA, bB, bE, bO, bW, bH, z, t, c, v)) : wpY_derive post (YN, YK, YR, YT, YM, YP, bK, bL, bR, bC, bD, bA, bB, bE, bO, bW, bH, bZ, fT, fC, fV) (nI s) (nI q) := by
  have hv : vp_in (nI q) 8 := vp_in_nI (by omega) (by omega)
  have hc : (nI q).toNatClampNeg = q := nI_clamp (by omega)
  have hbs8 : bs ≤ 8 := by rw [hbs]; split <;> omega
  have hvl : vp_in (nI (bs + l)) 16 := vp_in_nI (by omega) (by omega)
  have hcl : (nI (bs + l)).toNatClampNeg = bs + l := nI_clamp (by omega)
  have hvr : vp_in (nI (bs + r)) 16 := vp_in_nI (by omega) (by omega)
  have hcr : (nI (bs + r)).toNatClampNeg = bs + r := nI_clamp (by omega)
  have hvs : vp_in (nI (bs + q)) 16 := vp_in_nI (by omega) (by omega)
  have hcs : (nI (bs + q)).toNatClampNeg = bs + q := nI_clamp (by omega)
  have hml : nI (bs + l) * 1024 = nI ((bs + l) * 1024) := pk_mul _ 1024
  have hmr : nI (bs + r) * 1024 = nI ((bs + r) * 1024) := pk_mul _ 1024
  obtain ⟨m, hm, hmB⟩ : ∃ m, bZ (bs + r) = nI m ∧ (kd = 4 ∨ kd = 5 → m = B.length) := by
    by_cases h45 : kd = 4 ∨ kd = 5
    · exact ⟨B.length, (hB h45).1, fun _ => rfl⟩
    · obtain ⟨m, _, hm⟩ := wb_of32 (bZ (bs + r))
      exact ⟨m, hm, fun e => absurd e h45⟩
  have hA1 : qm_sg fT fC fV ((bs + l) * 1024) A := by
    by_cases h0 : kd = 0
    · rw [hA0 h0]; trivial
    · exact (hA h0).2.2
  have hA2 : A.length ≤ 1024 := by
    by_cases h0 : kd = 0
    · rw [hA0 h0]; simp
    · exact (hA h0).2.1
  have hne : bs + l ≠ bs + q ∨ A = [] := by
    by_cases h0 : kd = 0
    · exact Or.inr (hA0 h0)
    · have := hlr h0; exact Or.inl (by omega)
  have hB1 : kd = 4 ∨ kd = 5 → bs + r < 16 ∧ bs + r ≠ bs + q ∧ qm_sg fT fC fV ((bs + r) * 1024) B ∧ B.length ≤ 1024 ∧ m = B.length := by
    intro h
    have := hlr (by omega)
    exact ⟨by omega, by omega, (hB h).2.2, (hB h).2.1, hmB h⟩
  have start : wY_derive_75 post (nI s) (nI q) (nI bs) (nI (bs + q)) (nI kd) (nI ((bs + l) * 1024)) (nI ((bs + r) * 1024)) (nI A.length) YN YK YR YT YM YP bK bL bR bC bD bA bB bE bO bW bH bZ fT fC fV := by
    refine And.intro hv ?_
    rw [hc, hbr, nI_add, hcr, hcs, hm]
    refine ⟨hvr, nm_e ⟨hvs, nm_e ⟨tk + 1, ?_⟩⟩⟩
    refine qy_derive_103 hs (by omega) hkd hq hbk (by omega) hne hA1 hA2 hB1 hjn htk ht16 hcap K tk 0 (upd bZ (bs + q) 0) fT fC fV (by omega) ⟨⟨pk_us, Nat.zero_le _, trivial⟩, fun j hj => pk_un hj, fun j _ => ⟨rfl, rfl, rfl⟩⟩ (tk + 1) (by omega)
  have mid : wY_derive_11 post (nI s) (nI q) (nI bs) YN YK YR YT YM YP bK bL bR bC bD bA bB bE bO bW bH bZ fT fC fV := by
    refine nm_r (nI_add _ _) (And.intro hv ?_)
    rw [hc, hbk, hbl, hbr, nI_add, nI_add, hml, hmr, hcl]
    refine nm_e ⟨hv, nm_e ⟨hv, nm_e ?_⟩⟩
    refine pk_eq kd 0 (fun e => ?_) (fun e => ⟨hv, hvl, ?_⟩)
    · have := start
      rw [hA0 e] at this
      exact this
    · rw [(hA e).1]; exact start
  refine pk_eq s 4 (fun e => ?_) (fun e => ?_)
  · rw [if_pos e] at hbs
    rw [hbs] at mid
    exact mid
  · rw [if_neg e] at hbs
    rw [hbs] at mid
    exact mid
end
end
section
/-! digits of codes; X: termValue, the sum of value -/
def qs_dg (f : Nat → Nat) : Nat → Nat
  | 0 => 0
  | m + 1 => qs_dg f m + f m * 16 ^ m
theorem qs_dg_lt {f : Nat → Nat} (h : ∀ y, f y < 16) : ∀ m, qs_dg f m < 16 ^ m
  | 0 => by show (0 : Nat) < 16 ^ 0; decide
  | m + 1 => by
    have a := qs_dg_lt h m
    have b : f m * 16 ^ m ≤ 15 * 16 ^ m := Nat.mul_le_mul_right _ (by have := h m; omega)
    show qs_dg f m + f m * 16 ^ m < 16 ^ (m + 1)
    rw [Nat.pow_succ]; omega
theorem qs_dg_at {f : Nat → Nat} (h : ∀ y, f y < 16) {x : Nat} : ∀ {m : Nat}, x < m → qs_dg f m / 16 ^ x % 16 = f x
  | 0, hx => by omega
  | m + 1, hx => by
    show (qs_dg f m + f m * 16 ^ m) / 16 ^ x % 16 = f x
    have px : 0 < 16 ^ x := Nat.pow_pos (by omega)
    rcases Nat.lt_or_ge x m with z | z
    · have e : f m * 16 ^ m = (f m * 16 ^ (m - x - 1) * 16) * 16 ^ x := by
        have : 16 ^ m = 16 ^ (m - x - 1) * 16 * 16 ^ x := by
          rw [← Nat.pow_succ, ← Nat.pow_add]; congr 1; omega
        rw [this]
        simp only [Nat.mul_assoc]
      rw [e, Nat.add_mul_div_right _ _ px, Nat.add_mul_mod_self_right]
      exact qs_dg_at h z
    · have e : x = m := by omega
      subst e
      rw [Nat.add_mul_div_right _ _ px, Nat.div_eq_of_lt (qs_dg_lt h x), Nat.zero_add]
      exact Nat.mod_eq_of_lt (h x)
theorem qs_dg_inc (f : Nat → Nat) (x : Nat) : ∀ m, qs_dg (fun y => f y + if x == y then 1 else 0) m = qs_dg f m + if x < m then 16 ^ x else 0
  | 0 => by simp [qs_dg]
  | m + 1 => by
    show qs_dg (fun y => f y + if x == y then 1 else 0) m + (f m + if x == m then 1 else 0) * 16 ^ m = qs_dg f m + f m * 16 ^ m + if x < m + 1 then 16 ^ x else 0
    rw [qs_dg_inc f x m]
    by_cases h : x = m
    · subst h
      have e1 : (if (x == x) = true then 1 else 0) = 1 := by simp
      rw [e1, if_neg (Nat.lt_irrefl x), if_pos (Nat.lt_succ_self x), Nat.add_mul, Nat.one_mul]; omega
    · have e1 : (if (x == m) = true then 1 else 0) = 0 := by simp [h]
      rw [e1, Nat.add_zero]
      by_cases h2 : x < m
      · rw [if_pos h2, if_pos (Nat.lt_succ_of_lt h2)]; omega
      · rw [if_neg h2, if_neg (show ¬ x < m + 1 by omega)]; omega
theorem qs_cd_dg : ∀ {l : List Nat}, (∀ x, x ∈ l → x < 16) → qs_cd l = qs_dg (fun y => l.count y) 16
  | [], _ => by
    have : ∀ m, qs_dg (fun y => ([] : List Nat).count y) m = 0 := by
      intro m
      induction m with
      | zero => rfl
      | succ m ih => show qs_dg _ m + List.count m [] * 16 ^ m = 0; rw [ih]; simp
    rw [this]; rfl
  | x :: l, h => by
    have e : (fun y => (x :: l).count y) = (fun y => l.count y + if x == y then 1 else 0) := by
      funext y; exact List.count_cons
    rw [e, qs_dg_inc, ← qs_cd_dg (fun y hy => h y (List.mem_cons_of_mem _ hy)), if_pos (h x List.mem_cons_self)]
    show 16 ^ x + qs_cd l = _
    omega
theorem qs_digit {l : List Nat} (h : ∀ x, x ∈ l → x < 16) (h4 : l.length ≤ 4) {x : Nat} (hx : x < 16) : qs_cd l / 16 ^ x % 16 = l.count x := by
  rw [qs_cd_dg h]
  exact qs_dg_at (f := fun y => l.count y) (fun y => by have := List.count_le_length (a := y) (l := l); omega) hx
def qs_P (l : List Nat) : Nat → List Nat
  | 0 => []
  | m + 1 => List.replicate (l.count m) m ++ qs_P l m
theorem qs_P_count (l : List Nat) (y : Nat) : ∀ m, (qs_P l m).count y = if y < m then l.count y else 0
  | 0 => by simp [qs_P]
  | m + 1 => by
    show (List.replicate (l.count m) m ++ qs_P l m).count y = _
    rw [List.count_append, List.count_replicate, qs_P_count l y m]
    by_cases h : m = y
    · subst h
      rw [if_pos (by simp), if_neg (Nat.lt_irrefl _), if_pos (by omega)]; omega
    · rw [if_neg (by simpa using h)]
      by_cases h2 : y < m
      · rw [if_pos h2, if_pos (by omega)]; omega
      · rw [if_neg h2, if_neg (by omega)]
theorem qs_P_perm {l : List Nat} (h : ∀ x, x ∈ l → x < 16) : List.Perm l (qs_P l 16) := by
  rw [List.perm_iff_count]
  intro y
  rw [qs_P_count]
  by_cases hy : y < 16
  · rw [if_pos hy]
  · rw [if_neg hy]
    exact List.count_eq_zero.mpr (fun hm => hy (h y hm))
theorem qs_exp {l : List Nat} (h : ∀ x, x ∈ l → x < 16) (h4 : l.length ≤ 4) {x : Nat} (hx : x < 16) : ((lN (qs_cd l) >>> ((4 * nI x).toInt64 &&& 63)) &&& 15).toInt32 = nI (l.count x) := by
  have hb : qs_cd l < 2 ^ 63 := by have := qs_cd_le h; omega
  have e4 : 4 * nI x = nI (4 * x) := pk_mul 4 x
  have hsh : lN (qs_cd l) >>> ((4 * nI x).toInt64 &&& 63) = lN (qs_cd l / 16 ^ x) := by
    rw [e4, wb_c _ (by omega)]
    have hd : qs_cd l / 16 ^ x ≤ qs_cd l := Nat.div_le_self _ _
    have hD : ((lN (4 * x)).toBitVec.smod 64).toNat = 4 * x := by
      rw [wb_tb, wb_sm _ (by omega), BitVec.toNat_ofNat]; omega
    apply Int64.toInt_inj.mp
    have e : (lN (qs_cd l) >>> lN (4 * x)).toInt = (lN (qs_cd l)).toInt >>> (4 * x) := by
      conv => rhs; rw [← hD]
      exact BitVec.toInt_sshiftRight ..
    rw [e, Int.shiftRight_eq_div_pow, pf_lI hb, pf_lI (by omega), Nat.pow_mul]
    rfl
  rw [hsh, show (15 : Int64) = lN (2 ^ 4 - 1) from rfl, wb_mask (by have := Nat.div_le_self (qs_cd l) (16 ^ x); omega) (by omega), lN_i]
  exact congrArg nI (qs_digit h h4 hx)
section
variable {XR XT XM XP XN XK XB XO : Int32} {aS aC aD aF tT tV : Nat → Int32} {tM tC : Nat → Int64}
theorem qx_one {post : Int64 → Prop} {s : Nat} (hs : s ≤ 3) (h : post (qs_1 s)) : wpX_one post (XR, XT, XM, XP, XN, XK, XB, XO, aS, aC, aD, aF, tT, tM, tC, tV) (nI s) := by
  rcases qs_5 (show s ≤ 4 by omega) with rfl | rfl | rfl | rfl | rfl
  · exact br_t rfl h
  · exact br_f (by decide) (br_f (by decide) h)
  · exact br_f (by decide) (br_f (by decide) h)
  · exact br_f (by decide) (br_t rfl h)
  · omega
theorem qx_zero {post : Int64 → Prop} {s : Nat} (hs : s ≤ 3) (h : post (qs_0 s)) : wpX_zero post (XR, XT, XM, XP, XN, XK, XB, XO, aS, aC, aD, aF, tT, tM, tC, tV) (nI s) := by
  rcases qs_5 (show s ≤ 4 by omega) with rfl | rfl | rfl | rfl | rfl
  · exact br_f (by decide) (br_f (by decide) h)
  · exact br_t rfl h
  · exact br_f (by decide) (br_t rfl h)
  · exact br_f (by decide) (br_f (by decide) h)
  · omega
theorem qx_times {post : Int64 → Prop} {s : Nat} {a b : Int64} (hs : s ≤ 3) (h : post (qs_t s a b)) : wpX_times post (XR, XT, XM, XP, XN, XK, XB, XO, aS, aC, aD, aF, tT, tM, tC, tV) (nI s) a b := by
  rcases qs_5 (show s ≤ 4 by omega) with rfl | rfl | rfl | rfl | rfl
  · exact br_t rfl h
  · rw [qs_t1, qs_ct] at h
    refine br_f (by decide) (br_t rfl (br_c (fun e => ?_) (fun e => br_c (fun e2 => ?_) (fun e2 => ?_))))
    · rw [if_pos e] at h; exact h
    · rw [if_neg e, if_pos e2] at h; exact h
    · rw [if_neg e, if_neg e2] at h; exact h
  · rw [qs_t2, qs_mx] at h
    refine br_f (by decide) (br_f (by decide) (br_t rfl (br_c (fun e => ?_) (fun e => ?_))))
    · rw [if_pos e] at h; exact h
    · rw [if_neg e] at h; exact h
  · rw [qs_t3, qs_mn_c, qs_mn] at h
    refine br_f (by decide) (br_f (by decide) (br_f (by decide) (br_c (fun e => ?_) (fun e => ?_))))
    · rw [if_pos e] at h; exact h
    · rw [if_neg e] at h; exact h
  · omega
theorem qx_plus {post : Int64 → Prop} {s : Nat} {a b : Int64} (hs : s ≤ 3) (h : post (qs_p s a b)) : wpX_plus post (XR, XT, XM, XP, XN, XK, XB, XO, aS, aC, aD, aF, tT, tM, tC, tV) (nI s) a b := by
  rcases qs_5 (show s ≤ 4 by omega) with rfl | rfl | rfl | rfl | rfl
  · exact br_t rfl h
  · rw [qs_p1, qs_mn_c, qs_mn] at h
    refine br_f (by decide) (br_f (by decide) (br_c (fun e => ?_) (fun e => ?_)))
    · rw [if_pos e] at h; exact h
    · rw [if_neg e] at h; exact h
  · rw [qs_p2, qs_mn_c, qs_mn] at h
    refine br_f (by decide) (br_f (by decide) (br_c (fun e => ?_) (fun e => ?_)))
    · rw [if_pos e] at h; exact h
    · rw [if_neg e] at h; exact h
  · rw [qs_p3, qs_mx] at h
    refine br_f (by decide) (br_t rfl (br_c (fun e => ?_) (fun e => ?_)))
    · rw [if_pos e] at h; exact h
    · rw [if_neg e] at h; exact h
  · omega
def qx_tk (s : Nat) (V : Nat → Int32) (x : Nat) : Int64 := (V (4 * x + s)).toInt64
theorem qx_tv37 {post : Int64 → Prop} {J : Int64 → Int32 → Prop} {x1 : Int32} {s x e : Nat} (hs : s ≤ 3) (hx : x < 16) (he : e < 16) : ∀ (d k : Nat) (P : List Nat) (fu : Nat), k + d = e → d < fu → J (qs_val s (qx_tk s tV) (List.replicate d x ++ P)) (nI (x + 1)) → wX_termValue_37 post J x1 (nI s) (nI x) (nI e) XR XT XM XP XN XK XB XO aS aC aD aF tT tM tC tV fu (qs_val s (qx_tk s tV) P) (nI k) := by
  have e4 : 4 * nI x + nI s = nI (4 * x + s) := by
    rw [show 4 * nI x = nI (4 * x) from pk_mul 4 x, nI_add]
  have hv4 : vp_in (4 * nI x + nI s) 64 := by rw [e4]; exact vp_in_nI (by omega) (by omega)
  have hc4 : (4 * nI x + nI s).toNatClampNeg = 4 * x + s := by rw [e4]; exact nI_clamp (by omega)
  intro d
  induction d with
  | zero =>
    intro k P fu hk hfu hJ
    obtain ⟨fu, rfl⟩ : ∃ q, fu = q + 1 := ⟨fu - 1, by omega⟩
    exact br_t (nI_le (by omega) (by omega)) (nm_r (nI_1 x) hJ)
  | succ d ih =>
    intro k P fu hk hfu hJ
    obtain ⟨fu, rfl⟩ : ∃ q, fu = q + 1 := ⟨fu - 1, by omega⟩
    refine br_f (nI_ge (by omega) (by omega)) ⟨hv4, ?_⟩
    rw [hc4]
    refine qx_times hs (nm_r (nI_1 k) ?_)
    rw [qs_t_c]
    have hJ' : J (qs_val s (qx_tk s tV) (List.replicate d x ++ (x :: P))) (nI (x + 1)) := by
      rw [List.replicate_succ', List.append_assoc] at hJ; exact hJ
    exact ih (k + 1) (x :: P) fu (by omega) (by omega) hJ'
theorem qx_tv9 {post : Int64 → Prop} {i s : Nat} {l : List Nat} (hs : s ≤ 3) (hi : i < 224) (h16 : ∀ x, x ∈ l → x < 16) (h4 : l.length ≤ 4) (hm : tM i = lN (qs_cd l)) (hp : post (if s = 0 then qs_val s (qx_tk s tV) (qs_P l 16) * tC i else qs_val s (qx_tk s tV) (qs_P l 16))) : ∀ (d x : Nat) (fu : Nat), x + d = 16 → d < fu → wX_termValue_9 post (nI i) (nI s) XR XT XM XP XN XK XB XO aS aC aD aF tT tM tC tV fu (qs_val s (qx_tk s tV) (qs_P l x)) (nI x) := by
  have hv : vp_in (nI i) 224 := vp_in_nI (by omega) (by omega)
  have hc : (nI i).toNatClampNeg = i := nI_clamp (by omega)
  intro d
  induction d with
  | zero =>
    intro x fu hx hfu
    obtain ⟨fu, rfl⟩ : ∃ q, fu = q + 1 := ⟨fu - 1, by omega⟩
    have e : x = 16 := by omega
    subst e
    refine br_t (nI_le (a := 16) (by omega) (by omega)) (pk_eq s 0 (fun e => ⟨hv, ?_⟩) (fun e => ?_))
    · rw [hc]; rw [if_pos e] at hp; exact hp
    · rw [if_neg e] at hp; exact hp
  | succ d ih =>
    intro x fu hx hfu
    obtain ⟨fu, rfl⟩ : ∃ q, fu = q + 1 := ⟨fu - 1, by omega⟩
    refine br_f (nI_ge (b := 16) (by omega) (by decide)) ⟨hv, ?_⟩
    rw [hc, hm]
    have hce : l.count x < 16 := by have := List.count_le_length (a := x) (l := l); omega
    refine nm_r (qs_exp h16 h4 (by omega)) ⟨l.count x + 1, ?_⟩
    exact qx_tv37 hs (by omega) hce (l.count x) 0 (qs_P l x) (l.count x + 1) (by omega) (by omega) (ih (x + 1) fu (by omega) (by omega))
theorem qx_termValue {post : Int64 → Prop} {i s : Nat} {l : List Nat} (hs : s ≤ 3) (hi : i < 224) (h16 : ∀ x, x ∈ l → x < 16) (h4 : l.length ≤ 4) (hl : qs_L s (qx_tk s tV) l) (hm : tM i = lN (qs_cd l)) (hp : post (if s = 0 then qs_val s (qx_tk s tV) l * tC i else qs_val s (qx_tk s tV) l)) : wpX_termValue post (XR, XT, XM, XP, XN, XK, XB, XO, aS, aC, aD, aF, tT, tM, tC, tV) (nI i) (nI s) := by
  rw [qs_val_perm (by omega) (qs_P_perm h16) h4 hl] at hp
  unfold wpX_termValue
  dsimp only
  refine qx_one hs ?_
  exact ⟨17, qx_tv9 hs hi h16 h4 hm hp 16 0 17 (by omega) (by omega)⟩
theorem qx_value_58 {post : Int64 → Prop} {s p : Nat} {M : List qa_T} {tv : qa_T → Int64} (hs : s ≤ 3) (hseg : qm_sg tT tM tC p M) (hle : p + M.length ≤ 224) (hM : ∀ x, x ∈ M → ∃ l : List Nat, (∀ y, y ∈ l → y < 16) ∧ l.length ≤ 4 ∧ qs_L s (qx_tk s tV) l ∧ x.2.1 = lN (qs_cd l) ∧ tv x = (if s = 0 then qs_val s (qx_tk s tV) l * x.2.2 else qs_val s (qx_tk s tV) l)) : ∀ (Rs D : List qa_T) (acc : Int64), M = D ++ Rs → post (Rs.foldl (fun a x => qs_p s a (tv x)) acc) → ∀ fu, Rs.length < fu → wX_value_58 post (nI s) (nI (p + M.length)) XR XT XM XP XN XK XB XO aS aC aD aF tT tM tC tV fu acc (nI (p + D.length)) := by
  intro Rs
  induction Rs with
  | nil =>
    intro D acc eM hp fu hfu
    obtain ⟨fu, rfl⟩ : ∃ q, fu = q + 1 := ⟨fu - 1, by simp at hfu; omega⟩
    rw [List.append_nil] at eM
    subst eM
    exact br_t (nI_le (Nat.le_refl _) (by omega)) hp
  | cons x Rs ih =>
    intro D acc eM hp fu hfu
    obtain ⟨fu, rfl⟩ : ∃ q, fu = q + 1 := ⟨fu - 1, by simp at hfu; omega⟩
    have hlen : M.length = D.length + Rs.length + 1 := by rw [eM]; simp; omega
    have hsg := hseg
    rw [eM] at hsg
    obtain ⟨g1, g2, g3⟩ := qm_sg_mid hsg
    obtain ⟨l, l1, l2, l3, l4, l5⟩ := hM x (by rw [eM]; exact List.mem_append_right _ List.mem_cons_self)
    have eD : M = (D ++ [x]) ++ Rs := by rw [eM, List.append_assoc]; rfl
    have eA : p + (D ++ [x]).length = p + D.length + 1 := by simp; omega
    refine br_f (nI_ge (by omega) (by omega)) ?_
    refine qx_termValue hs (by omega) l1 l2 l3 (g2.trans l4) ?_
    rw [g3, ← l5]
    refine qx_plus hs (nm_r (nI_1 _) ?_)
    have := ih (D ++ [x]) (qs_p s acc (tv x)) eD hp fu (by simp at hfu; omega)
    rw [eA] at this
    exact this
end
theorem qa_foldl (s : Nat) (tv : qa_T → Int64) : ∀ (M : List qa_T) (a : Int64), some (M.foldl (fun a x => qs_p s a (tv x)) a) = qa_o s (some a) (qa_S s (fun x => some (tv x)) M)
  | [], a => rfl
  | x :: M, a => by
    rw [List.foldl_cons, qa_foldl s tv M]
    show qa_o s (qa_o s (some a) (some (tv x))) _ = qa_o s (some a) (qa_o s (some (tv x)) _)
    rw [qa_o_a]
theorem qs_0_id {s : Nat} (hs : s ≤ 3) {a : Int64} (ha : qs_DL s 4 a) : qs_p s (qs_0 s) a = a := by
  rcases qs_5 (show s ≤ 4 by omega) with rfl | rfl | rfl | rfl | rfl
  · exact Int64.zero_add a
  · have h1 := ha.1 rfl
    apply Int64.toInt_inj.mp
    have z : (qs_0 1).toInt = 9999 := by decide
    rw [qs_p1, qs_mn_i]; omega
  · have h1 := ha.2.1 rfl
    apply Int64.toInt_inj.mp
    have z : (qs_0 2).toInt = 5 := by decide
    rw [qs_p2, qs_mn_i]; omega
  · have h1 := ha.2.2 rfl
    apply Int64.toInt_inj.mp
    have z : (qs_0 3).toInt = 0 := by decide
    rw [qs_p3, qs_mx_i]; omega
  · omega
end
section
/-! the relation -/
def re_mv (kd : Nat → Nat) (A B E : Nat → Int32) (q : Nat) : Int32 → Int32 := qc_mv (kd q) (A q) (B q) (E q)
def re_jn (co lf rt : Nat → Nat) (A B : Nat → Int32) (q : Nat) : Int32 → Int32 → Int32 := qc_jn (A q) (B q).toNatClampNeg (co (lf q)) (co (rt q))
def re_e4 : qa_R → qa_T := qs_ev 4 (fun _ => 1)
def re_P (mx : Nat) (co de kd lf rt TB : Nat → Nat) (bA bB bE bW : Nat → Int32) (LX LY : Nat → List qa_T) (R : Nat → List qa_R) (q : Nat) : Prop :=
  (1 ≤ co q ∧ co q ≤ 3) ∧ (1 ≤ de q ∧ de q ≤ 4) ∧ kd q ≤ 5 ∧ lf q < 8 ∧ rt q < 8
  ∧ (kd q ≠ 0 → lf q < q ∧ rt q < q ∧ TB (q + 1) = TB q ∧ R q = qa_nr (qa_CR (kd q) (re_mv kd bA bB bE q) (re_jn co lf rt bA bB q) (R (lf q)) (R (rt q))))
  ∧ (kd q = 5 → bB q = nI (bB q).toNatClampNeg ∧ (bB q).toNatClampNeg < co (rt q) ∧ de (lf q) + de (rt q) ≤ 4)
  ∧ (kd q = 0 → R q = (List.range' (TB q) (TB (q + 1) - TB q)).map (fun x => (bW x, [x])) ∧ (LX q).length = TB (q + 1) - TB q)
  ∧ (∀ p, p ∈ R q → p.2.length ≤ de q ∧ p.2 ≠ [] ∧ (∀ x, x ∈ p.2 → x < TB (q + 1)) ∧ ∃ a, a < 4 ^ (co q) ∧ p.1 = nI a)
  ∧ qa_so (LX q) ∧ qa_ND (LY q) ∧ qa_E 4 (LX q) ((R q).map re_e4) ∧ qa_E 4 (LY q) ((R q).map re_e4) ∧ (LX q).length ≤ mx
def re_X (S co de kd : Nat → Nat) (LX : Nat → List qa_T) (aS aC aD aF tT : Nat → Int32) (tM tC : Nat → Int64) (q : Nat) : Prop :=
  aS (q + 1) = nI (S (q + 1)) ∧ S (q + 1) = S q + (LX q).length ∧ aC q = nI (co q) ∧ aD q = nI (de q) ∧ aF q = (if kd q = 0 then 1 else 0) ∧ qm_sg tT tM tC (S q) (LX q)
def re_Y (co de kd lf rt : Nat → Nat) (LY : Nat → List qa_T) (bK bL bR bC bD bZ fT : Nat → Int32) (fC fV : Nat → Int64) (q : Nat) : Prop :=
  bK q = nI (kd q) ∧ bL q = nI (lf q) ∧ bR q = nI (rt q) ∧ bC q = nI (co q) ∧ bD q = nI (de q) ∧ qy_S q (LY q) bZ fT fC fV
def re_L (s : Nat) (x : Int32) : Prop := 0 ≤ x.toInt ∧ qs_DL s 1 x.toInt64
def re_T (n tk : Nat) (TB : Nat → Nat) (bO bH tV : Nat → Int32) : Prop :=
  TB 0 = 0 ∧ TB n = tk ∧ (∀ q, q < n → TB q ≤ TB (q + 1) ∧ ∀ x, TB q ≤ x → x < TB (q + 1) → bO x = nI q)
  ∧ ∀ x, x < tk → bH (5 * x + 4) = 1 ∧ ∀ s, s < 4 → tV (4 * x + s) = bH (5 * x + s) ∧ re_L s (bH (5 * x + s))
def re_N (mr mt mx mp n tk : Nat) (S : Nat → Nat) (aS : Nat → Int32) : Prop := 4 ≤ mr ∧ mr ≤ 8 ∧ 4 ≤ mt ∧ mt ≤ 16 ∧ 8 ≤ mx ∧ mx ≤ 32 ∧ 32 ≤ mp ∧ mp ≤ 192 ∧ n ≤ mr ∧ tk ≤ mt ∧ S 0 = 0 ∧ aS 0 = nI 0 ∧ S n ≤ mp
def re_A (mr mt mx mp n tk : Nat) (S co de kd lf rt TB : Nat → Nat) (LX LY : Nat → List qa_T) (R : Nat → List qa_R) (aS aC aD aF tT : Nat → Int32) (tM tC : Nat → Int64) (tV : Nat → Int32) (bK bL bR bC bD bA bB bE bO bW bH bZ fT : Nat → Int32) (fC fV : Nat → Int64) : Prop :=
  re_N mr mt mx mp n tk S aS ∧ re_T n tk TB bO bH tV ∧ (∀ q, q < n → re_P mx co de kd lf rt TB bA bB bE bW LX LY R q) ∧ (∀ q, q < n → re_X S co de kd LX aS aC aD aF tT tM tC q) ∧ (∀ q, q < n → re_Y co de kd lf rt LY bK bL bR bC bD bZ fT fC fV q)
def i_Rel (k : Nat) (u : SX) (v : SY) : Prop := ∃ (mr mt mx mp n tk : Nat) (S co de kd lf rt TB : Nat → Nat) (LX LY : Nat → List qa_T) (R : Nat → List qa_R) (XB XO : Int32) (aS aC aD aF tT : Nat → Int32) (tM tC : Nat → Int64) (tV : Nat → Int32) (bK bL bR bC bD bA bB bE bO bW bH bZ fT : Nat → Int32) (fC fV : Nat → Int64),
  u = (nI mr, nI mt, nI mx, nI mp, nI n, nI tk, XB, XO, aS, aC, aD, aF, tT, tM, tC, tV) ∧ v = (nI n, nI tk, nI mr, nI mt, nI mx, nI mp, bK, bL, bR, bC, bD, bA, bB, bE, bO, bW, bH, bZ, fT, fC, fV) ∧ re_A mr mt mx mp n tk S co de kd lf rt TB LX LY R aS aC aD aF tT tM tC tV bK bL bR bC bD bA bB bE bO bW bH bZ fT fC fV
theorem i_up {k : Nat} {u : SX} {v : SY} (h : i_Rel k u v) : i_Rel (k + 5) u v := h
theorem re_el {P : SX → SY → Prop} (h : ∀ (mr mt mx mp n tk : Nat) (S co de kd lf rt TB : Nat → Nat) (LX LY : Nat → List qa_T) (R : Nat → List qa_R) (XB XO : Int32) (aS aC aD aF tT : Nat → Int32) (tM tC : Nat → Int64) (tV : Nat → Int32) (bK bL bR bC bD bA bB bE bO bW bH bZ fT : Nat → Int32) (fC fV : Nat → Int64), re_A mr mt mx mp n tk S co de kd lf rt TB LX LY R aS aC aD aF tT tM tC tV bK bL bR bC bD bA bB bE bO bW bH bZ fT fC fV → P (nI mr, nI mt, nI mx, nI mp, nI n, nI tk, XB, XO, aS, aC, aD, aF, tT, tM, tC, tV) (nI n, nI tk, nI mr, nI mt, nI mx, nI mp, bK, bL, bR, bC, bD, bA, bB, bE, bO, bW, bH, bZ, fT, fC, fV)) {k : Nat} {u : SX} {v : SY} (I : i_Rel k u v) : P u v :=
  by
    obtain ⟨mr, mt, mx, mp, n, tk, S, co, de, kd, lf, rt, TB, LX, LY, R, XB, XO, aS, aC, aD, aF, tT, tM, tC, tV, bK, bL, bR, bC, bD, bA, bB, bE, bO, bW, bH, bZ, fT, fC, fV, rfl, rfl, H⟩ := I
    exact h mr mt mx mp n tk S co de kd lf rt TB LX LY R XB XO aS aC aD aF tT tM tC tV bK bL bR bC bD bA bB bE bO bW bH bZ fT fC fV H
section
variable {mr mt mx mp n tk : Nat} {S co de kd lf rt TB : Nat → Nat} {LX LY : Nat → List qa_T} {R : Nat → List qa_R} {XB XO : Int32} {aS aC aD aF tT : Nat → Int32} {tM tC : Nat → Int64} {tV : Nat → Int32} {bK bL bR bC bD bA bB bE bO bW bH bZ fT : Nat → Int32} {fC fV : Nat → Int64}
theorem re_in {k : Nat} (H : re_A mr mt mx mp n tk S co de kd lf rt TB LX LY R aS aC aD aF tT tM tC tV bK bL bR bC bD bA bB bE bO bW bH bZ fT fC fV) : i_Rel k (nI mr, nI mt, nI mx, nI mp, nI n, nI tk, XB, XO, aS, aC, aD, aF, tT, tM, tC, tV) (nI n, nI tk, nI mr, nI mt, nI mx, nI mp, bK, bL, bR, bC, bD, bA, bB, bE, bO, bW, bH, bZ, fT, fC, fV) :=
  ⟨mr, mt, mx, mp, n, tk, S, co, de, kd, lf, rt, TB, LX, LY, R, XB, XO, aS, aC, aD, aF, tT, tM, tC, tV, bK, bL, bR, bC, bD, bA, bB, bE, bO, bW, bH, bZ, fT, fC, fV, rfl, rfl, H⟩
theorem re_S (H : re_A mr mt mx mp n tk S co de kd lf rt TB LX LY R aS aC aD aF tT tM tC tV bK bL bR bC bD bA bB bE bO bW bH bZ fT fC fV) : ∀ q, q ≤ n → aS q = nI (S q) := by
  obtain ⟨N, T, HP, HX, HY⟩ := H
  intro q hq
  match q with
  | 0 => rw [N.2.2.2.2.2.2.2.2.2.2.1, N.2.2.2.2.2.2.2.2.2.2.2.1]
  | q + 1 => exact (HX q (by omega)).1
theorem re_Sm (H : re_A mr mt mx mp n tk S co de kd lf rt TB LX LY R aS aC aD aF tT tM tC tV bK bL bR bC bD bA bB bE bO bW bH bZ fT fC fV) : ∀ q, q < n → S q + (LX q).length ≤ S n ∧ S (q + 1) = S q + (LX q).length := by
  obtain ⟨N, T, HP, HX, HY⟩ := H
  have key : ∀ d q, q + d = n → S q ≤ S n := by
    intro d
    induction d with
    | zero => intro q hq; rw [show q = n by omega]; exact Nat.le_refl _
    | succ d ih =>
      intro q hq
      have := ih (q + 1) (by omega)
      have := (HX q (by omega)).2.1
      omega
  intro q hq
  have := key (n - (q + 1)) (q + 1) (by omega)
  have h2 := (HX q hq).2.1
  exact ⟨by omega, h2⟩
theorem re_TBm (T : re_T n tk TB bO bH tV) : ∀ q, q ≤ n → TB q ≤ tk := by
  obtain ⟨T0, Tn, TB', _⟩ := T
  have key : ∀ d q, q + d = n → TB q ≤ TB n := by
    intro d
    induction d with
    | zero => intro q hq; rw [show q = n by omega]; exact Nat.le_refl _
    | succ d ih =>
      intro q hq
      have := ih (q + 1) (by omega)
      have := (TB' q (by omega)).1
      omega
  intro q hq
  rw [← Tn]
  exact key (n - q) q (by omega)
/-- tokens of an owner -/
theorem re_ow_lo (T : re_T n tk TB bO bH tV) : ∀ q, q ≤ n → ∀ x, x < TB q → ∃ q', q' < q ∧ bO x = nI q' := by
  obtain ⟨T0, Tn, TB', _⟩ := T
  intro q
  induction q with
  | zero => intro _ x hx; omega
  | succ q ih =>
    intro hq x hx
    rcases Nat.lt_or_ge x (TB q) with z | z
    · obtain ⟨q', h1, h2⟩ := ih (by omega) x z
      exact ⟨q', by omega, h2⟩
    · exact ⟨q, by omega, (TB' q (by omega)).2 x z hx⟩
theorem re_ow_hi (T : re_T n tk TB bO bH tV) : ∀ d q, q + d = n → ∀ x, TB q ≤ x → x < tk → ∃ q', q ≤ q' ∧ q' < n ∧ bO x = nI q' := by
  obtain ⟨T0, Tn, TB', _⟩ := T
  intro d
  induction d with
  | zero => intro q hq x h1 h2; rw [show q = n by omega, Tn] at h1; omega
  | succ d ih =>
    intro q hq x h1 h2
    rcases Nat.lt_or_ge x (TB (q + 1)) with z | z
    · exact ⟨q, by omega, by omega, (TB' q (by omega)).2 x h1 z⟩
    · obtain ⟨q', a, b, c⟩ := ih (q + 1) (by omega) x z h2
      exact ⟨q', by omega, b, c⟩
end
theorem re_P_congr {mx : Nat} {co de kd lf rt TB co' de' kd' lf' rt' TB' : Nat → Nat} {bA bB bE bW bA' bB' bE' bW' : Nat → Int32} {LX LY LX' LY' : Nat → List qa_T} {R R' : Nat → List qa_R} {q : Nat} (h : ∀ j, j ≤ q → co' j = co j ∧ de' j = de j ∧ kd' j = kd j ∧ lf' j = lf j ∧ rt' j = rt j ∧ bA' j = bA j ∧ bB' j = bB j ∧ bE' j = bE j ∧ LX' j = LX j ∧ LY' j = LY j ∧ R' j = R j) (hT : TB' q = TB q ∧ TB' (q + 1) = TB (q + 1)) (hW : ∀ x, x < TB (q + 1) → bW' x = bW x) (H : re_P mx co de kd lf rt TB bA bB bE bW LX LY R q) : re_P mx co' de' kd' lf' rt' TB' bA' bB' bE' bW' LX' LY' R' q := by
  obtain ⟨h1, h2, h3, h4, h5, h6, h7, h8, h9, h10⟩ := H
  obtain ⟨e1, e2, e3, e4, e5, e6, e7, e8, e9, e10, e11⟩ := h q (Nat.le_refl _)
  unfold re_P
  rw [e1, e2, e3, e4, e5, e7, e9, e10, e11, hT.1, hT.2]
  refine ⟨h1, h2, h3, h4, h5, fun z => ?_, fun z => ?_, fun z => ?_, h9, h10⟩
  · obtain ⟨g1, g2, g3, g4⟩ := h6 z
    refine ⟨g1, g2, g3, ?_⟩
    rw [g4]
    obtain ⟨a1, _, _, _, _, _, _, _, _, _, a11⟩ := h (lf q) (by omega)
    obtain ⟨b1, _, _, _, _, _, _, _, _, _, b11⟩ := h (rt q) (by omega)
    unfold re_mv re_jn
    rw [a11, b11, e3, e4, e5, e6, e7, e8, a1, b1]
  · obtain ⟨g1, g2, g3⟩ := h7 z
    obtain ⟨i1, i2, _, _⟩ := h6 (by omega)
    obtain ⟨a1, a2, _⟩ := h (lf q) (by omega)
    obtain ⟨b1, b2, _⟩ := h (rt q) (by omega)
    rw [a2, b1, b2]
    exact ⟨g1, g2, g3⟩
  · obtain ⟨g1, g2⟩ := h8 z
    refine ⟨?_, g2⟩
    rw [g1]
    apply List.map_congr_left
    intro x hx
    rw [List.mem_range'_1] at hx
    rw [hW x (by omega)]
def re_f {α : Type} (f : Nat → α) (n : Nat) (x : α) : Nat → α := fun j => if j = n then x else f j
theorem re_f_s {α : Type} {f : Nat → α} {n : Nat} {x : α} : re_f f n x n = x := if_pos rfl
theorem re_f_n {α : Type} {f : Nat → α} {n j : Nat} {x : α} (h : j ≠ n) : re_f f n x j = f j := if_neg h
section
variable {mr mt mx mp n tk : Nat} {S co de kd lf rt TB : Nat → Nat} {LX LY : Nat → List qa_T} {R : Nat → List qa_R} {XB XO : Int32} {aS aC aD aF tT : Nat → Int32} {tM tC : Nat → Int64} {tV : Nat → Int32} {bK bL bR bC bD bA bB bE bO bW bH bZ fT : Nat → Int32} {fC fV : Nat → Int64}
/-- what lies behind the newest relation does not matter -/
theorem re_frame {aS' aC' aD' aF' tT' : Nat → Int32} {tM' tC' : Nat → Int64} {bK' bL' bR' bC' bD' bA' bB' bE' bZ' fT' : Nat → Int32} {fC' fV' : Nat → Int64} (H : re_A mr mt mx mp n tk S co de kd lf rt TB LX LY R aS aC aD aF tT tM tC tV bK bL bR bC bD bA bB bE bO bW bH bZ fT fC fV) (h1 : ∀ j, j ≤ n → aS' j = aS j) (h2 : ∀ j, j < n → aC' j = aC j ∧ aD' j = aD j ∧ aF' j = aF j) (h3 : ∀ j, j < S n → tT' j = tT j ∧ tM' j = tM j ∧ tC' j = tC j) (h4 : ∀ j, j < n → bK' j = bK j ∧ bL' j = bL j ∧ bR' j = bR j ∧ bC' j = bC j ∧ bD' j = bD j ∧ bA' j = bA j ∧ bB' j = bB j ∧ bE' j = bE j ∧ bZ' j = bZ j) (h5 : ∀ j, j < n * 1024 → fT' j = fT j ∧ fC' j = fC j ∧ fV' j = fV j) : re_A mr mt mx mp n tk S co de kd lf rt TB LX LY R aS' aC' aD' aF' tT' tM' tC' tV bK' bL' bR' bC' bD' bA' bB' bE' bO bW bH bZ' fT' fC' fV' := by
  have Sm := re_Sm H
  obtain ⟨N, T, HP, HX, HY⟩ := H
  refine ⟨?_, T, fun q hq => ?_, fun q hq => ?_, fun q hq => ?_⟩
  · obtain ⟨n1, n2, n3, n4, n5, n6, n7, n8, n9, n10, n11, n12, n13⟩ := N
    exact ⟨n1, n2, n3, n4, n5, n6, n7, n8, n9, n10, n11, (h1 0 (by omega)).trans n12, n13⟩
  · refine re_P_congr (fun j hj => ?_) ⟨rfl, rfl⟩ (fun _ _ => rfl) (HP q hq)
    obtain ⟨_, _, _, _, _, g6, g7, g8, _⟩ := h4 j (by omega)
    exact ⟨rfl, rfl, rfl, rfl, rfl, g6, g7, g8, rfl, rfl, rfl⟩
  · obtain ⟨g1, g2, g3, g4, g5, g6⟩ := HX q hq
    obtain ⟨a1, a2, a3⟩ := h2 q hq
    have := Sm q hq
    exact ⟨(h1 (q + 1) (by omega)).trans g1, g2, a1.trans g3, a2.trans g4, a3.trans g5, qm_sg_congr (fun j j1 j2 => h3 j (by omega)) g6⟩
  · obtain ⟨g1, g2, g3, g4, g5, g6, g7, g8⟩ := HY q hq
    obtain ⟨a1, a2, a3, a4, a5, a6, a7, a8, a9⟩ := h4 q hq
    exact ⟨a1.trans g1, a2.trans g2, a3.trans g3, a4.trans g4, a5.trans g5, a9.trans g6, g7, qm_sg_congr (fun j j1 j2 => h5 j (by omega)) g8⟩
/-- a new relation at n -/
theorem re_ext {w d k0 l0 r0 : Nat} {L1 L2 : List qa_T} {R0 : List qa_R} (H : re_A mr mt mx mp n tk S co de kd lf rt TB LX LY R aS aC aD aF tT tM tC tV bK bL bR bC bD bA bB bE bO bW bH bZ fT fC fV) (hn : n < mr) (hS : S n + L1.length ≤ mp) (hP : re_P mx (re_f co n w) (re_f de n d) (re_f kd n k0) (re_f lf n l0) (re_f rt n r0) (re_f TB (n + 1) tk) bA bB bE bW (re_f LX n L1) (re_f LY n L2) (re_f R n R0) n) (hX : aS (n + 1) = nI (S n + L1.length) ∧ aC n = nI w ∧ aD n = nI d ∧ aF n = (if k0 = 0 then 1 else 0) ∧ qm_sg tT tM tC (S n) L1) (hY : bK n = nI k0 ∧ bL n = nI l0 ∧ bR n = nI r0 ∧ bC n = nI w ∧ bD n = nI d ∧ qy_S n L2 bZ fT fC fV) : re_A mr mt mx mp (n + 1) tk (re_f S (n + 1) (S n + L1.length)) (re_f co n w) (re_f de n d) (re_f kd n k0) (re_f lf n l0) (re_f rt n r0) (re_f TB (n + 1) tk) (re_f LX n L1) (re_f LY n L2) (re_f R n R0) aS aC aD aF tT tM tC tV bK bL bR bC bD bA bB bE bO bW bH bZ fT fC fV := by
  have TBm := re_TBm H.2.1
  obtain ⟨N, T, HP, HX, HY⟩ := H
  have ne : ∀ {j : Nat}, j < n → j ≠ n := fun h => by omega
  have ne1 : ∀ {j : Nat}, j ≤ n → j ≠ n + 1 := fun h => by omega
  refine ⟨?_, ?_, fun q hq => ?_, fun q hq => ?_, fun q hq => ?_⟩
  · obtain ⟨n1, n2, n3, n4, n5, n6, n7, n8, n9, n10, n11, n12, n13⟩ := N
    exact ⟨n1, n2, n3, n4, n5, n6, n7, n8, hn, n10, (re_f_n (ne1 (Nat.zero_le n))).trans n11, n12, by rw [re_f_s]; exact hS⟩
  · obtain ⟨T0, Tn, TB', Tt⟩ := T
    refine ⟨(re_f_n (ne1 (Nat.zero_le n))).trans T0, re_f_s, fun q hq => ?_, Tt⟩
    rcases Nat.lt_or_ge q n with z | z
    · rw [re_f_n (ne1 (Nat.le_of_lt z)), re_f_n (ne1 z)]; exact TB' q z
    · have e : q = n := by omega
      subst e
      rw [re_f_s, re_f_n (ne1 (Nat.le_refl _)), Tn]
      exact ⟨Nat.le_refl _, fun x h1 h2 => by omega⟩
  · rcases Nat.lt_or_ge q n with z | z
    · refine re_P_congr (fun j hj => ?_) ⟨re_f_n (ne1 (Nat.le_of_lt z)), re_f_n (ne1 z)⟩ (fun _ _ => rfl) (HP q z)
      have hj' : j ≠ n := by omega
      exact ⟨re_f_n hj', re_f_n hj', re_f_n hj', re_f_n hj', re_f_n hj', rfl, rfl, rfl, re_f_n hj', re_f_n hj', re_f_n hj'⟩
    · have e : q = n := by omega
      subst e
      exact hP
  · rcases Nat.lt_or_ge q n with z | z
    · obtain ⟨g1, g2, g3, g4, g5, g6⟩ := HX q z
      unfold re_X
      rw [re_f_n (ne z), re_f_n (ne z), re_f_n (ne z), re_f_n (ne z), re_f_n (ne1 (Nat.le_of_lt z)), re_f_n (ne1 z)]
      exact ⟨g1, g2, g3, g4, g5, g6⟩
    · have e : q = n := by omega
      subst e
      unfold re_X
      rw [re_f_s, re_f_s, re_f_s, re_f_s, re_f_s, re_f_n (ne1 (Nat.le_refl _))]
      obtain ⟨g1, g2, g3, g4, g5⟩ := hX
      exact ⟨g1, rfl, g2, g3, g4, g5⟩
  · rcases Nat.lt_or_ge q n with z | z
    · have := HY q z
      unfold re_Y at *
      rw [re_f_n (ne z), re_f_n (ne z), re_f_n (ne z), re_f_n (ne z), re_f_n (ne z), re_f_n (ne z)]
      exact this
    · have e : q = n := by omega
      subst e
      unfold re_Y
      rw [re_f_s, re_f_s, re_f_s, re_f_s, re_f_s, re_f_s]
      exact hY
end
end
section
/-! small checks of both sides; Y: poolTerms, make -/
theorem qz_04 {v : Int32} {A B : Prop} (h : v < 0 ∨ nI 4 ≤ v) (a : A) : (v < 0 → A) ∧ (¬ v < 0 → ((3 < v → A) ∧ (¬ 3 < v → B))) := by
  refine br_c (fun _ => a) (fun h0 => br_t ?_ a)
  rcases h with h | h
  · exact absurd h h0
  · exact Int32.lt_of_lt_of_le (show (3 : Int32) < nI 4 by decide) h
theorem qz_4 {d : Nat} {A B : Prop} (h : d < 4) (b : B) : (nI d < 0 → A) ∧ (¬ nI d < 0 → ((3 < nI d → A) ∧ (¬ 3 < nI d → B))) :=
  br_f (nI_pos (by omega)) (br_f (nI_nlt (a := 3) (b := d) (by omega) (by omega) : ¬ nI 3 < nI d) b)
theorem qz_0n {v x : Int32} {A B : Prop} {n : Nat} (hx : x = nI n) (h : v < 0 ∨ nI n ≤ v) (a : A) : (v < 0 → A) ∧ (¬ v < 0 → ((x ≤ v → A) ∧ (¬ x ≤ v → B))) := by
  subst hx
  refine br_c (fun _ => a) (fun h0 => br_t ?_ a)
  rcases h with h | h
  · exact absurd h h0
  · exact h
theorem qz_n {x : Int32} {A B : Prop} {j n : Nat} (hx : x = nI n) (hn : n < 2 ^ 31) (h : j < n) (b : B) : (nI j < 0 → A) ∧ (¬ nI j < 0 → ((x ≤ nI j → A) ∧ (¬ x ≤ nI j → B))) := by
  subst hx
  exact br_f (nI_pos (by omega)) (br_f (nI_ge h hn) b)
theorem qz_ix (v : Int32) (n : Nat) (hn : n < 2 ^ 31) : (v < 0 ∨ nI n ≤ v) ∨ ∃ j, j < n ∧ v = nI j := by
  rcases pk_ix v hn with h | h | h
  · exact Or.inl (Or.inl h)
  · exact Or.inl (Or.inr h)
  · exact Or.inr h
section
variable {XR XT XM XP XN XK XB XO : Int32} {aS aC aD aF tT tV : Nat → Int32} {tM tC : Nat → Int64}
theorem qx_ex0 {post : Int32 → Prop} {v : Int32} {n : Nat} (hN : XN = nI n) (h : v < 0 ∨ nI n ≤ v) (hp : post 0) : wpX_exists post (XR, XT, XM, XP, XN, XK, XB, XO, aS, aC, aD, aF, tT, tM, tC, tV) v := qz_0n hN h hp
theorem qx_ex1 {post : Int32 → Prop} {q n : Nat} (hN : XN = nI n) (hn : n ≤ 8) (h : q < n) (hp : post 1) : wpX_exists post (XR, XT, XM, XP, XN, XK, XB, XO, aS, aC, aD, aF, tT, tM, tC, tV) (nI q) := qz_n hN (by omega) h hp
theorem qx_col0 {post : Int32 → Prop} {v : Int32} {q w : Nat} (hq : q < 8) (hC : aC q = nI w) (h : v < 0 ∨ nI w ≤ v) (hp : post 0) : wpX_isColumn post (XR, XT, XM, XP, XN, XK, XB, XO, aS, aC, aD, aF, tT, tM, tC, tV) (nI q) v := by
  refine br_c (fun _ => hp) (fun h0 => ⟨vp_in_nI hq (by omega), ?_⟩)
  rw [nI_clamp (n := q) (by omega), hC]
  rcases h with h | h
  · exact absurd h h0
  · exact br_t h hp
theorem qx_col1 {post : Int32 → Prop} {j q w : Nat} (hq : q < 8) (hC : aC q = nI w) (hw : w ≤ 3) (h : j < w) (hp : post 1) : wpX_isColumn post (XR, XT, XM, XP, XN, XK, XB, XO, aS, aC, aD, aF, tT, tM, tC, tV) (nI q) (nI j) := by
  refine br_f (nI_pos (by omega)) ⟨vp_in_nI hq (by omega), ?_⟩
  rw [nI_clamp (n := q) (by omega), hC]
  exact br_f (nI_ge h (by omega)) hp
theorem qx_cell0 {post : Int32 → Prop} {v : Int32} (h : v < 0 ∨ nI 4 ≤ v) (hp : post 0) : wpX_isCell post (XR, XT, XM, XP, XN, XK, XB, XO, aS, aC, aD, aF, tT, tM, tC, tV) v := qz_04 h hp
theorem qx_cell1 {post : Int32 → Prop} {d : Nat} (h : d < 4) (hp : post 1) : wpX_isCell post (XR, XT, XM, XP, XN, XK, XB, XO, aS, aC, aD, aF, tT, tM, tC, tV) (nI d) := qz_4 h hp
theorem qx_ring0 {post : Int32 → Prop} {v : Int32} (h : v < 0 ∨ nI 4 ≤ v) (hp : post 0) : wpX_isSemiring post (XR, XT, XM, XP, XN, XK, XB, XO, aS, aC, aD, aF, tT, tM, tC, tV) v := qz_04 h hp
theorem qx_ring1 {post : Int32 → Prop} {d : Nat} (h : d < 4) (hp : post 1) : wpX_isSemiring post (XR, XT, XM, XP, XN, XK, XB, XO, aS, aC, aD, aF, tT, tM, tC, tV) (nI d) := qz_4 h hp
end
section
variable {YN YK YR YT YM YP : Int32} {bK bL bR bC bD bA bB bE bO bW bH bZ fT : Nat → Int32} {fC fV : Nat → Int64}
theorem qy_ex0 {post : Int32 → Prop} {v : Int32} {n : Nat} (hN : YN = nI n) (h : v < 0 ∨ nI n ≤ v) (hp : post 0) : wpY_exists post (YN, YK, YR, YT, YM, YP, bK, bL, bR, bC, bD, bA, bB, bE, bO, bW, bH, bZ, fT, fC, fV) v := qz_0n hN h hp
theorem qy_ex1 {post : Int32 → Prop} {q n : Nat} (hN : YN = nI n) (hn : n ≤ 8) (h : q < n) (hp : post 1) : wpY_exists post (YN, YK, YR, YT, YM, YP, bK, bL, bR, bC, bD, bA, bB, bE, bO, bW, bH, bZ, fT, fC, fV) (nI q) := qz_n hN (by omega) h hp
theorem qy_col0 {post : Int32 → Prop} {v : Int32} {q w : Nat} (hq : q < 8) (hC : bC q = nI w) (h : v < 0 ∨ nI w ≤ v) (hp : post 0) : wpY_hasColumn post (YN, YK, YR, YT, YM, YP, bK, bL, bR, bC, bD, bA, bB, bE, bO, bW, bH, bZ, fT, fC, fV) (nI q) v := by
  refine br_c (fun _ => hp) (fun h0 => ⟨vp_in_nI hq (by omega), ?_⟩)
  rw [nI_clamp (n := q) (by omega), hC]
  rcases h with h | h
  · exact absurd h h0
  · exact br_t h hp
theorem qy_col1 {post : Int32 → Prop} {j q w : Nat} (hq : q < 8) (hC : bC q = nI w) (hw : w ≤ 3) (h : j < w) (hp : post 1) : wpY_hasColumn post (YN, YK, YR, YT, YM, YP, bK, bL, bR, bC, bD, bA, bB, bE, bO, bW, bH, bZ, fT, fC, fV) (nI q) (nI j) := by
  refine br_f (nI_pos (by omega)) ⟨vp_in_nI hq (by omega), ?_⟩
  rw [nI_clamp (n := q) (by omega), hC]
  exact br_f (nI_ge h (by omega)) hp
theorem qy_cell0 {post : Int32 → Prop} {v : Int32} (h : v < 0 ∨ nI 4 ≤ v) (hp : post 0) : wpY_isCell post (YN, YK, YR, YT, YM, YP, bK, bL, bR, bC, bD, bA, bB, bE, bO, bW, bH, bZ, fT, fC, fV) v := qz_04 h hp
theorem qy_cell1 {post : Int32 → Prop} {d : Nat} (h : d < 4) (hp : post 1) : wpY_isCell post (YN, YK, YR, YT, YM, YP, bK, bL, bR, bC, bD, bA, bB, bE, bO, bW, bH, bZ, fT, fC, fV) (nI d) := qz_4 h hp
theorem qy_pool_4 {post : Int32 → Prop} {n : Nat} {S : Nat → Nat} (hN : YN = nI n) (hn : n ≤ 8) (hS : ∀ q, q < n → ∃ m, bZ q = nI m ∧ S (q + 1) = S q + m) (hp : post (nI (S n))) : ∀ (d q fu : Nat), q + d = n → d < fu → wY_poolTerms_4 post YN YK YR YT YM YP bK bL bR bC bD bA bB bE bO bW bH bZ fT fC fV fu (nI (S q)) (nI q) := by
  subst hN
  intro d
  induction d with
  | zero =>
    intro q fu hq hfu
    obtain ⟨fu, rfl⟩ : ∃ q, fu = q + 1 := ⟨fu - 1, by omega⟩
    have e : q = n := by omega
    subst e
    exact br_t (nI_le (Nat.le_refl _) (by omega)) hp
  | succ d ih =>
    intro q fu hq hfu
    obtain ⟨fu, rfl⟩ : ∃ q, fu = q + 1 := ⟨fu - 1, by omega⟩
    obtain ⟨m, e1, e2⟩ := hS q (by omega)
    refine br_f (nI_ge (by omega) (by omega)) ⟨vp_in_nI (by omega) (by omega), ?_⟩
    rw [nI_clamp (n := q) (by omega), e1, nI_add, ← e2]
    exact nm_e (nm_r (nI_1 q) (ih (q + 1) fu (by omega) (by omega)))
theorem qy_pool {post : Int32 → Prop} {n : Nat} {S : Nat → Nat} (hN : YN = nI n) (hn : n ≤ 8) (h0 : S 0 = 0) (hS : ∀ q, q < n → ∃ m, bZ q = nI m ∧ S (q + 1) = S q + m) (hp : post (nI (S n))) : wpY_poolTerms post (YN, YK, YR, YT, YM, YP, bK, bL, bR, bC, bD, bA, bB, bE, bO, bW, bH, bZ, fT, fC, fV) := by
  have := qy_pool_4 (S := S) (YK := YK) (YR := YR) (YT := YT) (YM := YM) (YP := YP) (bK := bK) (bL := bL) (bR := bR) (bC := bC) (bD := bD) (bA := bA) (bB := bB) (bE := bE) (bO := bO) (bW := bW) (bH := bH) (fT := fT) (fC := fC) (fV := fV) hN hn hS hp n 0 (n + 1) (by omega) (by omega)
  rw [h0] at this
  exact Exists.intro (n + 1) this
end
def qy_dg (kd dl dr : Nat) : Nat := if kd = 0 then 1 else if kd = 5 then dl + dr else if dl ≤ dr then dr else dl
section
variable {YR YT YM YP : Int32} {bK bL bR bC bD bA bB bE bO bW bH bZ fT : Nat → Int32} {fC fV : Nat → Int64}
theorem qy_make {post : Int32 → SY → Prop} {n mr mx mp tk kd l r w j cl cr dl dr : Nat} {S : Nat → Nat} {a b c : Int32} {A B : List qa_T} (hR : YR = nI mr) (hM : YM = nI mx) (hP : YP = nI mp) (hn : n < mr) (hmr : mr ≤ 8) (hmx : mx ≤ 32) (hmp : mp ≤ 192) (hSn : S n ≤ mp) (h0 : S 0 = 0) (hS : ∀ q, q < n → ∃ m, bZ q = nI m ∧ S (q + 1) = S q + m) (ht16 : tk ≤ 16) (hkd : kd ≤ 5) (hl : l < 8) (hr : r < 8) (hlr : kd ≠ 0 → l < n ∧ r < n ∧ bD l = nI dl ∧ bD r = nI dr ∧ dl ≤ 4 ∧ dr ≤ 4) (hA : kd ≠ 0 → qy_S l A bZ fT fC fV) (hA0 : kd = 0 → A = []) (hB : kd = 4 ∨ kd = 5 → qy_S r B bZ fT fC fV) (h5 : kd = 5 → b = nI j ∧ bC l = nI cl ∧ bC r = nI cr ∧ cr ≤ 3 ∧ j ≤ 3) (htok : ∀ x, x < tk → ¬ bO x = nI n) (hcap : (qa_nn (qa_C 4 kd (qc_mv kd a b c) (qc_jn a j cl cr) A B)).length ≤ 1024)
  (K : ∀ z t c' v, qy_B n bZ fT fC fV (qa_F 4 (qa_C 4 kd (qc_mv kd a b c) (qc_jn a j cl cr) A B)) z t c' v → (mx < (qa_F 4 (qa_C 4 kd (qc_mv kd a b c) (qc_jn a j cl cr) A B)).length → post (-7) (nI n, nI tk, YR, YT, YM, YP, upd bK n (nI kd), upd bL n (nI l), upd bR n (nI r), upd bC n (nI w), upd bD n (nI (qy_dg kd dl dr)), upd bA n a, upd bB n b, upd bE n c, bO, bW, bH, z, t, c', v)) ∧ ((qa_F 4 (qa_C 4 kd (qc_mv kd a b c) (qc_jn a j cl cr) A B)).length ≤ mx → mp < S n + (qa_F 4 (qa_C 4 kd (qc_mv kd a b c) (qc_jn a j cl cr) A B)).length → post (-8) (nI n, nI tk, YR, YT, YM, YP, upd bK n (nI kd), upd bL n (nI l), upd bR n (nI r), upd bC n (nI w), upd bD n (nI (qy_dg kd dl dr)), upd bA n a, upd bB n b, upd bE n c, bO, bW, bH, z, t, c', v)) ∧ ((qa_F 4 (qa_C 4 kd (qc_mv kd a b c) (qc_jn a j cl cr) A B)).length ≤ mx → S n + (qa_F 4 (qa_C 4 kd (qc_mv kd a b c) (qc_jn a j cl cr) A B)).length ≤ mp → post (nI n) (nI (n + 1), nI tk, YR, YT, YM, YP, upd bK n (nI kd), upd bL n (nI l), upd bR n (nI r), upd bC n (nI w), upd bD n (nI (qy_dg kd dl dr)), upd bA n a, upd bB n b, upd bE n c, bO, bW, bH, z, t, c', v))) :
  wpY_make post (nI n, nI tk, YR, YT, YM, YP, bK, bL, bR, bC, bD, bA, bB, bE, bO, bW, bH, bZ, fT, fC, fV) (nI kd) (nI l) (nI r) a b c (nI w) := by
  subst hR hM hP
  have hv : vp_in (nI n) 8 := vp_in_nI (by omega) (by omega)
  have hv16 : vp_in (nI n) 16 := vp_in_nI (by omega) (by omega)
  have hc : (nI n).toNatClampNeg = n := nI_clamp (by omega)
  have hvl : vp_in (nI l) 8 := vp_in_nI (by omega) (by omega)
  have hcl : (nI l).toNatClampNeg = l := nI_clamp (by omega)
  have hvr : vp_in (nI r) 8 := vp_in_nI (by omega) (by omega)
  have hcr : (nI r).toNatClampNeg = r := nI_clamp (by omega)
  have htk0 : (List.range tk).flatMap (qy_tok 4 tk bO bW bH n) = [] := by
    apply List.flatMap_eq_nil_iff.mpr
    intro x hx
    exact if_neg (htok x (List.mem_range.mp hx))
  have ne : ∀ {j : Nat}, j < n → j ≠ n := fun h => by omega
  have e147 : ∀ dgv : Int32, dgv = nI (qy_dg kd dl dr) → wY_make_147 post (nI n) dgv (nI n) (nI n) (nI tk) (nI mr) YT (nI mx) (nI mp) (upd bK n (nI kd)) (upd bL n (nI l)) (upd bR n (nI r)) (upd bC n (nI w)) bD (upd bA n a) (upd bB n b) (upd bE n c) bO bW bH bZ fT fC fV := by
    intro dgv hdg
    subst hdg
    refine And.intro hv ?_
    rw [hc]
    refine nm_e ?_
    refine qy_derive (s := 4) (q := n) (kd := kd) (l := l) (r := r) (tk := tk) (bs := 0) (A := A) (B := B) (jn := qc_jn a j cl cr) (Nat.le_refl 4) rfl (by omega) pk_us hkd pk_us pk_us hl hr rfl ht16 (fun h => ⟨(hlr h).1, (hlr h).2.1⟩) (fun h => by rw [Nat.zero_add]; exact hA h) hA0 (fun h => by rw [Nat.zero_add]; exact hB h) ?_ ?_ ?_
    · intro h pst u v z t c1 w1 hp
      obtain ⟨g1, g2, g3, g4, g5⟩ := h5 h
      obtain ⟨g6, g7, _⟩ := hlr (by omega)
      refine qy_joined (l := l) (r := r) (cl := cl) (cr := cr) (j := j) (by omega) hl hr pk_us pk_us (pk_us.trans g1) ((pk_un (ne g6)).trans g2) ((pk_un (ne g7)).trans g3) g4 g5 ?_
      rw [pk_us]; exact hp
    · rw [htk0, pk_us, pk_us, pk_us]; exact hcap
    · rw [htk0, pk_us, pk_us, pk_us, Nat.zero_add, List.nil_append]
      intro z t c1 v1 b1
      obtain ⟨K1, K2, K3⟩ := K z t c1 v1 b1
      have hz : z n = nI (qa_F 4 (qa_C 4 kd (qc_mv kd a b c) (qc_jn a j cl cr) A B)).length := b1.1.1
      have hz2 := b1.1.2.1
      refine And.intro hv16 ?_
      rw [hz]
      refine pk_le _ mx (fun h1 => ?_) K1
      refine qy_pool (S := S) rfl (by omega) h0 (fun q hq => ?_) ⟨hv16, ?_⟩
      · obtain ⟨m, e1, e2⟩ := hS q hq
        exact ⟨m, (b1.2.1 q (ne hq)).trans e1, e2⟩
      · rw [nI_add]
        exact pk_le _ mp (fun h2 => nm_r (nI_1 n) (K3 h1 h2)) (K2 h1)
  refine br_t (nI_lt hn (by omega)) ?_
  refine And.intro hv ?_
  rw [hc, hcl, hcr]
  refine nm_e ⟨hv, nm_e ⟨hv, nm_e ⟨hv, nm_e ⟨hv, nm_e ⟨hv, nm_e ⟨hv, nm_e ⟨hvl, hvr, ?_⟩⟩⟩⟩⟩⟩⟩
  by_cases hk0 : kd = 0
  · have e1 : (1 : Int32) = nI (qy_dg kd dl dr) := by unfold qy_dg; rw [if_pos hk0]; rfl
    refine br_c (fun _ => ⟨hvr, ?_⟩) (fun _ => ⟨hvl, ?_⟩)
    · exact pk_eq kd 0 (fun _ => e147 _ e1) (fun z => absurd hk0 z)
    · exact pk_eq kd 0 (fun _ => e147 _ e1) (fun z => absurd hk0 z)
  · obtain ⟨q1, q2, q3, q4, q5, q6⟩ := hlr hk0
    rw [q3, q4]
    have e5 : kd = 5 → nI dl + nI dr = nI (qy_dg kd dl dr) := by
      intro h; unfold qy_dg; rw [if_neg hk0, if_pos h, nI_add]
    have fin : ∀ g : Nat, (kd ≠ 5 → g = qy_dg kd dl dr) → wY_make_108 post (nI kd) (nI l) (nI r) (nI n) (nI g) (nI n) (nI tk) (nI mr) YT (nI mx) (nI mp) (upd bK n (nI kd)) (upd bL n (nI l)) (upd bR n (nI r)) (upd bC n (nI w)) bD (upd bA n a) (upd bB n b) (upd bE n c) bO bW bH bZ fT fC fV := by
      intro g hg
      refine pk_eq kd 0 (fun z => absurd z hk0) (fun _ => pk_eq kd 5 (fun z => ⟨hvl, hvr, ?_⟩) (fun z => e147 _ (congrArg nI (hg z))))
      rw [hcl, hcr, q3, q4]
      exact e147 _ (e5 z)
    refine pk_le dl dr (fun h => ⟨hvr, fin dr (fun z => ?_)⟩) (fun h => ⟨hvl, fin dl (fun z => ?_)⟩)
    · unfold qy_dg; rw [if_neg hk0, if_neg z, if_pos h]
    · unfold qy_dg; rw [if_neg hk0, if_neg z, if_neg (by omega)]
end
end
section
/-! a view is made: both sides -/
theorem qa_nn_len (C : List qa_T) : (qa_nn C).length ≤ C.length := List.length_filter_le ..
theorem qa_cap1 {s kd : Nat} {mv : Int32 → Int32} {jn : Int32 → Int32 → Int32} {B : List qa_T} (h5 : kd = 5 → ∀ t, mv t < 0) (hB : B.length ≤ 32) (p : qa_T) : (qa_nn (qa_C1 s kd mv jn B p)).length ≤ (if kd = 5 then 32 else 1) := by
  have e : qa_nn (qa_C1 s kd mv jn B p) = qa_nn [(mv p.1, p.2.1, p.2.2)] ++ qa_nn (if kd = 5 then qa_js s jn B p else []) := qa_nn_app [_] _
  rw [e, List.length_append]
  by_cases h : kd = 5
  · rw [if_pos h, if_pos h, qa_nn_neg (h5 h _)]
    have := qa_nn_len (qa_js s jn B p)
    have e2 : (qa_js s jn B p).length = B.length := List.length_map ..
    simp only [List.length_nil]; omega
  · rw [if_neg h, if_neg h]
    have := qa_nn_len [(mv p.1, p.2.1, p.2.2)]
    have e2 : (qa_nn []).length = 0 := rfl
    simp only [List.length_singleton] at this; omega
theorem qa_capA {s kd : Nat} {mv : Int32 → Int32} {jn : Int32 → Int32 → Int32} {B : List qa_T} (h5 : kd = 5 → ∀ t, mv t < 0) (hB : B.length ≤ 32) : ∀ A : List qa_T, (qa_nn (A.flatMap (qa_C1 s kd mv jn B))).length ≤ A.length * (if kd = 5 then 32 else 1)
  | [] => by simp [qa_nn]
  | p :: A => by
    have a := qa_capA (s := s) (jn := jn) h5 hB A
    have b := qa_cap1 (s := s) (jn := jn) h5 hB p
    rw [List.flatMap_cons, qa_nn_app, List.length_append, List.length_cons, Nat.add_mul]
    omega
theorem qa_cap {s kd : Nat} {mv : Int32 → Int32} {jn : Int32 → Int32 → Int32} {A B : List qa_T} (h5 : kd = 5 → ∀ t, mv t < 0) (hA : A.length ≤ 32) (hB : B.length ≤ 32) : (qa_nn (qa_C s kd mv jn A B)).length ≤ 1024 := by
  unfold qa_C
  rw [qa_nn_app, List.length_append]
  have a := qa_capA (s := s) (jn := jn) h5 hB A
  by_cases h : kd = 5
  · rw [if_pos h] at a
    rw [if_neg (by omega : ¬ kd = 4)]
    have e2 : (qa_nn []).length = 0 := rfl
    omega
  · rw [if_neg h] at a
    have := qa_nn_len (if kd = 4 then B else [])
    by_cases h4 : kd = 4
    · rw [if_pos h4] at this ⊢; omega
    · rw [if_neg h4] at this ⊢
      have e2 : (qa_nn []).length = 0 := rfl
      omega
theorem qc_mv5 {a b c : Int32} (t : Int32) : qc_mv 5 a b c t < 0 := by
  have : qc_mv 5 a b c t = -1 := rfl
  rw [this]; decide
theorem qa_ev_one (l : List Nat) : qs_val 4 (fun _ => 1) l = 1 := by
  induction l with
  | nil => rfl
  | cons x l ih => show qs_t 4 1 (qs_val 4 (fun _ => 1) l) = 1; rw [ih]; rfl
theorem qs_L4 (tk : Nat → Int64) (l : List Nat) : qs_L 4 tk l := fun _ _ => ⟨fun e => (nomatch e), fun e => (nomatch e), fun e => (nomatch e)⟩
theorem qa_main4 {kd : Nat} {mv : Int32 → Int32} {jn : Int32 → Int32 → Int32} {A B : List qa_T} {RA RB : List qa_R} {da db : Nat} (hA : qa_E 4 A (RA.map re_e4)) (hB : qa_E 4 B (RB.map re_e4)) (nA : qa_ND A) (nB : qa_ND B) (qA : ∀ p, p ∈ RA → p.2.length ≤ da) (qB : ∀ p, p ∈ RB → p.2.length ≤ db) (ha : da ≤ 4) (hb : db ≤ 4) (hl : kd = 5 → da + db ≤ 4) : qa_E 4 (qa_nn (qa_C 4 kd mv jn A B)) ((qa_nr (qa_CR kd mv jn RA RB)).map re_e4) :=
  qa_main (Nat.le_refl 4) kd mv jn hA hB nA nB (fun p _ => qs_L4 _ p.2) (fun p _ => qs_L4 _ p.2) (fun p hp => Nat.le_trans (qA p hp) ha) (fun p hp => Nat.le_trans (qB p hp) hb) (fun h p hp q hq => Nat.le_trans (Nat.add_le_add (qA p hp) (qB q hq)) (hl h))
theorem qx_I_over {mx : Nat} {C L M : List qa_T} {o : Int32} (h : qx_I mx C L o) (hL : qa_ND L) (hM : qa_ND M) (hE : qa_E 4 M C) : (o = 0 → M.length = L.length ∧ qa_E 4 L M) ∧ (¬ o = 0 → mx < M.length) := by
  refine ⟨fun e => ?_, fun e => ?_⟩
  · rcases h.2 with ⟨_, hE2⟩ | ⟨e2, _⟩
    · have := qa_E_trans hE2 (qa_E_symm hE)
      exact ⟨(qa_E_perm hL hM this).length_eq.symm, this⟩
    · rw [e] at e2; exact absurd e2 (by decide)
  · rcases h.2 with ⟨e2, _⟩ | ⟨_, K, k1, k2, k3⟩
    · exact absurd e2 e
    · have : K.length ≤ (M.map qa_key).length := by
        apply k1.length_le_of_subset
        intro k hk
        refine Classical.byContradiction fun z => k3 k hk ?_
        rw [← hE]
        exact qa_os_none.mpr (fun x hx e => z (List.mem_map.mpr ⟨x, hx, e⟩))
      rw [List.length_map] at this
      omega
section
variable {mr mt mx mp n tk : Nat} {S co de kd lf rt TB : Nat → Nat} {LX LY : Nat → List qa_T} {R : Nat → List qa_R} {XB XO : Int32} {aS aC aD aF tT : Nat → Int32} {tM tC : Nat → Int64} {tV : Nat → Int32} {bK bL bR bC bD bA bB bE bO bW bH bZ fT : Nat → Int32} {fC fV : Nat → Int64}
theorem re_len (H : re_A mr mt mx mp n tk S co de kd lf rt TB LX LY R aS aC aD aF tT tM tC tV bK bL bR bC bD bA bB bE bO bW bH bZ fT fC fV) {q : Nat} (hq : q < n) : (LY q).length = (LX q).length ∧ (LX q).length ≤ 32 ∧ List.Perm (LX q) (LY q) := by
  obtain ⟨N, T, HP, HX, HY⟩ := H
  obtain ⟨h1, h2, h3, h4, h5, h6, h7, h8, h9, h10, h11, h12, h13, h14⟩ := HP q hq
  obtain ⟨n1, n2, n3, n4, n5, n6, n7, n8, n9, n10, n11, n12, n13⟩ := N
  have p := qa_E_perm (qa_so_ND h10) h11 (qa_E_trans h12 (qa_E_symm h13))
  exact ⟨p.length_eq.symm, by omega, p⟩
theorem re_pool (H : re_A mr mt mx mp n tk S co de kd lf rt TB LX LY R aS aC aD aF tT tM tC tV bK bL bR bC bD bA bB bE bO bW bH bZ fT fC fV) : ∀ q, q < n → ∃ m, bZ q = nI m ∧ S (q + 1) = S q + m := by
  intro q hq
  obtain ⟨e, _, _⟩ := re_len H hq
  obtain ⟨N, T, HP, HX, HY⟩ := H
  exact ⟨(LX q).length, by rw [(HY q hq).2.2.2.2.2.1, e], (HX q hq).2.1⟩
theorem re_tokn (H : re_A mr mt mx mp n tk S co de kd lf rt TB LX LY R aS aC aD aF tT tM tC tV bK bL bR bC bD bA bB bE bO bW bH bZ fT fC fV) (hn : n ≤ 8) : ∀ x, x < tk → ¬ bO x = nI n := by
  intro x hx e
  obtain ⟨q', h1, h2⟩ := re_ow_lo H.2.1 n (Nat.le_refl _) x (by rw [H.2.1.2.1]; exact hx)
  rw [e, nI_eq (by omega) (by omega)] at h2
  omega
theorem re_view {k : Nat} {post : Int32 → SX → Prop} {k0 l r w j : Nat} {a b c d : Int32} {L : List qa_T} {o : Int32} {t : Nat → Int32} {m c' : Nat → Int64} (H : re_A mr mt mx mp n tk S co de kd lf rt TB LX LY R aS aC aD aF tT tM tC tV bK bL bR bC bD bA bB bE bO bW bH bZ fT fC fV) (hn : n < mr) (hk1 : 1 ≤ k0) (hk5 : k0 ≤ 5) (hl : l < n) (hr : r < n) (hw1 : 1 ≤ w) (hw3 : w ≤ 3) (h5 : k0 = 5 → b = nI j ∧ j < co r ∧ de l + de r ≤ 4) (hd : d = nI (qy_dg k0 (de l) (de r))) (hmv : ∀ e, e < 4 ^ (co l) → qc_mv k0 a b c (nI e) < 0 ∨ ∃ e', e' < 4 ^ w ∧ qc_mv k0 a b c (nI e) = nI e') (h4 : k0 = 4 → co r = w) (hjn : k0 = 5 → ∀ e, e < 4 ^ (co l) → ∀ e', e' < 4 ^ (co r) → qc_jn a j (co l) (co r) (nI e) (nI e') < 0 ∨ ∃ e2, e2 < 4 ^ w ∧ qc_jn a j (co l) (co r) (nI e) (nI e') = nI e2) (hB : qx_B (S n) tT tM tC L t m c') (hI : qx_I mx (qa_nn (qa_C 4 k0 (qc_mv k0 a b c) (qc_jn a j (co l) (co r)) (LX l) (LX r))) L o) (hpost : ∀ r' u', wpY_make (fun r2 v' => r2 = r' ∧ i_Rel k u' v') (nI n, nI tk, nI mr, nI mt, nI mx, nI mp, bK, bL, bR, bC, bD, bA, bB, bE, bO, bW, bH, bZ, fT, fC, fV) (nI k0) (nI l) (nI r) a b c (nI w) → post r' u') : wpX_finish post (nI mr, nI mt, nI mx, nI mp, nI n, nI tk, nI L.length, o, aS, aC, aD, aF, t, m, c', tV) (nI w) d := by
  subst hd
  have hlenl := re_len H hl
  have hlenr := re_len H hr
  have hpool := re_pool H
  have hS := re_S H n (Nat.le_refl _)
  have TBm := re_TBm H.2.1
  have HH := H
  obtain ⟨N, T, HP, HX, HY⟩ := H
  obtain ⟨n1, n2, n3, n4, n5, n6, n7, n8, n9, n10, n11, n12, n13⟩ := N
  have htok := re_tokn HH (by omega)
  obtain ⟨l1, l2, l3, l4, l5, l6, l7, l8, l9, l10, l11, l12, l13, l14⟩ := HP l hl
  obtain ⟨r1, r2, r3, r4, r5, r6, r7, r8, r9, r10, r11, r12, r13, r14⟩ := HP r hr
  obtain ⟨yl1, yl2, yl3, yl4, yl5, yl6⟩ := HY l hl
  obtain ⟨yr1, yr2, yr3, yr4, yr5, yr6⟩ := HY r hr
  have hso := hB.2.1
  have hcap : (qa_nn (qa_C 4 k0 (qc_mv k0 a b c) (qc_jn a j (co l) (co r)) (LY l) (LY r))).length ≤ 1024 := qa_cap (fun e t => by subst e; exact qc_mv5 t) (by omega) (by omega)
  have EX := qa_main4 (kd := k0) (mv := qc_mv k0 a b c) (jn := qc_jn a j (co l) (co r)) l12 r12 (qa_so_ND l10) (qa_so_ND r10) (fun p hp => (l9 p hp).1) (fun p hp => (r9 p hp).1) l2.2 r2.2 (fun e => (h5 e).2.2)
  have EY := qa_main4 (kd := k0) (mv := qc_mv k0 a b c) (jn := qc_jn a j (co l) (co r)) l13 r13 l11 r11 (fun p hp => (l9 p hp).1) (fun p hp => (r9 p hp).1) l2.2 r2.2 (fun e => (h5 e).2.2)
  have EF := qa_F_E 4 (qa_C 4 k0 (qc_mv k0 a b c) (qc_jn a j (co l) (co r)) (LY l) (LY r))
  have NF := qa_F_ND 4 (qa_C 4 k0 (qc_mv k0 a b c) (qc_jn a j (co l) (co r)) (LY l) (LY r))
  have over := qx_I_over hI (qa_so_ND hso) NF (qa_E_trans EF (qa_E_trans EY (qa_E_symm EX)))
  have hLmx := hI.1
  -- the call of make
  have mk : ∀ (pst : Int32 → SY → Prop), (∀ z t c1 v, qy_B n bZ fT fC fV (qa_F 4 (qa_C 4 k0 (qc_mv k0 a b c) (qc_jn a j (co l) (co r)) (LY l) (LY r))) z t c1 v → (mx < (qa_F 4 (qa_C 4 k0 (qc_mv k0 a b c) (qc_jn a j (co l) (co r)) (LY l) (LY r))).length → pst (-7) (nI n, nI tk, nI mr, nI mt, nI mx, nI mp, upd bK n (nI k0), upd bL n (nI l), upd bR n (nI r), upd bC n (nI w), upd bD n (nI (qy_dg k0 (de l) (de r))), upd bA n a, upd bB n b, upd bE n c, bO, bW, bH, z, t, c1, v)) ∧ ((qa_F 4 (qa_C 4 k0 (qc_mv k0 a b c) (qc_jn a j (co l) (co r)) (LY l) (LY r))).length ≤ mx → mp < S n + (qa_F 4 (qa_C 4 k0 (qc_mv k0 a b c) (qc_jn a j (co l) (co r)) (LY l) (LY r))).length → pst (-8) (nI n, nI tk, nI mr, nI mt, nI mx, nI mp, upd bK n (nI k0), upd bL n (nI l), upd bR n (nI r), upd bC n (nI w), upd bD n (nI (qy_dg k0 (de l) (de r))), upd bA n a, upd bB n b, upd bE n c, bO, bW, bH, z, t, c1, v)) ∧ ((qa_F 4 (qa_C 4 k0 (qc_mv k0 a b c) (qc_jn a j (co l) (co r)) (LY l) (LY r))).length ≤ mx → S n + (qa_F 4 (qa_C 4 k0 (qc_mv k0 a b c) (qc_jn a j (co l) (co r)) (LY l) (LY r))).length ≤ mp → pst (nI n) (nI (n + 1), nI tk, nI mr, nI mt, nI mx, nI mp, upd bK n (nI k0), upd bL n (nI l), upd bR n (nI r), upd bC n (nI w), upd bD n (nI (qy_dg k0 (de l) (de r))), upd bA n a, upd bB n b, upd bE n c, bO, bW, bH, z, t, c1, v))) → wpY_make pst (nI n, nI tk, nI mr, nI mt, nI mx, nI mp, bK, bL, bR, bC, bD, bA, bB, bE, bO, bW, bH, bZ, fT, fC, fV) (nI k0) (nI l) (nI r) a b c (nI w) := by
    intro pst hK
    exact qy_make (S := S) (A := LY l) (B := LY r) (j := j) (cl := co l) (cr := co r) (dl := de l) (dr := de r) rfl rfl rfl hn n2 n6 n8 n13 n11 hpool (by omega) hk5 (by omega) (by omega) (fun _ => ⟨hl, hr, yl5, yr5, l2.2, r2.2⟩) (fun _ => yl6) (fun e => by omega) (fun _ => yr6) (fun e => ⟨(h5 e).1, yl4, yr4, r1.2, by have := (h5 e).2.1; omega⟩) htok hcap hK
  -- arrays behind n
  have fr : ∀ z t1 c1 v1, qy_B n bZ fT fC fV (qa_F 4 (qa_C 4 k0 (qc_mv k0 a b c) (qc_jn a j (co l) (co r)) (LY l) (LY r))) z t1 c1 v1 → ∀ aS' aC' aD' aF', (∀ j, j ≤ n → aS' j = aS j) → (∀ j, j < n → aC' j = aC j ∧ aD' j = aD j ∧ aF' j = aF j) → re_A mr mt mx mp n tk S co de kd lf rt TB LX LY R aS' aC' aD' aF' t m c' tV (upd bK n (nI k0)) (upd bL n (nI l)) (upd bR n (nI r)) (upd bC n (nI w)) (upd bD n (nI (qy_dg k0 (de l) (de r)))) (upd bA n a) (upd bB n b) (upd bE n c) bO bW bH z t1 c1 v1 := by
    intro z t1 c1 v1 b1 aS' aC' aD' aF' hs1 hs2
    refine re_frame HH hs1 hs2 hB.2.2 (fun j hj => ?_) (fun j hj => b1.2.2 j (by omega))
    have hj' : j ≠ n := by omega
    exact ⟨pk_un hj', pk_un hj', pk_un hj', pk_un hj', pk_un hj', pk_un hj', pk_un hj', pk_un hj', b1.2.1 j hj'⟩
  refine qx_finish rfl (by omega) hS rfl rfl (by omega) (by omega) n8 (fun ho => ?_) (fun ho hgt => ?_) (fun ho hle => ?_)
  · apply hpost
    refine mk _ ?_
    intro z t1 c1 v1 b1
    have hgt := over.2 ho
    exact ⟨fun _ => ⟨rfl, re_in (fr z t1 c1 v1 b1 aS aC aD aF (fun _ _ => rfl) (fun _ _ => ⟨rfl, rfl, rfl⟩))⟩, fun h => by omega, fun h => by omega⟩
  · apply hpost
    refine mk _ ?_
    intro z t1 c1 v1 b1
    obtain ⟨hlen, _⟩ := over.1 ho
    exact ⟨fun h => by omega, fun _ _ => ⟨rfl, re_in (fr z t1 c1 v1 b1 aS aC aD aF (fun _ _ => rfl) (fun _ _ => ⟨rfl, rfl, rfl⟩))⟩, fun _ h => by omega⟩
  · apply hpost
    refine mk _ ?_
    intro z t1 c1 v1 b1
    obtain ⟨hlen, hEL⟩ := over.1 ho
    refine ⟨fun h => by omega, fun _ h => by omega, fun _ _ => ⟨rfl, ?_⟩⟩
    have F := fr z t1 c1 v1 b1 (upd aS (n + 1) (nI (S n + L.length))) (upd aC n (nI w)) (upd aD n (nI (qy_dg k0 (de l) (de r)))) (upd aF n 0) (fun j hj => pk_un (by omega)) (fun j hj => ⟨pk_un (by omega), pk_un (by omega), pk_un (by omega)⟩)
    refine re_in (re_ext (w := w) (d := qy_dg k0 (de l) (de r)) (k0 := k0) (l0 := l) (r0 := r) (L1 := L) (L2 := qa_F 4 (qa_C 4 k0 (qc_mv k0 a b c) (qc_jn a j (co l) (co r)) (LY l) (LY r))) (R0 := qa_nr (qa_CR k0 (qc_mv k0 a b c) (qc_jn a j (co l) (co r)) (R l) (R r))) F hn hle ?_ ⟨pk_us, pk_us, pk_us, ?_, hB.1⟩ ⟨pk_us, pk_us, pk_us, pk_us, pk_us, b1.1⟩)
    · have hl' : l ≠ n := by omega
      have hr' : r ≠ n := by omega
      unfold re_P re_mv re_jn
      simp only [re_f_s, pk_us, re_f_n hl', re_f_n hr', re_f_n (show n ≠ n + 1 by omega)]
      have hTn : TB n = tk := T.2.1
      have hdl : k0 ≠ 5 → de l ≤ qy_dg k0 (de l) (de r) ∧ (de r ≤ qy_dg k0 (de l) (de r)) ∧ qy_dg k0 (de l) (de r) ≤ 4 := by
        intro e; unfold qy_dg; rw [if_neg (by omega), if_neg e]; split <;> omega
      have hd5 : k0 = 5 → qy_dg k0 (de l) (de r) = de l + de r := by
        intro e; unfold qy_dg; rw [if_neg (by omega), if_pos e]
      have hbj : k0 = 5 → b.toNatClampNeg = j := by
        intro e; rw [(h5 e).1]; exact nI_clamp (by have := (h5 e).2.1; omega)
      refine ⟨⟨hw1, hw3⟩, ?_, hk5, by omega, by omega, fun _ => ⟨hl, hr, hTn.symm, ?_⟩, fun e => ?_, fun e => by omega, ?_, hso, NF, ?_, ?_, hLmx⟩
      · by_cases e : k0 = 5
        · rw [hd5 e]; have := (h5 e).2.2; omega
        · have := hdl e; omega
      · by_cases e : k0 = 5
        · rw [hbj e]
        · -- jn is not asked
          unfold qa_CR
          congr 2
          apply qa_flat_congr
          intro p _
          unfold qa_CR1
          rw [if_neg e, if_neg e]
      · rw [hbj e]; exact ⟨(h5 e).1, (h5 e).2.1, (h5 e).2.2⟩
      · intro p hp
        obtain ⟨hp1, hp2⟩ := List.mem_filter.mp hp
        have hp2 : ¬ p.1 < 0 := by simpa using hp2
        unfold qa_CR at hp1
        have hTl : TB (l + 1) ≤ tk := TBm (l + 1) (by omega)
        have hTr : TB (r + 1) ≤ tk := TBm (r + 1) (by omega)
        rcases List.mem_append.mp hp1 with h | h
        · obtain ⟨p1, hp1', hp3⟩ := List.mem_flatMap.mp h
          obtain ⟨i1, i2, i3, e1, i4, i5⟩ := l9 p1 hp1'
          unfold qa_CR1 at hp3
          rcases List.mem_cons.mp hp3 with h | h
          · subst h
            have hne5 : k0 ≠ 5 := fun e => hp2 (by subst e; show qc_mv 5 a b c p1.1 < 0; exact qc_mv5 p1.1)
            have := hdl hne5
            refine ⟨by show p1.2.length ≤ _; omega, i2, fun x hx => by have := i3 x hx; omega, ?_⟩
            rcases hmv e1 i4 with z | z
            · rw [← i5] at z; exact absurd z hp2
            · rw [← i5] at z; exact z
          · by_cases e : k0 = 5
            · rw [if_pos e] at h
              obtain ⟨p2, hp4, rfl⟩ := List.mem_map.mp h
              obtain ⟨j1, j2, j3, e2, j4, j5⟩ := r9 p2 hp4
              refine ⟨by rw [hd5 e]; show (p1.2 ++ p2.2).length ≤ _; rw [List.length_append]; omega, ?_, ?_, ?_⟩
              · intro z; exact i2 (List.append_eq_nil_iff.mp z).1
              · intro x hx
                rcases List.mem_append.mp hx with q | q
                · have := i3 x q; omega
                · have := j3 x q; omega
              · rcases hjn e e1 i4 e2 j4 with z | z
                · rw [← i5, ← j5] at z; exact absurd z hp2
                · rw [← i5, ← j5] at z; exact z
            · rw [if_neg e] at h; exact (nomatch h)
        · by_cases e : k0 = 4
          · rw [if_pos e] at h
            obtain ⟨j1, j2, j3, e2, j4, j5⟩ := r9 p h
            have := hdl (by omega)
            refine ⟨by omega, j2, fun x hx => by have := j3 x hx; omega, e2, by rw [← h4 e]; exact j4, j5⟩
          · rw [if_neg e] at h; exact (nomatch h)
      · exact qa_E_trans hEL (qa_E_trans EF EY)
      · exact qa_E_trans EF EY
    · rw [pk_us, if_neg (by omega)]
end
end
section
/-! cells, projections, joins of tuple codes -/
theorem qc_c_n (t c : Int32) : ∃ d, d < 4 ∧ qc_c t c = nI d := pk_andE _ 2 (by decide)
theorem qc_y_n (t c : Int32) : ∃ d, d < 4 ∧ qc_y t c = nI d := by
  unfold qc_y
  split
  · exact qc_c_n t c
  · exact ⟨0, by omega, rfl⟩
theorem qc_or2 : ∀ d0, d0 < 4 → ∀ d1, d1 < 4 → nI d0 ||| (nI d1 <<< ((2 : Int32) &&& 31)) = nI (d0 + 4 * d1) := by decide +kernel
theorem qc_or4 : ∀ e, e < 16 → ∀ d2, d2 < 4 → nI e ||| (nI d2 <<< ((4 : Int32) &&& 31)) = nI (e + 16 * d2) := by decide +kernel
theorem qc_mv3 (a b c u : Int32) {d0 d1 d2 : Nat} (h0 : qc_y u a = nI d0) (h1 : qc_y u b = nI d1) (h2 : qc_y u c = nI d2) : qc_mv 3 a b c u = nI (d0 + 4 * d1 + 16 * d2) := by
  have e : qc_mv 3 a b c u = (qc_y u a + 4 * qc_y u b) + 16 * qc_y u c := rfl
  rw [e, h0, h1, h2, show 4 * nI d1 = nI (4 * d1) from pk_mul 4 d1, show 16 * nI d2 = nI (16 * d2) from pk_mul 16 d2, nI_add, nI_add]
theorem qc_y_m1 (u : Int32) : qc_y u (-1) = nI 0 := if_neg (by decide)
theorem qc_y_nI (u : Int32) {j : Nat} (hj : j < 3) : qc_y u (nI j) = qc_c u (nI j) := if_pos (nI_pos' (by omega))
/-- the columns of a projection -/
def qc_ok (w : Nat) (c : Int32) : Prop := c = -1 ∨ ∃ j, j < w ∧ c = nI j
theorem qc_ok_d {w : Nat} {c u : Int32} (hw : w ≤ 3) (h : qc_ok w c) : ∃ d, d < 4 ∧ qc_y u c = nI d ∧ (c = -1 → d = 0) ∧ (¬ c = -1 → qc_c u c = nI d) := by
  rcases h with rfl | ⟨j, hj, rfl⟩
  · exact ⟨0, by omega, qc_y_m1 u, fun _ => rfl, fun z => absurd rfl z⟩
  · obtain ⟨d, h1, h2⟩ := qc_c_n u (nI j)
    refine ⟨d, h1, ?_, fun z => ?_, fun _ => h2⟩
    · rw [qc_y_nI u (by omega)]; exact h2
    · have : nI j < 0 := by rw [z]; decide
      exact absurd this (nI_pos (by omega))
theorem qc_proj {w : Nat} {j : Nat} {c1 c2 u : Int32} (hw : w ≤ 3) (hj : j < w) (h1 : qc_ok w c1) (h2 : qc_ok w c2) (h12 : c1 = -1 → c2 = -1) : qx_pj u (nI j) c1 c2 = qc_mv 3 (nI j) c1 c2 u ∧ ∃ e, e < 4 ^ (if c1 = -1 then 1 else if c2 = -1 then 2 else 3) ∧ qc_mv 3 (nI j) c1 c2 u = nI e := by
  obtain ⟨d0, a1, a2⟩ := qc_c_n u (nI j)
  obtain ⟨d1, b1, b2, b3, b4⟩ := qc_ok_d (u := u) hw h1
  obtain ⟨d2, e1, e2, e3, e4⟩ := qc_ok_d (u := u) hw h2
  have a3 : qc_y u (nI j) = nI d0 := by rw [qc_y_nI u (by omega)]; exact a2
  have m := qc_mv3 (nI j) c1 c2 u a3 b2 e2
  have hp1 : qx_p1 u (nI j) c1 = nI (d0 + 4 * d1) := by
    unfold qx_p1
    by_cases z : c1 = -1
    · rw [if_pos z, a2, b3 z]; rfl
    · rw [if_neg z, a2, b4 z, qc_or2 d0 a1 d1 b1]
  refine ⟨?_, d0 + 4 * d1 + 16 * d2, ?_, m⟩
  · rw [m]
    unfold qx_pj
    by_cases z : c2 = -1
    · rw [if_pos z, hp1, e3 z]; rfl
    · rw [if_neg z, hp1, e4 z, qc_or4 _ (by omega) d2 e1]
  · by_cases z : c1 = -1
    · rw [if_pos z]; have := b3 z; have := e3 (h12 z); omega
    · rw [if_neg z]
      by_cases z2 : c2 = -1
      · rw [if_pos z2]; have := e3 z2; omega
      · rw [if_neg z2]; omega
def qc_JP (cl cr j a b : Nat) : Prop := qc_jl j (nI b) cr 0 cl (nI a) = nI a ||| (qc_wo (nI b) (nI j) <<< ((2 * nI cl) &&& 31)) ∧ (qc_jl j (nI b) cr 0 cl (nI a)).toNatClampNeg < 4 ^ (cl + cr - 1) ∧ qc_jl j (nI b) cr 0 cl (nI a) = nI (qc_jl j (nI b) cr 0 cl (nI a)).toNatClampNeg
theorem qc_j110 : ∀ a, a < 4 → ∀ b, b < 4 → qc_JP 1 1 0 a b := by unfold qc_JP; decide +kernel
theorem qc_j120 : ∀ a, a < 4 → ∀ b, b < 16 → qc_JP 1 2 0 a b := by unfold qc_JP; decide +kernel
theorem qc_j121 : ∀ a, a < 4 → ∀ b, b < 16 → qc_JP 1 2 1 a b := by unfold qc_JP; decide +kernel
theorem qc_j130 : ∀ a, a < 4 → ∀ b, b < 64 → qc_JP 1 3 0 a b := by unfold qc_JP; decide +kernel
theorem qc_j131 : ∀ a, a < 4 → ∀ b, b < 64 → qc_JP 1 3 1 a b := by unfold qc_JP; decide +kernel
theorem qc_j132 : ∀ a, a < 4 → ∀ b, b < 64 → qc_JP 1 3 2 a b := by unfold qc_JP; decide +kernel
theorem qc_j210 : ∀ a, a < 16 → ∀ b, b < 4 → qc_JP 2 1 0 a b := by unfold qc_JP; decide +kernel
theorem qc_j220 : ∀ a, a < 16 → ∀ b, b < 16 → qc_JP 2 2 0 a b := by unfold qc_JP; decide +kernel
theorem qc_j221 : ∀ a, a < 16 → ∀ b, b < 16 → qc_JP 2 2 1 a b := by unfold qc_JP; decide +kernel
theorem qc_j310 : ∀ a, a < 64 → ∀ b, b < 4 → qc_JP 3 1 0 a b := by unfold qc_JP; decide +kernel
theorem qc_join {cl cr j a b : Nat} (h1 : 1 ≤ cl) (h2 : 1 ≤ cr) (h3 : cl + cr ≤ 4) (hj : j < cr) (ha : a < 4 ^ cl) (hb : b < 4 ^ cr) : qc_JP cl cr j a b := by
  have hcl : cl = 1 ∨ cl = 2 ∨ cl = 3 := by omega
  have hcr : cr = 1 ∨ cr = 2 ∨ cr = 3 := by omega
  rcases hcl with rfl | rfl | rfl
  · rcases hcr with rfl | rfl | rfl
    · obtain rfl : j = 0 := by omega
      exact qc_j110 a ha b hb
    · rcases (show j = 0 ∨ j = 1 by omega) with rfl | rfl
      · exact qc_j120 a ha b hb
      · exact qc_j121 a ha b hb
    · rcases (show j = 0 ∨ j = 1 ∨ j = 2 by omega) with rfl | rfl | rfl
      · exact qc_j130 a ha b hb
      · exact qc_j131 a ha b hb
      · exact qc_j132 a ha b hb
  · rcases hcr with rfl | rfl | rfl
    · obtain rfl : j = 0 := by omega
      exact qc_j210 a ha b hb
    · rcases (show j = 0 ∨ j = 1 by omega) with rfl | rfl
      · exact qc_j220 a ha b hb
      · exact qc_j221 a ha b hb
    · omega
  · rcases hcr with rfl | rfl | rfl
    · obtain rfl : j = 0 := by omega
      exact qc_j310 a ha b hb
    · omega
    · omega
theorem qa_nn_flat (g : qa_T → List qa_T) : ∀ A : List qa_T, A.flatMap (fun x => qa_nn (g x)) = qa_nn (A.flatMap g)
  | [] => rfl
  | x :: A => by rw [List.flatMap_cons, List.flatMap_cons, qa_nn_app, qa_nn_flat g A]
theorem qa_C_fl {s kd : Nat} (h : kd ≠ 4) (mv : Int32 → Int32) (jn : Int32 → Int32 → Int32) (A B : List qa_T) : A.flatMap (fun x => qa_nn (qa_C1 s kd mv jn B x)) = qa_nn (qa_C s kd mv jn A B) := by
  unfold qa_C
  rw [if_neg h, List.append_nil, qa_nn_flat]
theorem qa_C1_n {s kd : Nat} (h : kd ≠ 5) (mv : Int32 → Int32) (jn : Int32 → Int32 → Int32) (B : List qa_T) (x : qa_T) : qa_C1 s kd mv jn B x = [(mv x.1, x.2.1, x.2.2)] := by
  unfold qa_C1; rw [if_neg h]
theorem qa_nn_all : ∀ {A : List qa_T}, (∀ x, x ∈ A → ¬ x.1 < 0) → qa_nn A = A
  | [], _ => rfl
  | x :: A, h => by
    have e : qa_nn (x :: A) = qa_nn [x] ++ qa_nn A := qa_nn_app [x] A
    rw [e, qa_nn_pos (h x List.mem_cons_self), qa_nn_all (fun y hy => h y (List.mem_cons_of_mem _ hy))]; rfl
section
variable {mr mt mx mp n tk : Nat} {S co de kd lf rt TB : Nat → Nat} {LX LY : Nat → List qa_T} {R : Nat → List qa_R} {bA bB bE bW : Nat → Int32}
theorem re_item {q : Nat} (h : re_P mx co de kd lf rt TB bA bB bE bW LX LY R q) {x : qa_T} (hx : x ∈ LX q) : (∃ a, a < 4 ^ (co q) ∧ x.1 = nI a) ∧ ∃ l, x.2.1 = lN (qs_cd l) ∧ l.length ≤ 4 ∧ l ≠ [] ∧ ∀ y, y ∈ l → y < TB (q + 1) := by
  obtain ⟨h1, h2, h3, h4, h5, h6, h7, h8, h9, h10, h11, h12, h13, h14⟩ := h
  obtain ⟨y, hy, e⟩ := qa_E_key h12 hx
  obtain ⟨p, hp, rfl⟩ := List.mem_map.mp hy
  obtain ⟨g1, g2, g3, a, g4, g5⟩ := h9 p hp
  have e1 : p.1 = x.1 := qa_k1 e
  have e2 : qs_code 4 p.2 = x.2.1 := qa_k2 e
  exact ⟨⟨a, g4, by rw [← e1]; exact g5⟩, p.2, by rw [← e2]; rfl, by omega, g2, g3⟩
theorem re_nneg {q : Nat} (h : re_P mx co de kd lf rt TB bA bB bE bW LX LY R q) {x : qa_T} (hx : x ∈ LX q) : ¬ x.1 < 0 := by
  have hc := h.1.2
  obtain ⟨⟨a, h1, h2⟩, _⟩ := re_item h hx
  have : 4 ^ co q ≤ 4 ^ 3 := Nat.pow_le_pow_right (by omega) hc
  rw [h2]; exact nI_pos (by omega)
end
end
section
/-! constructors; source, select, match, project, union, join -/
theorem re_clamp (x : Int32) (lo hi : Nat) (h : lo ≤ hi) (hh : hi < 2 ^ 31) : ∃ j : Nat, lo ≤ j ∧ j ≤ hi ∧ (∀ {A : Int32 → Prop}, A (nI j) → ((nI lo ≤ x → ((x ≤ nI hi → A x) ∧ (¬ x ≤ nI hi → A (nI hi)))) ∧ (¬ nI lo ≤ x → A (nI lo)))) := by
  by_cases h1 : nI lo ≤ x
  · by_cases h2 : x ≤ nI hi
    · have h0 : ¬ x < 0 := fun z => by
        have a : (nI lo).toInt = lo := nI_toInt (by omega)
        rw [Int32.le_iff_toInt_le, a] at h1
        rw [Int32.lt_iff_toInt_lt] at z
        have : (0 : Int32).toInt = 0 := by decide
        omega
      obtain ⟨j, hj, rfl⟩ := nI_of h0
      rw [nI_leI (by omega) hj] at h1
      rw [nI_leI hj (by omega)] at h2
      exact ⟨j, h1, h2, fun a => br_t (nI_le h1 hj) (br_t (nI_le h2 hh) a)⟩
    · exact ⟨hi, h, Nat.le_refl _, fun a => br_t h1 (br_f h2 a)⟩
  · exact ⟨lo, Nat.le_refl _, h, fun a => br_f h1 a⟩
def re_cl (x : Int32) (lo hi j : Nat) : Prop := ∀ {A : Int32 → Prop}, A (nI j) → ((nI lo ≤ x → ((x ≤ nI hi → A x) ∧ (¬ x ≤ nI hi → A (nI hi)))) ∧ (¬ nI lo ≤ x → A (nI lo)))
theorem qx_clamp {XR XT XM XP XN XK XB XO : Int32} {aS aC aD aF tT tV : Nat → Int32} {tM tC : Nat → Int64} {x : Int32} {lo hi j : Nat} (c : re_cl x lo hi j) {post : Int32 → Prop} (h : post (nI j)) : wpX_clamp post (XR, XT, XM, XP, XN, XK, XB, XO, aS, aC, aD, aF, tT, tM, tC, tV) x (nI lo) (nI hi) := c h
theorem qy_clamp {YN YK YR YT YM YP : Int32} {bK bL bR bC bD bA bB bE bO bW bH bZ fT : Nat → Int32} {fC fV : Nat → Int64} {x : Int32} {lo hi j : Nat} (c : re_cl x lo hi j) {post : Int32 → Prop} (h : post (nI j)) : wpY_clamp post (YN, YK, YR, YT, YM, YP, bK, bL, bR, bC, bD, bA, bB, bE, bO, bW, bH, bZ, fT, fC, fV) x (nI lo) (nI hi) := c h
theorem i_vc0 (k0 : Int32) (k1 : Int32) (k2 : Int32) (k3 : Int32) : wpX_init (fun u => wpY_init (fun v => i_Rel 4 u v) k0 k1 k2 k3) k0 k1 k2 k3 := by
  obtain ⟨j0, a0, b0, c0⟩ := re_clamp k0 4 8 (by omega) (by omega)
  obtain ⟨j1, a1, b1, c1⟩ := re_clamp k1 4 16 (by omega) (by omega)
  obtain ⟨j2, a2, b2, c2⟩ := re_clamp k2 8 32 (by omega) (by omega)
  obtain ⟨j3, a3, b3, c3⟩ := re_clamp k3 32 192 (by omega) (by omega)
  unfold wpX_init
  refine qx_clamp c0 (qx_clamp c1 (qx_clamp c2 (qx_clamp c3 ?_)))
  unfold wpY_init
  refine qy_clamp c0 (qy_clamp c1 (qy_clamp c2 (qy_clamp c3 ?_)))
  refine re_in (n := 0) (tk := 0) (S := fun _ => 0) (co := fun _ => 0) (de := fun _ => 0) (kd := fun _ => 0) (lf := fun _ => 0) (rt := fun _ => 0) (TB := fun _ => 0) (LX := fun _ => []) (LY := fun _ => []) (R := fun _ => []) ⟨⟨a0, b0, a1, b1, a2, b2, a3, b3, by omega, by omega, rfl, rfl, Nat.zero_le _⟩, ⟨rfl, rfl, fun q hq => by omega, fun x hx => by omega⟩, fun q hq => by omega, fun q hq => by omega, fun q hq => by omega⟩
section
variable {mr mt mx mp n tk : Nat} {S co de kd lf rt TB : Nat → Nat} {LX LY : Nat → List qa_T} {R : Nat → List qa_R} {XB XO : Int32} {aS aC aD aF tT : Nat → Int32} {tM tC : Nat → Int64} {tV : Nat → Int32} {bK bL bR bC bD bA bB bE bO bW bH bZ fT : Nat → Int32} {fC fV : Nat → Int64}
theorem re_source {k : Nat} {v1 : Int32} (H : re_A mr mt mx mp n tk S co de kd lf rt TB LX LY R aS aC aD aF tT tM tC tV bK bL bR bC bD bA bB bE bO bW bH bZ fT fC fV) : wpX_source (fun r u' => wpY_source (fun r' v' => r' = r ∧ i_Rel k u' v') (nI n, nI tk, nI mr, nI mt, nI mx, nI mp, bK, bL, bR, bC, bD, bA, bB, bE, bO, bW, bH, bZ, fT, fC, fV) v1) (nI mr, nI mt, nI mx, nI mp, nI n, nI tk, XB, XO, aS, aC, aD, aF, tT, tM, tC, tV) v1 := by
  have HH := H
  have hpool := re_pool H
  have hS := re_S H n (Nat.le_refl _)
  obtain ⟨N, T, HP, HX, HY⟩ := H
  obtain ⟨n1, n2, n3, n4, n5, n6, n7, n8, n9, n10, n11, n12, n13⟩ := N
  have htok := re_tokn HH (by omega)
  by_cases h1 : v1 < 1
  · exact br_t h1 (br_t h1 ⟨rfl, re_in HH⟩)
  by_cases h3 : v1 ≤ 3
  · obtain ⟨w, hw1, hw3, rfl⟩ : ∃ w : Nat, 1 ≤ w ∧ w ≤ 3 ∧ v1 = nI w := by
      have h0 : ¬ v1 < 0 := fun z => h1 (Int32.lt_trans z (by decide))
      obtain ⟨j, hj, rfl⟩ := nI_of h0
      refine ⟨j, ?_, ?_, rfl⟩
      · exact Nat.le_of_not_lt fun z => h1 (nI_lt (b := 1) z (by decide))
      · exact (nI_leI hj (by omega) (b := 3)).mp h3
    refine br_f h1 (br_t h3 ?_)
    rcases Nat.lt_or_ge n mr with hn | hn
    · refine br_t (nI_lt hn (by omega)) ?_
      refine qx_enter rfl (by omega) ?_
      refine br_f h1 (br_t h3 ?_)
      refine qy_make (kd := 0) (l := 0) (r := 0) (j := 0) (cl := 0) (cr := 0) (dl := 0) (dr := 0) (S := S) (A := []) (B := []) rfl rfl rfl hn n2 n6 n8 n13 n11 hpool (by omega) (by omega) (by omega) (by omega) (fun e => absurd rfl e) (fun e => absurd rfl e) (fun _ => rfl) (fun e => by omega) (fun e => by omega) htok (by decide) ?_
      intro z t c v b
      refine ⟨fun h => absurd h (by show ¬ mx < 0; omega), fun _ h => absurd h (by show ¬ mp < S n + 0; omega), fun _ _ => ⟨rfl, ?_⟩⟩
      have F : re_A mr mt mx mp n tk S co de kd lf rt TB LX LY R (upd aS (n + 1) (nI (S n + 0))) (upd aC n (nI w)) (upd aD n 1) (upd aF n 1) tT tM tC tV (upd bK n (nI 0)) (upd bL n (nI 0)) (upd bR n (nI 0)) (upd bC n (nI w)) (upd bD n (nI (qy_dg 0 0 0))) (upd bA n 0) (upd bB n 0) (upd bE n 0) bO bW bH z t c v := by
        refine re_frame HH (fun j hj => pk_un (by omega)) (fun j hj => ⟨pk_un (by omega), pk_un (by omega), pk_un (by omega)⟩) (fun j _ => ⟨rfl, rfl, rfl⟩) (fun j hj => ?_) (fun j hj => b.2.2 j (by omega))
        have hj' : j ≠ n := by omega
        exact ⟨pk_un hj', pk_un hj', pk_un hj', pk_un hj', pk_un hj', pk_un hj', pk_un hj', pk_un hj', b.2.1 j hj'⟩
      have G := re_ext (w := w) (d := 1) (k0 := 0) (l0 := 0) (r0 := 0) (L1 := []) (L2 := []) (R0 := []) F hn n13 ?_ ⟨pk_us, pk_us, pk_us, pk_us, trivial⟩ ⟨pk_us, pk_us, pk_us, pk_us, pk_us, b.1⟩
      · have e0 : aS n + 0 = nI (S n + 0) := by rw [hS]; exact nI_add _ 0
        have := re_in (k := k) (XB := XB) (XO := XO) G
        rw [← e0] at this
        exact this
      · have hTn : TB n = tk := T.2.1
        unfold re_P
        simp only [re_f_s, re_f_n (show n ≠ n + 1 by omega), hTn]
        refine ⟨⟨hw1, hw3⟩, ⟨by omega, by omega⟩, by omega, by omega, by omega, fun e => absurd rfl e, fun e => by omega, fun _ => ⟨?_, ?_⟩, fun p hp => (nomatch hp), List.Pairwise.nil, List.nodup_nil, fun _ => rfl, fun _ => rfl, Nat.zero_le _⟩
        · rw [Nat.sub_self]; rfl
        · rw [Nat.sub_self]; rfl
    · refine br_f (nI_nlt hn (by omega)) (br_f h1 (br_t h3 ?_))
      exact br_f (nI_nlt hn (by omega)) ⟨rfl, re_in HH⟩
  · exact br_f h1 (br_f h3 (br_f h1 (br_f h3 ⟨rfl, re_in HH⟩)))
end
end
section
/-! select, match -/
section
variable {mr mt mx mp n tk : Nat} {S co de kd lf rt TB : Nat → Nat} {LX LY : Nat → List qa_T} {R : Nat → List qa_R} {XB XO : Int32} {aS aC aD aF tT : Nat → Int32} {tM tC : Nat → Int64} {tV : Nat → Int32} {bK bL bR bC bD bA bB bE bO bW bH bZ fT : Nat → Int32} {fC fV : Nat → Int64}
theorem re_B0 {fr : Nat} : qx_B fr tT tM tC [] tT tM tC := ⟨trivial, List.Pairwise.nil, fun _ _ => ⟨rfl, rfl, rfl⟩⟩
theorem re_I0 {mx : Nat} : qx_I mx [] [] 0 := ⟨Nat.zero_le _, Or.inl ⟨rfl, qa_E_refl _ _⟩⟩
theorem qy_dg1 {k0 d : Nat} (h0 : k0 ≠ 0) (h5 : k0 ≠ 5) : qy_dg k0 d d = d := by
  unfold qy_dg; rw [if_neg h0, if_neg h5, if_pos (Nat.le_refl _)]
theorem re_select {k : Nat} {v1 v2 v3 : Int32} (H : re_A mr mt mx mp n tk S co de kd lf rt TB LX LY R aS aC aD aF tT tM tC tV bK bL bR bC bD bA bB bE bO bW bH bZ fT fC fV) : wpX_select (fun r u' => wpY_select (fun r' v' => r' = r ∧ i_Rel k u' v') (nI n, nI tk, nI mr, nI mt, nI mx, nI mp, bK, bL, bR, bC, bD, bA, bB, bE, bO, bW, bH, bZ, fT, fC, fV) v1 v2 v3) (nI mr, nI mt, nI mx, nI mp, nI n, nI tk, XB, XO, aS, aC, aD, aF, tT, tM, tC, tV) v1 v2 v3 := by
  have HH := H
  have hS := re_S H
  have Sm := re_Sm H
  obtain ⟨N, T, HP, HX, HY⟩ := H
  obtain ⟨n1, n2, n3, n4, n5, n6, n7, n8, n9, n10, n11, n12, n13⟩ := N
  unfold wpX_select
  rcases qz_ix v1 n (by omega) with h | ⟨q, hq, rfl⟩
  · refine qx_ex0 rfl h (br_t rfl ?_)
    unfold wpY_select
    exact qy_ex0 rfl h (br_t rfl ⟨rfl, re_in HH⟩)
  have hPq := HP q hq
  obtain ⟨x1, x2, x3, x4, x5, x6⟩ := HX q hq
  obtain ⟨y1, y2, y3, y4, y5, y6⟩ := HY q hq
  have hco := hPq.1
  rcases qz_ix v2 (co q) (by omega) with h | ⟨i, hi, rfl⟩
  · refine qx_ex1 rfl (by omega) hq (br_f (by decide) (qx_col0 (by omega) x3 h (br_t rfl ?_)))
    unfold wpY_select
    exact qy_ex1 rfl (by omega) hq (br_f (by decide) (qy_col0 (by omega) y4 h (br_t rfl ⟨rfl, re_in HH⟩)))
  rcases qz_ix v3 4 (by omega) with h | ⟨d, hd, rfl⟩
  · refine qx_ex1 rfl (by omega) hq (br_f (by decide) (qx_col1 (by omega) x3 hco.2 hi (br_f (by decide) (qx_cell0 h (br_t rfl ?_)))))
    unfold wpY_select
    exact qy_ex1 rfl (by omega) hq (br_f (by decide) (qy_col1 (by omega) y4 hco.2 hi (br_f (by decide) (qy_cell0 h (br_t rfl ⟨rfl, re_in HH⟩)))))
  refine qx_ex1 rfl (by omega) hq (br_f (by decide) (qx_col1 (by omega) x3 hco.2 hi (br_f (by decide) (qx_cell1 hd (br_f (by decide) ?_)))))
  have hvq : vp_in (nI q) 8 := vp_in_nI (by omega) (by omega)
  have hcq : (nI q).toNatClampNeg = q := nI_clamp (by omega)
  have toY : ∀ (pst : Int32 → SY → Prop), wpY_make pst (nI n, nI tk, nI mr, nI mt, nI mx, nI mp, bK, bL, bR, bC, bD, bA, bB, bE, bO, bW, bH, bZ, fT, fC, fV) (nI 1) (nI q) (nI q) (nI i) (nI d) 0 (nI (co q)) → wpY_select pst (nI n, nI tk, nI mr, nI mt, nI mx, nI mp, bK, bL, bR, bC, bD, bA, bB, bE, bO, bW, bH, bZ, fT, fC, fV) (nI q) (nI i) (nI d) := by
    intro pst hm
    unfold wpY_select
    refine qy_ex1 rfl (by omega) hq (br_f (by decide) (qy_col1 (by omega) y4 hco.2 hi (br_f (by decide) (qy_cell1 hd (br_f (by decide) ⟨hvq, ?_⟩)))))
    rw [hcq, y4]
    exact hm
  rcases Nat.lt_or_ge n mr with hn | hn
  · refine br_t (nI_lt hn (by omega)) ?_
    refine And.intro (vp_in_nI (by omega) (by omega)) ?_
    rw [hcq, hS q (by omega)]
    refine nm_e ⟨(LX q).length + 1, ?_⟩
    have hle := Sm q hq
    refine qx_select_59 (f := fun x => qa_nn (qa_C1 4 1 (qc_mv 1 (nI i) (nI d) 0) (qc_jn (nI i) 0 (co q) (co q)) (LX q) x)) rfl (by omega) (hS n (Nat.le_refl _)) rfl n6 (by omega) hq (by rw [x1, x2]) x6 hle.1 ?_ ?_ ?_ (LX q) [] [] 0 tT tM tC rfl re_B0 re_I0 ((LX q).length + 1) (by omega)
    · intro x hx e
      have hc : qc_mv 1 (nI i) (nI d) 0 x.1 = x.1 := by
        show (if qc_y x.1 (nI i) = nI d then x.1 else -1) = x.1
        rw [qc_y_nI _ (by omega), if_pos e]
      show qa_nn (qa_C1 4 1 _ _ (LX q) x) = [x]
      rw [qa_C1_n (by decide), hc]
      exact qa_nn_pos (re_nneg hPq hx)
    · intro x hx e
      have hc : qc_mv 1 (nI i) (nI d) 0 x.1 = -1 := by
        show (if qc_y x.1 (nI i) = nI d then x.1 else -1) = -1
        rw [qc_y_nI _ (by omega), if_neg e]
      show qa_nn (qa_C1 4 1 _ _ (LX q) x) = []
      rw [qa_C1_n (by decide), hc]
      exact qa_nn_neg (show (-1 : Int32) < 0 by decide)
    · intro L o t m c b i'
      rw [qa_C_fl (by decide)] at i'
      rw [x3, x4]
      refine re_view (k := k) (k0 := 1) (l := q) (r := q) (w := co q) (j := 0) HH hn (by omega) (by omega) hq hq hco.1 hco.2 (fun e => by omega) (by rw [qy_dg1 (by decide) (by decide)]) ?_ (fun e => by omega) (fun e => by omega) b i' (fun r' u' hm => toY _ hm)
      intro e he
      show (if qc_y (nI e) (nI i) = nI d then nI e else -1) < 0 ∨ ∃ e', e' < 4 ^ (co q) ∧ (if qc_y (nI e) (nI i) = nI d then nI e else -1) = nI e'
      by_cases z : qc_y (nI e) (nI i) = nI d
      · rw [if_pos z]; exact Or.inr ⟨e, he, rfl⟩
      · rw [if_neg z]; exact Or.inl (by decide)
  · refine br_f (nI_nlt hn (by omega)) (toY _ ?_)
    exact br_f (nI_nlt hn (by omega)) ⟨rfl, re_in HH⟩
theorem re_match {k : Nat} {v1 v2 v3 : Int32} (H : re_A mr mt mx mp n tk S co de kd lf rt TB LX LY R aS aC aD aF tT tM tC tV bK bL bR bC bD bA bB bE bO bW bH bZ fT fC fV) : wpX_match (fun r u' => wpY_match (fun r' v' => r' = r ∧ i_Rel k u' v') (nI n, nI tk, nI mr, nI mt, nI mx, nI mp, bK, bL, bR, bC, bD, bA, bB, bE, bO, bW, bH, bZ, fT, fC, fV) v1 v2 v3) (nI mr, nI mt, nI mx, nI mp, nI n, nI tk, XB, XO, aS, aC, aD, aF, tT, tM, tC, tV) v1 v2 v3 := by
  have HH := H
  have hS := re_S H
  have Sm := re_Sm H
  obtain ⟨N, T, HP, HX, HY⟩ := H
  obtain ⟨n1, n2, n3, n4, n5, n6, n7, n8, n9, n10, n11, n12, n13⟩ := N
  unfold wpX_match
  rcases qz_ix v1 n (by omega) with h | ⟨q, hq, rfl⟩
  · refine qx_ex0 rfl h (br_t rfl ?_)
    unfold wpY_match
    exact qy_ex0 rfl h (br_t rfl ⟨rfl, re_in HH⟩)
  have hPq := HP q hq
  obtain ⟨x1, x2, x3, x4, x5, x6⟩ := HX q hq
  obtain ⟨y1, y2, y3, y4, y5, y6⟩ := HY q hq
  have hco := hPq.1
  rcases qz_ix v2 (co q) (by omega) with h | ⟨i, hi, rfl⟩
  · refine qx_ex1 rfl (by omega) hq (br_f (by decide) (qx_col0 (by omega) x3 h (br_t rfl ?_)))
    unfold wpY_match
    exact qy_ex1 rfl (by omega) hq (br_f (by decide) (qy_col0 (by omega) y4 h (br_t rfl ⟨rfl, re_in HH⟩)))
  rcases qz_ix v3 (co q) (by omega) with h | ⟨d, hd, rfl⟩
  · refine qx_ex1 rfl (by omega) hq (br_f (by decide) (qx_col1 (by omega) x3 hco.2 hi (br_f (by decide) (qx_col0 (by omega) x3 h (br_t rfl ?_)))))
    unfold wpY_match
    exact qy_ex1 rfl (by omega) hq (br_f (by decide) (qy_col1 (by omega) y4 hco.2 hi (br_f (by decide) (qy_col0 (by omega) y4 h (br_t rfl ⟨rfl, re_in HH⟩)))))
  refine qx_ex1 rfl (by omega) hq (br_f (by decide) (qx_col1 (by omega) x3 hco.2 hi (br_f (by decide) (qx_col1 (by omega) x3 hco.2 hd (br_f (by decide) ?_)))))
  have hvq : vp_in (nI q) 8 := vp_in_nI (by omega) (by omega)
  have hcq : (nI q).toNatClampNeg = q := nI_clamp (by omega)
  have toY : ∀ (pst : Int32 → SY → Prop), wpY_make pst (nI n, nI tk, nI mr, nI mt, nI mx, nI mp, bK, bL, bR, bC, bD, bA, bB, bE, bO, bW, bH, bZ, fT, fC, fV) (nI 2) (nI q) (nI q) (nI i) (nI d) 0 (nI (co q)) → wpY_match pst (nI n, nI tk, nI mr, nI mt, nI mx, nI mp, bK, bL, bR, bC, bD, bA, bB, bE, bO, bW, bH, bZ, fT, fC, fV) (nI q) (nI i) (nI d) := by
    intro pst hm
    unfold wpY_match
    refine qy_ex1 rfl (by omega) hq (br_f (by decide) (qy_col1 (by omega) y4 hco.2 hi (br_f (by decide) (qy_col1 (by omega) y4 hco.2 hd (br_f (by decide) ⟨hvq, ?_⟩)))))
    rw [hcq, y4]
    exact hm
  rcases Nat.lt_or_ge n mr with hn | hn
  · refine br_t (nI_lt hn (by omega)) ?_
    refine And.intro (vp_in_nI (by omega) (by omega)) ?_
    rw [hcq, hS q (by omega)]
    refine nm_e ⟨(LX q).length + 1, ?_⟩
    have hle := Sm q hq
    refine qx_match_57 (f := fun x => qa_nn (qa_C1 4 2 (qc_mv 2 (nI i) (nI d) 0) (qc_jn (nI i) 0 (co q) (co q)) (LX q) x)) rfl (by omega) (hS n (Nat.le_refl _)) rfl n6 (by omega) hq (by rw [x1, x2]) x6 hle.1 ?_ ?_ ?_ (LX q) [] [] 0 tT tM tC rfl re_B0 re_I0 ((LX q).length + 1) (by omega)
    · intro x hx e
      have hc : qc_mv 2 (nI i) (nI d) 0 x.1 = x.1 := by
        show (if qc_y x.1 (nI i) = qc_y x.1 (nI d) then x.1 else -1) = x.1
        rw [qc_y_nI _ (by omega), qc_y_nI _ (by omega), if_pos e]
      show qa_nn (qa_C1 4 2 _ _ (LX q) x) = [x]
      rw [qa_C1_n (by decide), hc]
      exact qa_nn_pos (re_nneg hPq hx)
    · intro x hx e
      have hc : qc_mv 2 (nI i) (nI d) 0 x.1 = -1 := by
        show (if qc_y x.1 (nI i) = qc_y x.1 (nI d) then x.1 else -1) = -1
        rw [qc_y_nI _ (by omega), qc_y_nI _ (by omega), if_neg e]
      show qa_nn (qa_C1 4 2 _ _ (LX q) x) = []
      rw [qa_C1_n (by decide), hc]
      exact qa_nn_neg (show (-1 : Int32) < 0 by decide)
    · intro L o t m c b i'
      rw [qa_C_fl (by decide)] at i'
      rw [x3, x4]
      refine re_view (k := k) (k0 := 2) (l := q) (r := q) (w := co q) (j := 0) HH hn (by omega) (by omega) hq hq hco.1 hco.2 (fun e => by omega) (by rw [qy_dg1 (by decide) (by decide)]) ?_ (fun e => by omega) (fun e => by omega) b i' (fun r' u' hm => toY _ hm)
      intro e he
      show (if qc_y (nI e) (nI i) = qc_y (nI e) (nI d) then nI e else -1) < 0 ∨ ∃ e', e' < 4 ^ (co q) ∧ (if qc_y (nI e) (nI i) = qc_y (nI e) (nI d) then nI e else -1) = nI e'
      by_cases z : qc_y (nI e) (nI i) = qc_y (nI e) (nI d)
      · rw [if_pos z]; exact Or.inr ⟨e, he, rfl⟩
      · rw [if_neg z]; exact Or.inl (by decide)
  · refine br_f (nI_nlt hn (by omega)) (toY _ ?_)
    exact br_f (nI_nlt hn (by omega)) ⟨rfl, re_in HH⟩
end
end
section
/-! project, union -/
theorem qz_m1 {j : Nat} (h : j < 2 ^ 31) : ¬ nI j = -1 := fun e => nI_pos h (by rw [e]; decide)
def qc_pok (w : Nat) (c1 c2 : Int32) : Prop := qc_ok w c1 ∧ qc_ok w c2 ∧ (c1 = -1 → c2 = -1)
theorem qc_bad {w : Nat} {c1 c2 : Int32} (hw : w ≤ 3) (h : ¬ qc_pok w c1 c2) : (c1 = -1 ∧ ¬ c2 = -1) ∨ (¬ c1 = -1 ∧ (c1 < 0 ∨ nI w ≤ c1)) ∨ (¬ c1 = -1 ∧ (∃ j, j < w ∧ c1 = nI j) ∧ ¬ c2 = -1 ∧ (c2 < 0 ∨ nI w ≤ c2)) := by
  by_cases e1 : c1 = -1
  · refine Or.inl ⟨e1, fun e2 => h ⟨Or.inl e1, Or.inl e2, fun _ => e2⟩⟩
  · rcases qz_ix c1 w (by omega) with z | z
    · exact Or.inr (Or.inl ⟨e1, z⟩)
    · refine Or.inr (Or.inr ⟨e1, z, fun e2 => h ⟨Or.inr z, Or.inl e2, fun e => absurd e e1⟩, ?_⟩)
      rcases qz_ix c2 w (by omega) with y | y
      · exact y
      · exact absurd ⟨Or.inr z, Or.inr y, fun e => absurd e e1⟩ h
section
variable {XR XT XM XP XN XK XB XO : Int32} {aS aC aD aF tT tV : Nat → Int32} {tM tC : Nat → Int64}
theorem qx_proj1 {post : Int32 → Prop} {q w j : Nat} {c1 c2 : Int32} (hq : q < 8) (hC : aC q = nI w) (hw : w ≤ 3) (hj : j < w) (h : qc_pok w c1 c2) (hp : post 1) : wpX_isProjection post (XR, XT, XM, XP, XN, XK, XB, XO, aS, aC, aD, aF, tT, tM, tC, tV) (nI q) (nI j) c1 c2 := by
  unfold wpX_isProjection
  refine qx_col1 hq hC hw hj (br_f (by decide) (br_c (fun e => br_t (h.2.2 e) hp) (fun e => ?_)))
  rcases h.1 with e' | ⟨i, hi, rfl⟩
  · exact absurd e' e
  · refine qx_col1 hq hC hw hi (br_f (by decide) (br_c (fun _ => hp) (fun e2 => ?_)))
    rcases h.2.1 with e' | ⟨i2, hi2, rfl⟩
    · exact absurd e' e2
    · exact qx_col1 hq hC hw hi2 (br_f (by decide) hp)
theorem qx_proj0 {post : Int32 → Prop} {q w j : Nat} {c1 c2 : Int32} (hq : q < 8) (hC : aC q = nI w) (hw : w ≤ 3) (hj : j < w) (h : ¬ qc_pok w c1 c2) (hp : post 0) : wpX_isProjection post (XR, XT, XM, XP, XN, XK, XB, XO, aS, aC, aD, aF, tT, tM, tC, tV) (nI q) (nI j) c1 c2 := by
  unfold wpX_isProjection
  refine qx_col1 hq hC hw hj (br_f (by decide) ?_)
  rcases qc_bad hw h with ⟨e1, e2⟩ | ⟨e1, z⟩ | ⟨e1, ⟨i, hi, rfl⟩, e2, z⟩
  · exact br_t e1 (br_f e2 hp)
  · exact br_f e1 (qx_col0 hq hC z (br_t rfl hp))
  · exact br_f e1 (qx_col1 hq hC hw hi (br_f (by decide) (br_f e2 (qx_col0 hq hC z (br_t rfl hp)))))
end
section
variable {YK YR YT YM YP : Int32} {bK bL bR bC bD bA bB bE bO bW bH bZ fT : Nat → Int32} {fC fV : Nat → Int64}
theorem qy_proj1 {post : Int32 → SY → Prop} {n q w j : Nat} {c1 c2 : Int32} (hn : n ≤ 8) (hq : q < n) (hC : bC q = nI w) (hw : w ≤ 3) (hj : j < w) (h : qc_pok w c1 c2) (hp : wpY_make post (nI n, YK, YR, YT, YM, YP, bK, bL, bR, bC, bD, bA, bB, bE, bO, bW, bH, bZ, fT, fC, fV) (nI 3) (nI q) (nI q) (nI j) c1 c2 (nI (if c1 = -1 then 1 else if c2 = -1 then 2 else 3))) : wpY_project post (nI n, YK, YR, YT, YM, YP, bK, bL, bR, bC, bD, bA, bB, bE, bO, bW, bH, bZ, fT, fC, fV) (nI q) (nI j) c1 c2 := by
  have p66 : wY_project_66 post (nI q) (nI j) c1 c2 (nI n) YK YR YT YM YP bK bL bR bC bD bA bB bE bO bW bH bZ fT fC fV := by
    refine br_c (fun e => ?_) (fun e => br_c (fun e2 => ?_) (fun e2 => ?_))
    · rw [if_pos e] at hp; exact hp
    · rw [if_neg e, if_pos e2] at hp; exact hp
    · rw [if_neg e, if_neg e2] at hp; exact hp
  have p52 : wY_project_52 post (nI q) (nI j) c1 c2 (nI n) YK YR YT YM YP bK bL bR bC bD bA bB bE bO bW bH bZ fT fC fV := br_c (fun e => br_t (h.2.2 e) p66) (fun _ => p66)
  have p33 : wY_project_33 post (nI q) (nI j) c1 c2 (nI n) YK YR YT YM YP bK bL bR bC bD bA bB bE bO bW bH bZ fT fC fV := by
    refine br_c (fun _ => p52) (fun e => ?_)
    rcases h.2.1 with e' | ⟨i2, hi2, rfl⟩
    · exact absurd e' e
    · exact qy_col1 (by omega) hC hw hi2 (br_f (by decide) p52)
  unfold wpY_project
  refine qy_ex1 rfl hn hq (br_f (by decide) (qy_col1 (by omega) hC hw hj (br_f (by decide) (br_c (fun _ => p33) (fun e => ?_)))))
  rcases h.1 with e' | ⟨i, hi, rfl⟩
  · exact absurd e' e
  · exact qy_col1 (by omega) hC hw hi (br_f (by decide) p33)
theorem qy_proj0 {post : Int32 → SY → Prop} {n q w j : Nat} {c1 c2 : Int32} (hn : n ≤ 8) (hq : q < n) (hC : bC q = nI w) (hw : w ≤ 3) (hj : j < w) (h : ¬ qc_pok w c1 c2) (hp : post (-2) (nI n, YK, YR, YT, YM, YP, bK, bL, bR, bC, bD, bA, bB, bE, bO, bW, bH, bZ, fT, fC, fV)) : wpY_project post (nI n, YK, YR, YT, YM, YP, bK, bL, bR, bC, bD, bA, bB, bE, bO, bW, bH, bZ, fT, fC, fV) (nI q) (nI j) c1 c2 := by
  unfold wpY_project
  refine qy_ex1 rfl hn hq (br_f (by decide) (qy_col1 (by omega) hC hw hj (br_f (by decide) ?_)))
  rcases qc_bad hw h with ⟨e1, e2⟩ | ⟨e1, z⟩ | ⟨e1, ⟨i, hi, rfl⟩, e2, z⟩
  · have p52 : wY_project_52 post (nI q) (nI j) c1 c2 (nI n) YK YR YT YM YP bK bL bR bC bD bA bB bE bO bW bH bZ fT fC fV := br_t e1 (br_f e2 hp)
    refine br_t e1 (br_f e2 ?_)
    rcases qz_ix c2 w (by omega) with y | ⟨i, hi, rfl⟩
    · exact qy_col0 (by omega) hC y (br_t rfl hp)
    · exact qy_col1 (by omega) hC hw hi (br_f (by decide) p52)
  · exact br_f e1 (qy_col0 (by omega) hC z (br_t rfl hp))
  · exact br_f e1 (qy_col1 (by omega) hC hw hi (br_f (by decide) (br_f e2 (qy_col0 (by omega) hC z (br_t rfl hp)))))
end
section
variable {mr mt mx mp n tk : Nat} {S co de kd lf rt TB : Nat → Nat} {LX LY : Nat → List qa_T} {R : Nat → List qa_R} {XB XO : Int32} {aS aC aD aF tT : Nat → Int32} {tM tC : Nat → Int64} {tV : Nat → Int32} {bK bL bR bC bD bA bB bE bO bW bH bZ fT : Nat → Int32} {fC fV : Nat → Int64}
theorem re_project {k : Nat} {v1 v2 v3 v4 : Int32} (H : re_A mr mt mx mp n tk S co de kd lf rt TB LX LY R aS aC aD aF tT tM tC tV bK bL bR bC bD bA bB bE bO bW bH bZ fT fC fV) : wpX_project (fun r u' => wpY_project (fun r' v' => r' = r ∧ i_Rel k u' v') (nI n, nI tk, nI mr, nI mt, nI mx, nI mp, bK, bL, bR, bC, bD, bA, bB, bE, bO, bW, bH, bZ, fT, fC, fV) v1 v2 v3 v4) (nI mr, nI mt, nI mx, nI mp, nI n, nI tk, XB, XO, aS, aC, aD, aF, tT, tM, tC, tV) v1 v2 v3 v4 := by
  have HH := H
  have hS := re_S H
  have Sm := re_Sm H
  obtain ⟨N, T, HP, HX, HY⟩ := H
  obtain ⟨n1, n2, n3, n4, n5, n6, n7, n8, n9, n10, n11, n12, n13⟩ := N
  unfold wpX_project
  rcases qz_ix v1 n (by omega) with h | ⟨q, hq, rfl⟩
  · refine qx_ex0 rfl h (br_t rfl ?_)
    unfold wpY_project
    exact qy_ex0 rfl h (br_t rfl ⟨rfl, re_in HH⟩)
  have hPq := HP q hq
  obtain ⟨x1, x2, x3, x4, x5, x6⟩ := HX q hq
  obtain ⟨y1, y2, y3, y4, y5, y6⟩ := HY q hq
  have hco := hPq.1
  rcases qz_ix v2 (co q) (by omega) with h | ⟨i, hi, rfl⟩
  · refine qx_ex1 rfl (by omega) hq (br_f (by decide) ?_)
    unfold wpX_isProjection
    refine qx_col0 (by omega) x3 h (br_t rfl (br_t rfl ?_))
    unfold wpY_project
    exact qy_ex1 rfl (by omega) hq (br_f (by decide) (qy_col0 (by omega) y4 h (br_t rfl ⟨rfl, re_in HH⟩)))
  rcases Classical.em (qc_pok (co q) v3 v4) with hok | hok
  · refine qx_ex1 rfl (by omega) hq (br_f (by decide) (qx_proj1 (by omega) x3 hco.2 hi hok (br_f (by decide) ?_)))
    have hcq : (nI q).toNatClampNeg = q := nI_clamp (by omega)
    rcases Nat.lt_or_ge n mr with hn | hn
    · refine br_t (nI_lt hn (by omega)) ?_
      refine And.intro (vp_in_nI (by omega) (by omega)) ?_
      rw [hcq, hS q (by omega)]
      refine nm_e ⟨(LX q).length + 1, ?_⟩
      have hle := Sm q hq
      refine qx_project_51 (f := fun x => qa_nn (qa_C1 4 3 (qc_mv 3 (nI i) v3 v4) (qc_jn (nI i) 0 (co q) (co q)) (LX q) x)) rfl (by omega) (hS n (Nat.le_refl _)) rfl n6 (by omega) hq (by rw [x1, x2]) x6 hle.1 ?_ ?_ (LX q) [] [] 0 tT tM tC rfl re_B0 re_I0 ((LX q).length + 1) (by omega)
      · intro x hx
        obtain ⟨g1, e, g2, g3⟩ := qc_proj (u := x.1) hco.2 hi hok.1 hok.2.1 hok.2.2
        show qa_nn (qa_C1 4 3 _ _ (LX q) x) = _
        rw [qa_C1_n (by decide), g1]
        refine qa_nn_pos ?_
        have : 4 ^ (if v3 = -1 then 1 else if v4 = -1 then 2 else 3) ≤ 4 ^ 3 := Nat.pow_le_pow_right (by omega) (by split <;> (try split) <;> omega)
        show ¬ qc_mv 3 (nI i) v3 v4 x.1 < 0
        rw [g3]; exact nI_pos (by omega)
      · intro L o t m c b i'
        rw [qa_C_fl (by decide)] at i'
        have ew : (if v3 = -1 then (1 : Int32) else if v4 = -1 then 2 else 3) = nI (if v3 = -1 then 1 else if v4 = -1 then 2 else 3) := by
          split
          · rfl
          · split <;> rfl
        rw [x4, ew]
        refine re_view (k := k) (k0 := 3) (l := q) (r := q) (w := if v3 = -1 then 1 else if v4 = -1 then 2 else 3) (j := 0) HH hn (by omega) (by omega) hq hq (by split <;> (try split) <;> omega) (by split <;> (try split) <;> omega) (fun e => by omega) (by rw [qy_dg1 (by decide) (by decide)]) ?_ (fun e => by omega) (fun e => by omega) b i' (fun r' u' hm => qy_proj1 (by omega) hq y4 hco.2 hi hok hm)
        intro e he
        exact Or.inr (qc_proj (u := nI e) hco.2 hi hok.1 hok.2.1 hok.2.2).2
    · refine br_f (nI_nlt hn (by omega)) (qy_proj1 (by omega) hq y4 hco.2 hi hok ?_)
      exact br_f (nI_nlt hn (by omega)) ⟨rfl, re_in HH⟩
  · refine qx_ex1 rfl (by omega) hq (br_f (by decide) (qx_proj0 (by omega) x3 hco.2 hi hok (br_t rfl ?_)))
    exact qy_proj0 (by omega) hq y4 hco.2 hi hok ⟨rfl, re_in HH⟩
theorem qa_C_un (mv : Int32 → Int32) (jn : Int32 → Int32 → Int32) (hmv : ∀ t, mv t = t) {A B : List qa_T} (hA : ∀ x, x ∈ A → ¬ x.1 < 0) (hB : ∀ x, x ∈ B → ¬ x.1 < 0) : qa_nn (qa_C 4 4 mv jn A B) = A ++ B := by
  unfold qa_C
  rw [if_pos rfl, qa_nn_app, qa_nn_all hB]
  congr 1
  have : A.flatMap (qa_C1 4 4 mv jn B) = A := by
    have e : A.flatMap (qa_C1 4 4 mv jn B) = A.flatMap (fun x => [x]) := by
      apply qa_flat_congr
      intro x _
      rw [qa_C1_n (by decide), hmv]
    rw [e]
    induction A with
    | nil => rfl
    | cons x A ih => rw [List.flatMap_cons, ih (fun y hy => hA y (List.mem_cons_of_mem _ hy)) (by apply qa_flat_congr; intro x _; rw [qa_C1_n (by decide), hmv])]; rfl
  rw [this, qa_nn_all hA]
theorem re_union {k : Nat} {v1 v2 : Int32} (H : re_A mr mt mx mp n tk S co de kd lf rt TB LX LY R aS aC aD aF tT tM tC tV bK bL bR bC bD bA bB bE bO bW bH bZ fT fC fV) : wpX_union (fun r u' => wpY_union (fun r' v' => r' = r ∧ i_Rel k u' v') (nI n, nI tk, nI mr, nI mt, nI mx, nI mp, bK, bL, bR, bC, bD, bA, bB, bE, bO, bW, bH, bZ, fT, fC, fV) v1 v2) (nI mr, nI mt, nI mx, nI mp, nI n, nI tk, XB, XO, aS, aC, aD, aF, tT, tM, tC, tV) v1 v2 := by
  have HH := H
  have hS := re_S H
  have Sm := re_Sm H
  obtain ⟨N, T, HP, HX, HY⟩ := H
  obtain ⟨n1, n2, n3, n4, n5, n6, n7, n8, n9, n10, n11, n12, n13⟩ := N
  unfold wpX_union
  rcases qz_ix v1 n (by omega) with h | ⟨q, hq, rfl⟩
  · refine qx_ex0 rfl h (br_t rfl ?_)
    unfold wpY_union
    exact qy_ex0 rfl h (br_t rfl ⟨rfl, re_in HH⟩)
  rcases qz_ix v2 n (by omega) with h | ⟨s, hs, rfl⟩
  · refine qx_ex1 rfl (by omega) hq (br_f (by decide) (qx_ex0 rfl h (br_t rfl ?_)))
    unfold wpY_union
    exact qy_ex1 rfl (by omega) hq (br_f (by decide) (qy_ex0 rfl h (br_t rfl ⟨rfl, re_in HH⟩)))
  have hPq := HP q hq
  have hPs := HP s hs
  obtain ⟨x1, x2, x3, x4, x5, x6⟩ := HX q hq
  obtain ⟨y1, y2, y3, y4, y5, y6⟩ := HY q hq
  obtain ⟨u1, u2, u3, u4, u5, u6⟩ := HX s hs
  obtain ⟨w1, w2, w3, w4, w5, w6⟩ := HY s hs
  have hco := hPq.1
  have hcos := hPs.1
  have hde := hPq.2.1
  have hdes := hPs.2.1
  have hvq : vp_in (nI q) 8 := vp_in_nI (by omega) (by omega)
  have hcq : (nI q).toNatClampNeg = q := nI_clamp (by omega)
  have hvs : vp_in (nI s) 8 := vp_in_nI (by omega) (by omega)
  have hcs : (nI s).toNatClampNeg = s := nI_clamp (by omega)
  refine qx_ex1 rfl (by omega) hq (br_f (by decide) (qx_ex1 rfl (by omega) hs (br_f (by decide) ⟨hvq, hvs, ?_⟩)))
  rw [hcq, hcs, x3, u3]
  refine pk_eq (co q) (co s) (fun ec => ?_) (fun ec => ?_)
  · have toY : ∀ (pst : Int32 → SY → Prop), wpY_make pst (nI n, nI tk, nI mr, nI mt, nI mx, nI mp, bK, bL, bR, bC, bD, bA, bB, bE, bO, bW, bH, bZ, fT, fC, fV) (nI 4) (nI q) (nI s) 0 0 0 (nI (co q)) → wpY_union pst (nI n, nI tk, nI mr, nI mt, nI mx, nI mp, bK, bL, bR, bC, bD, bA, bB, bE, bO, bW, bH, bZ, fT, fC, fV) (nI q) (nI s) := by
      intro pst hm
      unfold wpY_union
      refine qy_ex1 rfl (by omega) hq (br_f (by decide) (qy_ex1 rfl (by omega) hs (br_f (by decide) ⟨hvq, hvs, ?_⟩)))
      rw [hcq, hcs, y4, w4]
      exact pk_eq (co q) (co s) (fun _ => ⟨hvq, hm⟩) (fun z => absurd ec z)
    rcases Nat.lt_or_ge n mr with hn | hn
    · refine br_t (nI_lt hn (by omega)) ?_
      have hleq := Sm q hq
      have hles := Sm s hs
      refine qx_addAll (C := []) (L := []) rfl (by omega) (hS n (Nat.le_refl _)) rfl n6 (by omega) hq (hS q (by omega)) (by rw [x1, x2]) x6 hleq.1 rfl re_B0 re_I0 ?_
      intro L o t m c b i
      refine qx_addAll (C := [] ++ LX q) (L := L) rfl (by omega) (hS n (Nat.le_refl _)) rfl n6 (by omega) hs (hS s (by omega)) (by rw [u1, u2]) u6 hles.1 rfl b i ?_
      intro L o t m c b i
      have fin : ∀ d : Int32, d = nI (qy_dg 4 (de q) (de s)) → wpX_finish (fun r u' => wpY_union (fun r' v' => r' = r ∧ i_Rel k u' v') (nI n, nI tk, nI mr, nI mt, nI mx, nI mp, bK, bL, bR, bC, bD, bA, bB, bE, bO, bW, bH, bZ, fT, fC, fV) (nI q) (nI s)) (nI mr, nI mt, nI mx, nI mp, nI n, nI tk, nI L.length, o, aS, aC, aD, aF, t, m, c, tV) (nI (co q)) d := by
        intro d hd
        refine re_view (k := k) (k0 := 4) (l := q) (r := s) (w := co q) (j := 0) (a := 0) (b := 0) (c := 0) HH hn (by omega) (by omega) hq hs hco.1 hco.2 (fun e => by omega) hd ?_ (fun _ => ec.symm) (fun e => by omega) b ?_ (fun r' u' hm => toY _ hm)
        · intro e he
          exact Or.inr ⟨e, he, rfl⟩
        · rw [qa_C_un (qc_mv 4 0 0 0) (qc_jn 0 0 (co q) (co s)) (fun _ => rfl) (fun x hx => re_nneg hPq hx) (fun x hx => re_nneg hPs hx)]
          exact i
      refine And.intro hvq ?_
      rw [x4, u4]
      refine ⟨hvs, pk_le (de q) (de s) (fun z => ⟨hvs, hvq, ?_⟩) (fun z => ⟨hvq, hvq, ?_⟩)⟩
      · rw [hcq, x3]
        exact fin _ (by unfold qy_dg; rw [if_neg (by decide), if_neg (by decide), if_pos z])
      · rw [hcq, x3]
        exact fin _ (by unfold qy_dg; rw [if_neg (by decide), if_neg (by decide), if_neg (by omega)])
    · refine br_f (nI_nlt hn (by omega)) (toY _ ?_)
      exact br_f (nI_nlt hn (by omega)) ⟨rfl, re_in HH⟩
  · unfold wpY_union
    refine qy_ex1 rfl (by omega) hq (br_f (by decide) (qy_ex1 rfl (by omega) hs (br_f (by decide) ⟨hvq, hvs, ?_⟩)))
    rw [hcq, hcs, y4, w4]
    exact pk_eq (co q) (co s) (fun z => absurd z ec) (fun _ => ⟨rfl, re_in HH⟩)
end
end
section
/-! join -/
section
variable {mr mt mx mp n tk : Nat} {S co de kd lf rt TB : Nat → Nat} {LX LY : Nat → List qa_T} {R : Nat → List qa_R} {XB XO : Int32} {aS aC aD aF tT : Nat → Int32} {tM tC : Nat → Int64} {tV : Nat → Int32} {bK bL bR bC bD bA bB bE bO bW bH bZ fT : Nat → Int32} {fC fV : Nat → Int64}
theorem qa_C_jn (mv : Int32 → Int32) (jn : Int32 → Int32 → Int32) (hmv : ∀ t, mv t < 0) (A B : List qa_T) : A.flatMap (fun p => B.flatMap (fun q => qa_nn [(jn p.1 q.1, p.2.1 + q.2.1, qs_t 4 p.2.2 q.2.2)])) = qa_nn (qa_C 4 5 mv jn A B) := by
  rw [← qa_C_fl (by decide)]
  apply qa_flat_congr
  intro p _
  have e : qa_nn (qa_C1 4 5 mv jn B p) = qa_nn [(mv p.1, p.2.1, p.2.2)] ++ qa_nn (qa_js 4 jn B p) := qa_nn_app [_] _
  rw [e, qa_nn_neg (hmv _), List.nil_append]
  unfold qa_js
  induction B with
  | nil => rfl
  | cons q B ih =>
    rw [List.flatMap_cons, ih (qa_nn_app [_] _), List.map_cons]
    exact (qa_nn_app [_] _).symm
theorem re_jpos {cl cr i j a b : Nat} {sh : Int32} {p x : qa_T} (h1 : 1 ≤ cl) (h1' : cl ≤ 3) (h2 : 1 ≤ cr) (h2' : cr ≤ 3) (hw : cl + cr - 1 ≤ 3) (hi : i < cl) (hj : j < cr) (ha1 : a < 4 ^ cl) (ha2 : p.1 = nI a) (hb1 : b < 4 ^ cr) (hb2 : x.1 = nI b) (hsh : sh = 2 * nI cl) (e : qc_c x.1 (nI j) = qc_c p.1 (nI i)) : qa_nn [(qc_jn (nI i) j cl cr p.1 x.1, p.2.1 + x.2.1, qs_t 4 p.2.2 x.2.2)] = [qx_jx sh (nI j) p x] := by
  obtain ⟨J1, J2, J3⟩ := qc_join (cl := cl) (cr := cr) (j := j) h1 h2 (by omega) hj ha1 hb1
  have e2 : qc_jn (nI i) j cl cr p.1 x.1 = qc_jl j (nI b) cr 0 cl (nI a) := by
    unfold qc_jn
    rw [qc_y_nI _ (by omega), qc_y_nI _ (by omega), if_pos e.symm, ha2, hb2]
  have en : ¬ qc_jn (nI i) j cl cr p.1 x.1 < 0 := by
    rw [e2, J3]
    have : 4 ^ (cl + cr - 1) ≤ 4 ^ 3 := Nat.pow_le_pow_right (by omega) hw
    exact nI_pos (by omega)
  rw [qa_nn_pos (x := (qc_jn (nI i) j cl cr p.1 x.1, p.2.1 + x.2.1, qs_t 4 p.2.2 x.2.2)) en]
  unfold qx_jx
  rw [e2, J1, hsh, qs_t4, ha2, hb2]
theorem re_jneg {cl cr i j : Nat} {p x : qa_T} (h1 : cl ≤ 3) (h2 : cr ≤ 3) (hi : i < cl) (hj : j < cr) (e : ¬ qc_c x.1 (nI j) = qc_c p.1 (nI i)) : qa_nn [(qc_jn (nI i) j cl cr p.1 x.1, p.2.1 + x.2.1, qs_t 4 p.2.2 x.2.2)] = [] := by
  have e2 : qc_jn (nI i) j cl cr p.1 x.1 = -1 := by
    unfold qc_jn
    rw [qc_y_nI _ (by omega), qc_y_nI _ (by omega), if_neg (fun z => e z.symm)]
  rw [e2]
  exact qa_nn_neg (x := (-1, p.2.1 + x.2.1, qs_t 4 p.2.2 x.2.2)) (show (-1 : Int32) < 0 by decide)
theorem re_join {k : Nat} {v1 v2 v3 v4 : Int32} (H : re_A mr mt mx mp n tk S co de kd lf rt TB LX LY R aS aC aD aF tT tM tC tV bK bL bR bC bD bA bB bE bO bW bH bZ fT fC fV) : wpX_join (fun r u' => wpY_join (fun r' v' => r' = r ∧ i_Rel k u' v') (nI n, nI tk, nI mr, nI mt, nI mx, nI mp, bK, bL, bR, bC, bD, bA, bB, bE, bO, bW, bH, bZ, fT, fC, fV) v1 v2 v3 v4) (nI mr, nI mt, nI mx, nI mp, nI n, nI tk, XB, XO, aS, aC, aD, aF, tT, tM, tC, tV) v1 v2 v3 v4 := by
  have HH := H
  have hS := re_S H
  have Sm := re_Sm H
  obtain ⟨N, T, HP, HX, HY⟩ := H
  obtain ⟨n1, n2, n3, n4, n5, n6, n7, n8, n9, n10, n11, n12, n13⟩ := N
  unfold wpX_join
  rcases qz_ix v1 n (by omega) with h | ⟨q, hq, rfl⟩
  · refine qx_ex0 rfl h (br_t rfl ?_)
    unfold wpY_join
    exact qy_ex0 rfl h (br_t rfl ⟨rfl, re_in HH⟩)
  rcases qz_ix v3 n (by omega) with h | ⟨s, hs, rfl⟩
  · refine qx_ex1 rfl (by omega) hq (br_f (by decide) (qx_ex0 rfl h (br_t rfl ?_)))
    unfold wpY_join
    exact qy_ex1 rfl (by omega) hq (br_f (by decide) (qy_ex0 rfl h (br_t rfl ⟨rfl, re_in HH⟩)))
  have hPq := HP q hq
  have hPs := HP s hs
  obtain ⟨x1, x2, x3, x4, x5, x6⟩ := HX q hq
  obtain ⟨y1, y2, y3, y4, y5, y6⟩ := HY q hq
  obtain ⟨u1, u2, u3, u4, u5, u6⟩ := HX s hs
  obtain ⟨w1, w2, w3, w4, w5, w6⟩ := HY s hs
  have hco := hPq.1
  have hcos := hPs.1
  have hde := hPq.2.1
  have hdes := hPs.2.1
  have hvq : vp_in (nI q) 8 := vp_in_nI (by omega) (by omega)
  have hcq : (nI q).toNatClampNeg = q := nI_clamp (by omega)
  have hvs : vp_in (nI s) 8 := vp_in_nI (by omega) (by omega)
  have hcs : (nI s).toNatClampNeg = s := nI_clamp (by omega)
  rcases qz_ix v2 (co q) (by omega) with h | ⟨i, hi, rfl⟩
  · refine qx_ex1 rfl (by omega) hq (br_f (by decide) (qx_ex1 rfl (by omega) hs (br_f (by decide) (qx_col0 (by omega) x3 h (br_t rfl ?_)))))
    unfold wpY_join
    exact qy_ex1 rfl (by omega) hq (br_f (by decide) (qy_ex1 rfl (by omega) hs (br_f (by decide) (qy_col0 (by omega) y4 h (br_t rfl ⟨rfl, re_in HH⟩)))))
  rcases qz_ix v4 (co s) (by omega) with h | ⟨j, hj, rfl⟩
  · refine qx_ex1 rfl (by omega) hq (br_f (by decide) (qx_ex1 rfl (by omega) hs (br_f (by decide) (qx_col1 (by omega) x3 hco.2 hi (br_f (by decide) (qx_col0 (by omega) u3 h (br_t rfl ?_)))))))
    unfold wpY_join
    exact qy_ex1 rfl (by omega) hq (br_f (by decide) (qy_ex1 rfl (by omega) hs (br_f (by decide) (qy_col1 (by omega) y4 hco.2 hi (br_f (by decide) (qy_col0 (by omega) w4 h (br_t rfl ⟨rfl, re_in HH⟩)))))))
  have ew : nI (co q) + nI (co s) - 1 = nI (co q + co s - 1) := by
    rw [nI_add]; exact pk_sub (b := 1) (by omega)
  have hY0 : ∀ (pst : Int32 → SY → Prop), (((nI (co q + co s - 1) ≤ 3 → (vp_in (nI q) 8 ∧ (vp_in (nI s) 8 ∧ ((nI (de q + de s) ≤ 4 → wpY_make pst (nI n, nI tk, nI mr, nI mt, nI mx, nI mp, bK, bL, bR, bC, bD, bA, bB, bE, bO, bW, bH, bZ, fT, fC, fV) (nI 5) (nI q) (nI s) (nI i) (nI j) 0 (nI (co q + co s - 1))) ∧ (¬ nI (de q + de s) ≤ 4 → pst (-5) (nI n, nI tk, nI mr, nI mt, nI mx, nI mp, bK, bL, bR, bC, bD, bA, bB, bE, bO, bW, bH, bZ, fT, fC, fV)))))) ∧ (¬ nI (co q + co s - 1) ≤ 3 → pst (-4) (nI n, nI tk, nI mr, nI mt, nI mx, nI mp, bK, bL, bR, bC, bD, bA, bB, bE, bO, bW, bH, bZ, fT, fC, fV)))) → wpY_join pst (nI n, nI tk, nI mr, nI mt, nI mx, nI mp, bK, bL, bR, bC, bD, bA, bB, bE, bO, bW, bH, bZ, fT, fC, fV) (nI q) (nI i) (nI s) (nI j) := by
    intro pst hm
    unfold wpY_join
    refine qy_ex1 rfl (by omega) hq (br_f (by decide) (qy_ex1 rfl (by omega) hs (br_f (by decide) (qy_col1 (by omega) y4 hco.2 hi (br_f (by decide) (qy_col1 (by omega) w4 hcos.2 hj (br_f (by decide) ⟨hvq, hvs, ?_⟩)))))))
    rw [hcq, hcs, y4, w4, ew, y5, w5, nI_add]
    exact nm_e hm
  refine qx_ex1 rfl (by omega) hq (br_f (by decide) (qx_ex1 rfl (by omega) hs (br_f (by decide) (qx_col1 (by omega) x3 hco.2 hi (br_f (by decide) (qx_col1 (by omega) u3 hcos.2 hj (br_f (by decide) ⟨hvq, hvs, ?_⟩)))))))
  rw [hcq, hcs, x3, u3, ew]
  refine nm_e ?_
  refine pk_le (co q + co s - 1) 3 (fun hw => ⟨hvq, hvs, ?_⟩) (fun hw => ?_)
  · rw [x4, u4, nI_add]
    refine nm_e ?_
    refine pk_le (de q + de s) 4 (fun hd => ?_) (fun hd => ?_)
    · have toY : ∀ (pst : Int32 → SY → Prop), wpY_make pst (nI n, nI tk, nI mr, nI mt, nI mx, nI mp, bK, bL, bR, bC, bD, bA, bB, bE, bO, bW, bH, bZ, fT, fC, fV) (nI 5) (nI q) (nI s) (nI i) (nI j) 0 (nI (co q + co s - 1)) → wpY_join pst (nI n, nI tk, nI mr, nI mt, nI mx, nI mp, bK, bL, bR, bC, bD, bA, bB, bE, bO, bW, bH, bZ, fT, fC, fV) (nI q) (nI i) (nI s) (nI j) :=
        fun pst hm => hY0 pst (pk_le (co q + co s - 1) 3 (fun _ => ⟨hvq, hvs, pk_le (de q + de s) 4 (fun _ => hm) (fun z => by omega)⟩) (fun z => by omega))
      rcases Nat.lt_or_ge n mr with hn | hn
      · refine br_t (nI_lt hn (by omega)) ?_
        refine And.intro (vp_in_nI (by omega) (by omega)) ?_
        rw [hS q (by omega)]
        refine nm_e ⟨(LX q).length + 1, ?_⟩
        have hleq := Sm q hq
        have hles := Sm s hs
        refine qx_join_116 (Ls := LX s) (ps := S s) (g := fun p x => qa_nn [(qc_jn (nI i) j (co q) (co s) p.1 x.1, p.2.1 + x.2.1, qs_t 4 p.2.2 x.2.2)]) rfl (by omega) (hS n (Nat.le_refl _)) rfl n6 (by omega) hq (by rw [x1, x2]) x6 hleq.1 hs (hS s (by omega)) (by rw [u1, u2]) u6 hles.1 ?_ ?_ ?_ (LX q) [] [] 0 tT tM tC rfl re_B0 re_I0 ((LX q).length + 1) (by omega)
        · intro p hp x hx e
          obtain ⟨⟨a, ha1, ha2⟩, _⟩ := re_item hPq hp
          obtain ⟨⟨b, hb1, hb2⟩, _⟩ := re_item hPs hx
          obtain ⟨J1, J2, J3⟩ := qc_join (cl := co q) (cr := co s) (j := j) hco.1 hcos.1 (by omega) hj ha1 hb1
          refine re_jpos hco.1 hco.2 hcos.1 hcos.2 hw hi hj ha1 ha2 hb1 hb2 ?_ e
          exact congrArg (fun z => 2 * z) x3
        · intro p hp x hx e
          exact re_jneg hco.2 hcos.2 hi hj e
        · intro L o t m c b i'
          rw [qa_C_jn (qc_mv 5 (nI i) (nI j) 0) (qc_jn (nI i) j (co q) (co s)) (fun t => qc_mv5 t)] at i'
          refine re_view (k := k) (k0 := 5) (l := q) (r := s) (w := co q + co s - 1) (j := j) (a := nI i) (b := nI j) (c := 0) HH hn (by omega) (by omega) hq hs (by omega) hw (fun _ => ⟨rfl, hj, hd⟩) (by unfold qy_dg; rw [if_neg (by decide), if_pos rfl]) (fun e he => Or.inl (qc_mv5 _)) (fun e => by omega) ?_ b i' (fun r' u' hm => toY _ hm)
          intro _ e he e' he'
          obtain ⟨J1, J2, J3⟩ := qc_join (cl := co q) (cr := co s) (j := j) hco.1 hcos.1 (by omega) hj he he'
          unfold qc_jn
          by_cases z : qc_y (nI e) (nI i) = qc_y (nI e') (nI j)
          · rw [if_pos z]; exact Or.inr ⟨_, J2, J3⟩
          · rw [if_neg z]; exact Or.inl (by decide)
      · refine br_f (nI_nlt hn (by omega)) (toY _ ?_)
        exact br_f (nI_nlt hn (by omega)) ⟨rfl, re_in HH⟩
    · exact hY0 _ (pk_le (co q + co s - 1) 3 (fun _ => ⟨hvq, hvs, pk_le (de q + de s) 4 (fun z => by omega) (fun z => ⟨rfl, re_in HH⟩)⟩) (fun z => by omega))
  · exact hY0 _ (pk_le (co q + co s - 1) 3 (fun z => by omega) (fun z => ⟨rfl, re_in HH⟩))
end
end
section
/-! drop, assigned, assign -/
section
variable {mr mt mx mp n tk : Nat} {S co de kd lf rt TB : Nat → Nat} {LX LY : Nat → List qa_T} {R : Nat → List qa_R} {XB XO : Int32} {aS aC aD aF tT : Nat → Int32} {tM tC : Nat → Int64} {tV : Nat → Int32} {bK bL bR bC bD bA bB bE bO bW bH bZ fT : Nat → Int32} {fC fV : Nat → Int64}
theorem qy_drop_26 {post : Int32 → SY → Prop} {YR YT YM YP : Int32} {m tk0 T0 : Nat} (hm : m < 8) (h16 : tk0 ≤ 16) (hlo : ∀ x, x < T0 → ¬ bO x = nI m) (hhi : ∀ x, T0 ≤ x → x < tk0 → bO x = nI m) (hp : post (nI m) (nI m, nI T0, YR, YT, YM, YP, bK, bL, bR, bC, bD, bA, bB, bE, bO, bW, bH, bZ, fT, fC, fV)) : ∀ i, i ≤ tk0 → ∀ fu, i < fu → wY_drop_26 post (nI m) YR YT YM YP bK bL bR bC bD bA bB bE bO bW bH bZ fT fC fV fu (nI i + (-1)) (nI (if T0 ≤ i then i else T0)) := by
  intro i
  induction i with
  | zero =>
    intro _ fu hfu
    obtain ⟨fu, rfl⟩ : ∃ q, fu = q + 1 := ⟨fu - 1, by omega⟩
    have e : (if T0 ≤ 0 then 0 else T0) = T0 := by split <;> omega
    rw [e]
    exact br_t (by decide) hp
  | succ i ih =>
    intro hi fu hfu
    obtain ⟨fu, rfl⟩ : ∃ q, fu = q + 1 := ⟨fu - 1, by omega⟩
    have := ih (by omega) fu (by omega)
    have hv : vp_in (nI i) 16 := vp_in_nI (by omega) (by omega)
    rw [pk_m1]
    refine br_f (nI_pos (by omega)) ⟨hv, ?_⟩
    rw [nI_clamp (n := i) (by omega)]
    rcases Nat.lt_or_ge i T0 with z | z
    · refine br_f (hlo i z) (nm_e ?_)
      have e1 : (if T0 ≤ i then i else T0) = T0 := if_neg (by omega)
      have e2 : (if T0 ≤ i + 1 then i + 1 else T0) = T0 := by split <;> omega
      rw [e1] at this
      rw [e2]
      exact this
    · refine br_t (hhi i z (by omega)) (nm_e ?_)
      rw [if_pos z] at this
      exact this
theorem re_drop {k : Nat} (H : re_A mr mt mx mp n tk S co de kd lf rt TB LX LY R aS aC aD aF tT tM tC tV bK bL bR bC bD bA bB bE bO bW bH bZ fT fC fV) : wpX_drop (fun r u' => wpY_drop (fun r' v' => r' = r ∧ i_Rel k u' v') (nI n, nI tk, nI mr, nI mt, nI mx, nI mp, bK, bL, bR, bC, bD, bA, bB, bE, bO, bW, bH, bZ, fT, fC, fV)) (nI mr, nI mt, nI mx, nI mp, nI n, nI tk, XB, XO, aS, aC, aD, aF, tT, tM, tC, tV) := by
  have HH := H
  have hS := re_S H
  have Sm := re_Sm H
  obtain ⟨N, T, HP, HX, HY⟩ := H
  obtain ⟨n1, n2, n3, n4, n5, n6, n7, n8, n9, n10, n11, n12, n13⟩ := N
  rcases Nat.eq_zero_or_pos n with h0 | h0
  · have e : nI n = 0 := by rw [h0]; rfl
    exact br_t e (br_t e ⟨rfl, re_in HH⟩)
  obtain ⟨m, rfl⟩ : ∃ m, n = m + 1 := ⟨n - 1, by omega⟩
  have hne : ¬ nI (m + 1) = 0 := nI_ne0 (by omega) (by omega)
  have hPm := HP m (by omega)
  obtain ⟨x1, x2, x3, x4, x5, x6⟩ := HX m (by omega)
  have TBle := re_TBm T m (by omega)
  have TBn : TB (m + 1) = tk := T.2.1
  have hTm := T.2.2.1 m (by omega)
  have G : re_A mr mt mx mp m (TB m) S co de kd lf rt TB LX LY R aS aC aD aF tT tM tC tV bK bL bR bC bD bA bB bE bO bW bH bZ fT fC fV := by
    have := Sm m (by omega)
    refine ⟨⟨n1, n2, n3, n4, n5, n6, n7, n8, by omega, by omega, n11, n12, by omega⟩, ⟨T.1, rfl, fun q hq => T.2.2.1 q (by omega), fun x hx => T.2.2.2 x (by omega)⟩, fun q hq => HP q (by omega), fun q hq => HX q (by omega), fun q hq => HY q (by omega)⟩
  have yw : wpY_drop (fun r' v' => r' = nI m ∧ i_Rel k (nI mr, nI mt, nI mx, nI mp, nI m, nI (TB m), XB, XO, aS, aC, aD, aF, tT, tM, tC, tV) v') (nI (m + 1), nI tk, nI mr, nI mt, nI mx, nI mp, bK, bL, bR, bC, bD, bA, bB, bE, bO, bW, bH, bZ, fT, fC, fV) := by
    refine br_f hne (nm_r (nI_pred m) ?_)
    have e1 : nI tk - 1 = nI tk + (-1) := Int32.sub_eq_add_neg _ _
    refine nm_r e1 ⟨tk + 1, ?_⟩
    have := qy_drop_26 (post := fun r' v' => r' = nI m ∧ i_Rel k (nI mr, nI mt, nI mx, nI mp, nI m, nI (TB m), XB, XO, aS, aC, aD, aF, tT, tM, tC, tV) v') (YR := nI mr) (YT := nI mt) (YM := nI mx) (YP := nI mp) (bK := bK) (bL := bL) (bR := bR) (bC := bC) (bD := bD) (bA := bA) (bB := bB) (bE := bE) (bW := bW) (bH := bH) (bZ := bZ) (fT := fT) (fC := fC) (fV := fV) (bO := bO) (m := m) (tk0 := tk) (T0 := TB m) (by omega) (by omega) (fun x hx e => ?_) (fun x h1 h2 => hTm.2 x h1 (by omega)) ⟨rfl, re_in G⟩ tk (Nat.le_refl _) (tk + 1) (by omega)
    · rw [if_pos TBle] at this
      exact this
    · obtain ⟨q', g1, g2⟩ := re_ow_lo T m (by omega) x hx
      rw [e, nI_eq (by omega) (by omega)] at g2
      omega
  refine br_f hne (nm_r (nI_pred m) ?_)
  have hv : vp_in (nI m) 8 := vp_in_nI (by omega) (by omega)
  have hv9 : vp_in (nI m) 9 := vp_in_nI (by omega) (by omega)
  have hv9' : vp_in (nI (m + 1)) 9 := vp_in_nI (by omega) (by omega)
  refine And.intro hv ?_
  rw [nI_clamp (n := m) (by omega), nI_clamp (n := m + 1) (by omega), x5]
  by_cases hk : kd m = 0
  · rw [if_pos hk]
    refine br_f (by decide) ⟨hv9', hv9, ?_⟩
    have hl := (hPm.2.2.2.2.2.2.2.1 hk).2
    have e1 : nI tk - (aS (m + 1) - aS m) = nI (TB m) := by
      rw [x1, hS m (by omega), pk_sub (by omega), pk_sub (by omega)]
      exact congrArg nI (by omega)
    exact nm_r e1 yw
  · rw [if_neg hk]
    have e1 : TB m = tk := by
      have := (hPm.2.2.2.2.2.1 hk).2.2.1
      omega
    rw [e1] at yw
    exact br_t rfl yw
theorem re_tix (v : Int32) (htk : tk ≤ 16) : (v < 0 ∨ (¬ v < 0 ∧ ¬ v < nI tk)) ∨ ∃ t, t < tk ∧ v = nI t := by
  rcases qz_ix v tk (by omega) with h | h
  · by_cases h0 : v < 0
    · exact Or.inl (Or.inl h0)
    · rcases h with h | h
      · exact absurd h h0
      · exact Or.inl (Or.inr ⟨h0, fun z => Int32.not_lt.mpr h z⟩)
  · exact Or.inr h
theorem qy_asd1 {post : Int32 → Prop} {YN YR YT YM YP : Int32} {t s : Nat} (htk : tk ≤ 16) (ht : t < tk) (hs : s < 4) (hp : post (bH (5 * t + s))) : wpY_assigned post (YN, nI tk, YR, YT, YM, YP, bK, bL, bR, bC, bD, bA, bB, bE, bO, bW, bH, bZ, fT, fC, fV) (nI t) (nI s) := by
  have e5 : 5 * nI t + nI s = nI (5 * t + s) := by
    rw [show 5 * nI t = nI (5 * t) from pk_mul 5 t, nI_add]
  refine br_f (nI_pos (by omega)) (br_t (nI_lt ht (by omega)) (br_f (nI_pos (by omega)) (br_t (nI_le (b := 3) (by omega) (by decide)) ?_)))
  rw [e5]
  refine ⟨vp_in_nI (by omega) (by omega), ?_⟩
  rw [nI_clamp (by omega)]
  exact hp
theorem qy_asd12 {post : Int32 → Prop} {YN YR YT YM YP : Int32} {t : Nat} {v : Int32} (htk : tk ≤ 16) (ht : t < tk) (hs : v < 0 ∨ nI 4 ≤ v) (hp : post (-12)) : wpY_assigned post (YN, nI tk, YR, YT, YM, YP, bK, bL, bR, bC, bD, bA, bB, bE, bO, bW, bH, bZ, fT, fC, fV) (nI t) v := by
  refine br_f (nI_pos (by omega)) (br_t (nI_lt ht (by omega)) (br_c (fun _ => hp) (fun h0 => br_f ?_ hp)))
  rcases hs with hs | hs
  · exact absurd hs h0
  · intro z
    have := Int32.le_trans hs z
    exact absurd this (by decide)
theorem qy_asd11 {post : Int32 → Prop} {YN YR YT YM YP : Int32} {v w : Int32} (hv : v < 0 ∨ (¬ v < 0 ∧ ¬ v < nI tk)) (hp : post (-11)) : wpY_assigned post (YN, nI tk, YR, YT, YM, YP, bK, bL, bR, bC, bD, bA, bB, bE, bO, bW, bH, bZ, fT, fC, fV) v w := by
  rcases hv with h | ⟨h0, h⟩
  · exact br_t h hp
  · exact br_f h0 (br_f h hp)
theorem re_assigned {k : Nat} {v1 v2 : Int32} (H : re_A mr mt mx mp n tk S co de kd lf rt TB LX LY R aS aC aD aF tT tM tC tV bK bL bR bC bD bA bB bE bO bW bH bZ fT fC fV) : wpX_assigned (fun r => wpY_assigned (fun r' => r' = r ∧ i_Rel k (nI mr, nI mt, nI mx, nI mp, nI n, nI tk, XB, XO, aS, aC, aD, aF, tT, tM, tC, tV) (nI n, nI tk, nI mr, nI mt, nI mx, nI mp, bK, bL, bR, bC, bD, bA, bB, bE, bO, bW, bH, bZ, fT, fC, fV)) (nI n, nI tk, nI mr, nI mt, nI mx, nI mp, bK, bL, bR, bC, bD, bA, bB, bE, bO, bW, bH, bZ, fT, fC, fV) v1 v2) (nI mr, nI mt, nI mx, nI mp, nI n, nI tk, XB, XO, aS, aC, aD, aF, tT, tM, tC, tV) v1 v2 := by
  have HH := H
  obtain ⟨N, T, HP, HX, HY⟩ := H
  obtain ⟨n1, n2, n3, n4, n5, n6, n7, n8, n9, n10, n11, n12, n13⟩ := N
  rcases re_tix (tk := tk) v1 (by omega) with h | ⟨t, ht, rfl⟩
  · have hh := h
    rcases h with h | ⟨h0, h⟩
    · exact br_t h (qy_asd11 hh ⟨rfl, re_in HH⟩)
    · exact br_f h0 (br_f h (qy_asd11 hh ⟨rfl, re_in HH⟩))
  rcases qz_ix v2 4 (by omega) with h | ⟨s, hs, rfl⟩
  · refine br_f (nI_pos (by omega)) (br_t (nI_lt ht (by omega)) (qx_ring0 h (br_t rfl ?_)))
    exact qy_asd12 (by omega) ht h ⟨rfl, re_in HH⟩
  · refine br_f (nI_pos (by omega)) (br_t (nI_lt ht (by omega)) (qx_ring1 hs (br_f (by decide) ?_)))
    have e4 : 4 * nI t + nI s = nI (4 * t + s) := by
      rw [show 4 * nI t = nI (4 * t) from pk_mul 4 t, nI_add]
    rw [e4]
    refine ⟨vp_in_nI (by omega) (by omega), ?_⟩
    rw [nI_clamp (n := 4 * t + s) (by omega)]
    refine qy_asd1 (by omega) ht hs ⟨?_, re_in HH⟩
    exact ((T.2.2.2 t ht).2 s hs).1.symm
end
def re_ms (s : Nat) : Nat := if s = 0 then 15 else if s = 1 then 1000 else if s = 2 then 5 else 1
def re_lg (s : Nat) (v : Int32) : Prop := (s = 1 ∧ v = 9999) ∨ (¬ v < 0 ∧ v ≤ nI (re_ms s))
theorem re_lg_L {s : Nat} {v : Int32} (hs : s < 4) (h : re_lg s v) : re_L s v := by
  have hr : 0 ≤ v.toInt ∧ ((s = 1 ∧ v.toInt = 9999) ∨ v.toInt ≤ re_ms s) := by
    rcases h with ⟨rfl, rfl⟩ | ⟨h0, h1⟩
    · exact ⟨by decide, Or.inl ⟨rfl, by decide⟩⟩
    · rw [Int32.lt_iff_toInt_lt] at h0
      have hm : re_ms s < 2 ^ 31 := by unfold re_ms; split <;> (try split) <;> (try split) <;> omega
      rw [Int32.le_iff_toInt_le, nI_toInt hm] at h1
      have z : (0 : Int32).toInt = 0 := by decide
      exact ⟨by omega, Or.inr h1⟩
  refine ⟨hr.1, fun e => ?_, fun e => ?_, fun e => ?_⟩
  · rw [Int32.toInt_toInt64]; subst e
    have : re_ms 1 = 1000 := rfl
    omega
  · rw [Int32.toInt_toInt64]; subst e
    have : re_ms 2 = 5 := rfl
    omega
  · rw [Int32.toInt_toInt64]; subst e
    have : re_ms 3 = 1 := rfl
    omega
section
variable {XR XT XM XP XN XK XB XO : Int32} {aS aC aD aF tT tV : Nat → Int32} {tM tC : Nat → Int64}
theorem qx_lg45 {post : Int32 → Prop} {s : Nat} {v : Int32} (hp1 : re_lg s v → post 1) (hp0 : ¬ re_lg s v → post 0) (h1 : ¬ (s = 1 ∧ v = 9999)) : wX_isLegal_45 post v (nI (re_ms s)) XR XT XM XP XN XK XB XO aS aC aD aF tT tM tC tV := by
  refine br_c (fun e => hp0 ?_) (fun e => br_c (fun e2 => hp0 ?_) (fun e2 => hp1 (Or.inr ⟨e, Int32.not_lt.mp e2⟩)))
  · rintro (z | z)
    · exact h1 z
    · exact z.1 e
  · rintro (z | z)
    · exact h1 z
    · exact Int32.not_lt.mpr z.2 e2
theorem qx_legal {post : Int32 → Prop} {s : Nat} {v : Int32} (hs : s < 4) (hp1 : re_lg s v → post 1) (hp0 : ¬ re_lg s v → post 0) : wpX_isLegal post (XR, XT, XM, XP, XN, XK, XB, XO, aS, aC, aD, aF, tT, tM, tC, tV) (nI s) v := by
  have hs' : s = 0 ∨ s = 1 ∨ s = 2 ∨ s = 3 := by omega
  rcases hs' with rfl | rfl | rfl | rfl
  · exact br_f (by decide) (br_t rfl (qx_lg45 (s := 0) hp1 hp0 (fun z => absurd z.1 (by decide))))
  · refine br_t rfl (br_c (fun e => hp1 (Or.inl ⟨rfl, e⟩)) (fun e => ?_))
    exact br_f (by decide) (br_t rfl (qx_lg45 (s := 1) hp1 hp0 (fun z => e z.2)))
  · exact br_f (by decide) (br_f (by decide) (br_f (by decide) (br_t rfl (qx_lg45 (s := 2) hp1 hp0 (fun z => absurd z.1 (by decide))))))
  · exact br_f (by decide) (br_f (by decide) (br_f (by decide) (br_f (by decide) (qx_lg45 (s := 3) hp1 hp0 (fun z => absurd z.1 (by decide))))))
end
section
variable {YN YK YR YT YM YP : Int32} {bK bL bR bC bD bA bB bE bO bW bH bZ fT : Nat → Int32} {fC fV : Nat → Int64}
theorem qy_as46 {post : Int32 → SY → Prop} {s : Nat} {t v : Int32} (hs : s < 4) (hp1 : re_lg s v → wY_assign_73 post t (nI s) v YN YK YR YT YM YP bK bL bR bC bD bA bB bE bO bW bH bZ fT fC fV) (hp0 : ¬ re_lg s v → post (-3) (YN, YK, YR, YT, YM, YP, bK, bL, bR, bC, bD, bA, bB, bE, bO, bW, bH, bZ, fT, fC, fV)) : wY_assign_46 post t (nI s) v (nI (re_ms s)) YN YK YR YT YM YP bK bL bR bC bD bA bB bE bO bW bH bZ fT fC fV := by
  have p58 : ¬ (¬ v < 0 ∧ v ≤ nI (re_ms s)) → wY_assign_58 post t (nI s) v YN YK YR YT YM YP bK bL bR bC bD bA bB bE bO bW bH bZ fT fC fV := by
    intro h
    refine pk_eq s 1 (fun e => br_c (fun e2 => hp1 (Or.inl ⟨e, e2⟩)) (fun e2 => hp0 ?_)) (fun e => hp0 ?_)
    · rintro (z | z)
      · exact e2 z.2
      · exact h z
    · rintro (z | z)
      · exact e z.1
      · exact h z
  exact br_c (fun e => p58 (fun z => z.1 e)) (fun e => br_c (fun e2 => hp1 (Or.inr ⟨e, e2⟩)) (fun e2 => p58 (fun z => e2 z.2)))
theorem qy_as {post : Int32 → SY → Prop} {s : Nat} {t v : Int32} (hs : s < 4) (hp1 : re_lg s v → wY_assign_73 post t (nI s) v YN YK YR YT YM YP bK bL bR bC bD bA bB bE bO bW bH bZ fT fC fV) (hp0 : ¬ re_lg s v → post (-3) (YN, YK, YR, YT, YM, YP, bK, bL, bR, bC, bD, bA, bB, bE, bO, bW, bH, bZ, fT, fC, fV)) : ((nI s = 0 → wY_assign_46 post t (nI s) v 15 YN YK YR YT YM YP bK bL bR bC bD bA bB bE bO bW bH bZ fT fC fV) ∧ (¬ nI s = 0 → ((nI s = 1 → wY_assign_46 post t (nI s) v 1000 YN YK YR YT YM YP bK bL bR bC bD bA bB bE bO bW bH bZ fT fC fV) ∧ (¬ nI s = 1 → ((nI s = 2 → wY_assign_46 post t (nI s) v 5 YN YK YR YT YM YP bK bL bR bC bD bA bB bE bO bW bH bZ fT fC fV) ∧ (¬ nI s = 2 → wY_assign_46 post t (nI s) v 1 YN YK YR YT YM YP bK bL bR bC bD bA bB bE bO bW bH bZ fT fC fV)))))) := by
  have h := qy_as46 hs hp1 hp0
  have hs' : s = 0 ∨ s = 1 ∨ s = 2 ∨ s = 3 := by omega
  rcases hs' with rfl | rfl | rfl | rfl
  · exact br_t rfl h
  · exact br_f (by decide) (br_t rfl h)
  · exact br_f (by decide) (br_f (by decide) (br_t rfl h))
  · exact br_f (by decide) (br_f (by decide) (br_f (by decide) h))
end
section
variable {mr mt mx mp n tk : Nat} {S co de kd lf rt TB : Nat → Nat} {LX LY : Nat → List qa_T} {R : Nat → List qa_R} {XB XO : Int32} {aS aC aD aF tT : Nat → Int32} {tM tC : Nat → Int64} {tV : Nat → Int32} {bK bL bR bC bD bA bB bE bO bW bH bZ fT : Nat → Int32} {fC fV : Nat → Int64}
theorem re_assign {k : Nat} {v1 v2 v3 : Int32} (H : re_A mr mt mx mp n tk S co de kd lf rt TB LX LY R aS aC aD aF tT tM tC tV bK bL bR bC bD bA bB bE bO bW bH bZ fT fC fV) : wpX_assign (fun r u' => wpY_assign (fun r' v' => r' = r ∧ i_Rel k u' v') (nI n, nI tk, nI mr, nI mt, nI mx, nI mp, bK, bL, bR, bC, bD, bA, bB, bE, bO, bW, bH, bZ, fT, fC, fV) v1 v2 v3) (nI mr, nI mt, nI mx, nI mp, nI n, nI tk, XB, XO, aS, aC, aD, aF, tT, tM, tC, tV) v1 v2 v3 := by
  have HH := H
  obtain ⟨N, T, HP, HX, HY⟩ := H
  obtain ⟨n1, n2, n3, n4, n5, n6, n7, n8, n9, n10, n11, n12, n13⟩ := N
  rcases re_tix (tk := tk) v1 (by omega) with h | ⟨t, ht, rfl⟩
  · have hh := h
    have yw : wpY_assign (fun r' v' => r' = -11 ∧ i_Rel k (nI mr, nI mt, nI mx, nI mp, nI n, nI tk, XB, XO, aS, aC, aD, aF, tT, tM, tC, tV) v') (nI n, nI tk, nI mr, nI mt, nI mx, nI mp, bK, bL, bR, bC, bD, bA, bB, bE, bO, bW, bH, bZ, fT, fC, fV) v1 v2 v3 := by
      unfold wpY_assign
      exact qy_asd11 hh (br_f (by decide) ⟨rfl, re_in HH⟩)
    rcases h with h | ⟨h0, h⟩
    · exact br_t h yw
    · exact br_f h0 (br_f h yw)
  rcases qz_ix v2 4 (by omega) with h | ⟨s, hs, rfl⟩
  · refine br_f (nI_pos (by omega)) (br_t (nI_lt ht (by omega)) (qx_ring0 h (br_t rfl ?_)))
    unfold wpY_assign
    exact qy_asd12 (by omega) ht h (br_f (by decide) ⟨rfl, re_in HH⟩)
  · obtain ⟨t1, t2⟩ := T.2.2.2 t ht
    obtain ⟨t3, t4⟩ := t2 s hs
    have h0 : (0 : Int32) ≤ bH (5 * t + s) := by
      rw [Int32.le_iff_toInt_le]; exact t4.1
    have e4 : 4 * nI t + nI s = nI (4 * t + s) := by
      rw [show 4 * nI t = nI (4 * t) from pk_mul 4 t, nI_add]
    have e5 : 5 * nI t + nI s = nI (5 * t + s) := by
      rw [show 5 * nI t = nI (5 * t) from pk_mul 5 t, nI_add]
    refine br_f (nI_pos (by omega)) (br_t (nI_lt ht (by omega)) (qx_ring1 hs (br_f (by decide) (qx_legal hs (fun hl => br_f (by decide) ?_) (fun hl => br_t rfl ?_)))))
    · rw [e4]
      refine ⟨vp_in_nI (by omega) (by omega), ?_⟩
      rw [nI_clamp (n := 4 * t + s) (by omega)]
      refine nm_e ?_
      unfold wpY_assign
      refine qy_asd1 (by omega) ht hs (br_t h0 (qy_as hs (fun _ => ?_) (fun z => absurd hl z)))
      unfold wY_assign_73
      rw [e5]
      refine ⟨vp_in_nI (by omega) (by omega), ?_⟩
      rw [nI_clamp (n := 5 * t + s) (by omega)]
      refine nm_e ⟨rfl, ?_⟩
      refine re_in (n := n) (tk := tk) ⟨⟨n1, n2, n3, n4, n5, n6, n7, n8, n9, n10, n11, n12, n13⟩, ⟨T.1, T.2.1, T.2.2.1, fun x hx => ?_⟩, HP, HX, HY⟩
      obtain ⟨g1, g2⟩ := T.2.2.2 x hx
      refine ⟨by rw [pk_un (by omega)]; exact g1, fun s' hs' => ?_⟩
      obtain ⟨g3, g4⟩ := g2 s' hs'
      by_cases e : x = t ∧ s' = s
      · obtain ⟨rfl, rfl⟩ := e
        rw [pk_us, pk_us]
        exact ⟨rfl, re_lg_L hs hl⟩
      · rw [pk_un (by omega), pk_un (by omega)]
        exact ⟨g3, g4⟩
    · unfold wpY_assign
      exact qy_asd1 (by omega) ht hs (br_t h0 (qy_as hs (fun z => absurd z hl) (fun _ => ⟨rfl, re_in HH⟩)))
end
end
section
/-! row: the walks -/
def qw_cl (v : Int32) : Prop := ∃ d, d < 4 ∧ v = nI d
def qw_ok (w : Nat) (v1 v2 v3 : Int32) : Prop := qw_cl v1 ∧ (1 < w → qw_cl v2) ∧ (2 < w → qw_cl v3)
theorem qw_em (v : Int32) : (v < 0 ∨ nI 4 ≤ v) ∧ ¬ qw_cl v ∨ qw_cl v := by
  rcases qz_ix v 4 (by omega) with h | h
  · refine Or.inl ⟨h, ?_⟩
    rintro ⟨d, hd, rfl⟩
    rcases h with h | h
    · exact nI_pos (by omega) h
    · exact nI_ge hd (by omega) h
  · exact Or.inr h
def qw_H (H : Nat → Int32) (k : Nat) : Nat → Int32 := upd (upd (upd (upd (upd H (5 * k + 0) 1) (5 * k + 1) 1) (5 * k + 2) 0) (5 * k + 3) 1) (5 * k + 4) 1
def qw_V (V : Nat → Int32) (k : Nat) : Nat → Int32 := upd (upd (upd (upd V (4 * k + 0) 1) (4 * k + 1) 1) (4 * k + 2) 0) (4 * k + 3) 1
theorem qw_H_lo {H : Nat → Int32} {k j : Nat} (h : j < 5 * k) : qw_H H k j = H j := by
  unfold qw_H; rw [pk_un (by omega), pk_un (by omega), pk_un (by omega), pk_un (by omega), pk_un (by omega)]
theorem qw_V_lo {H : Nat → Int32} {k j : Nat} (h : j < 4 * k) : qw_V H k j = H j := by
  unfold qw_V; rw [pk_un (by omega), pk_un (by omega), pk_un (by omega), pk_un (by omega)]
theorem qw_H_4 (H : Nat → Int32) (k : Nat) : qw_H H k (5 * k + 4) = 1 := by unfold qw_H; rw [pk_us]
theorem qw_H_s (H : Nat → Int32) (k : Nat) {s : Nat} (hs : s < 4) : qw_H H k (5 * k + s) = if s = 2 then 0 else 1 := by
  have hs' : s = 0 ∨ s = 1 ∨ s = 2 ∨ s = 3 := by omega
  unfold qw_H
  rcases hs' with rfl | rfl | rfl | rfl
  · rw [pk_un (by omega), pk_un (by omega), pk_un (by omega), pk_un (by omega), pk_us]; rfl
  · rw [pk_un (by omega), pk_un (by omega), pk_un (by omega), pk_us]; rfl
  · rw [pk_un (by omega), pk_un (by omega), pk_us]; rfl
  · rw [pk_un (by omega), pk_us]; rfl
theorem qw_V_s (H : Nat → Int32) (k : Nat) {s : Nat} (hs : s < 4) : qw_V H k (4 * k + s) = if s = 2 then 0 else 1 := by
  have hs' : s = 0 ∨ s = 1 ∨ s = 2 ∨ s = 3 := by omega
  unfold qw_V
  rcases hs' with rfl | rfl | rfl | rfl
  · rw [pk_un (by omega), pk_un (by omega), pk_un (by omega), pk_us]; rfl
  · rw [pk_un (by omega), pk_un (by omega), pk_us]; rfl
  · rw [pk_un (by omega), pk_us]; rfl
  · rw [pk_us]; rfl
theorem qw_L {s : Nat} (hs : s < 4) : re_L s (if s = 2 then 0 else 1) := by
  have hs' : s = 0 ∨ s = 1 ∨ s = 2 ∨ s = 3 := by omega
  rcases hs' with rfl | rfl | rfl | rfl
  · exact ⟨by decide, fun e => by omega, fun e => by omega, fun e => by omega⟩
  · exact ⟨by decide, fun e => Or.inl ⟨by decide, by decide⟩, fun e => by omega, fun e => by omega⟩
  · exact ⟨by decide, fun e => by omega, fun e => ⟨by decide, by decide⟩, fun e => by omega⟩
  · exact ⟨by decide, fun e => by omega, fun e => by omega, fun e => ⟨by decide, by decide⟩⟩
section
variable {XR XT XM XP XN XK XB XO : Int32} {aS aC aD aF tT tV : Nat → Int32} {tM tC : Nat → Int64}
theorem qx_row_top {post : Int32 → SX → Prop} {m w : Nat} {v1 v2 v3 : Int32} (hm : m < 8) (hF : ¬ aF m = 0) (hC : aC m = nI w) (hw : w ≤ 3) (h1 : qw_ok w v1 v2 v3 → wX_row_74 post v1 v2 v3 (nI m) (nI w) XR XT XM XP (nI (m + 1)) XK XB XO aS aC aD aF tT tM tC tV) (h0 : ¬ qw_ok w v1 v2 v3 → post (-3) (XR, XT, XM, XP, nI (m + 1), XK, XB, XO, aS, aC, aD, aF, tT, tM, tC, tV)) : wpX_row post (XR, XT, XM, XP, nI (m + 1), XK, XB, XO, aS, aC, aD, aF, tT, tM, tC, tV) v1 v2 v3 := by
  have hv : vp_in (nI m) 8 := vp_in_nI (by omega) (by omega)
  refine nm_r (nI_pred m) (br_f (nI_pos (by omega)) ⟨hv, ?_⟩)
  rw [nI_clamp (n := m) (by omega), hC]
  refine br_f hF ⟨hv, nm_e ?_⟩
  rcases qw_em v1 with ⟨z1, n1⟩ | ⟨d1, e1, rfl⟩
  · exact qx_cell0 z1 (br_t rfl (h0 (fun z => n1 z.1)))
  have p57 : (1 < w → qw_cl v2) → wX_row_57 post (nI d1) v2 v3 (nI m) (nI w) XR XT XM XP (nI (m + 1)) XK XB XO aS aC aD aF tT tM tC tV := by
    intro h2
    refine pk_le w 2 (fun z => h1 ⟨⟨d1, e1, rfl⟩, h2, fun z2 => by omega⟩) (fun z => ?_)
    rcases qw_em v3 with ⟨z3, n3⟩ | ⟨d3, e3, rfl⟩
    · exact qx_cell0 z3 (br_t rfl (h0 (fun y => n3 (y.2.2 z))))
    · exact qx_cell1 e3 (br_f (by decide) (h1 ⟨⟨d1, e1, rfl⟩, h2, fun _ => ⟨d3, e3, rfl⟩⟩))
  refine qx_cell1 e1 (br_f (by decide) (pk_le w 1 (fun z => p57 (fun z2 => by omega)) (fun z => ?_)))
  rcases qw_em v2 with ⟨z2, n2⟩ | ⟨d2, e2, rfl⟩
  · exact qx_cell0 z2 (br_t rfl (h0 (fun y => n2 (y.2.1 z))))
  · exact qx_cell1 e2 (br_f (by decide) (p57 (fun _ => ⟨d2, e2, rfl⟩)))
theorem qx_row_74 {post : Int32 → SX → Prop} {m w mt mx mp tk s0 s1 e : Nat} {v1 v2 v3 : Int32} (hT : XT = nI mt) (hM : XM = nI mx) (hP : XP = nI mp) (hm : m < 8) (ht : tk ≤ mt) (hmt : mt ≤ 16) (hmx : mx ≤ 32) (hmp : mp ≤ 192) (hS0 : aS m = nI s0) (hS1 : aS (m + 1) = nI s1) (hs : s0 ≤ s1) (hs1 : s1 ≤ 192) (hw1 : 1 ≤ w) (hw : w ≤ 3) (hc1 : w = 1 → v1 = nI e) (hc2 : w = 2 → v1 + (v2 <<< ((2 : Int32) &&& 31)) = nI e) (hc3 : w = 3 → v1 + (v2 <<< ((2 : Int32) &&& 31)) + (v3 <<< ((4 : Int32) &&& 31)) = nI e) (q1 : mt ≤ tk → post (-10) (XR, XT, XM, XP, nI (m + 1), nI tk, XB, XO, aS, aC, aD, aF, tT, tM, tC, tV)) (q2 : tk < mt → mx ≤ s1 - s0 → post (-7) (XR, XT, XM, XP, nI (m + 1), nI tk, XB, XO, aS, aC, aD, aF, tT, tM, tC, tV)) (q3 : tk < mt → s1 - s0 < mx → mp ≤ s1 → post (-8) (XR, XT, XM, XP, nI (m + 1), nI tk, XB, XO, aS, aC, aD, aF, tT, tM, tC, tV)) (q4 : tk < mt → s1 - s0 < mx → s1 < mp → wX_row_166 post (nI s0) (nI s1) (nI e) XR XT XM XP (nI (m + 1)) (nI tk) XB XO aS aC aD aF tT tM tC tV) : wX_row_74 post v1 v2 v3 (nI m) (nI w) XR XT XM XP (nI (m + 1)) (nI tk) XB XO aS aC aD aF tT tM tC tV := by
  subst hT hM hP
  refine pk_lt tk mt (fun z1 => ⟨vp_in_nI (by omega) (by omega), ?_⟩) q1
  rw [nI_clamp (n := m) (by omega), nI_clamp (n := m + 1) (by omega), hS0, hS1]
  refine nm_e ⟨vp_in_nI (by omega) (by omega), nm_e ?_⟩
  rw [pk_sub hs]
  refine pk_lt (s1 - s0) mx (fun z2 => pk_lt s1 mp (fun z3 => ?_) (q3 z1 z2)) (q2 z1)
  have fin := q4 z1 z2 z3
  refine pk_le w 1 (fun z => ?_) (fun z => nm_e ?_)
  · have e1 : w = 1 := by omega
    rw [hc1 e1]
    exact pk_le w 2 (fun _ => fin) (fun y => by omega)
  · refine pk_le w 2 (fun y => ?_) (fun y => nm_e ?_)
    · rw [hc2 (by omega)]; exact fin
    · rw [hc3 (by omega)]; exact fin
theorem qx_newToken {post : Int32 → SX → Prop} {tk : Nat} (ht : tk < 16) (hp : post (nI tk) (XR, XT, XM, XP, XN, nI (tk + 1), XB, XO, aS, aC, aD, aF, tT, tM, tC, qw_V tV tk)) : wpX_newToken post (XR, XT, XM, XP, XN, nI tk, XB, XO, aS, aC, aD, aF, tT, tM, tC, tV) := by
  have e : ∀ i : Nat, 4 * nI tk + nI i = nI (4 * tk + i) := fun i => by
    rw [show 4 * nI tk = nI (4 * tk) from pk_mul 4 tk, nI_add]
  have hc : ∀ i : Nat, i < 4 → (4 * nI tk + nI i).toNatClampNeg = 4 * tk + i := fun i hi => by rw [e]; exact nI_clamp (by omega)
  have hv : ∀ i : Nat, i < 4 → vp_in (4 * nI tk + nI i) 64 := fun i hi => by rw [e]; exact vp_in_nI (by omega) (by omega)
  have c0 : (4 * nI tk + 0).toNatClampNeg = 4 * tk + 0 := hc 0 (by omega)
  have c1 : (4 * nI tk + 1).toNatClampNeg = 4 * tk + 1 := hc 1 (by omega)
  have c2 : (4 * nI tk + 2).toNatClampNeg = 4 * tk + 2 := hc 2 (by omega)
  have c3 : (4 * nI tk + 3).toNatClampNeg = 4 * tk + 3 := hc 3 (by omega)
  unfold wpX_newToken
  dsimp only
  rw [c0, c1, c2, c3]
  exact ⟨hv 0 (by omega), nm_e ⟨hv 1 (by omega), nm_e ⟨hv 2 (by omega), nm_e ⟨hv 3 (by omega), nm_e (nm_r (nI_1 tk) hp)⟩⟩⟩⟩
theorem qx_row_166 {post : Int32 → SX → Prop} {m tk s0 s1 e : Nat} {A B : List qa_T} (hm : m < 8) (ht : tk < 16) (hseg : qm_sg tT tM tC s0 (A ++ B)) (hs1 : s1 = s0 + A.length + B.length) (h192 : s1 < 192) (ha : ∀ x, x ∈ A → qa_bf x (nI e) (qs_code 4 [tk])) (hb : ∀ x, x ∈ B → ¬ qa_bf x (nI e) (qs_code 4 [tk])) (hp : post (nI tk) (XR, XT, XM, XP, nI (m + 1), nI (tk + 1), XB, XO, upd aS (m + 1) (nI (s1 + 1)), aC, aD, aF, qm_in tT (s0 + A.length) s1 (nI e), qm_in tM (s0 + A.length) s1 (qs_code 4 [tk]), qm_in tC (s0 + A.length) s1 1, qw_V tV tk)) : wX_row_166 post (nI s0) (nI s1) (nI e) XR XT XM XP (nI (m + 1)) (nI tk) XB XO aS aC aD aF tT tM tC tV := by
  refine nm_r (qy_shl ht) ?_
  refine qx_find hseg hs1 (by omega) ha hb ?_
  refine qx_insert (by omega) (by omega) ⟨vp_in_nI (by omega) (by omega), ?_⟩
  rw [nI_clamp (n := m + 1) (by omega), nI_1]
  refine nm_e ?_
  exact qx_newToken ht hp
end
section
variable {YN YK YR YT YM YP : Int32} {bK bL bR bC bD bA bB bE bO bW bH bZ fT : Nat → Int32} {fC fV : Nat → Int64}
theorem qy_row_top {post : Int32 → SY → Prop} {m w : Nat} {v1 v2 v3 : Int32} (hm : m < 8) (hK : bK m = 0) (hC : bC m = nI w) (hw : w ≤ 3) (h1 : qw_ok w v1 v2 v3 → wY_row_105 post v1 v2 v3 (nI m) YK (if 1 < w then 1 else 0) (if 2 < w then 1 else 0) (nI (m + 1)) YK YR YT YM YP bK bL bR bC bD bA bB bE bO bW bH bZ fT fC fV) (h0 : ¬ qw_ok w v1 v2 v3 → post (-3) (nI (m + 1), YK, YR, YT, YM, YP, bK, bL, bR, bC, bD, bA, bB, bE, bO, bW, bH, bZ, fT, fC, fV)) : wpY_row post (nI (m + 1), YK, YR, YT, YM, YP, bK, bL, bR, bC, bD, bA, bB, bE, bO, bW, bH, bZ, fT, fC, fV) v1 v2 v3 := by
  have hv : vp_in (nI m) 8 := vp_in_nI (by omega) (by omega)
  have hc : (nI m).toNatClampNeg = m := nI_clamp (by omega)
  have p89 : qw_cl v1 → (1 < w → qw_cl v2) → wY_row_89 post v1 v2 v3 (nI m) YK (if 1 < w then 1 else 0) (if 2 < w then 1 else 0) (nI (m + 1)) YK YR YT YM YP bK bL bR bC bD bA bB bE bO bW bH bZ fT fC fV := by
    intro c1 c2
    by_cases h3 : 2 < w
    · refine br_f (by rw [if_pos h3]; decide) ?_
      rcases qw_em v3 with ⟨z3, n3⟩ | ⟨d3, e3, rfl⟩
      · exact qy_cell0 z3 (br_t rfl (h0 (fun y => n3 (y.2.2 h3))))
      · exact qy_cell1 e3 (br_f (by decide) (h1 ⟨c1, c2, fun _ => ⟨d3, e3, rfl⟩⟩))
    · exact br_t (if_neg h3) (h1 ⟨c1, c2, fun z => absurd z h3⟩)
  have p66 : wY_row_66 post v1 v2 v3 (nI m) YK (if 1 < w then 1 else 0) (if 2 < w then 1 else 0) (nI (m + 1)) YK YR YT YM YP bK bL bR bC bD bA bB bE bO bW bH bZ fT fC fV := by
    unfold wY_row_66
    rcases qw_em v1 with ⟨z1, n1⟩ | ⟨d1, e1, rfl⟩
    · exact qy_cell0 z1 (br_t rfl (h0 (fun z => n1 z.1)))
    refine qy_cell1 e1 (br_f (by decide) ?_)
    by_cases h2 : 1 < w
    · refine br_f (by rw [if_pos h2]; decide) ?_
      rcases qw_em v2 with ⟨z2, n2⟩ | ⟨d2, e2, rfl⟩
      · exact qy_cell0 z2 (br_t rfl (h0 (fun y => n2 (y.2.1 h2))))
      · exact qy_cell1 e2 (br_f (by decide) (p89 ⟨d1, e1, rfl⟩ (fun _ => ⟨d2, e2, rfl⟩)))
    · exact br_t (if_neg h2) (p89 ⟨d1, e1, rfl⟩ (fun z => absurd z h2))
  have p48 : wY_row_48 post v1 v2 v3 (nI m) YK (if 1 < w then 1 else 0) (nI (m + 1)) YK YR YT YM YP bK bL bR bC bD bA bB bE bO bW bH bZ fT fC fV := by
    refine And.intro hv ?_
    rw [hc, hC]
    refine pk_le w 2 (fun z => ?_) (fun z => ?_)
    · rw [if_neg (show ¬ 2 < w by omega)] at p66; exact p66
    · rw [if_pos (show 2 < w by omega)] at p66; exact p66
  refine nm_r (nI_pred m) (br_f (nI_pos (by omega)) ⟨hv, ?_⟩)
  rw [hc, hC]
  refine br_t hK ⟨hv, pk_le w 1 (fun z => ?_) (fun z => ?_)⟩
  · rw [if_neg (show ¬ 1 < w by omega)] at p48; exact p48
  · rw [if_pos (show 1 < w by omega)] at p48; exact p48
theorem qy_row_s {post : Int32 → SY → Prop} {m tk i fu : Nat} (ht : tk < 16) (hi : i < 5) (hp : wY_row_195 post (nI m) (nI tk) YN YK YR YT YM YP fu (nI (i + 1)) bK bL bR bC bD bA bB bE bO bW (upd bH (5 * tk + i) (if i = 2 then 0 else 1)) bZ fT fC fV) : wY_row_195 post (nI m) (nI tk) YN YK YR YT YM YP (fu + 1) (nI i) bK bL bR bC bD bA bB bE bO bW bH bZ fT fC fV := by
  have e5 : 5 * nI tk + nI i = nI (5 * tk + i) := by
    rw [show 5 * nI tk = nI (5 * tk) from pk_mul 5 tk, nI_add]
  have hv : vp_in (5 * nI tk + nI i) 80 := by rw [e5]; exact vp_in_nI (by omega) (by omega)
  have hc : (5 * nI tk + nI i).toNatClampNeg = 5 * tk + i := by rw [e5]; exact nI_clamp (by omega)
  refine br_f (nI_ge (b := 5) hi (by decide)) (pk_eq i 2 (fun z => ⟨hv, ?_⟩) (fun z => ⟨hv, ?_⟩))
  · rw [hc]; rw [if_pos z] at hp
    exact nm_e (nm_r (nI_1 i) hp)
  · rw [hc]; rw [if_neg z] at hp
    exact nm_e (nm_r (nI_1 i) hp)
theorem qy_row_195 {post : Int32 → SY → Prop} {m tk : Nat} (ht : tk < 16) (hp : wpY_derive (fun u => post (nI tk) u) (YN, nI (tk + 1), YR, YT, YM, YP, bK, bL, bR, bC, bD, bA, bB, bE, bO, bW, qw_H bH tk, bZ, fT, fC, fV) (nI 4) (nI m)) : wY_row_195 post (nI m) (nI tk) YN (nI tk) YR YT YM YP 6 0 bK bL bR bC bD bA bB bE bO bW bH bZ fT fC fV := by
  refine qy_row_s (i := 0) ht (by omega) (qy_row_s (i := 1) ht (by omega) (qy_row_s (i := 2) ht (by omega) (qy_row_s (i := 3) ht (by omega) (qy_row_s (i := 4) ht (by omega) ?_))))
  refine br_t (by decide) (nm_r (nI_1 tk) ?_)
  exact hp
theorem qy_row_105 {post : Int32 → SY → Prop} {m w mt mx mp tk ln s1 e : Nat} {S : Nat → Nat} {v1 v2 v3 : Int32} (hT : YT = nI mt) (hM : YM = nI mx) (hP : YP = nI mp) (hm : m < 8) (ht : tk ≤ mt) (hmt : mt ≤ 16) (hmx : mx ≤ 32) (hmp : mp ≤ 192) (hZ : bZ m = nI ln) (hln : ln ≤ 32) (h0 : S 0 = 0) (hS : ∀ q, q < m + 1 → ∃ k, bZ q = nI k ∧ S (q + 1) = S q + k) (hs1 : S (m + 1) = s1) (h192 : s1 ≤ 192) (hcd : (v1 + (if 1 < w then 4 * v2 else 0)) + (if 2 < w then 16 * v3 else 0) = nI e) (q1 : mt ≤ tk → post (-10) (nI (m + 1), nI tk, YR, YT, YM, YP, bK, bL, bR, bC, bD, bA, bB, bE, bO, bW, bH, bZ, fT, fC, fV)) (q2 : tk < mt → mx ≤ ln → post (-7) (nI (m + 1), nI tk, YR, YT, YM, YP, bK, bL, bR, bC, bD, bA, bB, bE, bO, bW, bH, bZ, fT, fC, fV)) (q3 : tk < mt → ln < mx → mp ≤ s1 → post (-8) (nI (m + 1), nI tk, YR, YT, YM, YP, bK, bL, bR, bC, bD, bA, bB, bE, bO, bW, bH, bZ, fT, fC, fV)) (q4 : tk < mt → ln < mx → s1 < mp → wpY_derive (fun u => post (nI tk) u) (nI (m + 1), nI (tk + 1), YR, YT, YM, YP, bK, bL, bR, bC, bD, bA, bB, bE, upd bO tk (nI m), upd bW tk (nI e), qw_H bH tk, bZ, fT, fC, fV) (nI 4) (nI m)) : wY_row_105 post v1 v2 v3 (nI m) (nI tk) (if 1 < w then 1 else 0) (if 2 < w then 1 else 0) (nI (m + 1)) (nI tk) YR YT YM YP bK bL bR bC bD bA bB bE bO bW bH bZ fT fC fV := by
  subst hT hM hP
  refine pk_lt tk mt (fun z1 => ⟨vp_in_nI (by omega) (by omega), ?_⟩) q1
  rw [nI_clamp (n := m) (by omega), hZ]
  refine pk_lt ln mx (fun z2 => ?_) (q2 z1)
  refine qy_pool (S := S) rfl (by omega) h0 hS ?_
  rw [hs1]
  have hv : vp_in (nI tk) 16 := vp_in_nI (by omega) (by omega)
  refine pk_lt s1 mp (fun z3 => ⟨hv, ?_⟩) (q3 z1 z2)
  rw [nI_clamp (n := tk) (by omega)]
  refine nm_e ?_
  have fin := q4 z1 z2 z3
  have f176 : ∀ z0 : Int32, z0 = (if 1 < w then 4 * v2 else 0) → wY_row_176 post v3 (nI m) (nI tk) (if 2 < w then 1 else 0) z0 v1 (nI tk) (nI (m + 1)) (nI tk) YR (nI mt) (nI mx) (nI mp) bK bL bR bC bD bA bB bE (upd bO tk (nI m)) bW bH bZ fT fC fV := by
    intro z0 hz0
    subst hz0
    by_cases h3 : 2 < w
    · rw [if_pos h3] at hcd
      refine br_f (by rw [if_pos h3]; decide) ⟨hv, ?_⟩
      rw [nI_clamp (n := tk) (by omega), hcd]
      exact nm_e ⟨6, qy_row_195 (by omega) fin⟩
    · rw [if_neg h3] at hcd
      refine br_t (if_neg h3) ⟨hv, ?_⟩
      rw [nI_clamp (n := tk) (by omega), hcd]
      exact nm_e ⟨6, qy_row_195 (by omega) fin⟩
  by_cases h2 : 1 < w
  · refine br_f (by rw [if_pos h2]; decide) (f176 _ (if_pos h2).symm)
  · refine br_t (if_neg h2) (f176 _ (if_neg h2).symm)
end
end
section
/-! row -/
theorem qw_code {w : Nat} {v1 v2 v3 : Int32} (h : qw_ok w v1 v2 v3) (h1 : 1 ≤ w) (h3 : w ≤ 3) : ∃ e, e < 4 ^ w ∧ (w = 1 → v1 = nI e) ∧ (w = 2 → v1 + (v2 <<< ((2 : Int32) &&& 31)) = nI e) ∧ (w = 3 → v1 + (v2 <<< ((2 : Int32) &&& 31)) + (v3 <<< ((4 : Int32) &&& 31)) = nI e) ∧ (v1 + (if 1 < w then 4 * v2 else 0)) + (if 2 < w then 16 * v3 else 0) = nI e := by
  obtain ⟨⟨d1, e1, rfl⟩, c2, c3⟩ := h
  have z0 : ∀ d : Nat, nI d + 0 = nI d := fun d => nI_add d 0
  have hw : w = 1 ∨ w = 2 ∨ w = 3 := by omega
  rcases hw with rfl | rfl | rfl
  · refine ⟨d1, by omega, fun _ => rfl, fun z => by omega, fun z => by omega, ?_⟩
    rw [if_neg (by omega), if_neg (by omega), z0, z0]
  · obtain ⟨d2, e2, rfl⟩ := c2 (by omega)
    have s2 : nI d2 <<< ((2 : Int32) &&& 31) = nI (d2 * 2 ^ 2) := pk_shlN _ 2 (by decide) (by omega)
    refine ⟨d1 + 4 * d2, by omega, fun z => by omega, fun _ => ?_, fun z => by omega, ?_⟩
    · rw [s2, nI_add]; exact congrArg nI (by omega)
    · rw [if_pos (by omega), if_neg (by omega), show 4 * nI d2 = nI (4 * d2) from pk_mul 4 d2, nI_add, z0]
  · obtain ⟨d2, e2, rfl⟩ := c2 (by omega)
    obtain ⟨d3, e3, rfl⟩ := c3 (by omega)
    have s2 : nI d2 <<< ((2 : Int32) &&& 31) = nI (d2 * 2 ^ 2) := pk_shlN _ 2 (by decide) (by omega)
    have s3 : nI d3 <<< ((4 : Int32) &&& 31) = nI (d3 * 2 ^ 4) := pk_shlN _ 4 (by decide) (by omega)
    refine ⟨d1 + 4 * d2 + 16 * d3, by omega, fun z => by omega, fun z => by omega, fun _ => ?_, ?_⟩
    · rw [s2, s3, nI_add, nI_add]; exact congrArg nI (by omega)
    · rw [if_pos (by omega), if_pos (by omega), show 4 * nI d2 = nI (4 * d2) from pk_mul 4 d2, show 16 * nI d3 = nI (16 * d3) from pk_mul 16 d3, nI_add, nI_add]
theorem qa_flat_sing {α β : Type} {f : α → List β} {g : α → β} : ∀ {A : List α}, (∀ x, x ∈ A → f x = [g x]) → A.flatMap f = A.map g
  | [], _ => rfl
  | x :: A, h => by
    rw [List.flatMap_cons, h x List.mem_cons_self, qa_flat_sing (A := A) (fun y hy => h y (List.mem_cons_of_mem _ hy))]; rfl
section
variable {mr mt mx mp n tk : Nat} {S co de kd lf rt TB : Nat → Nat} {LX LY : Nat → List qa_T} {R : Nat → List qa_R} {XB XO : Int32} {aS aC aD aF tT : Nat → Int32} {tM tC : Nat → Int64} {tV : Nat → Int32} {bK bL bR bC bD bA bB bE bO bW bH bZ fT : Nat → Int32} {fC fV : Nat → Int64}
theorem re_toks {s q : Nat} (T : re_T n tk TB bO bH tV) (hn : n ≤ 8) (hq : q < n) : (List.range tk).flatMap (qy_tok s tk bO bW bH q) = (List.range' (TB q) (TB (q + 1) - TB q)).map (fun x => (bW x, qs_code s [x], (bH (5 * x + s)).toInt64)) := by
  have h1 := (T.2.2.1 q hq).1
  have h2 := re_TBm T (q + 1) hq
  have e : List.range tk = List.range' 0 (TB q) ++ (List.range' (TB q) (TB (q + 1) - TB q) ++ List.range' (TB (q + 1)) (tk - TB (q + 1))) := by
    rw [List.range_eq_range']
    have a : List.range' (TB q) (TB (q + 1) - TB q) ++ List.range' (TB (q + 1)) (tk - TB (q + 1)) = List.range' (TB q) (tk - TB q) := by
      have := List.range'_append_1 (s := TB q) (m := TB (q + 1) - TB q) (n := tk - TB (q + 1))
      rw [show TB q + (TB (q + 1) - TB q) = TB (q + 1) by omega, show TB (q + 1) - TB q + (tk - TB (q + 1)) = tk - TB q by omega] at this
      exact this
    rw [a]
    have := List.range'_append_1 (s := 0) (m := TB q) (n := tk - TB q)
    rw [Nat.zero_add, show TB q + (tk - TB q) = tk by omega] at this
    exact this.symm
  have f1 : (List.range' 0 (TB q)).flatMap (qy_tok s tk bO bW bH q) = [] := by
    apply List.flatMap_eq_nil_iff.mpr
    intro x hx
    rw [List.mem_range'_1] at hx
    obtain ⟨q', g1, g2⟩ := re_ow_lo T q (by omega) x (by omega)
    refine if_neg fun z => ?_
    rw [g2, nI_eq (by omega) (by omega)] at z
    omega
  have f3 : (List.range' (TB (q + 1)) (tk - TB (q + 1))).flatMap (qy_tok s tk bO bW bH q) = [] := by
    apply List.flatMap_eq_nil_iff.mpr
    intro x hx
    rw [List.mem_range'_1] at hx
    obtain ⟨q', g1, g2, g3⟩ := re_ow_hi T (n - (q + 1)) (q + 1) (by omega) x (by omega) (by omega)
    refine if_neg fun z => ?_
    rw [g3, nI_eq (by omega) (by omega)] at z
    omega
  have f2 : (List.range' (TB q) (TB (q + 1) - TB q)).flatMap (qy_tok s tk bO bW bH q) = (List.range' (TB q) (TB (q + 1) - TB q)).map (fun x => (bW x, qs_code s [x], (bH (5 * x + s)).toInt64)) := by
    apply qa_flat_sing
    intro x hx
    rw [List.mem_range'_1] at hx
    exact if_pos ((T.2.2.1 q hq).2 x (by omega) (by omega))
  rw [e, List.flatMap_append, List.flatMap_append, f1, f2, f3, List.nil_append, List.append_nil]
theorem re_code_lt {x t : Nat} (h : x < t) (ht : t < 16) : qs_code 4 [x] ≠ qs_code 4 [t] := by
  intro e
  have e : lN (16 ^ x + 0) = lN (16 ^ t + 0) := e
  have a : 16 ^ x < 16 ^ t := Nat.pow_lt_pow_right (by omega) h
  have b : 16 ^ t ≤ 16 ^ 15 := Nat.pow_le_pow_right (by omega) (by omega)
  have c : (16 : Nat) ^ 15 = 1152921504606846976 := by decide
  rw [pk_lEQ (by omega) (by omega)] at e
  omega
theorem re_row {k : Nat} {v1 v2 v3 : Int32} (H : re_A mr mt mx mp n tk S co de kd lf rt TB LX LY R aS aC aD aF tT tM tC tV bK bL bR bC bD bA bB bE bO bW bH bZ fT fC fV) : wpX_row (fun r u' => wpY_row (fun r' v' => r' = r ∧ i_Rel k u' v') (nI n, nI tk, nI mr, nI mt, nI mx, nI mp, bK, bL, bR, bC, bD, bA, bB, bE, bO, bW, bH, bZ, fT, fC, fV) v1 v2 v3) (nI mr, nI mt, nI mx, nI mp, nI n, nI tk, XB, XO, aS, aC, aD, aF, tT, tM, tC, tV) v1 v2 v3 := by
  have HH := H
  have hS := re_S H
  have Sm := re_Sm H
  have hpool := re_pool H
  obtain ⟨N, T, HP, HX, HY⟩ := H
  obtain ⟨n1, n2, n3, n4, n5, n6, n7, n8, n9, n10, n11, n12, n13⟩ := N
  rcases Nat.eq_zero_or_pos n with h0 | h0
  · subst h0
    exact nm_e (br_t (by decide) (nm_e (br_t (by decide) ⟨rfl, re_in HH⟩)))
  obtain ⟨m, rfl⟩ : ∃ m, n = m + 1 := ⟨n - 1, by omega⟩
  have hPm := HP m (by omega)
  obtain ⟨x1, x2, x3, x4, x5, x6⟩ := HX m (by omega)
  obtain ⟨y1, y2, y3, y4, y5, y6⟩ := HY m (by omega)
  obtain ⟨lenE, len32, _⟩ := re_len HH (q := m) (by omega)
  have hv : vp_in (nI m) 8 := vp_in_nI (by omega) (by omega)
  by_cases hk : kd m = 0
  · have hco := hPm.1
    have hF : ¬ aF m = 0 := by rw [x5, if_pos hk]; decide
    have hK : bK m = 0 := by rw [y1, hk]; rfl
    refine qx_row_top (by omega) hF x3 hco.2 (fun hok => ?_) (fun hok => ?_)
    · obtain ⟨e, he, c1, c2, c3, cY⟩ := qw_code hok hco.1 hco.2
      have hSm := Sm m (by omega)
      have toY : ∀ (pst : Int32 → SY → Prop), wY_row_105 pst v1 v2 v3 (nI m) (nI tk) (if 1 < co m then 1 else 0) (if 2 < co m then 1 else 0) (nI (m + 1)) (nI tk) (nI mr) (nI mt) (nI mx) (nI mp) bK bL bR bC bD bA bB bE bO bW bH bZ fT fC fV → wpY_row pst (nI (m + 1), nI tk, nI mr, nI mt, nI mx, nI mp, bK, bL, bR, bC, bD, bA, bB, bE, bO, bW, bH, bZ, fT, fC, fV) v1 v2 v3 :=
        fun pst h => qy_row_top (by omega) hK y4 hco.2 (fun _ => h) (fun z => absurd hok z)
      have lenS : S (m + 1) - S m = (LY m).length := by omega
      refine qx_row_74 (s0 := S m) (s1 := S (m + 1)) (mt := mt) (mx := mx) (mp := mp) (e := e) rfl rfl rfl (by omega) n10 n4 n6 n8 (hS m (by omega)) x1 (by omega) (by omega) hco.1 hco.2 c1 c2 c3 (fun z => ?_) (fun z1 z2 => ?_) (fun z1 z2 z3 => ?_) (fun z1 z2 z3 => ?_)
      · exact toY _ (qy_row_105 (mt := mt) (mx := mx) (mp := mp) (S := S) rfl rfl rfl (by omega) n10 n4 n6 n8 y6.1 (by omega) n11 hpool rfl (by omega) cY (fun _ => ⟨rfl, re_in HH⟩) (fun y => by omega) (fun y => by omega) (fun y => by omega))
      · exact toY _ (qy_row_105 (mt := mt) (mx := mx) (mp := mp) (S := S) rfl rfl rfl (by omega) n10 n4 n6 n8 y6.1 (by omega) n11 hpool rfl (by omega) cY (fun _ => by omega) (fun _ _ => ⟨rfl, re_in HH⟩) (fun _ y => by omega) (fun _ y => by omega))
      · exact toY _ (qy_row_105 (mt := mt) (mx := mx) (mp := mp) (S := S) rfl rfl rfl (by omega) n10 n4 n6 n8 y6.1 (by omega) n11 hpool rfl (by omega) cY (fun _ => by omega) (fun _ y => by omega) (fun _ _ _ => ⟨rfl, re_in HH⟩) (fun _ _ y => by omega))
      · obtain ⟨p1, p2, p3, p4, p5, p6, p7, p8, p9, p10, p11, p12, p13, p14⟩ := hPm
        obtain ⟨p8a, p8b⟩ := p8 hk
        have hTn : TB (m + 1) = tk := T.2.1
        have hTm : TB m ≤ tk := re_TBm T m (by omega)
        obtain ⟨A, B, eL, ha, hb⟩ := qa_split_bf p10 (nI e) (qs_code 4 [tk])
        have hlen : (LX m).length = A.length + B.length := by rw [eL, List.length_append]
        have seg := x6
        rw [eL] at seg
        have nk : ∀ y, y ∈ A ++ B → qa_key y ≠ qa_key (nI e, qs_code 4 [tk], (1 : Int64)) := by
          intro y hy ek
          rw [← eL] at hy
          obtain ⟨y', hy', e'⟩ := qa_E_key p12 hy
          obtain ⟨pr, hpr, rfl⟩ := List.mem_map.mp hy'
          rw [p8a] at hpr
          obtain ⟨x, hx, rfl⟩ := List.mem_map.mp hpr
          rw [List.mem_range'_1] at hx
          have k2 : qs_code 4 [x] = y.2.1 := qa_k2 e'
          have k3 : y.2.1 = qs_code 4 [tk] := qa_k2 ek
          exact re_code_lt (x := x) (t := tk) (by omega) (by omega) (k2.trans k3)
        refine qx_row_166 (A := A) (B := B) (by omega) (by omega) seg (by omega) (by omega) ha hb ?_
        refine toY _ (qy_row_105 (mt := mt) (mx := mx) (mp := mp) (S := S) rfl rfl rfl (by omega) n10 n4 n6 n8 y6.1 (by omega) n11 hpool rfl (by omega) cY (fun _ => by omega) (fun _ y => by omega) (fun _ _ y => by omega) (fun _ _ _ => ?_))
        -- the new tokens' facts
        have T' : re_T (m + 1) (tk + 1) (re_f TB (m + 1) (tk + 1)) (upd bO tk (nI m)) (qw_H bH tk) (qw_V tV tk) := by
          refine ⟨(re_f_n (by omega)).trans T.1, re_f_s, fun q hq => ?_, fun x hx => ?_⟩
          · rcases Nat.lt_or_ge q m with z | z
            · rw [re_f_n (show q ≠ m + 1 by omega), re_f_n (show q + 1 ≠ m + 1 by omega)]
              obtain ⟨g1, g2⟩ := T.2.2.1 q (by omega)
              have := re_TBm T (q + 1) (by omega)
              exact ⟨g1, fun x h1 h2 => by rw [pk_un (by omega)]; exact g2 x h1 h2⟩
            · have eq : q = m := by omega
              subst eq
              rw [re_f_s, re_f_n (show q ≠ q + 1 by omega)]
              refine ⟨by omega, fun x h1 h2 => ?_⟩
              by_cases ex : x = tk
              · rw [ex, pk_us]
              · rw [pk_un ex]; exact (T.2.2.1 q (by omega)).2 x h1 (by omega)
          · by_cases ex : x = tk
            · subst ex
              refine ⟨qw_H_4 bH x, fun s hs => ?_⟩
              rw [qw_H_s bH x hs, qw_V_s tV x hs]
              exact ⟨rfl, qw_L hs⟩
            · have hx' : x < tk := by omega
              obtain ⟨g1, g2⟩ := T.2.2.2 x hx'
              refine ⟨by rw [qw_H_lo (by omega)]; exact g1, fun s hs => ?_⟩
              rw [qw_H_lo (by omega), qw_V_lo (by omega)]
              exact g2 s hs
        have R1 : R m ++ [(nI e, [tk])] = (List.range' (TB m) (tk + 1 - TB m)).map (fun x => (upd bW tk (nI e) x, [x])) := by
          rw [show tk + 1 - TB m = (tk - TB m) + 1 by omega, List.range'_1_concat, List.map_append, p8a, hTn]
          congr 1
          · apply List.map_congr_left
            intro x hx
            rw [List.mem_range'_1] at hx
            rw [pk_un (by omega)]
          · rw [show TB m + (tk - TB m) = tk by omega]
            show _ = [(upd bW tk (nI e) tk, [tk])]
            rw [pk_us]
        have R2 : (R m ++ [(nI e, [tk])]).map re_e4 = (List.range (tk + 1)).flatMap (qy_tok 4 (tk + 1) (upd bO tk (nI m)) (upd bW tk (nI e)) (qw_H bH tk) m) := by
          rw [re_toks T' (by omega) (show m < m + 1 by omega), re_f_s, re_f_n (show m ≠ m + 1 by omega), R1, List.map_map]
          apply List.map_congr_left
          intro x hx
          rw [List.mem_range'_1] at hx
          have := (T'.2.2.2 x (by omega)).1
          rw [this]
          show (upd bW tk (nI e) x, qs_code 4 [x], qs_val 4 (fun _ => 1) [x]) = _
          rw [qa_ev_one]
          rfl
        have R3 : ∀ pr, pr ∈ R m ++ [(nI e, [tk])] → pr.2.length ≤ de m ∧ pr.2 ≠ [] ∧ (∀ x, x ∈ pr.2 → x < tk + 1) ∧ ∃ a, a < 4 ^ co m ∧ pr.1 = nI a := by
          intro pr hpr
          rcases List.mem_append.mp hpr with q | q
          · obtain ⟨g1, g2, g3, g4⟩ := p9 pr q
            exact ⟨g1, g2, fun x hx => by have := g3 x hx; omega, g4⟩
          · rw [List.mem_singleton.mp q]
            exact ⟨p2.1, by simp, fun x hx => by rw [List.mem_singleton.mp hx]; omega, e, he, rfl⟩
        have R4 : ∀ y, y ∈ (R m ++ [(nI e, [tk])]).map re_e4 → ¬ y.1 < 0 := by
          intro y hy
          obtain ⟨pr, hpr, rfl⟩ := List.mem_map.mp hy
          obtain ⟨_, _, _, a, g4, g5⟩ := R3 pr hpr
          have : 4 ^ co m ≤ 4 ^ 3 := Nat.pow_le_pow_right (by omega) hco.2
          show ¬ pr.1 < 0
          rw [g5]; exact nI_pos (by omega)
        have e4l : ((R m ++ [(nI e, [tk])]).map re_e4).length = tk + 1 - TB m := by
          rw [R1, List.length_map, List.length_map, List.length_range']
        refine qy_derive (s := 4) (q := m) (kd := 0) (l := lf m) (r := rt m) (tk := tk + 1) (bs := 0) (A := []) (B := []) (jn := fun _ _ => 0) (Nat.le_refl 4) rfl (by omega) hK (by omega) y2 y3 p4 p5 rfl (by omega) (fun z => absurd rfl z) (fun z => absurd rfl z) (fun _ => rfl) (fun z => by omega) (fun z => by omega) ?_ ?_
        · rw [← R2]
          have := qa_nn_len ((R m ++ [(nI e, [tk])]).map re_e4 ++ qa_C 4 0 (qc_mv 0 (bA m) (bB m) (bE m)) (fun _ _ => 0) [] [])
          have e0 : qa_C 4 0 (qc_mv 0 (bA m) (bB m) (bE m)) (fun _ _ => 0) [] [] = [] := rfl
          rw [e0, List.append_nil] at this ⊢
          omega
        · rw [← R2, show qa_C 4 0 (qc_mv 0 (bA m) (bB m) (bE m)) (fun _ _ => 0) [] [] = [] from rfl, List.append_nil, Nat.zero_add]
          intro z t c v b
          refine ⟨rfl, ?_⟩
          have EY := qa_F_E 4 ((R m ++ [(nI e, [tk])]).map re_e4)
          rw [qa_nn_all R4] at EY
          have EX : qa_E 4 (A ++ (nI e, qs_code 4 [tk], (1 : Int64)) :: B) ((R m ++ [(nI e, [tk])]).map re_e4) := by
            intro k'
            rw [qa_os_ins, ← eL, p12 k', List.map_append, qa_os_app]
            congr 1
            exact (qa_os_1 4 _ k').symm
          have hl1 : (A ++ (nI e, qs_code 4 [tk], (1 : Int64)) :: B).length = (LX m).length + 1 := by rw [eL]; simp; omega
          refine re_in (n := m + 1) (tk := tk + 1) (S := re_f S (m + 1) (S (m + 1) + 1)) (co := co) (de := de) (kd := kd) (lf := lf) (rt := rt) (TB := re_f TB (m + 1) (tk + 1)) (LX := re_f LX m (A ++ (nI e, qs_code 4 [tk], (1 : Int64)) :: B)) (LY := re_f LY m (qa_F 4 ((R m ++ [(nI e, [tk])]).map re_e4))) (R := re_f R m (R m ++ [(nI e, [tk])])) ⟨?_, T', fun q hq => ?_, fun q hq => ?_, fun q hq => ?_⟩
          · exact ⟨n1, n2, n3, n4, n5, n6, n7, n8, n9, by omega, (re_f_n (by omega)).trans n11, (pk_un (by omega)).trans n12, by rw [re_f_s]; omega⟩
          · rcases Nat.lt_or_ge q m with zq | zq
            · refine re_P_congr (fun j hj => ?_) ⟨re_f_n (by omega), re_f_n (by omega)⟩ (fun x hx => pk_un ?_) (HP q (by omega))
              · have hj' : j ≠ m := by omega
                exact ⟨rfl, rfl, rfl, rfl, rfl, rfl, rfl, rfl, re_f_n hj', re_f_n hj', re_f_n hj'⟩
              · have := re_TBm T (q + 1) (by omega); omega
            · have eq : q = m := by omega
              subst eq
              unfold re_P
              rw [re_f_s, re_f_s, re_f_s, re_f_s, re_f_n (show q ≠ q + 1 by omega)]
              refine ⟨p1, p2, p3, p4, p5, fun z => absurd hk z, fun z => by omega, fun _ => ⟨R1, by omega⟩, R3, ?_, qa_F_ND 4 _, EX, EY, by omega⟩
              rw [eL] at p10
              exact qa_so_ins p10 ha hb nk
          · rcases Nat.lt_or_ge q m with zq | zq
            · obtain ⟨g1, g2, g3, g4, g5, g6⟩ := HX q (by omega)
              unfold re_X
              rw [re_f_n (show q ≠ m by omega), re_f_n (show q ≠ m + 1 by omega), re_f_n (show q + 1 ≠ m + 1 by omega), pk_un (show q + 1 ≠ m + 1 by omega)]
              refine ⟨g1, g2, g3, g4, g5, qm_sg_congr (fun j j1 j2 => ?_) g6⟩
              have hqm : S (q + 1) ≤ S m := by
                have key : ∀ d q, q + d = m → S q ≤ S m := by
                  intro d
                  induction d with
                  | zero => intro q hq; rw [show q = m by omega]; exact Nat.le_refl _
                  | succ d ih => intro q hq; have := ih (q + 1) (by omega); have := (Sm q (by omega)).2; omega
                exact key (m - (q + 1)) (q + 1) (by omega)
              exact ⟨qm_in_lo tT (by omega), qm_in_lo tM (by omega), qm_in_lo tC (by omega)⟩
            · have eq : q = m := by omega
              subst eq
              unfold re_X
              rw [re_f_s, re_f_s, re_f_n (show q ≠ q + 1 by omega), pk_us]
              exact ⟨rfl, by omega, x3, x4, x5, qm_sg_ins (x := (nI e, qs_code 4 [tk], (1 : Int64))) seg rfl (by omega)⟩
          · rcases Nat.lt_or_ge q m with zq | zq
            · obtain ⟨g1, g2, g3, g4, g5, g6, g7, g8⟩ := HY q (by omega)
              unfold re_Y
              rw [re_f_n (show q ≠ m by omega)]
              exact ⟨g1, g2, g3, g4, g5, (b.2.1 q (by omega)).trans g6, g7, qm_sg_congr (fun j j1 j2 => b.2.2 j (by omega)) g8⟩
            · have eq : q = m := by omega
              subst eq
              unfold re_Y
              rw [re_f_s]
              exact ⟨y1, y2, y3, y4, y5, b.1⟩
    · exact qy_row_top (by omega) hK y4 hco.2 (fun z => absurd z hok) (fun _ => ⟨rfl, re_in HH⟩)
  · have hF : aF m = 0 := by rw [x5, if_neg hk]
    have hK : ¬ bK m = 0 := by rw [y1]; exact nI_ne0 (by omega) (by have := hPm.2.2.1; omega)
    refine nm_r (nI_pred m) (br_f (nI_pos (by omega)) ⟨hv, ?_⟩)
    rw [nI_clamp (n := m) (by omega)]
    refine br_t hF (nm_r (nI_pred m) (br_f (nI_pos (by omega)) ⟨hv, ?_⟩))
    rw [nI_clamp (n := m) (by omega)]
    exact br_f hK ⟨rfl, re_in HH⟩
end
end
section
/-! checks of tuples; terms, monomial, coefficient -/
theorem qc_pw : ∀ w, w < 4 → (1 : Int32) <<< ((2 * nI w) &&& 31) = nI (4 ^ w) := by decide +kernel
theorem qc_64 {w : Nat} (h : w ≤ 3) : 4 ^ w ≤ 64 := by
  have : 4 ^ w ≤ 4 ^ 3 := Nat.pow_le_pow_right (by omega) h
  omega
def qa_cp (t : Int32) (lim : Int64) (x : qa_T) : Bool := decide (x.1 = t) && decide (x.2.1 < lim)
section
variable {XR XT XM XP XN XK XB XO : Int32} {aS aC aD aF tT tV : Nat → Int32} {tM tC : Nat → Int64}
theorem qx_chk0 {post : Int32 → Prop} {v w : Int32} {n : Nat} (hN : XN = nI n) (h : v < 0 ∨ nI n ≤ v) (hp : post (-1)) : wpX_checkTuple post (XR, XT, XM, XP, XN, XK, XB, XO, aS, aC, aD, aF, tT, tM, tC, tV) v w := by
  unfold wpX_checkTuple
  exact qx_ex0 hN h (br_t rfl hp)
theorem qx_chk1 {post : Int32 → Prop} {v : Int32} {n q w : Nat} (hN : XN = nI n) (hn : n ≤ 8) (hq : q < n) (hC : aC q = nI w) (hw : w ≤ 3) (h : v < 0 ∨ nI (4 ^ w) ≤ v) (hp : post (-13)) : wpX_checkTuple post (XR, XT, XM, XP, XN, XK, XB, XO, aS, aC, aD, aF, tT, tM, tC, tV) (nI q) v := by
  unfold wpX_checkTuple
  refine qx_ex1 hN hn hq (br_f (by decide) (br_c (fun _ => hp) (fun h0 => ⟨vp_in_nI (by omega) (by omega), ?_⟩)))
  rw [nI_clamp (n := q) (by omega), hC, qc_pw w (by omega)]
  rcases h with h | h
  · exact absurd h h0
  · exact br_t h hp
theorem qx_chk2 {post : Int32 → Prop} {n q w t : Nat} (hN : XN = nI n) (hn : n ≤ 8) (hq : q < n) (hC : aC q = nI w) (hw : w ≤ 3) (h : t < 4 ^ w) (hp : post 0) : wpX_checkTuple post (XR, XT, XM, XP, XN, XK, XB, XO, aS, aC, aD, aF, tT, tM, tC, tV) (nI q) (nI t) := by
  have := qc_64 hw
  unfold wpX_checkTuple
  refine qx_ex1 hN hn hq (br_f (by decide) (br_f (nI_pos (by omega)) ⟨vp_in_nI (by omega) (by omega), ?_⟩))
  rw [nI_clamp (n := q) (by omega), hC, qc_pw w (by omega)]
  exact br_f (nI_ge h (by omega)) hp
theorem qx_first {post : Int32 → Prop} {q s0 s1 : Nat} {t : Int32} {A B : List qa_T} (hq : q < 8) (h0 : aS q = nI s0) (h1 : aS (q + 1) = nI s1) (hseg : qm_sg tT tM tC s0 (A ++ B)) (hs : s1 = s0 + A.length + B.length) (h224 : s1 ≤ 224) (ha : ∀ x, x ∈ A → qa_bf x t 0) (hb : ∀ x, x ∈ B → ¬ qa_bf x t 0) (hp : post (nI (s0 + A.length))) : wpX_firstOf post (XR, XT, XM, XP, XN, XK, XB, XO, aS, aC, aD, aF, tT, tM, tC, tV) (nI q) t := by
  refine And.intro (vp_in_nI (by omega) (by omega)) ?_
  rw [nI_1, nI_clamp (n := q) (by omega), nI_clamp (n := q + 1) (by omega), h0, h1]
  exact ⟨vp_in_nI (by omega) (by omega), qx_find hseg hs h224 ha hb hp⟩
end
section
variable {YN YK YR YT YM YP : Int32} {bK bL bR bC bD bA bB bE bO bW bH bZ fT : Nat → Int32} {fC fV : Nat → Int64}
theorem qy_chk0 {post : Int32 → Prop} {v w : Int32} {n : Nat} (hN : YN = nI n) (h : v < 0 ∨ nI n ≤ v) (hp : post (-1)) : wpY_check post (YN, YK, YR, YT, YM, YP, bK, bL, bR, bC, bD, bA, bB, bE, bO, bW, bH, bZ, fT, fC, fV) v w := by
  unfold wpY_check
  exact qy_ex0 hN h (br_t rfl hp)
theorem qy_chk1 {post : Int32 → Prop} {v : Int32} {n q w : Nat} (hN : YN = nI n) (hn : n ≤ 8) (hq : q < n) (hC : bC q = nI w) (hw : w ≤ 3) (h : v < 0 ∨ nI (4 ^ w) ≤ v) (hp : post (-13)) : wpY_check post (YN, YK, YR, YT, YM, YP, bK, bL, bR, bC, bD, bA, bB, bE, bO, bW, bH, bZ, fT, fC, fV) (nI q) v := by
  unfold wpY_check
  refine qy_ex1 hN hn hq (br_f (by decide) (br_c (fun _ => hp) (fun h0 => ⟨vp_in_nI (by omega) (by omega), ?_⟩)))
  rw [nI_clamp (n := q) (by omega), hC, qc_pw w (by omega)]
  rcases h with h | h
  · exact absurd h h0
  · exact br_f (Int32.not_lt.mpr h) hp
theorem qy_chk2 {post : Int32 → Prop} {n q w t : Nat} (hN : YN = nI n) (hn : n ≤ 8) (hq : q < n) (hC : bC q = nI w) (hw : w ≤ 3) (h : t < 4 ^ w) (hp : post 0) : wpY_check post (YN, YK, YR, YT, YM, YP, bK, bL, bR, bC, bD, bA, bB, bE, bO, bW, bH, bZ, fT, fC, fV) (nI q) (nI t) := by
  have := qc_64 hw
  unfold wpY_check
  refine qy_ex1 hN hn hq (br_f (by decide) (br_f (nI_pos (by omega)) ⟨vp_in_nI (by omega) (by omega), ?_⟩))
  rw [nI_clamp (n := q) (by omega), hC, qc_pw w (by omega)]
  exact br_t (nI_lt h (by omega)) hp
theorem qy_below_10 {post : Int32 → Prop} {sl : Nat} {L : List qa_T} {t : Int32} {lim : Int64} (hsl : sl < 16) (S : qy_S sl L bZ fT fC fV) (hp : post (nI (L.countP (qa_cp t lim)))) : ∀ (Rs D : List qa_T), L = D ++ Rs → ∀ fu, Rs.length < fu → wY_termsBelow_10 post (nI sl) t lim YN YK YR YT YM YP bK bL bR bC bD bA bB bE bO bW bH bZ fT fC fV fu (nI (D.countP (qa_cp t lim))) (nI (sl * 1024 + D.length)) := by
  obtain ⟨S1, S2, S3⟩ := S
  have hv : vp_in (nI sl) 16 := vp_in_nI (by omega) (by omega)
  have hcs : (nI sl).toNatClampNeg = sl := nI_clamp (by omega)
  have hm : nI sl * 1024 = nI (sl * 1024) := pk_mul sl 1024
  intro Rs
  induction Rs with
  | nil =>
    intro D eL fu hfu
    obtain ⟨fu, rfl⟩ : ∃ q, fu = q + 1 := ⟨fu - 1, by simp at hfu; omega⟩
    rw [List.append_nil] at eL
    subst eL
    refine And.intro hv ?_
    rw [hcs, S1, hm, nI_add]
    exact br_t (nI_le (Nat.le_refl _) (by omega)) hp
  | cons x Rs ih =>
    intro D eL fu hfu
    obtain ⟨fu, rfl⟩ : ∃ q, fu = q + 1 := ⟨fu - 1, by simp at hfu; omega⟩
    have hlen : L.length = D.length + Rs.length + 1 := by rw [eL]; simp; omega
    have S3' := S3
    rw [eL] at S3'
    obtain ⟨g1, g2, g3⟩ := qm_sg_mid S3'
    have hvx : vp_in (nI (sl * 1024 + D.length)) 16384 := vp_in_nI (by omega) (by omega)
    have hcc : (nI (sl * 1024 + D.length)).toNatClampNeg = sl * 1024 + D.length := nI_clamp (by omega)
    have eD : L = (D ++ [x]) ++ Rs := by rw [eL, List.append_assoc]; rfl
    have eA : sl * 1024 + (D ++ [x]).length = sl * 1024 + D.length + 1 := by simp; omega
    have go := ih (D ++ [x]) eD fu (by simp at hfu; omega)
    rw [eA, List.countP_append] at go
    have c1 : qa_cp t lim x = true → List.countP (qa_cp t lim) [x] = 1 := fun h => by rw [List.countP_cons_of_pos h]; rfl
    have c0 : ¬ qa_cp t lim x = true → List.countP (qa_cp t lim) [x] = 0 := fun h => by rw [List.countP_cons_of_neg h]; rfl
    refine And.intro hv ?_
    rw [hcs, S1, hm, nI_add, hcc, g1, g2]
    refine br_f (nI_ge (by omega) (by omega)) ⟨hvx, br_c (fun e => ⟨hvx, br_c (fun e2 => nm_r (nI_1 _) ?_) (fun e2 => nm_r (nI_1 _) (nm_r (nI_1 _) ?_))⟩) (fun e => nm_r (nI_1 _) ?_)⟩
    · rw [c0 (by unfold qa_cp; simp [e, Int64.not_lt.mpr e2])] at go
      exact go
    · rw [c1 (by unfold qa_cp; simp [e, Int64.not_le.mp e2])] at go
      exact go
    · rw [c0 (by unfold qa_cp; simp [e])] at go
      exact go
theorem qy_below {post : Int32 → Prop} {sl : Nat} {L : List qa_T} {t : Int32} {lim : Int64} (hsl : sl < 16) (S : qy_S sl L bZ fT fC fV) (hp : post (nI (L.countP (qa_cp t lim)))) : wpY_termsBelow post (YN, YK, YR, YT, YM, YP, bK, bL, bR, bC, bD, bA, bB, bE, bO, bW, bH, bZ, fT, fC, fV) (nI sl) t lim := by
  refine nm_r (e' := nI (sl * 1024)) (pk_mul sl 1024) ⟨L.length + 1, ?_⟩
  exact qy_below_10 hsl S hp L [] rfl (L.length + 1) (by omega)
theorem qy_mono_24 {post : Int64 → Prop} {sl : Nat} {L : List qa_T} {t i : Int32} {v0 : Int64} (hsl : sl < 16) (S : qy_S sl L bZ fT fC fV) (h1 : ∀ p, p ∈ L → p.1 = t → nI (L.countP (qa_cp t p.2.1)) = i → p.2.1 = v0) (h0 : (∀ p, p ∈ L → p.1 = t → ¬ nI (L.countP (qa_cp t p.2.1)) = i) → v0 = -14) (hp : post v0) : ∀ (Rs D : List qa_T), L = D ++ Rs → (∀ p, p ∈ D → p.1 = t → ¬ nI (L.countP (qa_cp t p.2.1)) = i) → ∀ fu, Rs.length < fu → wY_monomial_24 post (nI sl) t i YN YK YR YT YM YP bK bL bR bC bD bA bB bE bO bW bH bZ fT fC fV fu (nI (sl * 1024 + D.length)) := by
  have SS := S
  obtain ⟨S1, S2, S3⟩ := S
  have hv : vp_in (nI sl) 16 := vp_in_nI (by omega) (by omega)
  have hcs : (nI sl).toNatClampNeg = sl := nI_clamp (by omega)
  have hm : nI sl * 1024 = nI (sl * 1024) := pk_mul sl 1024
  intro Rs
  induction Rs with
  | nil =>
    intro D eL hD fu hfu
    obtain ⟨fu, rfl⟩ : ∃ q, fu = q + 1 := ⟨fu - 1, by simp at hfu; omega⟩
    rw [List.append_nil] at eL
    subst eL
    refine And.intro hv ?_
    rw [hcs, S1, hm, nI_add]
    refine br_t (nI_le (Nat.le_refl _) (by omega)) ?_
    rw [h0 hD] at hp
    exact hp
  | cons x Rs ih =>
    intro D eL hD fu hfu
    obtain ⟨fu, rfl⟩ : ∃ q, fu = q + 1 := ⟨fu - 1, by simp at hfu; omega⟩
    have hlen : L.length = D.length + Rs.length + 1 := by rw [eL]; simp; omega
    have S3' := S3
    rw [eL] at S3'
    obtain ⟨g1, g2, g3⟩ := qm_sg_mid S3'
    have hvx : vp_in (nI (sl * 1024 + D.length)) 16384 := vp_in_nI (by omega) (by omega)
    have hcc : (nI (sl * 1024 + D.length)).toNatClampNeg = sl * 1024 + D.length := nI_clamp (by omega)
    have eD : L = (D ++ [x]) ++ Rs := by rw [eL, List.append_assoc]; rfl
    have eA : sl * 1024 + (D ++ [x]).length = sl * 1024 + D.length + 1 := by simp; omega
    have hmem : x ∈ L := by rw [eL]; exact List.mem_append_right _ List.mem_cons_self
    have go : ¬ (x.1 = t ∧ nI (L.countP (qa_cp t x.2.1)) = i) → wY_monomial_24 post (nI sl) t i YN YK YR YT YM YP bK bL bR bC bD bA bB bE bO bW bH bZ fT fC fV fu (nI (sl * 1024 + D.length + 1)) := by
      intro hx
      have := ih (D ++ [x]) eD (fun y hy e e2 => by
        rcases List.mem_append.mp hy with q | q
        · exact hD y q e e2
        · rw [List.mem_singleton.mp q] at e e2; exact hx ⟨e, e2⟩) fu (by simp at hfu; omega)
      rw [eA] at this
      exact this
    refine And.intro hv ?_
    rw [hcs, S1, hm, nI_add, hcc, g1, g2]
    refine br_f (nI_ge (by omega) (by omega)) ⟨hvx, br_c (fun e => ⟨hvx, qy_below hsl SS (br_c (fun e2 => ⟨hvx, ?_⟩) (fun e2 => nm_r (nI_1 _) (go (fun z => e2 z.2))))⟩) (fun e => nm_r (nI_1 _) (go (fun z => e z.1)))⟩
    rw [h1 x hmem e e2]; exact hp
end
section
variable {mr mt mx mp n tk : Nat} {S co de kd lf rt TB : Nat → Nat} {LX LY : Nat → List qa_T} {R : Nat → List qa_R} {XB XO : Int32} {aS aC aD aF tT : Nat → Int32} {tM tC : Nat → Int64} {tV : Nat → Int32} {bK bL bR bC bD bA bB bE bO bW bH bZ fT : Nat → Int32} {fC fV : Nat → Int64}
theorem re_code0 {q : Nat} (h : re_P mx co de kd lf rt TB bA bB bE bW LX LY R q) (hT : TB (q + 1) ≤ 16) {x : qa_T} (hx : x ∈ LX q) : 0 ≤ x.2.1.toInt ∧ x.2.1.toInt ≤ 4611686018427387904 := by
  obtain ⟨_, l, h1, h2, h3, h4⟩ := re_item h hx
  have := qs_cd_le (l := l) (fun y hy => by have := h4 y hy; omega)
  rw [h1, pk_lT (by omega)]
  omega
theorem re_split3 {q t : Nat} (h : re_P mx co de kd lf rt TB bA bB bE bW LX LY R q) (hT : TB (q + 1) ≤ 16) (ht : t < 64) : ∃ A M B, LX q = A ++ (M ++ B) ∧ (∀ x, x ∈ A → qa_bf x (nI t) 0 ∧ qa_bf x (nI (t + 1)) 0 ∧ x.1 ≠ nI t) ∧ (∀ x, x ∈ M → ¬ qa_bf x (nI t) 0 ∧ qa_bf x (nI (t + 1)) 0 ∧ x.1 = nI t) ∧ (∀ x, x ∈ B → ¬ qa_bf x (nI t) 0 ∧ ¬ qa_bf x (nI (t + 1)) 0 ∧ x.1 ≠ nI t) := by
  have hso := h.2.2.2.2.2.2.2.2.2.1
  obtain ⟨A, B0, e1, a1, b1⟩ := qa_split_bf hso (nI t) 0
  have hso2 : qa_so B0 := by rw [e1] at hso; exact (List.pairwise_append.mp hso).2.1
  obtain ⟨M, B, e2, a2, b2⟩ := qa_split_bf hso2 (nI (t + 1)) 0
  have z0 : (0 : Int64).toInt = 0 := by decide
  have t0 : (nI t).toInt = t := nI_toInt (by omega)
  have t1 : (nI (t + 1)).toInt = ((t + 1 : Nat) : Int) := nI_toInt (by omega)
  refine ⟨A, M, B, by rw [e1, e2], fun x hx => ?_, fun x hx => ?_, fun x hx => ?_⟩
  · have hc := re_code0 h hT (x := x) (by rw [e1]; exact List.mem_append_left _ hx)
    have hb := a1 x hx
    refine ⟨hb, ?_, ?_⟩
    · rw [qa_bf_i, z0, t0] at hb; rw [qa_bf_i, z0, t1]; omega
    · rw [qa_bf_i, z0, t0] at hb
      intro e; rw [e, t0] at hb; omega
  · have hx0 : x ∈ B0 := by rw [e2]; exact List.mem_append_left _ hx
    have hc := re_code0 h hT (x := x) (by rw [e1]; exact List.mem_append_right _ hx0)
    have h1 := b1 x hx0
    have h2 := a2 x hx
    refine ⟨h1, h2, ?_⟩
    rw [qa_bf_i, z0, t0] at h1
    rw [qa_bf_i, z0, t1] at h2
    apply Int32.toInt_inj.mp
    rw [t0]; omega
  · have hx0 : x ∈ B0 := by rw [e2]; exact List.mem_append_right _ hx
    have hc := re_code0 h hT (x := x) (by rw [e1]; exact List.mem_append_right _ hx0)
    have h1 := b1 x hx0
    have h2 := b2 x hx
    refine ⟨h1, h2, ?_⟩
    rw [qa_bf_i, z0, t1] at h2
    intro e; rw [e, t0] at h2; omega
theorem qa_cp_A {A : List qa_T} {t : Int32} {lim : Int64} (h : ∀ x, x ∈ A → x.1 ≠ t) : A.countP (qa_cp t lim) = 0 := by
  rw [List.countP_eq_zero]
  intro x hx
  unfold qa_cp; simp [h x hx]
theorem re_cntM {q t : Nat} {A M B : List qa_T} {lim : Int64} (e : LX q = A ++ (M ++ B)) (hA : ∀ x, x ∈ A → x.1 ≠ nI t) (hB : ∀ x, x ∈ B → x.1 ≠ nI t) : (LX q).countP (qa_cp (nI t) lim) = M.countP (qa_cp (nI t) lim) := by
  rw [e, List.countP_append, List.countP_append, qa_cp_A hA, qa_cp_A hB]; omega
end
end
section
/-! terms, monomial, coefficient -/
section
variable {mr mt mx mp n tk : Nat} {S co de kd lf rt TB : Nat → Nat} {LX LY : Nat → List qa_T} {R : Nat → List qa_R} {XB XO : Int32} {aS aC aD aF tT : Nat → Int32} {tM tC : Nat → Int64} {tV : Nat → Int32} {bK bL bR bC bD bA bB bE bO bW bH bZ fT : Nat → Int32} {fC fV : Nat → Int64}
theorem re_T16 (H : re_A mr mt mx mp n tk S co de kd lf rt TB LX LY R aS aC aD aF tT tM tC tV bK bL bR bC bD bA bB bE bO bW bH bZ fT fC fV) {q : Nat} (hq : q < n) : TB (q + 1) ≤ 16 := by
  have := re_TBm H.2.1 (q + 1) hq
  obtain ⟨N, _⟩ := H
  obtain ⟨n1, n2, n3, n4, n5, n6, n7, n8, n9, n10, n11, n12, n13⟩ := N
  omega
theorem re_max {q : Nat} (h : re_P mx co de kd lf rt TB bA bB bE bW LX LY R q) (hT : TB (q + 1) ≤ 16) {x : qa_T} (hx : x ∈ LX q) : x.2.1 < 9223372036854775807 := by
  have := re_code0 h hT hx
  rw [Int64.lt_iff_toInt_lt]
  have e : (9223372036854775807 : Int64).toInt = 9223372036854775807 := by decide
  omega
theorem qy_terms1 {post : Int32 → Prop} {YN YK YR YT YM YP : Int32} {q w t : Nat} {L : List qa_T} (hN : YN = nI n) (hn : n ≤ 8) (hq : q < n) (hC : bC q = nI w) (hw : w ≤ 3) (hS : qy_S q L bZ fT fC fV) (h : t < 4 ^ w) (hp : post (nI (L.countP (qa_cp (nI t) 9223372036854775807)))) : wpY_terms post (YN, YK, YR, YT, YM, YP, bK, bL, bR, bC, bD, bA, bB, bE, bO, bW, bH, bZ, fT, fC, fV) (nI q) (nI t) := by
  unfold wpY_terms
  exact qy_chk2 hN hn hq hC hw h (br_t (by decide) (qy_below (by omega) hS hp))
theorem re_terms {k : Nat} {v1 v2 : Int32} (H : re_A mr mt mx mp n tk S co de kd lf rt TB LX LY R aS aC aD aF tT tM tC tV bK bL bR bC bD bA bB bE bO bW bH bZ fT fC fV) : wpX_terms (fun r => wpY_terms (fun r' => r' = r ∧ i_Rel k (nI mr, nI mt, nI mx, nI mp, nI n, nI tk, XB, XO, aS, aC, aD, aF, tT, tM, tC, tV) (nI n, nI tk, nI mr, nI mt, nI mx, nI mp, bK, bL, bR, bC, bD, bA, bB, bE, bO, bW, bH, bZ, fT, fC, fV)) (nI n, nI tk, nI mr, nI mt, nI mx, nI mp, bK, bL, bR, bC, bD, bA, bB, bE, bO, bW, bH, bZ, fT, fC, fV) v1 v2) (nI mr, nI mt, nI mx, nI mp, nI n, nI tk, XB, XO, aS, aC, aD, aF, tT, tM, tC, tV) v1 v2 := by
  have HH := H
  have hS := re_S H
  have Sm := re_Sm H
  obtain ⟨N, T, HP, HX, HY⟩ := H
  obtain ⟨n1, n2, n3, n4, n5, n6, n7, n8, n9, n10, n11, n12, n13⟩ := N
  unfold wpX_terms
  rcases qz_ix v1 n (by omega) with h | ⟨q, hq, rfl⟩
  · refine qx_chk0 rfl h (br_f (by decide) ?_)
    unfold wpY_terms
    exact qy_chk0 rfl h (br_f (by decide) ⟨rfl, re_in HH⟩)
  have hPq := HP q hq
  have hT := re_T16 HH hq
  obtain ⟨x1, x2, x3, x4, x5, x6⟩ := HX q hq
  obtain ⟨y1, y2, y3, y4, y5, y6⟩ := HY q hq
  have hco := hPq.1
  have h64 := qc_64 hco.2
  rcases qz_ix v2 (4 ^ co q) (by omega) with h | ⟨t, ht, rfl⟩
  · refine qx_chk1 rfl (by omega) hq x3 hco.2 h (br_f (by decide) ?_)
    unfold wpY_terms
    exact qy_chk1 rfl (by omega) hq y4 hco.2 h (br_f (by decide) ⟨rfl, re_in HH⟩)
  obtain ⟨A, M, B, e, hA, hM, hB⟩ := re_split3 hPq hT (t := t) (by omega)
  have hle := Sm q hq
  have hlen : (LX q).length = A.length + (M.length + B.length) := by rw [e, List.length_append, List.length_append]
  have perm := (re_len HH hq).2.2
  have seg1 := x6
  rw [e] at seg1
  have seg2 := x6
  rw [e, ← List.append_assoc] at seg2
  refine qx_chk2 rfl (by omega) hq x3 hco.2 ht (br_t rfl ?_)
  rw [nI_1 t]
  refine qx_first (A := A ++ M) (B := B) (s1 := S (q + 1)) (by omega) (hS q (by omega)) x1 seg2 (by rw [List.length_append]; omega) (by omega) (fun x hx => ?_) (fun x hx => (hB x hx).2.1) ?_
  · rcases List.mem_append.mp hx with z | z
    · exact (hA x z).2.1
    · exact (hM x z).2.1
  refine qx_first (A := A) (B := M ++ B) (s1 := S (q + 1)) (by omega) (hS q (by omega)) x1 seg1 (by rw [List.length_append]; omega) (by omega) (fun x hx => (hA x hx).1) (fun x hx => ?_) ?_
  · rcases List.mem_append.mp hx with z | z
    · exact (hM x z).1
    · exact (hB x z).1
  rw [pk_sub (by rw [List.length_append]; omega)]
  refine qy_terms1 rfl (by omega) hq y4 hco.2 y6 ht ⟨?_, re_in HH⟩
  rw [← perm.countP_eq, re_cntM e (fun x hx => (hA x hx).2.2) (fun x hx => (hB x hx).2.2), List.countP_eq_length.mpr]
  · exact congrArg nI (by rw [List.length_append]; omega)
  · intro x hx
    have := re_max hPq hT (x := x) (by rw [e]; exact List.mem_append_right _ (List.mem_append_left _ hx))
    unfold qa_cp
    simp [(hM x hx).2.2, this]
theorem re_cnt_at {q t : Nat} {A M B U W : List qa_T} {p : qa_T} (hso : qa_so (LX q)) (e : LX q = A ++ (M ++ B)) (hA : ∀ x, x ∈ A → x.1 ≠ nI t) (hM : ∀ x, x ∈ M → x.1 = nI t) (hB : ∀ x, x ∈ B → x.1 ≠ nI t) (eM : M = U ++ p :: W) : (LX q).countP (qa_cp (nI t) p.2.1) = U.length := by
  rw [re_cntM e hA hB, eM, List.countP_append]
  have so : qa_so (U ++ p :: W) := by
    rw [e] at hso
    have := (List.pairwise_append.mp (List.pairwise_append.mp hso).2.1).1
    rw [eM] at this
    exact this
  obtain ⟨s1, s2, s3⟩ := List.pairwise_append.mp so
  have hp : p.1 = nI t := hM p (by rw [eM]; exact List.mem_append_right _ List.mem_cons_self)
  have c1 : U.countP (qa_cp (nI t) p.2.1) = U.length := by
    rw [List.countP_eq_length]
    intro x hx
    have hx1 : x.1 = nI t := hM x (by rw [eM]; exact List.mem_append_left _ hx)
    have := s3 x hx p List.mem_cons_self
    unfold qa_lt qa_bf at this
    rw [hx1, hp] at this
    have : x.2.1 < p.2.1 := by
      rcases this with z | z
      · exact (Int32.lt_irrefl z).elim
      · exact z.2
    unfold qa_cp
    simp [hx1, this]
  have c2 : (p :: W).countP (qa_cp (nI t) p.2.1) = 0 := by
    rw [List.countP_eq_zero]
    intro x hx
    have hx1 : x.1 = nI t := hM x (by rw [eM]; exact List.mem_append_right _ hx)
    have : ¬ x.2.1 < p.2.1 := by
      rcases List.mem_cons.mp hx with z | z
      · rw [z]; exact fun w => Int64.lt_irrefl w
      · have := (List.pairwise_cons.mp s2).1 x z
        unfold qa_lt at this
        rw [qa_bf_i, hx1, hp] at this
        rw [Int64.lt_iff_toInt_lt]; omega
    unfold qa_cp
    simp [this]
  rw [c1, c2, Nat.add_zero]
theorem re_monomial {k : Nat} {v1 v2 v3 : Int32} (H : re_A mr mt mx mp n tk S co de kd lf rt TB LX LY R aS aC aD aF tT tM tC tV bK bL bR bC bD bA bB bE bO bW bH bZ fT fC fV) : wpX_monomial (fun r => wpY_monomial (fun r' => r' = r ∧ i_Rel k (nI mr, nI mt, nI mx, nI mp, nI n, nI tk, XB, XO, aS, aC, aD, aF, tT, tM, tC, tV) (nI n, nI tk, nI mr, nI mt, nI mx, nI mp, bK, bL, bR, bC, bD, bA, bB, bE, bO, bW, bH, bZ, fT, fC, fV)) (nI n, nI tk, nI mr, nI mt, nI mx, nI mp, bK, bL, bR, bC, bD, bA, bB, bE, bO, bW, bH, bZ, fT, fC, fV) v1 v2 v3) (nI mr, nI mt, nI mx, nI mp, nI n, nI tk, XB, XO, aS, aC, aD, aF, tT, tM, tC, tV) v1 v2 v3 := by
  have HH := H
  have hS := re_S H
  have Sm := re_Sm H
  obtain ⟨N, T, HP, HX, HY⟩ := H
  obtain ⟨n1, n2, n3, n4, n5, n6, n7, n8, n9, n10, n11, n12, n13⟩ := N
  unfold wpX_monomial
  rcases qz_ix v1 n (by omega) with h | ⟨q, hq, rfl⟩
  · refine qx_chk0 rfl h (br_f (by decide) ?_)
    unfold wpY_monomial
    exact qy_chk0 rfl h (br_f (by decide) ⟨rfl, re_in HH⟩)
  have hPq := HP q hq
  have hT := re_T16 HH hq
  obtain ⟨x1, x2, x3, x4, x5, x6⟩ := HX q hq
  obtain ⟨y1, y2, y3, y4, y5, y6⟩ := HY q hq
  have hco := hPq.1
  have h64 := qc_64 hco.2
  rcases qz_ix v2 (4 ^ co q) (by omega) with h | ⟨t, ht, rfl⟩
  · refine qx_chk1 rfl (by omega) hq x3 hco.2 h (br_f (by decide) ?_)
    unfold wpY_monomial
    exact qy_chk1 rfl (by omega) hq y4 hco.2 h (br_f (by decide) ⟨rfl, re_in HH⟩)
  obtain ⟨A, M, B, e, hA, hM, hB⟩ := re_split3 hPq hT (t := t) (by omega)
  have hle := Sm q hq
  have hlen : (LX q).length = A.length + (M.length + B.length) := by rw [e, List.length_append, List.length_append]
  have perm := (re_len HH hq).2.2
  have hso := hPq.2.2.2.2.2.2.2.2.2.1
  have seg1 := x6
  rw [e] at seg1
  have seg2 := x6
  rw [e, ← List.append_assoc] at seg2
  have hMm : ∀ p, p ∈ LY q → p.1 = nI t → p ∈ M := by
    intro p hp hp1
    have := perm.mem_iff.mpr hp
    rw [e] at this
    rcases List.mem_append.mp this with z | z
    · exact absurd hp1 (hA p z).2.2
    · rcases List.mem_append.mp z with z | z
      · exact z
      · exact absurd hp1 (hB p z).2.2
  have cnt : ∀ U p W, M = U ++ p :: W → (LY q).countP (qa_cp (nI t) p.2.1) = U.length := by
    intro U p W eM
    rw [← perm.countP_eq]
    exact re_cnt_at hso e (fun x hx => (hA x hx).2.2) (fun x hx => (hM x hx).2.2) (fun x hx => (hB x hx).2.2) eM
  have toY : ∀ (pst : Int64 → Prop) (v0 : Int64), (∀ p, p ∈ LY q → p.1 = nI t → nI ((LY q).countP (qa_cp (nI t) p.2.1)) = v3 → p.2.1 = v0) → ((∀ p, p ∈ LY q → p.1 = nI t → ¬ nI ((LY q).countP (qa_cp (nI t) p.2.1)) = v3) → v0 = -14) → pst v0 → wpY_monomial pst (nI n, nI tk, nI mr, nI mt, nI mx, nI mp, bK, bL, bR, bC, bD, bA, bB, bE, bO, bW, bH, bZ, fT, fC, fV) (nI q) (nI t) v3 := by
    intro pst v0 g1 g0 hp
    unfold wpY_monomial
    refine qy_chk2 rfl (by omega) hq y4 hco.2 ht (br_t (by decide) ?_)
    refine nm_r (e' := nI (q * 1024)) (pk_mul q 1024) ⟨(LY q).length + 1, ?_⟩
    exact qy_mono_24 (by omega) y6 g1 g0 hp (LY q) [] rfl (fun p hp => (nomatch hp)) ((LY q).length + 1) (by omega)
  have bad : (v3 < 0 ∨ nI M.length ≤ v3) → ∀ p, p ∈ LY q → p.1 = nI t → ¬ nI ((LY q).countP (qa_cp (nI t) p.2.1)) = v3 := by
    intro hb p hp hp1 z
    obtain ⟨U, W, eM⟩ := List.append_of_mem (hMm p hp hp1)
    rw [cnt U p W eM] at z
    have hl : U.length < M.length := by rw [eM, List.length_append, List.length_cons]; omega
    rcases hb with hb | hb
    · rw [← z] at hb; exact nI_pos (by omega) hb
    · rw [← z] at hb; exact nI_ge hl (by omega) hb
  refine qx_chk2 rfl (by omega) hq x3 hco.2 ht (br_t rfl ?_)
  refine qx_first (A := A) (B := M ++ B) (s1 := S (q + 1)) (by omega) (hS q (by omega)) x1 seg1 (by rw [List.length_append]; omega) (by omega) (fun x hx => (hA x hx).1) (fun x hx => ?_) ?_
  · rcases List.mem_append.mp hx with z | z
    · exact (hM x z).1
    · exact (hB x z).1
  rw [nI_1 t]
  refine qx_first (A := A ++ M) (B := B) (s1 := S (q + 1)) (by omega) (hS q (by omega)) x1 seg2 (by rw [List.length_append]; omega) (by omega) (fun x hx => ?_) (fun x hx => (hB x hx).2.1) ?_
  · rcases List.mem_append.mp hx with z | z
    · exact (hA x z).2.1
    · exact (hM x z).2.1
  have esub : nI (S q + (A ++ M).length) - nI (S q + A.length) = nI M.length := by
    rw [pk_sub (by rw [List.length_append]; omega)]
    exact congrArg nI (by rw [List.length_append]; omega)
  rw [esub]
  rcases qz_ix v3 M.length (by omega) with h | ⟨i, hi, rfl⟩
  · have fin : wpY_monomial (fun r' => r' = -14 ∧ i_Rel k (nI mr, nI mt, nI mx, nI mp, nI n, nI tk, XB, XO, aS, aC, aD, aF, tT, tM, tC, tV) (nI n, nI tk, nI mr, nI mt, nI mx, nI mp, bK, bL, bR, bC, bD, bA, bB, bE, bO, bW, bH, bZ, fT, fC, fV)) (nI n, nI tk, nI mr, nI mt, nI mx, nI mp, bK, bL, bR, bC, bD, bA, bB, bE, bO, bW, bH, bZ, fT, fC, fV) (nI q) (nI t) v3 :=
      toY _ (-14) (fun p hp hp1 z => absurd z (bad h p hp hp1)) (fun _ => rfl) ⟨rfl, re_in HH⟩
    refine br_c (fun _ => fin) (fun h0 => br_f ?_ fin)
    rcases h with h | h
    · exact absurd h h0
    · exact Int32.not_lt.mpr h
  · have hsp : M = M.take i ++ (M[i] :: M.drop (i + 1)) := by
      rw [← List.drop_eq_getElem_cons hi, List.take_append_drop]
    have htl : (M.take i).length = i := by rw [List.length_take]; omega
    refine br_f (nI_pos (by omega)) (br_t (nI_lt hi (by omega)) ?_)
    rw [nI_add]
    refine ⟨vp_in_nI (by omega) (by omega), ?_⟩
    rw [nI_clamp (n := S q + A.length + i) (by omega)]
    have eC : tM (S q + A.length + i) = M[i].2.1 := by
      have := (qm_sg_app.mp seg1).2
      have := (qm_sg_app.mp this).1
      rw [hsp] at this
      have := (qm_sg_mid this).2.1
      rw [htl] at this
      exact this
    rw [eC]
    refine toY _ M[i].2.1 ?_ ?_ ⟨rfl, re_in HH⟩
    · intro p hp hp1 z
      obtain ⟨U, W, eM⟩ := List.append_of_mem (hMm p hp hp1)
      rw [cnt U p W eM] at z
      have hl : U.length < M.length := by rw [eM, List.length_append, List.length_cons]; omega
      rw [nI_eq (by omega) (by omega)] at z
      have e2 := eM.symm.trans hsp
      have := (List.append_inj e2 (by rw [htl]; exact z)).2
      rw [(List.cons.inj this).1]
    · intro hno
      have hin : M[i] ∈ LY q := by
        apply perm.mem_iff.mp
        rw [e]
        exact List.mem_append_right _ (List.mem_append_left _ (List.getElem_mem hi))
      exact absurd (congrArg nI ((cnt _ _ _ hsp).trans htl)) (hno _ hin (hM _ (List.getElem_mem hi)).2.2)
theorem re_coefficient {k : Nat} {v1 v2 : Int32} {a2 : Int64} (H : re_A mr mt mx mp n tk S co de kd lf rt TB LX LY R aS aC aD aF tT tM tC tV bK bL bR bC bD bA bB bE bO bW bH bZ fT fC fV) : wpX_coefficient (fun r => wpY_coefficient (fun r' => r' = r ∧ i_Rel k (nI mr, nI mt, nI mx, nI mp, nI n, nI tk, XB, XO, aS, aC, aD, aF, tT, tM, tC, tV) (nI n, nI tk, nI mr, nI mt, nI mx, nI mp, bK, bL, bR, bC, bD, bA, bB, bE, bO, bW, bH, bZ, fT, fC, fV)) (nI n, nI tk, nI mr, nI mt, nI mx, nI mp, bK, bL, bR, bC, bD, bA, bB, bE, bO, bW, bH, bZ, fT, fC, fV) v1 v2 a2) (nI mr, nI mt, nI mx, nI mp, nI n, nI tk, XB, XO, aS, aC, aD, aF, tT, tM, tC, tV) v1 v2 a2 := by
  have HH := H
  have hS := re_S H
  have Sm := re_Sm H
  obtain ⟨N, T, HP, HX, HY⟩ := H
  obtain ⟨n1, n2, n3, n4, n5, n6, n7, n8, n9, n10, n11, n12, n13⟩ := N
  unfold wpX_coefficient
  rcases qz_ix v1 n (by omega) with h | ⟨q, hq, rfl⟩
  · refine qx_chk0 rfl h (br_f (by decide) ?_)
    unfold wpY_coefficient
    exact qy_chk0 rfl h (br_f (by decide) ⟨rfl, re_in HH⟩)
  have hPq := HP q hq
  obtain ⟨x1, x2, x3, x4, x5, x6⟩ := HX q hq
  obtain ⟨y1, y2, y3, y4, y5, y6⟩ := HY q hq
  have hco := hPq.1
  have h64 := qc_64 hco.2
  rcases qz_ix v2 (4 ^ co q) (by omega) with h | ⟨t, ht, rfl⟩
  · refine qx_chk1 rfl (by omega) hq x3 hco.2 h (br_f (by decide) ?_)
    unfold wpY_coefficient
    exact qy_chk1 rfl (by omega) hq y4 hco.2 h (br_f (by decide) ⟨rfl, re_in HH⟩)
  have hso := hPq.2.2.2.2.2.2.2.2.2.1
  have hND := hPq.2.2.2.2.2.2.2.2.2.2.1
  obtain ⟨A, B, e, ha, hb⟩ := qa_split_bf hso (nI t) a2
  have hle := Sm q hq
  have hlen : (LX q).length = A.length + B.length := by rw [e, List.length_append]
  have perm := (re_len HH hq).2.2
  have seg := x6
  rw [e] at seg
  have toY : ∀ (pst : Int64 → Prop) (v0 : Int64), (∀ p, p ∈ LY q → qa_key p = (nI t, a2) → p.2.2 = v0) → ((∀ p, p ∈ LY q → qa_key p ≠ (nI t, a2)) → v0 = 0) → pst v0 → wpY_coefficient pst (nI n, nI tk, nI mr, nI mt, nI mx, nI mp, bK, bL, bR, bC, bD, bA, bB, bE, bO, bW, bH, bZ, fT, fC, fV) (nI q) (nI t) a2 := by
    intro pst v0 g1 g0 hp
    unfold wpY_coefficient
    refine qy_chk2 rfl (by omega) hq y4 hco.2 ht (br_t (by decide) ?_)
    refine qy_find (by omega) y6 (fun U x W eL hk _ => ?_) (fun hno => ?_)
    · have hl : (LY q).length = U.length + W.length + 1 := by rw [eL]; simp; omega
      have hl2 := y6.2.1
      have hl3 := (re_len HH hq).1
      refine br_t (nI_pos' (by omega)) ⟨vp_in_nI (by omega) (by omega), ?_⟩
      rw [nI_clamp (by omega)]
      have sg := y6.2.2
      rw [eL] at sg
      rw [(qm_sg_mid sg).2.2, g1 x (by rw [eL]; exact List.mem_append_right _ List.mem_cons_self) hk]
      exact hp
    · rw [g0 hno] at hp
      exact br_f (by decide) hp
  refine qx_chk2 rfl (by omega) hq x3 hco.2 ht (br_t rfl ?_)
  rw [nI_1 q]
  refine And.intro (vp_in_nI (by omega) (by omega)) ?_
  rw [nI_clamp (n := q + 1) (by omega), nI_clamp (n := q) (by omega), x1, hS q (by omega)]
  refine nm_e ⟨vp_in_nI (by omega) (by omega), ?_⟩
  refine qx_find seg (by omega) (by omega) ha hb ?_
  refine qx_isTerm (by omega) (by omega) (fun z1 z2 z3 => br_f (by decide) ?_) (fun z => br_t rfl ?_)
  · match B, hb, seg, e, hlen with
    | [], _, _, _, hlen => simp at hlen; omega
    | y :: B, hb, seg, e, hlen =>
      obtain ⟨g1, g2, g3⟩ := qm_sg_mid seg
      refine ⟨vp_in_nI (by omega) (by omega), ?_⟩
      rw [nI_clamp (by omega), g3]
      have hy : y ∈ LX q := by rw [e]; exact List.mem_append_right _ List.mem_cons_self
      have hyk : qa_key y = (nI t, a2) := by
        show (y.1, y.2.1) = _
        rw [← g1, ← g2, z2, z3]
      refine toY _ y.2.2 (fun p hp hk => ?_) (fun hno => absurd hyk (hno y (perm.mem_iff.mp hy))) ⟨rfl, re_in HH⟩
      have o1 := qa_os_mem (s := 4) hND hp
      have o2 := qa_os_mem (s := 4) hND (perm.mem_iff.mp hy)
      rw [hk] at o1
      rw [hyk, o1] at o2
      exact Option.some.inj o2
  · have nk : ∀ y, y ∈ A ++ B → qa_key y ≠ (nI t, a2) := by
      intro y hy hk
      rw [e] at hso
      obtain ⟨B', rfl⟩ := qa_split_key hso ha hb hy hk
      obtain ⟨g1, g2, _⟩ := qm_sg_mid seg
      refine z ⟨by simp at hlen; omega, ?_, ?_⟩
      · rw [g1]; exact qa_k1 hk
      · rw [g2]; exact qa_k2 hk
    refine toY _ 0 (fun p hp hk => ?_) (fun _ => rfl) ⟨rfl, re_in HH⟩
    have := perm.mem_iff.mpr hp
    rw [e] at this
    exact absurd hk (nk p this)
end
end
section
/-! tuple and info: rows of a relation -/
def qa_op : Option Int32 → List qa_T → List Int32
  | _, [] => []
  | p, x :: L => if p = some x.1 then qa_op (some x.1) L else x.1 :: qa_op (some x.1) L
theorem qa_op_mem : ∀ {L : List qa_T} {p : Option Int32} {t : Int32}, t ∈ qa_op p L → ∃ x, x ∈ L ∧ x.1 = t
  | [], _, _, h => (nomatch h)
  | x :: L, p, t, h => by
    unfold qa_op at h
    split at h
    · obtain ⟨y, hy, e⟩ := qa_op_mem h
      exact ⟨y, List.mem_cons_of_mem _ hy, e⟩
    · rcases List.mem_cons.mp h with z | z
      · exact ⟨x, List.mem_cons_self, z.symm⟩
      · obtain ⟨y, hy, e⟩ := qa_op_mem z
        exact ⟨y, List.mem_cons_of_mem _ hy, e⟩
theorem qa_mem_op : ∀ {L : List qa_T} {p : Option Int32} {x : qa_T}, x ∈ L → x.1 ∈ qa_op p L ∨ p = some x.1
  | y :: L, p, x, h => by
    unfold qa_op
    by_cases hp : p = some y.1
    · rw [if_pos hp]
      rcases List.mem_cons.mp h with z | z
      · rw [z]; exact Or.inr hp
      · rcases qa_mem_op (p := some y.1) z with w | w
        · exact Or.inl w
        · exact Or.inr (hp.trans w)
    · rw [if_neg hp]
      rcases List.mem_cons.mp h with z | z
      · rw [z]; exact Or.inl List.mem_cons_self
      · rcases qa_mem_op (p := some y.1) z with w | w
        · exact Or.inl (List.mem_cons_of_mem _ w)
        · rw [← Option.some.inj w]; exact Or.inl List.mem_cons_self
/-- strictly rising, and above the item before -/
theorem qa_op_so : ∀ {L : List qa_T} {p : Option Int32}, qa_so L → (∀ a, p = some a → ∀ x, x ∈ L → a.toInt ≤ x.1.toInt) → (qa_op p L).Pairwise (fun a b => a.toInt < b.toInt) ∧ (∀ a, p = some a → ∀ t, t ∈ qa_op p L → a.toInt < t.toInt)
  | [], _, _, _ => ⟨List.Pairwise.nil, fun _ _ _ h => (nomatch h)⟩
  | x :: L, p, hs, hp => by
    obtain ⟨h1, h2⟩ := List.pairwise_cons.mp hs
    have hx : ∀ a, some x.1 = some a → ∀ y, y ∈ L → a.toInt ≤ y.1.toInt := by
      intro a ea y hy
      cases ea
      have := h1 y hy
      unfold qa_lt at this
      rw [qa_bf_i] at this
      omega
    obtain ⟨i1, i2⟩ := qa_op_so (L := L) (p := some x.1) h2 hx
    unfold qa_op
    by_cases e : p = some x.1
    · rw [if_pos e]
      exact ⟨i1, fun a ea t ht => i2 a (by rw [← e, ea]) t ht⟩
    · rw [if_neg e]
      refine ⟨List.pairwise_cons.mpr ⟨fun t ht => i2 x.1 rfl t ht, i1⟩, ?_⟩
      intro a ea t ht
      have hlt : a.toInt < x.1.toInt := by
        have := hp a ea x List.mem_cons_self
        rcases Classical.em (a.toInt = x.1.toInt) with z | z
        · exact absurd (by rw [ea, Int32.toInt_inj.mp z]) e
        · omega
      rcases List.mem_cons.mp ht with z | z
      · rw [z]; exact hlt
      · have := i2 x.1 rfl t z; omega
/-- the rows: as X finds them, as Y finds them -/
theorem qa_op_rows {L : List qa_T} (hs : qa_so L) (hb : ∀ x, x ∈ L → ∃ a, a < 64 ∧ x.1 = nI a) : qa_op none L = ((List.range 64).filter (fun t => decide (∃ x, x ∈ L ∧ x.1 = nI t))).map nI := by
  obtain ⟨p1, _⟩ := qa_op_so (p := none) hs (fun a ea => (nomatch ea))
  have q1 : (((List.range 64).filter (fun t => decide (∃ x, x ∈ L ∧ x.1 = nI t))).map nI).Pairwise (fun a b => a.toInt < b.toInt) := by
    rw [List.pairwise_map]
    have : ((List.range 64).filter (fun t => decide (∃ x, x ∈ L ∧ x.1 = nI t))).Pairwise (fun a b => a < b ∧ b < 64) := by
      have h0 : (List.range 64).Pairwise (fun a b => a < b ∧ b < 64) := by decide
      exact h0.filter _
    refine this.imp ?_
    intro a b h
    rw [nI_toInt (by omega), nI_toInt (by omega)]
    omega
  have nd : ∀ {M : List Int32}, M.Pairwise (fun a b => a.toInt < b.toInt) → M.Nodup := fun h => h.imp (fun {a b} h e => by rw [e] at h; omega)
  refine List.Perm.eq_of_pairwise (le := fun a b => a.toInt < b.toInt) ?_ p1 q1 ?_
  · intro a b _ _ h1 h2; omega
  · rw [List.perm_ext_iff_of_nodup (nd p1) (nd q1)]
    intro t
    rw [List.mem_map]
    constructor
    · intro ht
      obtain ⟨x, hx, e⟩ := qa_op_mem ht
      obtain ⟨a, ha, e2⟩ := hb x hx
      exact ⟨a, List.mem_filter.mpr ⟨List.mem_range.mpr ha, by simp only [decide_eq_true_eq]; exact ⟨x, hx, e2⟩⟩, by rw [← e, e2]⟩
    · rintro ⟨a, ha, rfl⟩
      obtain ⟨_, h2⟩ := List.mem_filter.mp ha
      simp only [decide_eq_true_eq] at h2
      obtain ⟨x, hx, e⟩ := h2
      rw [← e]
      rcases qa_mem_op (p := none) hx with z | z
      · exact z
      · cases z
end
section
/-! tuple, info -/
def qa_get (i : Int32) : Nat → List Int32 → Int32
  | _, [] => -14
  | c, t :: Rw => if nI c = i then t else qa_get i (c + 1) Rw
def qa_pv (D : List qa_T) (p : Option Int32) : Prop := (D = [] ∧ p = none) ∨ ∃ D' y, D = D' ++ [y] ∧ p = some y.1
section
variable {XR XT XM XP XN XK XB XO : Int32} {aS aC aD aF tT tV : Nat → Int32} {tM tC : Nat → Int64}
theorem qx_opens {post : Int32 → Prop} {q s0 : Nat} {D Rs : List qa_T} {x : qa_T} {p : Option Int32} (hq : q < 8) (hS : aS q = nI s0) (hseg : qm_sg tT tM tC s0 (D ++ x :: Rs)) (hle : s0 + D.length < 224) (hp : qa_pv D p) (h0 : p = some x.1 → post 0) (h1 : ¬ p = some x.1 → post 1) : wpX_opensRow post (XR, XT, XM, XP, XN, XK, XB, XO, aS, aC, aD, aF, tT, tM, tC, tV) (nI q) (nI (s0 + D.length)) := by
  refine And.intro (vp_in_nI (by omega) (by omega)) ?_
  rw [nI_clamp (n := q) (by omega), hS]
  have hx := (qm_sg_mid hseg).1
  rcases hp with ⟨rfl, rfl⟩ | ⟨D', y, rfl, rfl⟩
  · exact br_t rfl (h1 (fun z => (nomatch z)))
  · have el : (D' ++ [y]).length = D'.length + 1 := by simp
    have hy : tT (s0 + D'.length) = y.1 := by
      rw [List.append_assoc] at hseg
      exact (qm_sg_mid hseg).1
    refine pk_eq (s0 + (D' ++ [y]).length) s0 (fun z => by omega) (fun z => ⟨vp_in_nI hle (by omega), ?_⟩)
    have e1 : nI (s0 + (D' ++ [y]).length) - 1 = nI (s0 + D'.length) := by
      rw [el, show s0 + (D'.length + 1) = (s0 + D'.length) + 1 by omega, nI_pred]
    rw [e1, nI_clamp (n := s0 + (D' ++ [y]).length) (by omega), nI_clamp (n := s0 + D'.length) (by omega), hx, hy]
    exact ⟨vp_in_nI (by omega) (by omega), br_c (fun e => h0 (by rw [e])) (fun e => h1 (fun w => e (Option.some.inj w).symm))⟩
theorem qx_tuple_20 {post : Int32 → Prop} {q s0 : Nat} {L : List qa_T} {i : Int32} (hq : q < 8) (hS : aS q = nI s0) (hS1 : aS (q + 1) = nI (s0 + L.length)) (hseg : qm_sg tT tM tC s0 L) (hle : s0 + L.length ≤ 224) : ∀ (Rs D : List qa_T) (p : Option Int32) (c : Nat), L = D ++ Rs → qa_pv D p → post (qa_get i c (qa_op p Rs)) → ∀ fu, Rs.length < fu → wX_tuple_20 post (nI q) i XR XT XM XP XN XK XB XO aS aC aD aF tT tM tC tV fu (nI c) (nI (s0 + D.length)) := by
  have hc1 : (nI q + 1).toNatClampNeg = q + 1 := by rw [nI_1]; exact nI_clamp (by omega)
  have hv1 : vp_in (nI q + 1) 9 := by rw [nI_1]; exact vp_in_nI (by omega) (by omega)
  intro Rs
  induction Rs with
  | nil =>
    intro D p c eL hpv hp fu hfu
    obtain ⟨fu, rfl⟩ : ∃ q, fu = q + 1 := ⟨fu - 1, by simp at hfu; omega⟩
    rw [List.append_nil] at eL
    subst eL
    refine And.intro hv1 ?_
    rw [hc1, hS1]
    exact br_t (nI_le (Nat.le_refl _) (by omega)) hp
  | cons x Rs ih =>
    intro D p c eL hpv hp fu hfu
    obtain ⟨fu, rfl⟩ : ∃ q, fu = q + 1 := ⟨fu - 1, by simp at hfu; omega⟩
    have hlen : L.length = D.length + Rs.length + 1 := by rw [eL]; simp; omega
    have seg := hseg
    rw [eL] at seg
    have eD : L = (D ++ [x]) ++ Rs := by rw [eL, List.append_assoc]; rfl
    have eA : s0 + (D ++ [x]).length = s0 + D.length + 1 := by simp; omega
    have pv : qa_pv (D ++ [x]) (some x.1) := Or.inr ⟨D, x, rfl, rfl⟩
    unfold qa_op at hp
    refine And.intro hv1 ?_
    rw [hc1, hS1]
    refine br_f (nI_ge (by omega) (by omega)) (qx_opens hq hS seg (by omega) hpv (fun e => br_t rfl (nm_r (nI_1 _) ?_)) (fun e => br_f (by decide) ?_))
    · rw [if_pos e] at hp
      have := ih (D ++ [x]) (some x.1) c eD pv hp fu (by simp at hfu; omega)
      rw [eA] at this
      exact this
    · rw [if_neg e] at hp
      have hp : post (if nI c = i then x.1 else qa_get i (c + 1) (qa_op (some x.1) Rs)) := hp
      refine br_c (fun e2 => ⟨vp_in_nI (by omega) (by omega), ?_⟩) (fun e2 => nm_r (nI_1 c) (nm_r (nI_1 _) ?_))
      · rw [if_pos e2] at hp
        rw [nI_clamp (n := s0 + D.length) (by omega), (qm_sg_mid seg).1]
        exact hp
      · rw [if_neg e2] at hp
        have := ih (D ++ [x]) (some x.1) (c + 1) eD pv hp fu (by simp at hfu; omega)
        rw [eA] at this
        exact this
theorem qx_rows_9 {post : Int32 → Prop} {q s0 : Nat} {L : List qa_T} (hq : q < 8) (hS : aS q = nI s0) (hS1 : aS (q + 1) = nI (s0 + L.length)) (hseg : qm_sg tT tM tC s0 L) (hle : s0 + L.length ≤ 224) : ∀ (Rs D : List qa_T) (p : Option Int32) (c : Nat), L = D ++ Rs → qa_pv D p → post (nI (c + (qa_op p Rs).length)) → ∀ fu, Rs.length < fu → wX_countRows_9 post (nI q) XR XT XM XP XN XK XB XO aS aC aD aF tT tM tC tV fu (nI c) (nI (s0 + D.length)) := by
  have hc1 : (nI q + 1).toNatClampNeg = q + 1 := by rw [nI_1]; exact nI_clamp (by omega)
  have hv1 : vp_in (nI q + 1) 9 := by rw [nI_1]; exact vp_in_nI (by omega) (by omega)
  intro Rs
  induction Rs with
  | nil =>
    intro D p c eL hpv hp fu hfu
    obtain ⟨fu, rfl⟩ : ∃ q, fu = q + 1 := ⟨fu - 1, by simp at hfu; omega⟩
    rw [List.append_nil] at eL
    subst eL
    refine And.intro hv1 ?_
    rw [hc1, hS1]
    exact br_t (nI_le (Nat.le_refl _) (by omega)) hp
  | cons x Rs ih =>
    intro D p c eL hpv hp fu hfu
    obtain ⟨fu, rfl⟩ : ∃ q, fu = q + 1 := ⟨fu - 1, by simp at hfu; omega⟩
    have hlen : L.length = D.length + Rs.length + 1 := by rw [eL]; simp; omega
    have seg := hseg
    rw [eL] at seg
    have eD : L = (D ++ [x]) ++ Rs := by rw [eL, List.append_assoc]; rfl
    have eA : s0 + (D ++ [x]).length = s0 + D.length + 1 := by simp; omega
    have pv : qa_pv (D ++ [x]) (some x.1) := Or.inr ⟨D, x, rfl, rfl⟩
    unfold qa_op at hp
    refine And.intro hv1 ?_
    rw [hc1, hS1]
    refine br_f (nI_ge (by omega) (by omega)) (qx_opens hq hS seg (by omega) hpv (fun e => br_t rfl (nm_r (nI_1 _) ?_)) (fun e => br_f (by decide) (nm_r (nI_1 c) (nm_r (nI_1 _) ?_))))
    · rw [if_pos e] at hp
      have := ih (D ++ [x]) (some x.1) c eD pv hp fu (by simp at hfu; omega)
      rw [eA] at this
      exact this
    · rw [if_neg e, List.length_cons] at hp
      have := ih (D ++ [x]) (some x.1) (c + 1) eD pv (by rw [show c + 1 + (qa_op (some x.1) Rs).length = c + ((qa_op (some x.1) Rs).length + 1) by omega]; exact hp) fu (by simp at hfu; omega)
      rw [eA] at this
      exact this
end
section
variable {YN YK YR YT YM YP : Int32} {bK bL bR bC bD bA bB bE bO bW bH bZ fT : Nat → Int32} {fC fV : Nat → Int64}
def qy_R (pr : Nat → Bool) (t : Nat) : List Int32 := ((List.range' t (64 - t)).filter pr).map nI
theorem qy_R_64 (pr : Nat → Bool) : qy_R pr 64 = [] := rfl
theorem qy_R_t {pr : Nat → Bool} {t : Nat} (ht : t < 64) (h : pr t = true) : qy_R pr t = nI t :: qy_R pr (t + 1) := by
  unfold qy_R
  rw [show 64 - t = (64 - (t + 1)) + 1 by omega, List.range'_succ, List.filter_cons_of_pos h]; rfl
theorem qy_R_f {pr : Nat → Bool} {t : Nat} (ht : t < 64) (h : ¬ pr t = true) : qy_R pr t = qy_R pr (t + 1) := by
  unfold qy_R
  rw [show 64 - t = (64 - (t + 1)) + 1 by omega, List.range'_succ, List.filter_cons_of_neg h]
theorem qy_tuple_15 {post : Int32 → Prop} {q : Nat} {i : Int32} {pr : Nat → Bool} (htm : ∀ t, t < 64 → ∃ r : Int32, (r ≤ 0 ↔ ¬ pr t = true) ∧ ∀ pst : Int32 → Prop, pst r → wpY_terms pst (YN, YK, YR, YT, YM, YP, bK, bL, bR, bC, bD, bA, bB, bE, bO, bW, bH, bZ, fT, fC, fV) (nI q) (nI t)) : ∀ (d t c : Nat), t + d = 64 → post (qa_get i c (qy_R pr t)) → ∀ fu, d < fu → wY_tuple_15 post (nI q) i YN YK YR YT YM YP bK bL bR bC bD bA bB bE bO bW bH bZ fT fC fV fu (nI c) (nI t) := by
  intro d
  induction d with
  | zero =>
    intro t c ht hp fu hfu
    obtain ⟨fu, rfl⟩ : ∃ q, fu = q + 1 := ⟨fu - 1, by omega⟩
    have e : t = 64 := by omega
    subst e
    exact br_t (nI_le (a := 64) (by omega) (by omega)) hp
  | succ d ih =>
    intro t c ht hp fu hfu
    obtain ⟨fu, rfl⟩ : ∃ q, fu = q + 1 := ⟨fu - 1, by omega⟩
    obtain ⟨r, h1, h2⟩ := htm t (by omega)
    refine br_f (nI_ge (b := 64) (by omega) (by decide)) (h2 _ ?_)
    by_cases h : pr t = true
    · have hr : ¬ r ≤ 0 := fun z => h1.mp z h
      rw [qy_R_t (by omega) h] at hp
      have hp : post (if nI c = i then nI t else qa_get i (c + 1) (qy_R pr (t + 1))) := hp
      refine br_f hr (br_c (fun e => ?_) (fun e => ?_))
      · rw [if_pos e] at hp; exact hp
      · rw [if_neg e] at hp
        unfold wY_tuple_40
        refine h2 _ (br_f hr (nm_r (nI_1 c) (nm_r (nI_1 t) ?_)))
        exact ih (t + 1) (c + 1) (by omega) hp fu (by omega)
    · have hr : r ≤ 0 := h1.mpr h
      rw [qy_R_f (by omega) h] at hp
      refine br_t hr ?_
      unfold wY_tuple_40
      refine h2 _ (br_t hr (nm_r (nI_1 t) ?_))
      exact ih (t + 1) c (by omega) hp fu (by omega)
theorem qy_info_120 {post : Int32 → Prop} {q : Nat} {pr : Nat → Bool} (htm : ∀ t, t < 64 → ∃ r : Int32, (r ≤ 0 ↔ ¬ pr t = true) ∧ ∀ pst : Int32 → Prop, pst r → wpY_terms pst (YN, YK, YR, YT, YM, YP, bK, bL, bR, bC, bD, bA, bB, bE, bO, bW, bH, bZ, fT, fC, fV) (nI q) (nI t)) : ∀ (d t c : Nat), t + d = 64 → post (nI (c + (qy_R pr t).length)) → ∀ fu, d < fu → wY_info_120 post (nI q) YN YK YR YT YM YP bK bL bR bC bD bA bB bE bO bW bH bZ fT fC fV fu (nI c) (nI t) := by
  intro d
  induction d with
  | zero =>
    intro t c ht hp fu hfu
    obtain ⟨fu, rfl⟩ : ∃ q, fu = q + 1 := ⟨fu - 1, by omega⟩
    have e : t = 64 := by omega
    subst e
    exact br_t (nI_le (a := 64) (by omega) (by omega)) hp
  | succ d ih =>
    intro t c ht hp fu hfu
    obtain ⟨fu, rfl⟩ : ∃ q, fu = q + 1 := ⟨fu - 1, by omega⟩
    obtain ⟨r, h1, h2⟩ := htm t (by omega)
    refine br_f (nI_ge (b := 64) (by omega) (by decide)) (h2 _ ?_)
    by_cases h : pr t = true
    · have hr : ¬ r ≤ 0 := fun z => h1.mp z h
      rw [qy_R_t (by omega) h, List.length_cons] at hp
      refine br_f hr (nm_r (nI_1 c) (nm_r (nI_1 t) ?_))
      exact ih (t + 1) (c + 1) (by omega) (by rw [show c + 1 + (qy_R pr (t + 1)).length = c + ((qy_R pr (t + 1)).length + 1) by omega]; exact hp) fu (by omega)
    · have hr : r ≤ 0 := h1.mpr h
      rw [qy_R_f (by omega) h] at hp
      refine br_t hr (nm_r (nI_1 t) ?_)
      exact ih (t + 1) c (by omega) hp fu (by omega)
end
section
variable {mr mt mx mp n tk : Nat} {S co de kd lf rt TB : Nat → Nat} {LX LY : Nat → List qa_T} {R : Nat → List qa_R} {XB XO : Int32} {aS aC aD aF tT : Nat → Int32} {tM tC : Nat → Int64} {tV : Nat → Int32} {bK bL bR bC bD bA bB bE bO bW bH bZ fT : Nat → Int32} {fC fV : Nat → Int64}
theorem re_termsY (H : re_A mr mt mx mp n tk S co de kd lf rt TB LX LY R aS aC aD aF tT tM tC tV bK bL bR bC bD bA bB bE bO bW bH bZ fT fC fV) {q : Nat} (hq : q < n) : ∀ t, t < 64 → ∃ r : Int32, (r ≤ 0 ↔ ¬ decide (∃ x, x ∈ LX q ∧ x.1 = nI t) = true) ∧ ∀ pst : Int32 → Prop, pst r → wpY_terms pst (nI n, nI tk, nI mr, nI mt, nI mx, nI mp, bK, bL, bR, bC, bD, bA, bB, bE, bO, bW, bH, bZ, fT, fC, fV) (nI q) (nI t) := by
  have HH := H
  obtain ⟨N, T, HP, HX, HY⟩ := H
  obtain ⟨n1, n2, n3, n4, n5, n6, n7, n8, n9, n10, n11, n12, n13⟩ := N
  have hPq := HP q hq
  have hT := re_T16 HH hq
  obtain ⟨y1, y2, y3, y4, y5, y6⟩ := HY q hq
  have hco := hPq.1
  have h64 := qc_64 hco.2
  obtain ⟨len, l32, perm⟩ := re_len HH hq
  intro t ht
  rcases Nat.lt_or_ge t (4 ^ co q) with z | z
  · refine ⟨nI ((LY q).countP (qa_cp (nI t) 9223372036854775807)), ?_, fun pst hp => qy_terms1 rfl (by omega) hq y4 hco.2 y6 z hp⟩
    have hc : (LY q).countP (qa_cp (nI t) 9223372036854775807) ≤ (LY q).length := List.countP_le_length
    have e1 : nI ((LY q).countP (qa_cp (nI t) 9223372036854775807)) ≤ 0 ↔ (LY q).countP (qa_cp (nI t) 9223372036854775807) = 0 := by
      have := nI_leI (a := (LY q).countP (qa_cp (nI t) 9223372036854775807)) (b := 0) (by omega) (by omega)
      rw [show (0 : Int32) = nI 0 from rfl, this]
      omega
    rw [e1, ← perm.countP_eq, List.countP_eq_zero]
    simp only [decide_eq_true_eq]
    constructor
    · rintro g ⟨x, hx, e⟩
      refine g x hx ?_
      unfold qa_cp
      simp [e, re_max hPq hT hx]
    · intro g x hx w
      unfold qa_cp at w
      simp only [Bool.and_eq_true, decide_eq_true_eq] at w
      exact g ⟨x, hx, w.1⟩
  · refine ⟨-13, ⟨fun _ w => ?_, fun _ => by decide⟩, fun pst hp => ?_⟩
    · simp only [decide_eq_true_eq] at w
      obtain ⟨x, hx, e⟩ := w
      obtain ⟨⟨a, ha, e2⟩, _⟩ := re_item hPq hx
      rw [e2, nI_eq (by omega) (by omega)] at e
      omega
    · unfold wpY_terms
      exact qy_chk1 rfl (by omega) hq y4 hco.2 (Or.inr (nI_le z (by omega))) (br_f (by decide) hp)
theorem re_rows (H : re_A mr mt mx mp n tk S co de kd lf rt TB LX LY R aS aC aD aF tT tM tC tV bK bL bR bC bD bA bB bE bO bW bH bZ fT fC fV) {q : Nat} (hq : q < n) : qa_op none (LX q) = qy_R (fun t => decide (∃ x, x ∈ LX q ∧ x.1 = nI t)) 0 := by
  obtain ⟨N, T, HP, HX, HY⟩ := H
  have hPq := HP q hq
  have h64 := qc_64 hPq.1.2
  rw [qa_op_rows hPq.2.2.2.2.2.2.2.2.2.1 (fun x hx => by
    obtain ⟨⟨a, ha, e2⟩, _⟩ := re_item hPq hx
    exact ⟨a, by omega, e2⟩)]
  unfold qy_R
  rw [List.range_eq_range']
theorem re_tuple {k : Nat} {v1 v2 : Int32} (H : re_A mr mt mx mp n tk S co de kd lf rt TB LX LY R aS aC aD aF tT tM tC tV bK bL bR bC bD bA bB bE bO bW bH bZ fT fC fV) : wpX_tuple (fun r => wpY_tuple (fun r' => r' = r ∧ i_Rel k (nI mr, nI mt, nI mx, nI mp, nI n, nI tk, XB, XO, aS, aC, aD, aF, tT, tM, tC, tV) (nI n, nI tk, nI mr, nI mt, nI mx, nI mp, bK, bL, bR, bC, bD, bA, bB, bE, bO, bW, bH, bZ, fT, fC, fV)) (nI n, nI tk, nI mr, nI mt, nI mx, nI mp, bK, bL, bR, bC, bD, bA, bB, bE, bO, bW, bH, bZ, fT, fC, fV) v1 v2) (nI mr, nI mt, nI mx, nI mp, nI n, nI tk, XB, XO, aS, aC, aD, aF, tT, tM, tC, tV) v1 v2 := by
  have HH := H
  have hS := re_S H
  have Sm := re_Sm H
  obtain ⟨N, T, HP, HX, HY⟩ := H
  obtain ⟨n1, n2, n3, n4, n5, n6, n7, n8, n9, n10, n11, n12, n13⟩ := N
  unfold wpX_tuple
  rcases qz_ix v1 n (by omega) with h | ⟨q, hq, rfl⟩
  · refine qx_ex0 rfl h (br_t rfl ?_)
    unfold wpY_tuple
    exact qy_ex0 rfl h (br_t rfl ⟨rfl, re_in HH⟩)
  obtain ⟨x1, x2, x3, x4, x5, x6⟩ := HX q hq
  have hle := Sm q hq
  refine qx_ex1 rfl (by omega) hq (br_f (by decide) ⟨vp_in_nI (by omega) (by omega), ?_⟩)
  rw [nI_clamp (n := q) (by omega), hS q (by omega)]
  refine nm_e ⟨(LX q).length + 1, ?_⟩
  refine qx_tuple_20 (by omega) (hS q (by omega)) (by rw [x1, x2]) x6 (by omega) (LX q) [] none 0 rfl (Or.inl ⟨rfl, rfl⟩) ?_ ((LX q).length + 1) (by omega)
  unfold wpY_tuple
  refine qy_ex1 rfl (by omega) hq (br_f (by decide) ⟨65, ?_⟩)
  refine qy_tuple_15 (re_termsY HH hq) 64 0 0 (by omega) ⟨?_, re_in HH⟩ 65 (by omega)
  rw [re_rows HH hq]
theorem re_info {k : Nat} {v1 v2 : Int32} (H : re_A mr mt mx mp n tk S co de kd lf rt TB LX LY R aS aC aD aF tT tM tC tV bK bL bR bC bD bA bB bE bO bW bH bZ fT fC fV) : wpX_info (fun r => wpY_info (fun r' => r' = r ∧ i_Rel k (nI mr, nI mt, nI mx, nI mp, nI n, nI tk, XB, XO, aS, aC, aD, aF, tT, tM, tC, tV) (nI n, nI tk, nI mr, nI mt, nI mx, nI mp, bK, bL, bR, bC, bD, bA, bB, bE, bO, bW, bH, bZ, fT, fC, fV)) (nI n, nI tk, nI mr, nI mt, nI mx, nI mp, bK, bL, bR, bC, bD, bA, bB, bE, bO, bW, bH, bZ, fT, fC, fV) v1 v2) (nI mr, nI mt, nI mx, nI mp, nI n, nI tk, XB, XO, aS, aC, aD, aF, tT, tM, tC, tV) v1 v2 := by
  have HH := H
  have hS := re_S H
  have Sm := re_Sm H
  have hpool := re_pool H
  obtain ⟨N, T, HP, HX, HY⟩ := H
  obtain ⟨n1, n2, n3, n4, n5, n6, n7, n8, n9, n10, n11, n12, n13⟩ := N
  by_cases h0 : v1 < 0
  · exact br_t h0 (br_t h0 ⟨rfl, re_in HH⟩)
  by_cases h7 : v1 ≤ 7
  · obtain ⟨w, hw, rfl⟩ : ∃ w : Nat, w ≤ 7 ∧ v1 = nI w := by
      obtain ⟨j, hj, rfl⟩ := nI_of h0
      exact ⟨j, (nI_leI hj (by omega) (b := 7)).mp h7, rfl⟩
    have hcase : w = 0 ∨ w = 1 ∨ w = 2 ∨ 3 ≤ w := by omega
    rcases hcase with rfl | rfl | rfl | h3
    · exact br_f h0 (br_t h7 (br_t rfl (br_f h0 (br_t h7 (br_f (by decide) (br_t rfl ⟨rfl, re_in HH⟩))))))
    · exact br_f h0 (br_t h7 (br_f (by decide) (br_t rfl (br_f h0 (br_t h7 (br_f (by decide) (br_f (by decide) (br_t rfl ⟨rfl, re_in HH⟩))))))))
    · refine br_f h0 (br_t h7 (br_f (by decide) (br_f (by decide) (br_t rfl ⟨vp_in_nI (by omega) (by omega), ?_⟩))))
      rw [nI_clamp (n := n) (by omega), hS n (Nat.le_refl _)]
      exact br_f h0 (br_t h7 (br_f (by decide) (br_f (by decide) (br_f (by decide) (qy_pool (S := S) rfl (by omega) n11 hpool ⟨rfl, re_in HH⟩)))))
    · have c0 : ¬ nI w = 0 := nI_ne0 (by omega) (by omega)
      have c1 : ¬ nI w = 1 := fun z => by rw [show (1 : Int32) = nI 1 from rfl, nI_eq (by omega) (by omega)] at z; omega
      have c2 : ¬ nI w = 2 := fun z => by rw [show (2 : Int32) = nI 2 from rfl, nI_eq (by omega) (by omega)] at z; omega
      have l2 : (2 : Int32) < nI w := nI_lt (a := 2) (by omega) (by omega)
      rcases qz_ix v2 n (by omega) with h | ⟨q, hq, rfl⟩
      · exact br_f h0 (br_t h7 (br_f c0 (br_f c1 (br_f c2 (qx_ex0 rfl h (br_t rfl (br_f h0 (br_t h7 (br_t l2 (qy_ex0 rfl h (br_t rfl ⟨rfl, re_in HH⟩)))))))))))
      obtain ⟨x1, x2, x3, x4, x5, x6⟩ := HX q hq
      obtain ⟨y1, y2, y3, y4, y5, y6⟩ := HY q hq
      have hPq := HP q hq
      have hle := Sm q hq
      have hv8 : vp_in (nI q) 8 := vp_in_nI (by omega) (by omega)
      have hv9 : vp_in (nI q) 9 := vp_in_nI (by omega) (by omega)
      have hv16 : vp_in (nI q) 16 := vp_in_nI (by omega) (by omega)
      have hc : (nI q).toNatClampNeg = q := nI_clamp (by omega)
      refine br_f h0 (br_t h7 (br_f c0 (br_f c1 (br_f c2 (qx_ex1 rfl (by omega) hq (br_f (by decide) ?_))))))
      have hcase : w = 3 ∨ w = 4 ∨ w = 5 ∨ w = 6 ∨ w = 7 := by omega
      rcases hcase with rfl | rfl | rfl | rfl | rfl
      · refine br_t rfl ⟨hv8, ?_⟩
        rw [hc, x3]
        refine br_f h0 (br_t h7 (br_t l2 (qy_ex1 rfl (by omega) hq (br_f (by decide) (br_f (by decide) (br_t rfl ⟨hv8, ?_⟩))))))
        rw [hc, y4]
        exact ⟨rfl, re_in HH⟩
      · refine br_f (by decide) (br_t rfl ⟨hv8, ?_⟩)
        rw [hc, x4]
        refine br_f h0 (br_t h7 (br_t l2 (qy_ex1 rfl (by omega) hq (br_f (by decide) (br_f (by decide) (br_f (by decide) ⟨hv8, ?_⟩))))))
        rw [hc, y5]
        exact ⟨rfl, re_in HH⟩
      · refine br_f (by decide) (br_f (by decide) (br_t rfl ⟨hv8, ?_⟩))
        rw [hc, x5]
        by_cases hk : kd q = 0
        · rw [if_pos hk]
          refine br_f (by decide) (br_f h0 (br_t h7 (br_t l2 (qy_ex1 rfl (by omega) hq (br_f (by decide) (br_t (by decide) (br_t rfl ⟨hv8, ?_⟩)))))))
          rw [hc, y1, hk]
          exact br_t rfl ⟨rfl, re_in HH⟩
        · rw [if_neg hk]
          refine br_t rfl (br_f h0 (br_t h7 (br_t l2 (qy_ex1 rfl (by omega) hq (br_f (by decide) (br_t (by decide) (br_t rfl ⟨hv8, ?_⟩)))))))
          rw [hc, y1]
          exact br_f (nI_ne0 (by omega) (by have := hPq.2.2.1; omega)) ⟨rfl, re_in HH⟩
      · refine br_f (by decide) (br_f (by decide) (br_f (by decide) (br_t rfl ?_)))
        refine And.intro hv9 ?_
        rw [hc, hS q (by omega)]
        refine nm_e ⟨(LX q).length + 1, ?_⟩
        refine qx_rows_9 (by omega) (hS q (by omega)) (by rw [x1, x2]) x6 (by omega) (LX q) [] none 0 rfl (Or.inl ⟨rfl, rfl⟩) ?_ ((LX q).length + 1) (by omega)
        refine br_f h0 (br_t h7 (br_t l2 (qy_ex1 rfl (by omega) hq (br_f (by decide) (br_t (by decide) (br_f (by decide) (br_f (by decide) ⟨65, ?_⟩)))))))
        refine qy_info_120 (re_termsY HH hq) 64 0 0 (by omega) ⟨?_, re_in HH⟩ 65 (by omega)
        rw [re_rows HH hq]
      · refine br_f (by decide) (br_f (by decide) (br_f (by decide) (br_f (by decide) ?_)))
        rw [nI_1 q, hc, nI_clamp (n := q + 1) (by omega), x1, hS q (by omega)]
        refine ⟨vp_in_nI (by omega) (by omega), hv9, ?_⟩
        rw [pk_sub (by omega)]
        refine br_f h0 (br_t h7 (br_t l2 (qy_ex1 rfl (by omega) hq (br_f (by decide) (br_t (by decide) (br_f (by decide) (br_t rfl ⟨hv16, ?_⟩)))))))
        rw [hc, y6.1]
        have := (re_len HH hq).1
        exact ⟨congrArg nI (by omega), re_in HH⟩
  · exact br_f h0 (br_f h7 (br_f h0 (br_f h7 ⟨rfl, re_in HH⟩)))
end
end
section
/-! value: the pure law, Y's derivation of a semiring -/
def qs_Pn (c : Nat) : Nat → List Nat
  | 0 => []
  | m + 1 => List.replicate (c / 16 ^ m % 16) m ++ qs_Pn c m
theorem qs_Pn_P {l : List Nat} (h : ∀ x, x ∈ l → x < 16) (h4 : l.length ≤ 4) : ∀ m, m ≤ 16 → qs_Pn (qs_cd l) m = qs_P l m
  | 0, _ => rfl
  | m + 1, hm => by
    show List.replicate (qs_cd l / 16 ^ m % 16) m ++ qs_Pn (qs_cd l) m = List.replicate (l.count m) m ++ qs_P l m
    rw [qs_digit h h4 (by omega), qs_Pn_P h h4 m (by omega)]
/-- the value of a monomial code -/
def rv_v (s : Nat) (tk : Nat → Int64) (c : Int64) : Int64 := qs_val s tk (qs_Pn c.toInt.toNat 16)
theorem rv_v_l {s : Nat} (hs : s ≤ 4) {tk : Nat → Int64} {l : List Nat} (h : ∀ x, x ∈ l → x < 16) (h4 : l.length ≤ 4) (hl : qs_L s tk l) : rv_v s tk (lN (qs_cd l)) = qs_val s tk l := by
  unfold rv_v
  have := qs_cd_le h
  rw [pk_lT (by omega), Int.toNat_natCast, qs_Pn_P h h4 16 (by omega)]
  exact (qs_val_perm hs (qs_P_perm h) h4 hl).symm
def rv_t (s : Nat) (tk : Nat → Int64) (x : qa_T) : Int64 := if s = 0 then rv_v s tk x.2.1 * x.2.2 else rv_v s tk x.2.1
def rv_g (s : Nat) (tk : Nat → Int64) (t : Int32) (x : qa_T) : Option Int64 := if x.1 = t then some (rv_t s tk x) else none
theorem rv_g_G {s : Nat} (hs : s ≤ 3) {tk : Nat → Int64} {t : Int32} (u : Int32) (c a b : Int64) : rv_g s tk t (u, c, qs_p 4 a b) = qa_o s (rv_g s tk t (u, c, a)) (rv_g s tk t (u, c, b)) := by
  unfold rv_g
  show (if u = t then some (rv_t s tk (u, c, qs_p 4 a b)) else none) = qa_o s (if u = t then some (rv_t s tk (u, c, a)) else none) (if u = t then some (rv_t s tk (u, c, b)) else none)
  by_cases h : u = t
  · rw [if_pos h, if_pos h, if_pos h]
    show some _ = some (qs_p s _ _)
    congr 1
    unfold rv_t
    show (if s = 0 then rv_v s tk c * qs_p 4 a b else rv_v s tk c) = qs_p s (if s = 0 then rv_v s tk c * a else rv_v s tk c) (if s = 0 then rv_v s tk c * b else rv_v s tk c)
    generalize rv_v s tk c = w
    rcases qs_5 (show s ≤ 4 by omega) with rfl | rfl | rfl | rfl | rfl
    · rw [if_pos rfl, if_pos rfl, if_pos rfl, qs_p0, qs_p4]; exact Int64.mul_add
    · rw [if_neg (by decide), if_neg (by decide), if_neg (by decide), qs_p1, qs_mn_s]
    · rw [if_neg (by decide), if_neg (by decide), if_neg (by decide), qs_p2, qs_mn_s]
    · rw [if_neg (by decide), if_neg (by decide), if_neg (by decide), qs_p3, qs_mx_s]
    · omega
  · rw [if_neg h, if_neg h, if_neg h]; rfl
/-- what X adds up is what the raw contributions give -/
theorem rv_sum {s : Nat} (hs : s ≤ 3) {tk : Nat → Int64} {t : Int32} {L : List qa_T} {RR : List qa_R} (hE : qa_E 4 L (RR.map re_e4)) (h16 : ∀ p, p ∈ RR → ∀ x, x ∈ p.2 → x < 16) (h4 : ∀ p, p ∈ RR → p.2.length ≤ 4) (hl : ∀ p, p ∈ RR → qs_L s tk p.2) : qa_S s (rv_g s tk t) L = qa_os s (RR.map (qs_ev s tk)) (t, 0) := by
  rw [qa_G_congr (Dm := fun _ => True) (fun _ _ _ _ => trivial) (fun u c a b _ _ => rv_g_G hs u c a b) (fun _ _ => trivial) (fun _ _ => trivial) hE]
  unfold qa_os
  rw [qa_S_map, qa_S_map]
  apply qa_S_congr
  intro p hp
  have hv := rv_v_l (show s ≤ 4 by omega) (h16 p hp) (h4 p hp) (hl p hp)
  have ht : rv_t s tk (re_e4 p) = qs_val s tk p.2 := by
    unfold rv_t
    show (if s = 0 then rv_v s tk (lN (qs_cd p.2)) * qs_val 4 (fun _ => 1) p.2 else rv_v s tk (lN (qs_cd p.2))) = _
    rw [hv, qa_ev_one, Int64.mul_one]
    split <;> rfl
  have hc : qs_code s p.2 = 0 := if_neg (by omega)
  show (if p.1 = t then some (rv_t s tk (re_e4 p)) else none) = (if (p.1, qs_code s p.2) = (t, 0) then some (qs_val s tk p.2) else none)
  rw [ht, hc]
  by_cases e : p.1 = t
  · rw [if_pos e, if_pos (by rw [e])]
  · rw [if_neg e, if_neg (fun z => e (Prod.mk.inj z).1)]
theorem rv_S_none {s : Nat} {tk : Nat → Int64} {t : Int32} {A : List qa_T} (h : ∀ x, x ∈ A → x.1 ≠ t) : qa_S s (rv_g s tk t) A = none :=
  qa_S_none.mpr (fun x hx => if_neg (h x hx))
theorem rv_S_M {s : Nat} {tk : Nat → Int64} {t : Int32} {M : List qa_T} (h : ∀ x, x ∈ M → x.1 = t) : qa_S s (rv_g s tk t) M = qa_S s (fun x => some (rv_t s tk x)) M :=
  qa_S_congr s (fun x hx => if_pos (h x hx))
theorem rv_fold {s : Nat} (hs : s ≤ 3) {tk : Nat → Int64} {t : Int32} {A M B : List qa_T} {RR : List qa_R} (hA : ∀ x, x ∈ A → x.1 ≠ t) (hM : ∀ x, x ∈ M → x.1 = t) (hB : ∀ x, x ∈ B → x.1 ≠ t) (hE : qa_E 4 (A ++ (M ++ B)) (RR.map re_e4)) (h16 : ∀ p, p ∈ RR → ∀ x, x ∈ p.2 → x < 16) (h4 : ∀ p, p ∈ RR → p.2.length ≤ 4) (hl : ∀ p, p ∈ RR → qs_L s tk p.2) : M.foldl (fun a x => qs_p s a (rv_t s tk x)) (qs_0 s) = (qa_os s (RR.map (qs_ev s tk)) (t, 0)).getD (qs_0 s) := by
  have e1 := rv_sum hs (t := t) hE h16 h4 hl
  rw [qa_S_app, qa_S_app, rv_S_none hA, rv_S_none hB, qa_o_n, qa_o_l, rv_S_M hM] at e1
  have e2 := qa_foldl s (rv_t s tk) M (qs_0 s)
  rw [e1] at e2
  cases ho : qa_os s (RR.map (qs_ev s tk)) (t, 0) with
  | none =>
    rw [ho] at e2
    exact Option.some.inj e2
  | some v =>
    rw [ho] at e2
    have hD : qs_DL s 4 v := qa_os_D (Dm := qs_DL s 4) (fun _ _ => qs_p_D) (qs_ev_D hl h4) ho
    have := Option.some.inj e2
    rw [this]
    exact qs_0_id hs hD
section
variable {mr mt mx mp n tk : Nat} {S co de kd lf rt TB : Nat → Nat} {LX LY : Nat → List qa_T} {R : Nat → List qa_R} {XB XO : Int32} {aS aC aD aF tT : Nat → Int32} {tM tC : Nat → Int64} {tV : Nat → Int32} {bK bL bR bC bD bA bB bE bO bW bH bZ fT : Nat → Int32} {fC fV : Nat → Int64}
theorem rv_legal (H : re_A mr mt mx mp n tk S co de kd lf rt TB LX LY R aS aC aD aF tT tM tC tV bK bL bR bC bD bA bB bE bO bW bH bZ fT fC fV) {s : Nat} (hs : s ≤ 3) {x : Nat} (hx : x < tk) : qs_DL s 1 (qx_tk s tV x) ∧ (bH (5 * x + s)).toInt64 = qx_tk s tV x := by
  obtain ⟨g1, g2⟩ := H.2.1.2.2.2 x hx
  obtain ⟨g3, g4⟩ := g2 s (by omega)
  unfold qx_tk
  rw [g3]
  exact ⟨g4.2, rfl⟩
theorem rv_R (H : re_A mr mt mx mp n tk S co de kd lf rt TB LX LY R aS aC aD aF tT tM tC tV bK bL bR bC bD bA bB bE bO bW bH bZ fT fC fV) {s q : Nat} (hs : s ≤ 3) (hq : q < n) : ∀ p, p ∈ R q → (∀ x, x ∈ p.2 → x < 16) ∧ p.2.length ≤ 4 ∧ qs_L s (qx_tk s tV) p.2 := by
  intro p hp
  have h16 := re_T16 H hq
  have htb := re_TBm H.2.1 (q + 1) hq
  obtain ⟨h1, h2, h3, h4, h5, h6, h7, h8, h9, h10⟩ := H.2.2.1 q hq
  obtain ⟨g1, g2, g3, g4⟩ := h9 p hp
  exact ⟨fun x hx => by have := g3 x hx; omega, by omega, fun x hx => (rv_legal H hs (by have := g3 x hx; omega)).1⟩
def rv_Q (s : Nat) (tV : Nat → Int32) (RR : List qa_R) (L : List qa_T) : Prop := qa_ND L ∧ qa_E s L (RR.map (qs_ev s (qx_tk s tV)))
theorem rv_len (H : re_A mr mt mx mp n tk S co de kd lf rt TB LX LY R aS aC aD aF tT tM tC tV bK bL bR bC bD bA bB bE bO bW bH bZ fT fC fV) {s q : Nat} (hs : s ≤ 3) (hq : q < n) {L : List qa_T} (hL : rv_Q s tV (R q) L) : L.length ≤ 32 := by
  have l32 := (re_len H hq).2.1
  obtain ⟨h1, h2, h3, h4, h5, h6, h7, h8, h9, h10, h11, h12, h13, h14⟩ := H.2.2.1 q hq
  have : (L.map qa_key).length ≤ ((LX q).map (fun x => (x.1, (0 : Int64)))).length := by
    apply List.Nodup.length_le_of_subset hL.1
    intro k hk
    obtain ⟨x, hx, rfl⟩ := List.mem_map.mp hk
    obtain ⟨y, hy, e⟩ := qa_E_key hL.2 hx
    obtain ⟨p, hp, rfl⟩ := List.mem_map.mp hy
    obtain ⟨z, hz, e2⟩ := qa_E_key (qa_E_symm h12) (List.mem_map.mpr ⟨p, hp, rfl⟩)
    refine List.mem_map.mpr ⟨z, hz, ?_⟩
    rw [← e]
    have k1 : z.1 = p.1 := qa_k1 e2
    have hc : qs_code s p.2 = 0 := if_neg (by omega)
    show (z.1, (0 : Int64)) = (p.1, qs_code s p.2)
    rw [k1, hc]
  rw [List.length_map, List.length_map] at this
  omega
/-- what derive(s, q) puts into slot 8 + q -/
theorem rv_new (H : re_A mr mt mx mp n tk S co de kd lf rt TB LX LY R aS aC aD aF tT tM tC tV bK bL bR bC bD bA bB bE bO bW bH bZ fT fC fV) {s q : Nat} (hs : s ≤ 3) (hq : q < n) {LS : Nat → List qa_T} (hLS : ∀ j, j < q → rv_Q s tV (R j) (LS j)) {A B : List qa_T} (hA : A = if kd q = 0 then [] else LS (lf q)) (hB : B = LS (rt q)) : (qa_nn ((List.range tk).flatMap (qy_tok s tk bO bW bH q) ++ qa_C s (kd q) (qc_mv (kd q) (bA q) (bB q) (bE q)) (re_jn co lf rt bA bB q) A B)).length ≤ 1024 ∧ rv_Q s tV (R q) (qa_F s ((List.range tk).flatMap (qy_tok s tk bO bW bH q) ++ qa_C s (kd q) (qc_mv (kd q) (bA q) (bB q) (bE q)) (re_jn co lf rt bA bB q) A B)) := by
  have htoks := re_toks (bW := bW) (s := s) H.2.1 (by have := H.1.2.1; have := H.1.2.2.2.2.2.2.2.2.1; omega) hq
  have h16 := re_T16 H hq
  have htb := re_TBm H.2.1 (q + 1) hq
  have HH := H
  obtain ⟨h1, h2, h3, h4, h5, h6, h7, h8, h9, h10, h11, h12, h13, h14⟩ := H.2.2.1 q hq
  by_cases hk : kd q = 0
  · rw [if_pos hk] at hA
    have eC : qa_C s (kd q) (qc_mv (kd q) (bA q) (bB q) (bE q)) (re_jn co lf rt bA bB q) A B = [] := by
      unfold qa_C
      rw [hA, if_neg (by omega)]; rfl
    have eR : (List.range tk).flatMap (qy_tok s tk bO bW bH q) = (R q).map (qs_ev s (qx_tk s tV)) := by
      rw [htoks, (h8 hk).1, List.map_map]
      apply List.map_congr_left
      intro x hx
      rw [List.mem_range'_1] at hx
      obtain ⟨g1, g2⟩ := rv_legal HH hs (x := x) (by omega)
      rw [g2]
      show (bW x, qs_code s [x], qx_tk s tV x) = (bW x, qs_code s [x], qs_t s (qx_tk s tV x) (qs_1 s))
      rw [qs_t_1 (by omega) (qs_DL_m g1 (by omega))]
    have nneg : ∀ y, y ∈ (R q).map (qs_ev s (qx_tk s tV)) → ¬ y.1 < 0 := by
      intro y hy
      obtain ⟨p, hp, rfl⟩ := List.mem_map.mp hy
      obtain ⟨_, _, _, a, g4, g5⟩ := h9 p hp
      have := qc_64 h1.2
      show ¬ p.1 < 0
      rw [g5]; exact nI_pos (by omega)
    rw [eC, List.append_nil]
    constructor
    · have := qa_nn_len ((List.range tk).flatMap (qy_tok s tk bO bW bH q))
      rw [htoks, List.length_map, List.length_range'] at this
      rw [htoks]; omega
    · rw [eR]
      refine ⟨qa_F_ND s _, ?_⟩
      have := qa_F_E s ((R q).map (qs_ev s (qx_tk s tV)))
      rw [qa_nn_all nneg] at this
      exact this
  · rw [if_neg hk] at hA
    obtain ⟨g1, g2, g3, g4⟩ := h6 hk
    have eT : (List.range tk).flatMap (qy_tok s tk bO bW bH q) = [] := by
      rw [htoks, g3, Nat.sub_self]; rfl
    have qA := hLS (lf q) g1
    have qB := hLS (rt q) g2
    have rA := rv_R HH hs (q := lf q) (by omega)
    have rB := rv_R HH hs (q := rt q) (by omega)
    have lA := rv_len HH hs (q := lf q) (by omega) qA
    have lB := rv_len HH hs (q := rt q) (by omega) qB
    have dA := (H.2.2.1 (lf q) (by omega)).2.2.2.2.2.2.2.2.1
    have dB := (H.2.2.1 (rt q) (by omega)).2.2.2.2.2.2.2.2.1
    rw [eT, List.nil_append, hA, hB]
    constructor
    · exact qa_cap (fun e t => by rw [e]; exact qc_mv5 t) lA lB
    · refine ⟨qa_F_ND s _, ?_⟩
      have M := qa_main (show s ≤ 4 by omega) (kd q) (qc_mv (kd q) (bA q) (bB q) (bE q)) (re_jn co lf rt bA bB q) qA.2 qB.2 qA.1 qB.1 (fun p hp => (rA p hp).2.2) (fun p hp => (rB p hp).2.2) (fun p hp => (rA p hp).2.1) (fun p hp => (rB p hp).2.1) (fun e p hp p' hp' => by
        have a := (dA p hp).1
        have b := (dB p' hp').1
        have c := (h7 e).2.2
        omega)
      rw [g4]
      exact qa_E_trans (qa_F_E s _) M
end
end
section
/-! value -/
section
variable {mr mt mx mp n tk : Nat} {S co de kd lf rt TB : Nat → Nat} {LX LY : Nat → List qa_T} {R : Nat → List qa_R} {XB XO : Int32} {aS aC aD aF tT : Nat → Int32} {tM tC : Nat → Int64} {tV : Nat → Int32} {bK bL bR bC bD bA bB bE bO bW bH bZ fT : Nat → Int32} {fC fV : Nat → Int64}
def rv_I (s : Nat) (tV : Nat → Int32) (R : Nat → List qa_R) (bZ fT : Nat → Int32) (fC fV : Nat → Int64) (cur : Nat) (z t : Nat → Int32) (c v : Nat → Int64) : Prop := (∀ j, j < 8 → z j = bZ j) ∧ (∀ j, j < 8192 → t j = fT j ∧ c j = fC j ∧ v j = fV j) ∧ ∃ LS : Nat → List qa_T, ∀ q, q < cur → rv_Q s tV (R q) (LS q) ∧ qy_S (8 + q) (LS q) z t c v
theorem rv_step (H : re_A mr mt mx mp n tk S co de kd lf rt TB LX LY R aS aC aD aF tT tM tC tV bK bL bR bC bD bA bB bE bO bW bH bZ fT fC fV) {s q : Nat} (hs : s ≤ 3) (hq : q < n) {post : SY → Prop} {z t : Nat → Int32} {c v : Nat → Int64} (I : rv_I s tV R bZ fT fC fV q z t c v) (K : ∀ z' t' c' v', rv_I s tV R bZ fT fC fV (q + 1) z' t' c' v' → post (nI n, nI tk, nI mr, nI mt, nI mx, nI mp, bK, bL, bR, bC, bD, bA, bB, bE, bO, bW, bH, z', t', c', v')) : wpY_derive post (nI n, nI tk, nI mr, nI mt, nI mx, nI mp, bK, bL, bR, bC, bD, bA, bB, bE, bO, bW, bH, z, t, c, v) (nI s) (nI q) := by
  obtain ⟨I1, I2, LS, I3⟩ := I
  have HH := H
  obtain ⟨N, T, HP, HX, HY⟩ := H
  obtain ⟨n1, n2, n3, n4, n5, n6, n7, n8, n9, n10, n11, n12, n13⟩ := N
  obtain ⟨h1, h2, h3, h4, h5, h6, h7, h8, h9, h10⟩ := HP q hq
  obtain ⟨y1, y2, y3, y4, y5, y6⟩ := HY q hq
  obtain ⟨cap, Q⟩ := rv_new HH hs hq (LS := LS) (fun j hj => (I3 j hj).1) rfl rfl
  refine qy_derive (s := s) (q := q) (kd := kd q) (l := lf q) (r := rt q) (tk := tk) (bs := 8) (A := if kd q = 0 then [] else LS (lf q)) (B := LS (rt q)) (jn := re_jn co lf rt bA bB q) (by omega) (if_neg (by omega)).symm (by omega) y1 h3 y2 y3 h4 h5 rfl (by omega) (fun e => ⟨(h6 e).1, (h6 e).2.1⟩) (fun e => by rw [if_neg e]; exact (I3 (lf q) (h6 e).1).2) (fun e => if_pos e) (fun e => (I3 (rt q) (h6 (by omega)).2.1).2) ?_ cap ?_
  · intro e pst u w z' t' c' v' hp
    obtain ⟨g1, g2, g3⟩ := h7 e
    obtain ⟨g4, g5, _, _⟩ := h6 (by omega)
    have hcr := (HP (rt q) (by omega)).1.2
    exact qy_joined (l := lf q) (r := rt q) (cl := co (lf q)) (cr := co (rt q)) (j := (bB q).toNatClampNeg) (by omega) h4 h5 y2 y3 g1 (HY (lf q) (by omega)).2.2.2.1 (HY (rt q) (by omega)).2.2.2.1 hcr (by omega) hp
  · intro z' t' c' v' b
    refine K z' t' c' v' ⟨fun j hj => (b.2.1 j (by omega)).trans (I1 j hj), fun j hj => ?_, re_f LS q (qa_F s ((List.range tk).flatMap (qy_tok s tk bO bW bH q) ++ qa_C s (kd q) (qc_mv (kd q) (bA q) (bB q) (bE q)) (re_jn co lf rt bA bB q) (if kd q = 0 then [] else LS (lf q)) (LS (rt q)))), fun j hj => ?_⟩
    · obtain ⟨a1, a2, a3⟩ := b.2.2 j (by omega)
      obtain ⟨b1, b2, b3⟩ := I2 j hj
      exact ⟨a1.trans b1, a2.trans b2, a3.trans b3⟩
    · rcases Nat.lt_or_ge j q with e | e
      · rw [re_f_n (by omega)]
        obtain ⟨i1, i2, i3, i4⟩ := I3 j e
        exact ⟨i1, (b.2.1 (8 + j) (by omega)).trans i2, i3, qm_sg_congr (fun w w1 w2 => b.2.2 w (by omega)) i4⟩
      · have eq : j = q := by omega
        subst eq
        rw [re_f_s]
        exact ⟨Q, b.1⟩
theorem rv_33 (H : re_A mr mt mx mp n tk S co de kd lf rt TB LX LY R aS aC aD aF tT tM tC tV bK bL bR bC bD bA bB bE bO bW bH bZ fT fC fV) {s r t : Nat} (hs : s ≤ 3) (hr : r < n) {post : Int64 → SY → Prop} (K : ∀ z' t' c' v', (∀ j, j < 8 → z' j = bZ j) → (∀ j, j < 8192 → t' j = fT j ∧ c' j = fC j ∧ v' j = fV j) → post ((qa_os s ((R r).map (qs_ev s (qx_tk s tV))) (nI t, 0)).getD (qs_0 s)) (nI n, nI tk, nI mr, nI mt, nI mx, nI mp, bK, bL, bR, bC, bD, bA, bB, bE, bO, bW, bH, z', t', c', v')) : ∀ (d cur : Nat) (z' t' : Nat → Int32) (c' v' : Nat → Int64), cur + d = r + 1 → rv_I s tV R bZ fT fC fV cur z' t' c' v' → ∀ fu, d < fu → wY_value_33 post (nI r) (nI t) (nI s) fu (nI cur) (nI n) (nI tk) (nI mr) (nI mt) (nI mx) (nI mp) bK bL bR bC bD bA bB bE bO bW bH z' t' c' v' := by
  have hn8 : n ≤ 8 := by have := H.1.2.1; have := H.1.2.2.2.2.2.2.2.2.1; omega
  intro d
  induction d with
  | zero =>
    intro cur z' t' c' v' hc I fu hfu
    obtain ⟨fu, rfl⟩ : ∃ q, fu = q + 1 := ⟨fu - 1, by omega⟩
    obtain ⟨I1, I2, LS, I3⟩ := I
    obtain ⟨⟨q1, q2⟩, q3⟩ := I3 r (by omega)
    have e : cur = r + 1 := by omega
    subst e
    refine br_t (nI_lt (by omega) (by omega)) ?_
    rw [show 8 + nI r = nI (8 + r) from nI_add 8 r]
    have fin := K z' t' c' v' I1 I2
    rw [← q2] at fin
    have hl := q3.2.1
    refine qy_find (by omega) q3 (fun A x B eL hk _ => ?_) (fun hno => ?_)
    · have hlen : (LS r).length = A.length + B.length + 1 := by rw [eL]; simp; omega
      have ho := qa_os_mem (s := s) q1 (x := x) (by rw [eL]; exact List.mem_append_right _ List.mem_cons_self)
      rw [hk] at ho
      rw [ho] at fin
      refine br_f (nI_pos (by omega)) ⟨vp_in_nI (by omega) (by omega), ?_⟩
      have sg := q3.2.2
      rw [eL] at sg
      rw [nI_clamp (by omega), (qm_sg_mid sg).2.2]
      exact fin
    · rw [qa_os_none.mpr hno] at fin
      refine br_t (by decide) ?_
      have hs' : s = 0 ∨ s = 1 ∨ s = 2 ∨ s = 3 := by omega
      rcases hs' with rfl | rfl | rfl | rfl
      · exact br_f (by decide) (br_f (by decide) fin)
      · exact br_t rfl fin
      · exact br_f (by decide) (br_t rfl fin)
      · exact br_f (by decide) (br_f (by decide) fin)
  | succ d ih =>
    intro cur z' t' c' v' hc I fu hfu
    obtain ⟨fu, rfl⟩ : ∃ q, fu = q + 1 := ⟨fu - 1, by omega⟩
    refine br_f (nI_nlt (by omega) (by omega)) ?_
    refine rv_step H hs (by omega) I ?_
    intro z2 t2 c2 v2 I2
    exact nm_r (nI_1 cur) (ih (cur + 1) z2 t2 c2 v2 (by omega) I2 fu (by omega))
theorem re_value {k : Nat} {v1 v2 v3 : Int32} (H : re_A mr mt mx mp n tk S co de kd lf rt TB LX LY R aS aC aD aF tT tM tC tV bK bL bR bC bD bA bB bE bO bW bH bZ fT fC fV) : wpX_value (fun r => wpY_value (fun r' v' => r' = r ∧ i_Rel k (nI mr, nI mt, nI mx, nI mp, nI n, nI tk, XB, XO, aS, aC, aD, aF, tT, tM, tC, tV) v') (nI n, nI tk, nI mr, nI mt, nI mx, nI mp, bK, bL, bR, bC, bD, bA, bB, bE, bO, bW, bH, bZ, fT, fC, fV) v1 v2 v3) (nI mr, nI mt, nI mx, nI mp, nI n, nI tk, XB, XO, aS, aC, aD, aF, tT, tM, tC, tV) v1 v2 v3 := by
  have HH := H
  have hS := re_S H
  have Sm := re_Sm H
  obtain ⟨N, T, HP, HX, HY⟩ := H
  obtain ⟨n1, n2, n3, n4, n5, n6, n7, n8, n9, n10, n11, n12, n13⟩ := N
  unfold wpX_value
  rcases qz_ix v1 n (by omega) with h | ⟨q, hq, rfl⟩
  · refine qx_chk0 rfl h (br_f (by decide) ?_)
    unfold wpY_value
    exact qy_chk0 rfl h (br_f (by decide) ⟨rfl, re_in HH⟩)
  have hPq := HP q hq
  have hT := re_T16 HH hq
  obtain ⟨x1, x2, x3, x4, x5, x6⟩ := HX q hq
  obtain ⟨y1, y2, y3, y4, y5, y6⟩ := HY q hq
  have hco := hPq.1
  have h64 := qc_64 hco.2
  rcases qz_ix v2 (4 ^ co q) (by omega) with h | ⟨t, ht, rfl⟩
  · refine qx_chk1 rfl (by omega) hq x3 hco.2 h (br_f (by decide) ?_)
    unfold wpY_value
    exact qy_chk1 rfl (by omega) hq y4 hco.2 h (br_f (by decide) ⟨rfl, re_in HH⟩)
  refine qx_chk2 rfl (by omega) hq x3 hco.2 ht (br_t rfl ?_)
  rcases qz_ix v3 4 (by omega) with h | ⟨s, hs, rfl⟩
  · refine qx_ring0 h (br_t rfl ?_)
    unfold wpY_value
    refine qy_chk2 rfl (by omega) hq y4 hco.2 ht (br_t (by decide) (br_c (fun _ => ⟨rfl, re_in HH⟩) (fun h0 => br_f ?_ ⟨rfl, re_in HH⟩)))
    rcases h with h | h
    · exact absurd h h0
    · intro z
      exact absurd (Int32.le_trans h z) (by decide)
  refine qx_ring1 hs (br_f (by decide) ?_)
  obtain ⟨A, M, B, e, hA, hM, hB⟩ := re_split3 hPq hT (t := t) (by omega)
  have hle := Sm q hq
  have hlen : (LX q).length = A.length + (M.length + B.length) := by rw [e, List.length_append, List.length_append]
  have seg1 := x6
  rw [e] at seg1
  have seg2 := x6
  rw [e, ← List.append_assoc] at seg2
  have rR := rv_R HH (s := s) (by omega) hq
  have hE := hPq.2.2.2.2.2.2.2.2.2.2.2.1
  have hitem : ∀ x, x ∈ M → ∃ l : List Nat, (∀ y, y ∈ l → y < 16) ∧ l.length ≤ 4 ∧ qs_L s (qx_tk s tV) l ∧ x.2.1 = lN (qs_cd l) ∧ rv_t s (qx_tk s tV) x = (if s = 0 then qs_val s (qx_tk s tV) l * x.2.2 else qs_val s (qx_tk s tV) l) := by
    intro x hx
    have hxL : x ∈ LX q := by rw [e]; exact List.mem_append_right _ (List.mem_append_left _ hx)
    obtain ⟨y, hy, ek⟩ := qa_E_key hE hxL
    obtain ⟨p, hp, rfl⟩ := List.mem_map.mp hy
    obtain ⟨r1, r2, r3⟩ := rR p hp
    have k2 : lN (qs_cd p.2) = x.2.1 := qa_k2 ek
    refine ⟨p.2, r1, r2, r3, k2.symm, ?_⟩
    unfold rv_t
    rw [← k2, rv_v_l (by omega) r1 r2 r3]
  refine qx_first (A := A) (B := M ++ B) (s1 := S (q + 1)) (by omega) (hS q (by omega)) x1 seg1 (by rw [List.length_append]; omega) (by omega) (fun x hx => (hA x hx).1) (fun x hx => ?_) ?_
  · rcases List.mem_append.mp hx with z | z
    · exact (hM x z).1
    · exact (hB x z).1
  rw [nI_1 t]
  refine qx_first (A := A ++ M) (B := B) (s1 := S (q + 1)) (by omega) (hS q (by omega)) x1 seg2 (by rw [List.length_append]; omega) (by omega) (fun x hx => ?_) (fun x hx => (hB x hx).2.1) ?_
  · rcases List.mem_append.mp hx with z | z
    · exact (hA x z).2.1
    · exact (hM x z).2.1
  refine qx_zero (by omega) ⟨M.length + 1, ?_⟩
  have segM : qm_sg tT tM tC (S q + A.length) M := (qm_sg_app.mp (qm_sg_app.mp seg1).2).1
  have el : S q + (A ++ M).length = S q + A.length + M.length := by rw [List.length_append]; omega
  rw [el]
  refine qx_value_58 (p := S q + A.length) (M := M) (tv := rv_t s (qx_tk s tV)) (by omega) segM (by omega) hitem M [] (qs_0 s) rfl ?_ (M.length + 1) (by omega)
  have hE' := hE
  rw [e] at hE'
  rw [rv_fold (by omega) (fun x hx => (hA x hx).2.2) (fun x hx => (hM x hx).2.2) (fun x hx => (hB x hx).2.2) hE' (fun p hp => (rR p hp).1) (fun p hp => (rR p hp).2.1) (fun p hp => (rR p hp).2.2)]
  unfold wpY_value
  refine qy_chk2 rfl (by omega) hq y4 hco.2 ht (br_t (by decide) (br_f (nI_pos (by omega)) (br_t (nI_le (b := 3) (by omega) (by decide)) ⟨q + 2, ?_⟩)))
  refine rv_33 HH (by omega) hq (fun z' t' c' v' g1 g2 => ⟨rfl, ?_⟩) (q + 1) 0 bZ fT fC fV (by omega) ⟨fun _ _ => rfl, fun _ _ => ⟨rfl, rfl, rfl⟩, fun _ => [], fun j hj => by omega⟩ (q + 2) (by omega)
  exact re_in (re_frame HH (fun _ _ => rfl) (fun _ _ => ⟨rfl, rfl, rfl⟩) (fun _ _ => ⟨rfl, rfl, rfl⟩) (fun j hj => ⟨rfl, rfl, rfl, rfl, rfl, rfl, rfl, rfl, g1 j (by omega)⟩) (fun j hj => g2 j (by omega)))
end
end
section
/-! what is owed, one a method -/
theorem i_vc_source {k : Nat} {u : SX} {v : SY} (I : i_Rel k u v) (hk : k + 5 ≤ 2564) (v1 : Int32) : wpX_source (fun r u' => wpY_source (fun r' v' => r' = r ∧ i_Rel (k + 5) u' v') v v1) u v1 := by
  refine re_el (P := fun u v => wpX_source (fun r u' => wpY_source (fun r' v' => r' = r ∧ i_Rel (k + 5) u' v') v v1) u v1) ?_ I
  intros
  rename_i H
  exact re_source H
theorem i_vc_row {k : Nat} {u : SX} {v : SY} (I : i_Rel k u v) (hk : k + 5 ≤ 2564) (v1 : Int32) (v2 : Int32) (v3 : Int32) : wpX_row (fun r u' => wpY_row (fun r' v' => r' = r ∧ i_Rel (k + 5) u' v') v v1 v2 v3) u v1 v2 v3 := by
  refine re_el (P := fun u v => wpX_row (fun r u' => wpY_row (fun r' v' => r' = r ∧ i_Rel (k + 5) u' v') v v1 v2 v3) u v1 v2 v3) ?_ I
  intros
  rename_i H
  exact re_row H
theorem i_vc_select {k : Nat} {u : SX} {v : SY} (I : i_Rel k u v) (hk : k + 5 ≤ 2564) (v1 : Int32) (v2 : Int32) (v3 : Int32) : wpX_select (fun r u' => wpY_select (fun r' v' => r' = r ∧ i_Rel (k + 5) u' v') v v1 v2 v3) u v1 v2 v3 := by
  refine re_el (P := fun u v => wpX_select (fun r u' => wpY_select (fun r' v' => r' = r ∧ i_Rel (k + 5) u' v') v v1 v2 v3) u v1 v2 v3) ?_ I
  intros
  rename_i H
  exact re_select H
theorem i_vc_match {k : Nat} {u : SX} {v : SY} (I : i_Rel k u v) (hk : k + 5 ≤ 2564) (v1 : Int32) (v2 : Int32) (v3 : Int32) : wpX_match (fun r u' => wpY_match (fun r' v' => r' = r ∧ i_Rel (k + 5) u' v') v v1 v2 v3) u v1 v2 v3 := by
  refine re_el (P := fun u v => wpX_match (fun r u' => wpY_match (fun r' v' => r' = r ∧ i_Rel (k + 5) u' v') v v1 v2 v3) u v1 v2 v3) ?_ I
  intros
  rename_i H
  exact re_match H
theorem i_vc_project {k : Nat} {u : SX} {v : SY} (I : i_Rel k u v) (hk : k + 5 ≤ 2564) (v1 : Int32) (v2 : Int32) (v3 : Int32) (v4 : Int32) : wpX_project (fun r u' => wpY_project (fun r' v' => r' = r ∧ i_Rel (k + 5) u' v') v v1 v2 v3 v4) u v1 v2 v3 v4 := by
  refine re_el (P := fun u v => wpX_project (fun r u' => wpY_project (fun r' v' => r' = r ∧ i_Rel (k + 5) u' v') v v1 v2 v3 v4) u v1 v2 v3 v4) ?_ I
  intros
  rename_i H
  exact re_project H
theorem i_vc_union {k : Nat} {u : SX} {v : SY} (I : i_Rel k u v) (hk : k + 5 ≤ 2564) (v1 : Int32) (v2 : Int32) : wpX_union (fun r u' => wpY_union (fun r' v' => r' = r ∧ i_Rel (k + 5) u' v') v v1 v2) u v1 v2 := by
  refine re_el (P := fun u v => wpX_union (fun r u' => wpY_union (fun r' v' => r' = r ∧ i_Rel (k + 5) u' v') v v1 v2) u v1 v2) ?_ I
  intros
  rename_i H
  exact re_union H
theorem i_vc_join {k : Nat} {u : SX} {v : SY} (I : i_Rel k u v) (hk : k + 5 ≤ 2564) (v1 : Int32) (v2 : Int32) (v3 : Int32) (v4 : Int32) : wpX_join (fun r u' => wpY_join (fun r' v' => r' = r ∧ i_Rel (k + 5) u' v') v v1 v2 v3 v4) u v1 v2 v3 v4 := by
  refine re_el (P := fun u v => wpX_join (fun r u' => wpY_join (fun r' v' => r' = r ∧ i_Rel (k + 5) u' v') v v1 v2 v3 v4) u v1 v2 v3 v4) ?_ I
  intros
  rename_i H
  exact re_join H
theorem i_vc_drop {k : Nat} {u : SX} {v : SY} (I : i_Rel k u v) (hk : k + 5 ≤ 2564) : wpX_drop (fun r u' => wpY_drop (fun r' v' => r' = r ∧ i_Rel (k + 5) u' v') v) u := by
  refine re_el (P := fun u v => wpX_drop (fun r u' => wpY_drop (fun r' v' => r' = r ∧ i_Rel (k + 5) u' v') v) u) ?_ I
  intros
  rename_i H
  exact re_drop H
theorem i_vc_assign {k : Nat} {u : SX} {v : SY} (I : i_Rel k u v) (hk : k + 5 ≤ 2564) (v1 : Int32) (v2 : Int32) (v3 : Int32) : wpX_assign (fun r u' => wpY_assign (fun r' v' => r' = r ∧ i_Rel (k + 5) u' v') v v1 v2 v3) u v1 v2 v3 := by
  refine re_el (P := fun u v => wpX_assign (fun r u' => wpY_assign (fun r' v' => r' = r ∧ i_Rel (k + 5) u' v') v v1 v2 v3) u v1 v2 v3) ?_ I
  intros
  rename_i H
  exact re_assign H
theorem i_vc_assigned {k : Nat} {u : SX} {v : SY} (I : i_Rel k u v) (hk : k + 5 ≤ 2564) (v1 : Int32) (v2 : Int32) : wpX_assigned (fun r => wpY_assigned (fun r' => r' = r ∧ i_Rel (k + 5) u v) v v1 v2) u v1 v2 := by
  refine re_el (P := fun u v => wpX_assigned (fun r => wpY_assigned (fun r' => r' = r ∧ i_Rel (k + 5) u v) v v1 v2) u v1 v2) ?_ I
  intros
  rename_i H
  exact re_assigned H
theorem i_vc_value {k : Nat} {u : SX} {v : SY} (I : i_Rel k u v) (hk : k + 5 ≤ 2564) (v1 : Int32) (v2 : Int32) (v3 : Int32) : wpX_value (fun r => wpY_value (fun r' v' => r' = r ∧ i_Rel (k + 5) u v') v v1 v2 v3) u v1 v2 v3 := by
  refine re_el (P := fun u v => wpX_value (fun r => wpY_value (fun r' v' => r' = r ∧ i_Rel (k + 5) u v') v v1 v2 v3) u v1 v2 v3) ?_ I
  intros
  rename_i H
  exact re_value H
theorem i_vc_terms {k : Nat} {u : SX} {v : SY} (I : i_Rel k u v) (hk : k + 5 ≤ 2564) (v1 : Int32) (v2 : Int32) : wpX_terms (fun r => wpY_terms (fun r' => r' = r ∧ i_Rel (k + 5) u v) v v1 v2) u v1 v2 := by
  refine re_el (P := fun u v => wpX_terms (fun r => wpY_terms (fun r' => r' = r ∧ i_Rel (k + 5) u v) v v1 v2) u v1 v2) ?_ I
  intros
  rename_i H
  exact re_terms H
theorem i_vc_monomial {k : Nat} {u : SX} {v : SY} (I : i_Rel k u v) (hk : k + 5 ≤ 2564) (v1 : Int32) (v2 : Int32) (v3 : Int32) : wpX_monomial (fun r => wpY_monomial (fun r' => r' = r ∧ i_Rel (k + 5) u v) v v1 v2 v3) u v1 v2 v3 := by
  refine re_el (P := fun u v => wpX_monomial (fun r => wpY_monomial (fun r' => r' = r ∧ i_Rel (k + 5) u v) v v1 v2 v3) u v1 v2 v3) ?_ I
  intros
  rename_i H
  exact re_monomial H
theorem i_vc_coefficient {k : Nat} {u : SX} {v : SY} (I : i_Rel k u v) (hk : k + 5 ≤ 2564) (v1 : Int32) (v2 : Int32) (a2 : Int64) : wpX_coefficient (fun r => wpY_coefficient (fun r' => r' = r ∧ i_Rel (k + 5) u v) v v1 v2 a2) u v1 v2 a2 := by
  refine re_el (P := fun u v => wpX_coefficient (fun r => wpY_coefficient (fun r' => r' = r ∧ i_Rel (k + 5) u v) v v1 v2 a2) u v1 v2 a2) ?_ I
  intros
  rename_i H
  exact re_coefficient H
theorem i_vc_tuple {k : Nat} {u : SX} {v : SY} (I : i_Rel k u v) (hk : k + 5 ≤ 2564) (v1 : Int32) (v2 : Int32) : wpX_tuple (fun r => wpY_tuple (fun r' => r' = r ∧ i_Rel (k + 5) u v) v v1 v2) u v1 v2 := by
  refine re_el (P := fun u v => wpX_tuple (fun r => wpY_tuple (fun r' => r' = r ∧ i_Rel (k + 5) u v) v v1 v2) u v1 v2) ?_ I
  intros
  rename_i H
  exact re_tuple H
theorem i_vc_info {k : Nat} {u : SX} {v : SY} (I : i_Rel k u v) (hk : k + 5 ≤ 2564) (v1 : Int32) (v2 : Int32) : wpX_info (fun r => wpY_info (fun r' => r' = r ∧ i_Rel (k + 5) u v) v v1 v2) u v1 v2 := by
  refine re_el (P := fun u v => wpX_info (fun r => wpY_info (fun r' => r' = r ∧ i_Rel (k + 5) u v) v v1 v2) u v1 v2) ?_ I
  intros
  rename_i H
  exact re_info H
end
