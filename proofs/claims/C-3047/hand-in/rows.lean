section
/-! pure rows to paste: stores, nI and lN arithmetic, masks, shifts, narrowing, branches by naturals (pk_le, pk_lt, pk_eq), loops (lp1 .. lp16: the measure of the state; rp1 ..: recursion), negatives. Take what you need -/
theorem pk_us {f : Nat → Int32} {k : Nat} {x : Int32} : upd f k x k = x := if_pos rfl
theorem pk_un {f : Nat → Int32} {k j : Nat} {x : Int32} (h : j ≠ k) : upd f k x j = f j := if_neg h
theorem pk_uLs {f : Nat → Int64} {k : Nat} {x : Int64} : vp_updL f k x k = x := if_pos rfl
theorem pk_uLn {f : Nat → Int64} {k j : Nat} {x : Int64} (h : j ≠ k) : vp_updL f k x j = f j := if_neg h
theorem pk_sub {a b : Nat} (h : b ≤ a) : nI a - nI b = nI (a - b) := by
  obtain ⟨c, rfl⟩ : ∃ c, a = c + b := ⟨a - b, by omega⟩
  rw [← nI_add, Int32.add_sub_cancel, Nat.add_sub_cancel]
theorem pk_m1 (n : Nat) : nI (n + 1) + (-1) = nI n := by
  rw [← nI_1, Int32.add_assoc, show (1 : Int32) + (-1) = 0 from rfl, Int32.add_zero]
theorem pk_mul (a b : Nat) : nI a * nI b = nI (a * b) := (Int32.ofNat_mul a b).symm
theorem pk_div {a d : Nat} (ha : a < 2 ^ 31) (h0 : 0 < d) (hd : d < 2 ^ 31) : nI a / nI d = nI (a / d) := by
  apply Int32.toInt_inj.mp
  rw [lg_idiv_nonneg (by rw [nI_toInt ha]; omega) (by rw [nI_toInt hd]; omega), nI_toInt ha, nI_toInt hd, nI_toInt (Nat.lt_of_le_of_lt (Nat.div_le_self a d) ha)]
  first | rfl | exact (Int.natCast_ediv _ _).symm
theorem pk_rem {a d : Nat} (ha : a < 2 ^ 31) (h0 : 0 < d) (hd : d < 2 ^ 31) : nI a - nI a / nI d * nI d = nI (a % d) := by
  rw [pk_div ha h0 hd, pk_mul, pk_sub (Nat.div_mul_le_self a d)]
  exact congrArg nI (by have := Nat.div_add_mod' a d; omega)
theorem pk_sub_toInt {a b : Nat} (ha : a < 2 ^ 30) (hb : b < 2 ^ 30) : (nI a - nI b).toInt = (a : Int) - b := by
  rw [Int32.toInt_sub, nI_toInt (by omega), nI_toInt (by omega)]
  exact Int.bmod_eq_of_le (by omega) (by omega)
theorem pk_sneg {a b : Nat} (hb : b < 2 ^ 30) (h : a < b) : nI a - nI b < 0 := by
  rw [Int32.lt_iff_toInt_lt, pk_sub_toInt (by omega) hb, show (0 : Int32).toInt = 0 from by decide]
  omega
theorem pk_ix (x : Int32) {n : Nat} (hn : n < 2 ^ 31) : x < 0 ∨ nI n ≤ x ∨ ∃ j : Nat, j < n ∧ x = nI j := by
  by_cases h : x < 0
  · exact Or.inl h
  · obtain ⟨j, hj, rfl⟩ := nI_of h
    by_cases h2 : j < n
    · exact Or.inr (Or.inr ⟨j, h2, rfl⟩)
    · exact Or.inr (Or.inl (nI_le (by omega) hj))
theorem pk_le {x y : Int32} {A B : Prop} (a b : Nat) (f : a ≤ b → A) (g : b < a → B) (hx : x = nI a := by rfl) (hy : y = nI b := by rfl) (ha : a < 2 ^ 31 := by omega) (hb : b < 2 ^ 31 := by omega) : (x ≤ y → A) ∧ (¬ x ≤ y → B) := by
  subst hx hy
  rw [nI_leI ha hb]
  exact ⟨f, fun z => g (by omega)⟩
theorem pk_lt {x y : Int32} {A B : Prop} (a b : Nat) (f : a < b → A) (g : b ≤ a → B) (hx : x = nI a := by rfl) (hy : y = nI b := by rfl) (ha : a < 2 ^ 31 := by omega) (hb : b < 2 ^ 31 := by omega) : (x < y → A) ∧ (¬ x < y → B) := by
  subst hx hy
  rw [nI_ltI ha hb]
  exact ⟨f, fun z => g (by omega)⟩
theorem pk_eq {x y : Int32} {A B : Prop} (a b : Nat) (f : a = b → A) (g : a ≠ b → B) (hx : x = nI a := by rfl) (hy : y = nI b := by rfl) (ha : a < 2 ^ 31 := by omega) (hb : b < 2 ^ 31 := by omega) : (x = y → A) ∧ (¬ x = y → B) := by
  subst hx hy
  rw [nI_eq ha hb]
  exact ⟨f, g⟩
theorem pk_in {x : Int32} (n N : Nat) (h : n < N) (hx : x = nI n := by rfl) (hN : N < 2 ^ 31 := by omega) : vp_in x N := by
  subst hx
  exact vp_in_nI h hN
theorem pk_cl {x : Int32} (n : Nat) (hx : x = nI n := by rfl) (h : n < 2 ^ 31 := by omega) : x.toNatClampNeg = n := by
  subst hx
  exact nI_clamp h
theorem pk_tn {n : Nat} (h : n < 2 ^ 32) : (nI n).toBitVec.toNat = n := Nat.mod_eq_of_lt h
theorem pk_and (x : Int32) {m : Int32} (k : Nat) (hm : m.toBitVec.toNat = 2 ^ k - 1) : x &&& m = nI (x.toBitVec.toNat % 2 ^ k) := by
  apply Int32.toBitVec_inj.mp
  apply BitVec.eq_of_toNat_eq
  rw [Int32.toBitVec_and, BitVec.toNat_and, hm, Nat.and_two_pow_sub_one_eq_mod]
  show _ = (BitVec.ofNat 32 _).toNat
  rw [BitVec.toNat_ofNat]
  exact (Nat.mod_eq_of_lt (Nat.lt_of_le_of_lt (Nat.mod_le _ _) x.toBitVec.isLt)).symm
theorem pk_andN {n : Nat} (h : n < 2 ^ 32) {m : Int32} (k : Nat) (hm : m.toBitVec.toNat = 2 ^ k - 1) : nI n &&& m = nI (n % 2 ^ k) := by
  rw [pk_and _ k hm, pk_tn h]
theorem pk_andE (x : Int32) {m : Int32} (k : Nat) (hm : m.toBitVec.toNat = 2 ^ k - 1) : ∃ j : Nat, j < 2 ^ k ∧ x &&& m = nI j := ⟨_, Nat.mod_lt _ (Nat.two_pow_pos k), pk_and x k hm⟩
theorem pk_andIn (x : Int32) {m : Int32} (k : Nat) (hm : m.toBitVec.toNat = 2 ^ k - 1) (hk : k ≤ 30) : vp_in (x &&& m) (2 ^ k) := by
  obtain ⟨j, hj, e⟩ := pk_andE x k hm
  rw [e]
  exact vp_in_nI hj (Nat.lt_of_le_of_lt (Nat.pow_le_pow_right (by decide) hk) (by decide))
theorem pk_shl (a s : Int32) (k : Nat) (hs : (s.toBitVec.smod 32).toNat = k) : (a <<< s).toBitVec.toNat = a.toBitVec.toNat * 2 ^ k % 2 ^ 32 := by
  show (a.toBitVec <<< (s.toBitVec.smod 32).toNat).toNat = _
  rw [hs, BitVec.toNat_shiftLeft, Nat.shiftLeft_eq]
theorem pk_shlN {n : Nat} (s : Int32) (k : Nat) (hs : (s.toBitVec.smod 32).toNat = k) (h : n * 2 ^ k < 2 ^ 32) : nI n <<< s = nI (n * 2 ^ k) := by
  apply Int32.toBitVec_inj.mp
  apply BitVec.eq_of_toNat_eq
  have hn : n < 2 ^ 32 := Nat.lt_of_le_of_lt (Nat.le_mul_of_pos_right n (Nat.two_pow_pos k)) h
  rw [pk_shl _ _ k hs, pk_tn hn, pk_tn h, Nat.mod_eq_of_lt h]
theorem pk_shr (a s : Int32) (k : Nat) (hs : (s.toBitVec.smod 32).toNat = k) : (a >>> s).toInt = a.toInt >>> k := by
  show (a.toBitVec.sshiftRight (s.toBitVec.smod 32).toNat).toInt = _
  rw [hs, BitVec.toInt_sshiftRight]
  rfl
theorem pk_shrN {n : Nat} (h : n < 2 ^ 31) (s : Int32) (k : Nat) (hs : (s.toBitVec.smod 32).toNat = k) : nI n >>> s = nI (n / 2 ^ k) := by
  apply Int32.toInt_inj.mp
  have h2 : n / 2 ^ k ≤ n := Nat.div_le_self _ _
  rw [pk_shr _ _ k hs, nI_toInt h, nI_toInt (by omega), Int.shiftRight_eq_div_pow]
  rfl
theorem pk_ushr (x s : Int32) (k : Nat) (hs : ((s.toUInt32 &&& Int32.toUInt32 31).toBitVec % 32).toNat = k) : (x.toUInt32 >>> (s.toUInt32 &&& Int32.toUInt32 31)).toInt32.toBitVec.toNat = x.toBitVec.toNat / 2 ^ k := by
  have e : (x.toUInt32 >>> (s.toUInt32 &&& Int32.toUInt32 31)).toInt32.toBitVec = x.toBitVec >>> k := by
    rw [← hs]
    exact UInt32.toBitVec_shiftRight _ _
  rw [e, BitVec.toNat_ushiftRight, Nat.shiftRight_eq_div_pow]
theorem pk_ushrN {n : Nat} (hn : n < 2 ^ 32) (s : Int32) (k : Nat) (hs : ((s.toUInt32 &&& Int32.toUInt32 31).toBitVec % 32).toNat = k) : ((nI n).toUInt32 >>> (s.toUInt32 &&& Int32.toUInt32 31)).toInt32 = nI (n / 2 ^ k) := by
  apply Int32.toBitVec_inj.mp
  apply BitVec.eq_of_toNat_eq
  rw [pk_ushr _ s k hs, pk_tn hn, pk_tn (Nat.lt_of_le_of_lt (Nat.div_le_self _ _) hn)]
theorem pk_nb (z : Int32) : narrow .byte (.int z.toInt8.toInt32) = .int z.toInt8.toInt32 := congrArg Value.int (by simp)
theorem pk_ns (z : Int32) : narrow .short (.int z.toInt16.toInt32) = .int z.toInt16.toInt32 := congrArg Value.int (by simp)
theorem pk_fb (r : Int32) : fits .byte (.int r.toInt8.toInt32) = true := by
  have ⟨a, b⟩ := lg_i2b_range r
  have h1 : (-128 : Int32).toInt = -128 := by decide
  have h2 : (127 : Int32).toInt = 127 := by decide
  simp only [fits, Bool.and_eq_true, decide_eq_true_eq, Int32.le_iff_toInt_le, h1, h2]
  omega
theorem pk_fs (r : Int32) : fits .short (.int r.toInt16.toInt32) = true := by
  have ⟨a, b⟩ := lg_i2s_range r
  have h1 : (-32768 : Int32).toInt = -32768 := by decide
  have h2 : (32767 : Int32).toInt = 32767 := by decide
  simp only [fits, Bool.and_eq_true, decide_eq_true_eq, Int32.le_iff_toInt_le, h1, h2]
  omega
theorem pk_charN {q : Nat} (hq : q < 65536) : narrow .char (.int (nI q)) = .int (nI q) ∧ fits .char (.int (nI q)) = true := by
  constructor
  · have e : (nI q).toUInt32.toUInt16.toUInt32.toInt32 = nI q := by
      apply Int32.toBitVec_inj.mp
      apply BitVec.eq_of_toNat_eq
      show (nI q).toUInt32.toUInt16.toUInt32.toNat = q % 2 ^ 32
      rw [UInt16.toNat_toUInt32, UInt32.toNat_toUInt16, show (nI q).toUInt32.toNat = q % 2 ^ 32 from rfl]
      omega
    exact congrArg Value.int e
  · have a : (0 : Int32) ≤ nI q := nI_pos' (by omega)
    have b : nI q ≤ 65535 := nI_le (b := 65535) (by omega) (by decide)
    show (decide ((0 : Int32) ≤ nI q) && decide (nI q ≤ 65535)) = true
    rw [decide_eq_true a, decide_eq_true b]
    rfl
theorem pk_char (x : Int32) : (x.toUInt32 % 65536).toInt32 = nI (x.toBitVec.toNat % 65536) := by
  apply Int32.toBitVec_inj.mp
  apply BitVec.eq_of_toNat_eq
  rw [pk_tn (by omega)]
  show (x.toUInt32 % 65536).toNat = _
  rw [UInt32.toNat_mod]
  rfl
theorem pk_nc (x : Int32) : narrow .char (.int (x.toUInt32 % 65536).toInt32) = .int (x.toUInt32 % 65536).toInt32 := by
  rw [pk_char]
  exact (pk_charN (Nat.mod_lt _ (by decide))).1
theorem pk_fc (x : Int32) : fits .char (.int (x.toUInt32 % 65536).toInt32) = true := by
  rw [pk_char]
  exact (pk_charN (Nat.mod_lt _ (by decide))).2
theorem pk_vb (z : Int32) : vp_nar .byte z.toInt8.toInt32 = z.toInt8.toInt32 := by rw [vp_nar_byte]; simp
theorem pk_vs (z : Int32) : vp_nar .short z.toInt16.toInt32 = z.toInt16.toInt32 := by rw [vp_nar_short]; simp
theorem pk_vc (z : Int32) : vp_nar .char (z.toUInt32 % 65536).toInt32 = (z.toUInt32 % 65536).toInt32 := Value.int.inj (pk_nc z)
theorem pk_lT {n : Nat} (h : n < 2 ^ 63) : (lN n).toInt = (n : Int) := lg_ofNat_toInt h
theorem pk_lLT {a b : Nat} (ha : a < 2 ^ 63) (hb : b < 2 ^ 63) : lN a < lN b ↔ a < b := by
  rw [Int64.lt_iff_toInt_lt, pk_lT ha, pk_lT hb]; omega
theorem pk_lLE {a b : Nat} (ha : a < 2 ^ 63) (hb : b < 2 ^ 63) : lN a ≤ lN b ↔ a ≤ b := by
  rw [Int64.le_iff_toInt_le, pk_lT ha, pk_lT hb]; omega
theorem pk_lEQ {a b : Nat} (ha : a < 2 ^ 63) (hb : b < 2 ^ 63) : lN a = lN b ↔ a = b := by
  rw [← Int64.toInt_inj, pk_lT ha, pk_lT hb]; omega
theorem pk_lOf {x : Int64} (h : ¬ x < 0) : ∃ k : Nat, k < 2 ^ 63 ∧ x = lN k := by
  rw [Int64.lt_iff_toInt_lt] at h
  have h0 : (0 : Int64).toInt = 0 := by decide
  have hx := Int64.toInt_lt x
  refine ⟨x.toInt.toNat, by omega, Int64.toInt_inj.mp ?_⟩
  rw [pk_lT (by omega)]
  omega
theorem pk_lDiv {a b : Nat} (ha : a < 2 ^ 63) (h0 : 0 < b) (hb : b < 2 ^ 63) : lN a / lN b = lN (a / b) := by
  apply Int64.toInt_inj.mp
  rw [lg_ldiv_nonneg (by rw [pk_lT ha]; omega) (by rw [pk_lT hb]; omega), pk_lT ha, pk_lT hb, pk_lT (Nat.lt_of_le_of_lt (Nat.div_le_self a b) ha)]
  rfl
theorem pk_lRem {a b : Nat} (ha : a < 2 ^ 63) (h0 : 0 < b) (hb : b < 2 ^ 63) : lN a - lN a / lN b * lN b = lN (a % b) := by
  rw [pk_lDiv ha h0 hb, lN_mul, lN_sub (Nat.div_mul_le_self a b)]
  exact congrArg lN (by have := Nat.div_add_mod' a b; omega)
theorem pk_loop {σ : Type} (W : Nat → Nat → σ → Prop) (I : Nat → σ → Prop) (e i0 : Nat) (s : σ) (hi : i0 ≤ e) (h0 : I i0 s) (hx : ∀ n s, I e s → W (n + 1) e s)
    (hs : ∀ n i s, i < e → I i s → (∀ s', I (i + 1) s' → W n (i + 1) s') → W (n + 1) i s) : ∃ n, W n i0 s :=
  ⟨e + 1, loop_i W I e hx hs (e + 1) i0 s hi (by omega) h0⟩
theorem pk_loopD {σ : Type} (W : Nat → Nat → σ → Prop) (I : Nat → σ → Prop) (hx : ∀ n s, I 0 s → W (n + 1) 0 s)
    (hs : ∀ n i s, I (i + 1) s → (∀ s', I i s' → W n i s') → W (n + 1) (i + 1) s) : ∀ (e : Nat) (s : σ), I e s → W (e + 1) e s := by
  intro e
  induction e with
  | zero => exact fun s h => hx 0 s h
  | succ e ih => exact fun s h => hs (e + 1) e s h (fun s' h' => ih s' h')
theorem lp1 {A1 : Type} (W : Nat → A1 → Prop) (I : A1 → Prop) (μ : A1 → Nat) (hs : ∀ (n : Nat) (a1 : A1), I a1 → (∀ (b1 : A1), I b1 → μ b1 < μ a1 → W n b1) → W (n + 1) a1) (a1 : A1) (h : I a1) : ∃ n, W n a1 :=
  loop_m (σ := A1) (fun n s => W n s) (fun s => I s) (fun s => μ s) (fun n s hI hk => hs n s hI (fun b1 h9 hm => hk b1 h9 hm)) a1 h
theorem lp2 {A1 A2 : Type} (W : Nat → A1 → A2 → Prop) (I : A1 → A2 → Prop) (μ : A1 → A2 → Nat) (hs : ∀ (n : Nat) (a1 : A1) (a2 : A2), I a1 a2 → (∀ (b1 : A1) (b2 : A2), I b1 b2 → μ b1 b2 < μ a1 a2 → W n b1 b2) → W (n + 1) a1 a2) (a1 : A1) (a2 : A2) (h : I a1 a2) : ∃ n, W n a1 a2 :=
  loop_m (σ := A1 × A2) (fun n s => W n s.1 s.2) (fun s => I s.1 s.2) (fun s => μ s.1 s.2) (fun n s hI hk => hs n s.1 s.2 hI (fun b1 b2 h9 hm => hk (b1, b2) h9 hm)) (a1, a2) h
theorem lp3 {A1 A2 A3 : Type} (W : Nat → A1 → A2 → A3 → Prop) (I : A1 → A2 → A3 → Prop) (μ : A1 → A2 → A3 → Nat) (hs : ∀ (n : Nat) (a1 : A1) (a2 : A2) (a3 : A3), I a1 a2 a3 → (∀ (b1 : A1) (b2 : A2) (b3 : A3), I b1 b2 b3 → μ b1 b2 b3 < μ a1 a2 a3 → W n b1 b2 b3) → W (n + 1) a1 a2 a3) (a1 : A1) (a2 : A2) (a3 : A3) (h : I a1 a2 a3) : ∃ n, W n a1 a2 a3 :=
  loop_m (σ := A1 × A2 × A3) (fun n s => W n s.1 s.2.1 s.2.2) (fun s => I s.1 s.2.1 s.2.2) (fun s => μ s.1 s.2.1 s.2.2) (fun n s hI hk => hs n s.1 s.2.1 s.2.2 hI (fun b1 b2 b3 h9 hm => hk (b1, b2, b3) h9 hm)) (a1, a2, a3) h
theorem lp4 {A1 A2 A3 A4 : Type} (W : Nat → A1 → A2 → A3 → A4 → Prop) (I : A1 → A2 → A3 → A4 → Prop) (μ : A1 → A2 → A3 → A4 → Nat) (hs : ∀ (n : Nat) (a1 : A1) (a2 : A2) (a3 : A3) (a4 : A4), I a1 a2 a3 a4 → (∀ (b1 : A1) (b2 : A2) (b3 : A3) (b4 : A4), I b1 b2 b3 b4 → μ b1 b2 b3 b4 < μ a1 a2 a3 a4 → W n b1 b2 b3 b4) → W (n + 1) a1 a2 a3 a4) (a1 : A1) (a2 : A2) (a3 : A3) (a4 : A4) (h : I a1 a2 a3 a4) : ∃ n, W n a1 a2 a3 a4 :=
  loop_m (σ := A1 × A2 × A3 × A4) (fun n s => W n s.1 s.2.1 s.2.2.1 s.2.2.2) (fun s => I s.1 s.2.1 s.2.2.1 s.2.2.2) (fun s => μ s.1 s.2.1 s.2.2.1 s.2.2.2) (fun n s hI hk => hs n s.1 s.2.1 s.2.2.1 s.2.2.2 hI (fun b1 b2 b3 b4 h9 hm => hk (b1, b2, b3, b4) h9 hm)) (a1, a2, a3, a4) h
theorem lp5 {A1 A2 A3 A4 A5 : Type} (W : Nat → A1 → A2 → A3 → A4 → A5 → Prop) (I : A1 → A2 → A3 → A4 → A5 → Prop) (μ : A1 → A2 → A3 → A4 → A5 → Nat) (hs : ∀ (n : Nat) (a1 : A1) (a2 : A2) (a3 : A3) (a4 : A4) (a5 : A5), I a1 a2 a3 a4 a5 → (∀ (b1 : A1) (b2 : A2) (b3 : A3) (b4 : A4) (b5 : A5), I b1 b2 b3 b4 b5 → μ b1 b2 b3 b4 b5 < μ a1 a2 a3 a4 a5 → W n b1 b2 b3 b4 b5) → W (n + 1) a1 a2 a3 a4 a5) (a1 : A1) (a2 : A2) (a3 : A3) (a4 : A4) (a5 : A5) (h : I a1 a2 a3 a4 a5) : ∃ n, W n a1 a2 a3 a4 a5 :=
  loop_m (σ := A1 × A2 × A3 × A4 × A5) (fun n s => W n s.1 s.2.1 s.2.2.1 s.2.2.2.1 s.2.2.2.2) (fun s => I s.1 s.2.1 s.2.2.1 s.2.2.2.1 s.2.2.2.2) (fun s => μ s.1 s.2.1 s.2.2.1 s.2.2.2.1 s.2.2.2.2) (fun n s hI hk => hs n s.1 s.2.1 s.2.2.1 s.2.2.2.1 s.2.2.2.2 hI (fun b1 b2 b3 b4 b5 h9 hm => hk (b1, b2, b3, b4, b5) h9 hm)) (a1, a2, a3, a4, a5) h
theorem lp6 {A1 A2 A3 A4 A5 A6 : Type} (W : Nat → A1 → A2 → A3 → A4 → A5 → A6 → Prop) (I : A1 → A2 → A3 → A4 → A5 → A6 → Prop) (μ : A1 → A2 → A3 → A4 → A5 → A6 → Nat) (hs : ∀ (n : Nat) (a1 : A1) (a2 : A2) (a3 : A3) (a4 : A4) (a5 : A5) (a6 : A6), I a1 a2 a3 a4 a5 a6 → (∀ (b1 : A1) (b2 : A2) (b3 : A3) (b4 : A4) (b5 : A5) (b6 : A6), I b1 b2 b3 b4 b5 b6 → μ b1 b2 b3 b4 b5 b6 < μ a1 a2 a3 a4 a5 a6 → W n b1 b2 b3 b4 b5 b6) → W (n + 1) a1 a2 a3 a4 a5 a6) (a1 : A1) (a2 : A2) (a3 : A3) (a4 : A4) (a5 : A5) (a6 : A6) (h : I a1 a2 a3 a4 a5 a6) : ∃ n, W n a1 a2 a3 a4 a5 a6 :=
  loop_m (σ := A1 × A2 × A3 × A4 × A5 × A6) (fun n s => W n s.1 s.2.1 s.2.2.1 s.2.2.2.1 s.2.2.2.2.1 s.2.2.2.2.2) (fun s => I s.1 s.2.1 s.2.2.1 s.2.2.2.1 s.2.2.2.2.1 s.2.2.2.2.2) (fun s => μ s.1 s.2.1 s.2.2.1 s.2.2.2.1 s.2.2.2.2.1 s.2.2.2.2.2) (fun n s hI hk => hs n s.1 s.2.1 s.2.2.1 s.2.2.2.1 s.2.2.2.2.1 s.2.2.2.2.2 hI (fun b1 b2 b3 b4 b5 b6 h9 hm => hk (b1, b2, b3, b4, b5, b6) h9 hm)) (a1, a2, a3, a4, a5, a6) h
theorem lp7 {A1 A2 A3 A4 A5 A6 A7 : Type} (W : Nat → A1 → A2 → A3 → A4 → A5 → A6 → A7 → Prop) (I : A1 → A2 → A3 → A4 → A5 → A6 → A7 → Prop) (μ : A1 → A2 → A3 → A4 → A5 → A6 → A7 → Nat) (hs : ∀ (n : Nat) (a1 : A1) (a2 : A2) (a3 : A3) (a4 : A4) (a5 : A5) (a6 : A6) (a7 : A7), I a1 a2 a3 a4 a5 a6 a7 → (∀ (b1 : A1) (b2 : A2) (b3 : A3) (b4 : A4) (b5 : A5) (b6 : A6) (b7 : A7), I b1 b2 b3 b4 b5 b6 b7 → μ b1 b2 b3 b4 b5 b6 b7 < μ a1 a2 a3 a4 a5 a6 a7 → W n b1 b2 b3 b4 b5 b6 b7) → W (n + 1) a1 a2 a3 a4 a5 a6 a7) (a1 : A1) (a2 : A2) (a3 : A3) (a4 : A4) (a5 : A5) (a6 : A6) (a7 : A7) (h : I a1 a2 a3 a4 a5 a6 a7) : ∃ n, W n a1 a2 a3 a4 a5 a6 a7 :=
  loop_m (σ := A1 × A2 × A3 × A4 × A5 × A6 × A7) (fun n s => W n s.1 s.2.1 s.2.2.1 s.2.2.2.1 s.2.2.2.2.1 s.2.2.2.2.2.1 s.2.2.2.2.2.2) (fun s => I s.1 s.2.1 s.2.2.1 s.2.2.2.1 s.2.2.2.2.1 s.2.2.2.2.2.1 s.2.2.2.2.2.2) (fun s => μ s.1 s.2.1 s.2.2.1 s.2.2.2.1 s.2.2.2.2.1 s.2.2.2.2.2.1 s.2.2.2.2.2.2) (fun n s hI hk => hs n s.1 s.2.1 s.2.2.1 s.2.2.2.1 s.2.2.2.2.1 s.2.2.2.2.2.1 s.2.2.2.2.2.2 hI (fun b1 b2 b3 b4 b5 b6 b7 h9 hm => hk (b1, b2, b3, b4, b5, b6, b7) h9 hm)) (a1, a2, a3, a4, a5, a6, a7) h
theorem lp8 {A1 A2 A3 A4 A5 A6 A7 A8 : Type} (W : Nat → A1 → A2 → A3 → A4 → A5 → A6 → A7 → A8 → Prop) (I : A1 → A2 → A3 → A4 → A5 → A6 → A7 → A8 → Prop) (μ : A1 → A2 → A3 → A4 → A5 → A6 → A7 → A8 → Nat) (hs : ∀ (n : Nat) (a1 : A1) (a2 : A2) (a3 : A3) (a4 : A4) (a5 : A5) (a6 : A6) (a7 : A7) (a8 : A8), I a1 a2 a3 a4 a5 a6 a7 a8 → (∀ (b1 : A1) (b2 : A2) (b3 : A3) (b4 : A4) (b5 : A5) (b6 : A6) (b7 : A7) (b8 : A8), I b1 b2 b3 b4 b5 b6 b7 b8 → μ b1 b2 b3 b4 b5 b6 b7 b8 < μ a1 a2 a3 a4 a5 a6 a7 a8 → W n b1 b2 b3 b4 b5 b6 b7 b8) → W (n + 1) a1 a2 a3 a4 a5 a6 a7 a8) (a1 : A1) (a2 : A2) (a3 : A3) (a4 : A4) (a5 : A5) (a6 : A6) (a7 : A7) (a8 : A8) (h : I a1 a2 a3 a4 a5 a6 a7 a8) : ∃ n, W n a1 a2 a3 a4 a5 a6 a7 a8 :=
  loop_m (σ := A1 × A2 × A3 × A4 × A5 × A6 × A7 × A8) (fun n s => W n s.1 s.2.1 s.2.2.1 s.2.2.2.1 s.2.2.2.2.1 s.2.2.2.2.2.1 s.2.2.2.2.2.2.1 s.2.2.2.2.2.2.2) (fun s => I s.1 s.2.1 s.2.2.1 s.2.2.2.1 s.2.2.2.2.1 s.2.2.2.2.2.1 s.2.2.2.2.2.2.1 s.2.2.2.2.2.2.2) (fun s => μ s.1 s.2.1 s.2.2.1 s.2.2.2.1 s.2.2.2.2.1 s.2.2.2.2.2.1 s.2.2.2.2.2.2.1 s.2.2.2.2.2.2.2) (fun n s hI hk => hs n s.1 s.2.1 s.2.2.1 s.2.2.2.1 s.2.2.2.2.1 s.2.2.2.2.2.1 s.2.2.2.2.2.2.1 s.2.2.2.2.2.2.2 hI (fun b1 b2 b3 b4 b5 b6 b7 b8 h9 hm => hk (b1, b2, b3, b4, b5, b6, b7, b8) h9 hm)) (a1, a2, a3, a4, a5, a6, a7, a8) h
theorem lp9 {A1 A2 A3 A4 A5 A6 A7 A8 A9 : Type} (W : Nat → A1 → A2 → A3 → A4 → A5 → A6 → A7 → A8 → A9 → Prop) (I : A1 → A2 → A3 → A4 → A5 → A6 → A7 → A8 → A9 → Prop) (μ : A1 → A2 → A3 → A4 → A5 → A6 → A7 → A8 → A9 → Nat) (hs : ∀ (n : Nat) (a1 : A1) (a2 : A2) (a3 : A3) (a4 : A4) (a5 : A5) (a6 : A6) (a7 : A7) (a8 : A8) (a9 : A9), I a1 a2 a3 a4 a5 a6 a7 a8 a9 → (∀ (b1 : A1) (b2 : A2) (b3 : A3) (b4 : A4) (b5 : A5) (b6 : A6) (b7 : A7) (b8 : A8) (b9 : A9), I b1 b2 b3 b4 b5 b6 b7 b8 b9 → μ b1 b2 b3 b4 b5 b6 b7 b8 b9 < μ a1 a2 a3 a4 a5 a6 a7 a8 a9 → W n b1 b2 b3 b4 b5 b6 b7 b8 b9) → W (n + 1) a1 a2 a3 a4 a5 a6 a7 a8 a9) (a1 : A1) (a2 : A2) (a3 : A3) (a4 : A4) (a5 : A5) (a6 : A6) (a7 : A7) (a8 : A8) (a9 : A9) (h : I a1 a2 a3 a4 a5 a6 a7 a8 a9) : ∃ n, W n a1 a2 a3 a4 a5 a6 a7 a8 a9 :=
  loop_m (σ := A1 × A2 × A3 × A4 × A5 × A6 × A7 × A8 × A9) (fun n s => W n s.1 s.2.1 s.2.2.1 s.2.2.2.1 s.2.2.2.2.1 s.2.2.2.2.2.1 s.2.2.2.2.2.2.1 s.2.2.2.2.2.2.2.1 s.2.2.2.2.2.2.2.2) (fun s => I s.1 s.2.1 s.2.2.1 s.2.2.2.1 s.2.2.2.2.1 s.2.2.2.2.2.1 s.2.2.2.2.2.2.1 s.2.2.2.2.2.2.2.1 s.2.2.2.2.2.2.2.2) (fun s => μ s.1 s.2.1 s.2.2.1 s.2.2.2.1 s.2.2.2.2.1 s.2.2.2.2.2.1 s.2.2.2.2.2.2.1 s.2.2.2.2.2.2.2.1 s.2.2.2.2.2.2.2.2) (fun n s hI hk => hs n s.1 s.2.1 s.2.2.1 s.2.2.2.1 s.2.2.2.2.1 s.2.2.2.2.2.1 s.2.2.2.2.2.2.1 s.2.2.2.2.2.2.2.1 s.2.2.2.2.2.2.2.2 hI (fun b1 b2 b3 b4 b5 b6 b7 b8 b9 h9 hm => hk (b1, b2, b3, b4, b5, b6, b7, b8, b9) h9 hm)) (a1, a2, a3, a4, a5, a6, a7, a8, a9) h
theorem lp10 {A1 A2 A3 A4 A5 A6 A7 A8 A9 A10 : Type} (W : Nat → A1 → A2 → A3 → A4 → A5 → A6 → A7 → A8 → A9 → A10 → Prop) (I : A1 → A2 → A3 → A4 → A5 → A6 → A7 → A8 → A9 → A10 → Prop) (μ : A1 → A2 → A3 → A4 → A5 → A6 → A7 → A8 → A9 → A10 → Nat) (hs : ∀ (n : Nat) (a1 : A1) (a2 : A2) (a3 : A3) (a4 : A4) (a5 : A5) (a6 : A6) (a7 : A7) (a8 : A8) (a9 : A9) (a10 : A10), I a1 a2 a3 a4 a5 a6 a7 a8 a9 a10 → (∀ (b1 : A1) (b2 : A2) (b3 : A3) (b4 : A4) (b5 : A5) (b6 : A6) (b7 : A7) (b8 : A8) (b9 : A9) (b10 : A10), I b1 b2 b3 b4 b5 b6 b7 b8 b9 b10 → μ b1 b2 b3 b4 b5 b6 b7 b8 b9 b10 < μ a1 a2 a3 a4 a5 a6 a7 a8 a9 a10 → W n b1 b2 b3 b4 b5 b6 b7 b8 b9 b10) → W (n + 1) a1 a2 a3 a4 a5 a6 a7 a8 a9 a10) (a1 : A1) (a2 : A2) (a3 : A3) (a4 : A4) (a5 : A5) (a6 : A6) (a7 : A7) (a8 : A8) (a9 : A9) (a10 : A10) (h : I a1 a2 a3 a4 a5 a6 a7 a8 a9 a10) : ∃ n, W n a1 a2 a3 a4 a5 a6 a7 a8 a9 a10 :=
  loop_m (σ := A1 × A2 × A3 × A4 × A5 × A6 × A7 × A8 × A9 × A10) (fun n s => W n s.1 s.2.1 s.2.2.1 s.2.2.2.1 s.2.2.2.2.1 s.2.2.2.2.2.1 s.2.2.2.2.2.2.1 s.2.2.2.2.2.2.2.1 s.2.2.2.2.2.2.2.2.1 s.2.2.2.2.2.2.2.2.2) (fun s => I s.1 s.2.1 s.2.2.1 s.2.2.2.1 s.2.2.2.2.1 s.2.2.2.2.2.1 s.2.2.2.2.2.2.1 s.2.2.2.2.2.2.2.1 s.2.2.2.2.2.2.2.2.1 s.2.2.2.2.2.2.2.2.2) (fun s => μ s.1 s.2.1 s.2.2.1 s.2.2.2.1 s.2.2.2.2.1 s.2.2.2.2.2.1 s.2.2.2.2.2.2.1 s.2.2.2.2.2.2.2.1 s.2.2.2.2.2.2.2.2.1 s.2.2.2.2.2.2.2.2.2) (fun n s hI hk => hs n s.1 s.2.1 s.2.2.1 s.2.2.2.1 s.2.2.2.2.1 s.2.2.2.2.2.1 s.2.2.2.2.2.2.1 s.2.2.2.2.2.2.2.1 s.2.2.2.2.2.2.2.2.1 s.2.2.2.2.2.2.2.2.2 hI (fun b1 b2 b3 b4 b5 b6 b7 b8 b9 b10 h9 hm => hk (b1, b2, b3, b4, b5, b6, b7, b8, b9, b10) h9 hm)) (a1, a2, a3, a4, a5, a6, a7, a8, a9, a10) h
theorem lp11 {A1 A2 A3 A4 A5 A6 A7 A8 A9 A10 A11 : Type} (W : Nat → A1 → A2 → A3 → A4 → A5 → A6 → A7 → A8 → A9 → A10 → A11 → Prop) (I : A1 → A2 → A3 → A4 → A5 → A6 → A7 → A8 → A9 → A10 → A11 → Prop) (μ : A1 → A2 → A3 → A4 → A5 → A6 → A7 → A8 → A9 → A10 → A11 → Nat) (hs : ∀ (n : Nat) (a1 : A1) (a2 : A2) (a3 : A3) (a4 : A4) (a5 : A5) (a6 : A6) (a7 : A7) (a8 : A8) (a9 : A9) (a10 : A10) (a11 : A11), I a1 a2 a3 a4 a5 a6 a7 a8 a9 a10 a11 → (∀ (b1 : A1) (b2 : A2) (b3 : A3) (b4 : A4) (b5 : A5) (b6 : A6) (b7 : A7) (b8 : A8) (b9 : A9) (b10 : A10) (b11 : A11), I b1 b2 b3 b4 b5 b6 b7 b8 b9 b10 b11 → μ b1 b2 b3 b4 b5 b6 b7 b8 b9 b10 b11 < μ a1 a2 a3 a4 a5 a6 a7 a8 a9 a10 a11 → W n b1 b2 b3 b4 b5 b6 b7 b8 b9 b10 b11) → W (n + 1) a1 a2 a3 a4 a5 a6 a7 a8 a9 a10 a11) (a1 : A1) (a2 : A2) (a3 : A3) (a4 : A4) (a5 : A5) (a6 : A6) (a7 : A7) (a8 : A8) (a9 : A9) (a10 : A10) (a11 : A11) (h : I a1 a2 a3 a4 a5 a6 a7 a8 a9 a10 a11) : ∃ n, W n a1 a2 a3 a4 a5 a6 a7 a8 a9 a10 a11 :=
  loop_m (σ := A1 × A2 × A3 × A4 × A5 × A6 × A7 × A8 × A9 × A10 × A11) (fun n s => W n s.1 s.2.1 s.2.2.1 s.2.2.2.1 s.2.2.2.2.1 s.2.2.2.2.2.1 s.2.2.2.2.2.2.1 s.2.2.2.2.2.2.2.1 s.2.2.2.2.2.2.2.2.1 s.2.2.2.2.2.2.2.2.2.1 s.2.2.2.2.2.2.2.2.2.2) (fun s => I s.1 s.2.1 s.2.2.1 s.2.2.2.1 s.2.2.2.2.1 s.2.2.2.2.2.1 s.2.2.2.2.2.2.1 s.2.2.2.2.2.2.2.1 s.2.2.2.2.2.2.2.2.1 s.2.2.2.2.2.2.2.2.2.1 s.2.2.2.2.2.2.2.2.2.2) (fun s => μ s.1 s.2.1 s.2.2.1 s.2.2.2.1 s.2.2.2.2.1 s.2.2.2.2.2.1 s.2.2.2.2.2.2.1 s.2.2.2.2.2.2.2.1 s.2.2.2.2.2.2.2.2.1 s.2.2.2.2.2.2.2.2.2.1 s.2.2.2.2.2.2.2.2.2.2) (fun n s hI hk => hs n s.1 s.2.1 s.2.2.1 s.2.2.2.1 s.2.2.2.2.1 s.2.2.2.2.2.1 s.2.2.2.2.2.2.1 s.2.2.2.2.2.2.2.1 s.2.2.2.2.2.2.2.2.1 s.2.2.2.2.2.2.2.2.2.1 s.2.2.2.2.2.2.2.2.2.2 hI (fun b1 b2 b3 b4 b5 b6 b7 b8 b9 b10 b11 h9 hm => hk (b1, b2, b3, b4, b5, b6, b7, b8, b9, b10, b11) h9 hm)) (a1, a2, a3, a4, a5, a6, a7, a8, a9, a10, a11) h
theorem lp12 {A1 A2 A3 A4 A5 A6 A7 A8 A9 A10 A11 A12 : Type} (W : Nat → A1 → A2 → A3 → A4 → A5 → A6 → A7 → A8 → A9 → A10 → A11 → A12 → Prop) (I : A1 → A2 → A3 → A4 → A5 → A6 → A7 → A8 → A9 → A10 → A11 → A12 → Prop) (μ : A1 → A2 → A3 → A4 → A5 → A6 → A7 → A8 → A9 → A10 → A11 → A12 → Nat) (hs : ∀ (n : Nat) (a1 : A1) (a2 : A2) (a3 : A3) (a4 : A4) (a5 : A5) (a6 : A6) (a7 : A7) (a8 : A8) (a9 : A9) (a10 : A10) (a11 : A11) (a12 : A12), I a1 a2 a3 a4 a5 a6 a7 a8 a9 a10 a11 a12 → (∀ (b1 : A1) (b2 : A2) (b3 : A3) (b4 : A4) (b5 : A5) (b6 : A6) (b7 : A7) (b8 : A8) (b9 : A9) (b10 : A10) (b11 : A11) (b12 : A12), I b1 b2 b3 b4 b5 b6 b7 b8 b9 b10 b11 b12 → μ b1 b2 b3 b4 b5 b6 b7 b8 b9 b10 b11 b12 < μ a1 a2 a3 a4 a5 a6 a7 a8 a9 a10 a11 a12 → W n b1 b2 b3 b4 b5 b6 b7 b8 b9 b10 b11 b12) → W (n + 1) a1 a2 a3 a4 a5 a6 a7 a8 a9 a10 a11 a12) (a1 : A1) (a2 : A2) (a3 : A3) (a4 : A4) (a5 : A5) (a6 : A6) (a7 : A7) (a8 : A8) (a9 : A9) (a10 : A10) (a11 : A11) (a12 : A12) (h : I a1 a2 a3 a4 a5 a6 a7 a8 a9 a10 a11 a12) : ∃ n, W n a1 a2 a3 a4 a5 a6 a7 a8 a9 a10 a11 a12 :=
  loop_m (σ := A1 × A2 × A3 × A4 × A5 × A6 × A7 × A8 × A9 × A10 × A11 × A12) (fun n s => W n s.1 s.2.1 s.2.2.1 s.2.2.2.1 s.2.2.2.2.1 s.2.2.2.2.2.1 s.2.2.2.2.2.2.1 s.2.2.2.2.2.2.2.1 s.2.2.2.2.2.2.2.2.1 s.2.2.2.2.2.2.2.2.2.1 s.2.2.2.2.2.2.2.2.2.2.1 s.2.2.2.2.2.2.2.2.2.2.2) (fun s => I s.1 s.2.1 s.2.2.1 s.2.2.2.1 s.2.2.2.2.1 s.2.2.2.2.2.1 s.2.2.2.2.2.2.1 s.2.2.2.2.2.2.2.1 s.2.2.2.2.2.2.2.2.1 s.2.2.2.2.2.2.2.2.2.1 s.2.2.2.2.2.2.2.2.2.2.1 s.2.2.2.2.2.2.2.2.2.2.2) (fun s => μ s.1 s.2.1 s.2.2.1 s.2.2.2.1 s.2.2.2.2.1 s.2.2.2.2.2.1 s.2.2.2.2.2.2.1 s.2.2.2.2.2.2.2.1 s.2.2.2.2.2.2.2.2.1 s.2.2.2.2.2.2.2.2.2.1 s.2.2.2.2.2.2.2.2.2.2.1 s.2.2.2.2.2.2.2.2.2.2.2) (fun n s hI hk => hs n s.1 s.2.1 s.2.2.1 s.2.2.2.1 s.2.2.2.2.1 s.2.2.2.2.2.1 s.2.2.2.2.2.2.1 s.2.2.2.2.2.2.2.1 s.2.2.2.2.2.2.2.2.1 s.2.2.2.2.2.2.2.2.2.1 s.2.2.2.2.2.2.2.2.2.2.1 s.2.2.2.2.2.2.2.2.2.2.2 hI (fun b1 b2 b3 b4 b5 b6 b7 b8 b9 b10 b11 b12 h9 hm => hk (b1, b2, b3, b4, b5, b6, b7, b8, b9, b10, b11, b12) h9 hm)) (a1, a2, a3, a4, a5, a6, a7, a8, a9, a10, a11, a12) h
theorem lp13 {A1 A2 A3 A4 A5 A6 A7 A8 A9 A10 A11 A12 A13 : Type} (W : Nat → A1 → A2 → A3 → A4 → A5 → A6 → A7 → A8 → A9 → A10 → A11 → A12 → A13 → Prop) (I : A1 → A2 → A3 → A4 → A5 → A6 → A7 → A8 → A9 → A10 → A11 → A12 → A13 → Prop) (μ : A1 → A2 → A3 → A4 → A5 → A6 → A7 → A8 → A9 → A10 → A11 → A12 → A13 → Nat) (hs : ∀ (n : Nat) (a1 : A1) (a2 : A2) (a3 : A3) (a4 : A4) (a5 : A5) (a6 : A6) (a7 : A7) (a8 : A8) (a9 : A9) (a10 : A10) (a11 : A11) (a12 : A12) (a13 : A13), I a1 a2 a3 a4 a5 a6 a7 a8 a9 a10 a11 a12 a13 → (∀ (b1 : A1) (b2 : A2) (b3 : A3) (b4 : A4) (b5 : A5) (b6 : A6) (b7 : A7) (b8 : A8) (b9 : A9) (b10 : A10) (b11 : A11) (b12 : A12) (b13 : A13), I b1 b2 b3 b4 b5 b6 b7 b8 b9 b10 b11 b12 b13 → μ b1 b2 b3 b4 b5 b6 b7 b8 b9 b10 b11 b12 b13 < μ a1 a2 a3 a4 a5 a6 a7 a8 a9 a10 a11 a12 a13 → W n b1 b2 b3 b4 b5 b6 b7 b8 b9 b10 b11 b12 b13) → W (n + 1) a1 a2 a3 a4 a5 a6 a7 a8 a9 a10 a11 a12 a13) (a1 : A1) (a2 : A2) (a3 : A3) (a4 : A4) (a5 : A5) (a6 : A6) (a7 : A7) (a8 : A8) (a9 : A9) (a10 : A10) (a11 : A11) (a12 : A12) (a13 : A13) (h : I a1 a2 a3 a4 a5 a6 a7 a8 a9 a10 a11 a12 a13) : ∃ n, W n a1 a2 a3 a4 a5 a6 a7 a8 a9 a10 a11 a12 a13 :=
  loop_m (σ := A1 × A2 × A3 × A4 × A5 × A6 × A7 × A8 × A9 × A10 × A11 × A12 × A13) (fun n s => W n s.1 s.2.1 s.2.2.1 s.2.2.2.1 s.2.2.2.2.1 s.2.2.2.2.2.1 s.2.2.2.2.2.2.1 s.2.2.2.2.2.2.2.1 s.2.2.2.2.2.2.2.2.1 s.2.2.2.2.2.2.2.2.2.1 s.2.2.2.2.2.2.2.2.2.2.1 s.2.2.2.2.2.2.2.2.2.2.2.1 s.2.2.2.2.2.2.2.2.2.2.2.2) (fun s => I s.1 s.2.1 s.2.2.1 s.2.2.2.1 s.2.2.2.2.1 s.2.2.2.2.2.1 s.2.2.2.2.2.2.1 s.2.2.2.2.2.2.2.1 s.2.2.2.2.2.2.2.2.1 s.2.2.2.2.2.2.2.2.2.1 s.2.2.2.2.2.2.2.2.2.2.1 s.2.2.2.2.2.2.2.2.2.2.2.1 s.2.2.2.2.2.2.2.2.2.2.2.2) (fun s => μ s.1 s.2.1 s.2.2.1 s.2.2.2.1 s.2.2.2.2.1 s.2.2.2.2.2.1 s.2.2.2.2.2.2.1 s.2.2.2.2.2.2.2.1 s.2.2.2.2.2.2.2.2.1 s.2.2.2.2.2.2.2.2.2.1 s.2.2.2.2.2.2.2.2.2.2.1 s.2.2.2.2.2.2.2.2.2.2.2.1 s.2.2.2.2.2.2.2.2.2.2.2.2) (fun n s hI hk => hs n s.1 s.2.1 s.2.2.1 s.2.2.2.1 s.2.2.2.2.1 s.2.2.2.2.2.1 s.2.2.2.2.2.2.1 s.2.2.2.2.2.2.2.1 s.2.2.2.2.2.2.2.2.1 s.2.2.2.2.2.2.2.2.2.1 s.2.2.2.2.2.2.2.2.2.2.1 s.2.2.2.2.2.2.2.2.2.2.2.1 s.2.2.2.2.2.2.2.2.2.2.2.2 hI (fun b1 b2 b3 b4 b5 b6 b7 b8 b9 b10 b11 b12 b13 h9 hm => hk (b1, b2, b3, b4, b5, b6, b7, b8, b9, b10, b11, b12, b13) h9 hm)) (a1, a2, a3, a4, a5, a6, a7, a8, a9, a10, a11, a12, a13) h
theorem lp14 {A1 A2 A3 A4 A5 A6 A7 A8 A9 A10 A11 A12 A13 A14 : Type} (W : Nat → A1 → A2 → A3 → A4 → A5 → A6 → A7 → A8 → A9 → A10 → A11 → A12 → A13 → A14 → Prop) (I : A1 → A2 → A3 → A4 → A5 → A6 → A7 → A8 → A9 → A10 → A11 → A12 → A13 → A14 → Prop) (μ : A1 → A2 → A3 → A4 → A5 → A6 → A7 → A8 → A9 → A10 → A11 → A12 → A13 → A14 → Nat) (hs : ∀ (n : Nat) (a1 : A1) (a2 : A2) (a3 : A3) (a4 : A4) (a5 : A5) (a6 : A6) (a7 : A7) (a8 : A8) (a9 : A9) (a10 : A10) (a11 : A11) (a12 : A12) (a13 : A13) (a14 : A14), I a1 a2 a3 a4 a5 a6 a7 a8 a9 a10 a11 a12 a13 a14 → (∀ (b1 : A1) (b2 : A2) (b3 : A3) (b4 : A4) (b5 : A5) (b6 : A6) (b7 : A7) (b8 : A8) (b9 : A9) (b10 : A10) (b11 : A11) (b12 : A12) (b13 : A13) (b14 : A14), I b1 b2 b3 b4 b5 b6 b7 b8 b9 b10 b11 b12 b13 b14 → μ b1 b2 b3 b4 b5 b6 b7 b8 b9 b10 b11 b12 b13 b14 < μ a1 a2 a3 a4 a5 a6 a7 a8 a9 a10 a11 a12 a13 a14 → W n b1 b2 b3 b4 b5 b6 b7 b8 b9 b10 b11 b12 b13 b14) → W (n + 1) a1 a2 a3 a4 a5 a6 a7 a8 a9 a10 a11 a12 a13 a14) (a1 : A1) (a2 : A2) (a3 : A3) (a4 : A4) (a5 : A5) (a6 : A6) (a7 : A7) (a8 : A8) (a9 : A9) (a10 : A10) (a11 : A11) (a12 : A12) (a13 : A13) (a14 : A14) (h : I a1 a2 a3 a4 a5 a6 a7 a8 a9 a10 a11 a12 a13 a14) : ∃ n, W n a1 a2 a3 a4 a5 a6 a7 a8 a9 a10 a11 a12 a13 a14 :=
  loop_m (σ := A1 × A2 × A3 × A4 × A5 × A6 × A7 × A8 × A9 × A10 × A11 × A12 × A13 × A14) (fun n s => W n s.1 s.2.1 s.2.2.1 s.2.2.2.1 s.2.2.2.2.1 s.2.2.2.2.2.1 s.2.2.2.2.2.2.1 s.2.2.2.2.2.2.2.1 s.2.2.2.2.2.2.2.2.1 s.2.2.2.2.2.2.2.2.2.1 s.2.2.2.2.2.2.2.2.2.2.1 s.2.2.2.2.2.2.2.2.2.2.2.1 s.2.2.2.2.2.2.2.2.2.2.2.2.1 s.2.2.2.2.2.2.2.2.2.2.2.2.2) (fun s => I s.1 s.2.1 s.2.2.1 s.2.2.2.1 s.2.2.2.2.1 s.2.2.2.2.2.1 s.2.2.2.2.2.2.1 s.2.2.2.2.2.2.2.1 s.2.2.2.2.2.2.2.2.1 s.2.2.2.2.2.2.2.2.2.1 s.2.2.2.2.2.2.2.2.2.2.1 s.2.2.2.2.2.2.2.2.2.2.2.1 s.2.2.2.2.2.2.2.2.2.2.2.2.1 s.2.2.2.2.2.2.2.2.2.2.2.2.2) (fun s => μ s.1 s.2.1 s.2.2.1 s.2.2.2.1 s.2.2.2.2.1 s.2.2.2.2.2.1 s.2.2.2.2.2.2.1 s.2.2.2.2.2.2.2.1 s.2.2.2.2.2.2.2.2.1 s.2.2.2.2.2.2.2.2.2.1 s.2.2.2.2.2.2.2.2.2.2.1 s.2.2.2.2.2.2.2.2.2.2.2.1 s.2.2.2.2.2.2.2.2.2.2.2.2.1 s.2.2.2.2.2.2.2.2.2.2.2.2.2) (fun n s hI hk => hs n s.1 s.2.1 s.2.2.1 s.2.2.2.1 s.2.2.2.2.1 s.2.2.2.2.2.1 s.2.2.2.2.2.2.1 s.2.2.2.2.2.2.2.1 s.2.2.2.2.2.2.2.2.1 s.2.2.2.2.2.2.2.2.2.1 s.2.2.2.2.2.2.2.2.2.2.1 s.2.2.2.2.2.2.2.2.2.2.2.1 s.2.2.2.2.2.2.2.2.2.2.2.2.1 s.2.2.2.2.2.2.2.2.2.2.2.2.2 hI (fun b1 b2 b3 b4 b5 b6 b7 b8 b9 b10 b11 b12 b13 b14 h9 hm => hk (b1, b2, b3, b4, b5, b6, b7, b8, b9, b10, b11, b12, b13, b14) h9 hm)) (a1, a2, a3, a4, a5, a6, a7, a8, a9, a10, a11, a12, a13, a14) h
theorem lp15 {A1 A2 A3 A4 A5 A6 A7 A8 A9 A10 A11 A12 A13 A14 A15 : Type} (W : Nat → A1 → A2 → A3 → A4 → A5 → A6 → A7 → A8 → A9 → A10 → A11 → A12 → A13 → A14 → A15 → Prop) (I : A1 → A2 → A3 → A4 → A5 → A6 → A7 → A8 → A9 → A10 → A11 → A12 → A13 → A14 → A15 → Prop) (μ : A1 → A2 → A3 → A4 → A5 → A6 → A7 → A8 → A9 → A10 → A11 → A12 → A13 → A14 → A15 → Nat) (hs : ∀ (n : Nat) (a1 : A1) (a2 : A2) (a3 : A3) (a4 : A4) (a5 : A5) (a6 : A6) (a7 : A7) (a8 : A8) (a9 : A9) (a10 : A10) (a11 : A11) (a12 : A12) (a13 : A13) (a14 : A14) (a15 : A15), I a1 a2 a3 a4 a5 a6 a7 a8 a9 a10 a11 a12 a13 a14 a15 → (∀ (b1 : A1) (b2 : A2) (b3 : A3) (b4 : A4) (b5 : A5) (b6 : A6) (b7 : A7) (b8 : A8) (b9 : A9) (b10 : A10) (b11 : A11) (b12 : A12) (b13 : A13) (b14 : A14) (b15 : A15), I b1 b2 b3 b4 b5 b6 b7 b8 b9 b10 b11 b12 b13 b14 b15 → μ b1 b2 b3 b4 b5 b6 b7 b8 b9 b10 b11 b12 b13 b14 b15 < μ a1 a2 a3 a4 a5 a6 a7 a8 a9 a10 a11 a12 a13 a14 a15 → W n b1 b2 b3 b4 b5 b6 b7 b8 b9 b10 b11 b12 b13 b14 b15) → W (n + 1) a1 a2 a3 a4 a5 a6 a7 a8 a9 a10 a11 a12 a13 a14 a15) (a1 : A1) (a2 : A2) (a3 : A3) (a4 : A4) (a5 : A5) (a6 : A6) (a7 : A7) (a8 : A8) (a9 : A9) (a10 : A10) (a11 : A11) (a12 : A12) (a13 : A13) (a14 : A14) (a15 : A15) (h : I a1 a2 a3 a4 a5 a6 a7 a8 a9 a10 a11 a12 a13 a14 a15) : ∃ n, W n a1 a2 a3 a4 a5 a6 a7 a8 a9 a10 a11 a12 a13 a14 a15 :=
  loop_m (σ := A1 × A2 × A3 × A4 × A5 × A6 × A7 × A8 × A9 × A10 × A11 × A12 × A13 × A14 × A15) (fun n s => W n s.1 s.2.1 s.2.2.1 s.2.2.2.1 s.2.2.2.2.1 s.2.2.2.2.2.1 s.2.2.2.2.2.2.1 s.2.2.2.2.2.2.2.1 s.2.2.2.2.2.2.2.2.1 s.2.2.2.2.2.2.2.2.2.1 s.2.2.2.2.2.2.2.2.2.2.1 s.2.2.2.2.2.2.2.2.2.2.2.1 s.2.2.2.2.2.2.2.2.2.2.2.2.1 s.2.2.2.2.2.2.2.2.2.2.2.2.2.1 s.2.2.2.2.2.2.2.2.2.2.2.2.2.2) (fun s => I s.1 s.2.1 s.2.2.1 s.2.2.2.1 s.2.2.2.2.1 s.2.2.2.2.2.1 s.2.2.2.2.2.2.1 s.2.2.2.2.2.2.2.1 s.2.2.2.2.2.2.2.2.1 s.2.2.2.2.2.2.2.2.2.1 s.2.2.2.2.2.2.2.2.2.2.1 s.2.2.2.2.2.2.2.2.2.2.2.1 s.2.2.2.2.2.2.2.2.2.2.2.2.1 s.2.2.2.2.2.2.2.2.2.2.2.2.2.1 s.2.2.2.2.2.2.2.2.2.2.2.2.2.2) (fun s => μ s.1 s.2.1 s.2.2.1 s.2.2.2.1 s.2.2.2.2.1 s.2.2.2.2.2.1 s.2.2.2.2.2.2.1 s.2.2.2.2.2.2.2.1 s.2.2.2.2.2.2.2.2.1 s.2.2.2.2.2.2.2.2.2.1 s.2.2.2.2.2.2.2.2.2.2.1 s.2.2.2.2.2.2.2.2.2.2.2.1 s.2.2.2.2.2.2.2.2.2.2.2.2.1 s.2.2.2.2.2.2.2.2.2.2.2.2.2.1 s.2.2.2.2.2.2.2.2.2.2.2.2.2.2) (fun n s hI hk => hs n s.1 s.2.1 s.2.2.1 s.2.2.2.1 s.2.2.2.2.1 s.2.2.2.2.2.1 s.2.2.2.2.2.2.1 s.2.2.2.2.2.2.2.1 s.2.2.2.2.2.2.2.2.1 s.2.2.2.2.2.2.2.2.2.1 s.2.2.2.2.2.2.2.2.2.2.1 s.2.2.2.2.2.2.2.2.2.2.2.1 s.2.2.2.2.2.2.2.2.2.2.2.2.1 s.2.2.2.2.2.2.2.2.2.2.2.2.2.1 s.2.2.2.2.2.2.2.2.2.2.2.2.2.2 hI (fun b1 b2 b3 b4 b5 b6 b7 b8 b9 b10 b11 b12 b13 b14 b15 h9 hm => hk (b1, b2, b3, b4, b5, b6, b7, b8, b9, b10, b11, b12, b13, b14, b15) h9 hm)) (a1, a2, a3, a4, a5, a6, a7, a8, a9, a10, a11, a12, a13, a14, a15) h
theorem lp16 {A1 A2 A3 A4 A5 A6 A7 A8 A9 A10 A11 A12 A13 A14 A15 A16 : Type} (W : Nat → A1 → A2 → A3 → A4 → A5 → A6 → A7 → A8 → A9 → A10 → A11 → A12 → A13 → A14 → A15 → A16 → Prop) (I : A1 → A2 → A3 → A4 → A5 → A6 → A7 → A8 → A9 → A10 → A11 → A12 → A13 → A14 → A15 → A16 → Prop) (μ : A1 → A2 → A3 → A4 → A5 → A6 → A7 → A8 → A9 → A10 → A11 → A12 → A13 → A14 → A15 → A16 → Nat) (hs : ∀ (n : Nat) (a1 : A1) (a2 : A2) (a3 : A3) (a4 : A4) (a5 : A5) (a6 : A6) (a7 : A7) (a8 : A8) (a9 : A9) (a10 : A10) (a11 : A11) (a12 : A12) (a13 : A13) (a14 : A14) (a15 : A15) (a16 : A16), I a1 a2 a3 a4 a5 a6 a7 a8 a9 a10 a11 a12 a13 a14 a15 a16 → (∀ (b1 : A1) (b2 : A2) (b3 : A3) (b4 : A4) (b5 : A5) (b6 : A6) (b7 : A7) (b8 : A8) (b9 : A9) (b10 : A10) (b11 : A11) (b12 : A12) (b13 : A13) (b14 : A14) (b15 : A15) (b16 : A16), I b1 b2 b3 b4 b5 b6 b7 b8 b9 b10 b11 b12 b13 b14 b15 b16 → μ b1 b2 b3 b4 b5 b6 b7 b8 b9 b10 b11 b12 b13 b14 b15 b16 < μ a1 a2 a3 a4 a5 a6 a7 a8 a9 a10 a11 a12 a13 a14 a15 a16 → W n b1 b2 b3 b4 b5 b6 b7 b8 b9 b10 b11 b12 b13 b14 b15 b16) → W (n + 1) a1 a2 a3 a4 a5 a6 a7 a8 a9 a10 a11 a12 a13 a14 a15 a16) (a1 : A1) (a2 : A2) (a3 : A3) (a4 : A4) (a5 : A5) (a6 : A6) (a7 : A7) (a8 : A8) (a9 : A9) (a10 : A10) (a11 : A11) (a12 : A12) (a13 : A13) (a14 : A14) (a15 : A15) (a16 : A16) (h : I a1 a2 a3 a4 a5 a6 a7 a8 a9 a10 a11 a12 a13 a14 a15 a16) : ∃ n, W n a1 a2 a3 a4 a5 a6 a7 a8 a9 a10 a11 a12 a13 a14 a15 a16 :=
  loop_m (σ := A1 × A2 × A3 × A4 × A5 × A6 × A7 × A8 × A9 × A10 × A11 × A12 × A13 × A14 × A15 × A16) (fun n s => W n s.1 s.2.1 s.2.2.1 s.2.2.2.1 s.2.2.2.2.1 s.2.2.2.2.2.1 s.2.2.2.2.2.2.1 s.2.2.2.2.2.2.2.1 s.2.2.2.2.2.2.2.2.1 s.2.2.2.2.2.2.2.2.2.1 s.2.2.2.2.2.2.2.2.2.2.1 s.2.2.2.2.2.2.2.2.2.2.2.1 s.2.2.2.2.2.2.2.2.2.2.2.2.1 s.2.2.2.2.2.2.2.2.2.2.2.2.2.1 s.2.2.2.2.2.2.2.2.2.2.2.2.2.2.1 s.2.2.2.2.2.2.2.2.2.2.2.2.2.2.2) (fun s => I s.1 s.2.1 s.2.2.1 s.2.2.2.1 s.2.2.2.2.1 s.2.2.2.2.2.1 s.2.2.2.2.2.2.1 s.2.2.2.2.2.2.2.1 s.2.2.2.2.2.2.2.2.1 s.2.2.2.2.2.2.2.2.2.1 s.2.2.2.2.2.2.2.2.2.2.1 s.2.2.2.2.2.2.2.2.2.2.2.1 s.2.2.2.2.2.2.2.2.2.2.2.2.1 s.2.2.2.2.2.2.2.2.2.2.2.2.2.1 s.2.2.2.2.2.2.2.2.2.2.2.2.2.2.1 s.2.2.2.2.2.2.2.2.2.2.2.2.2.2.2) (fun s => μ s.1 s.2.1 s.2.2.1 s.2.2.2.1 s.2.2.2.2.1 s.2.2.2.2.2.1 s.2.2.2.2.2.2.1 s.2.2.2.2.2.2.2.1 s.2.2.2.2.2.2.2.2.1 s.2.2.2.2.2.2.2.2.2.1 s.2.2.2.2.2.2.2.2.2.2.1 s.2.2.2.2.2.2.2.2.2.2.2.1 s.2.2.2.2.2.2.2.2.2.2.2.2.1 s.2.2.2.2.2.2.2.2.2.2.2.2.2.1 s.2.2.2.2.2.2.2.2.2.2.2.2.2.2.1 s.2.2.2.2.2.2.2.2.2.2.2.2.2.2.2) (fun n s hI hk => hs n s.1 s.2.1 s.2.2.1 s.2.2.2.1 s.2.2.2.2.1 s.2.2.2.2.2.1 s.2.2.2.2.2.2.1 s.2.2.2.2.2.2.2.1 s.2.2.2.2.2.2.2.2.1 s.2.2.2.2.2.2.2.2.2.1 s.2.2.2.2.2.2.2.2.2.2.1 s.2.2.2.2.2.2.2.2.2.2.2.1 s.2.2.2.2.2.2.2.2.2.2.2.2.1 s.2.2.2.2.2.2.2.2.2.2.2.2.2.1 s.2.2.2.2.2.2.2.2.2.2.2.2.2.2.1 s.2.2.2.2.2.2.2.2.2.2.2.2.2.2.2 hI (fun b1 b2 b3 b4 b5 b6 b7 b8 b9 b10 b11 b12 b13 b14 b15 b16 h9 hm => hk (b1, b2, b3, b4, b5, b6, b7, b8, b9, b10, b11, b12, b13, b14, b15, b16) h9 hm)) (a1, a2, a3, a4, a5, a6, a7, a8, a9, a10, a11, a12, a13, a14, a15, a16) h
theorem pk_least (P : Nat → Prop) (h : ∃ k, P k) : ∃ k, P k ∧ ∀ j, j < k → ¬ P j := by
  obtain ⟨k, hk⟩ := h
  induction k using Nat.strongRecOn with
  | ind k ih =>
    by_cases e : ∃ j, j < k ∧ P j
    · obtain ⟨j, hj, pj⟩ := e
      exact ih j hj pj
    · exact ⟨k, hk, fun j hj pj => e ⟨j, hj, pj⟩⟩
theorem rp1 {ρ A1 : Type} (W : Nat → (ρ → Prop) → A1 → Prop) (ok : A1 → Prop) (μ : A1 → Nat) (val : A1 → ρ)
    (hs : ∀ (d : Nat) (post : ρ → Prop) (a1 : A1), ok a1 → post (val a1) → (∀ (post' : ρ → Prop) (b1 : A1), ok b1 → μ b1 < μ a1 → post' (val b1) → W d post' b1) → W (d + 1) post a1) :
    ∀ (d : Nat) (post : ρ → Prop) (a1 : A1), ok a1 → μ a1 < d → post (val a1) → W d post a1 := by
  intro d
  induction d with
  | zero => intro post a1 _ h; omega
  | succ d ih =>
    intro post a1 ho hm hp
    exact hs d post a1 ho hp (fun post' b1 ho' hm' hp' => ih post' b1 ho' (by omega) hp')
theorem rp2 {ρ A1 A2 : Type} (W : Nat → (ρ → Prop) → A1 → A2 → Prop) (ok : A1 → A2 → Prop) (μ : A1 → A2 → Nat) (val : A1 → A2 → ρ)
    (hs : ∀ (d : Nat) (post : ρ → Prop) (a1 : A1) (a2 : A2), ok a1 a2 → post (val a1 a2) → (∀ (post' : ρ → Prop) (b1 : A1) (b2 : A2), ok b1 b2 → μ b1 b2 < μ a1 a2 → post' (val b1 b2) → W d post' b1 b2) → W (d + 1) post a1 a2) :
    ∀ (d : Nat) (post : ρ → Prop) (a1 : A1) (a2 : A2), ok a1 a2 → μ a1 a2 < d → post (val a1 a2) → W d post a1 a2 := by
  intro d
  induction d with
  | zero => intro post a1 a2 _ h; omega
  | succ d ih =>
    intro post a1 a2 ho hm hp
    exact hs d post a1 a2 ho hp (fun post' b1 b2 ho' hm' hp' => ih post' b1 b2 ho' (by omega) hp')
theorem rp3 {ρ A1 A2 A3 : Type} (W : Nat → (ρ → Prop) → A1 → A2 → A3 → Prop) (ok : A1 → A2 → A3 → Prop) (μ : A1 → A2 → A3 → Nat) (val : A1 → A2 → A3 → ρ)
    (hs : ∀ (d : Nat) (post : ρ → Prop) (a1 : A1) (a2 : A2) (a3 : A3), ok a1 a2 a3 → post (val a1 a2 a3) → (∀ (post' : ρ → Prop) (b1 : A1) (b2 : A2) (b3 : A3), ok b1 b2 b3 → μ b1 b2 b3 < μ a1 a2 a3 → post' (val b1 b2 b3) → W d post' b1 b2 b3) → W (d + 1) post a1 a2 a3) :
    ∀ (d : Nat) (post : ρ → Prop) (a1 : A1) (a2 : A2) (a3 : A3), ok a1 a2 a3 → μ a1 a2 a3 < d → post (val a1 a2 a3) → W d post a1 a2 a3 := by
  intro d
  induction d with
  | zero => intro post a1 a2 a3 _ h; omega
  | succ d ih =>
    intro post a1 a2 a3 ho hm hp
    exact hs d post a1 a2 a3 ho hp (fun post' b1 b2 b3 ho' hm' hp' => ih post' b1 b2 b3 ho' (by omega) hp')
theorem rp4 {ρ A1 A2 A3 A4 : Type} (W : Nat → (ρ → Prop) → A1 → A2 → A3 → A4 → Prop) (ok : A1 → A2 → A3 → A4 → Prop) (μ : A1 → A2 → A3 → A4 → Nat) (val : A1 → A2 → A3 → A4 → ρ)
    (hs : ∀ (d : Nat) (post : ρ → Prop) (a1 : A1) (a2 : A2) (a3 : A3) (a4 : A4), ok a1 a2 a3 a4 → post (val a1 a2 a3 a4) → (∀ (post' : ρ → Prop) (b1 : A1) (b2 : A2) (b3 : A3) (b4 : A4), ok b1 b2 b3 b4 → μ b1 b2 b3 b4 < μ a1 a2 a3 a4 → post' (val b1 b2 b3 b4) → W d post' b1 b2 b3 b4) → W (d + 1) post a1 a2 a3 a4) :
    ∀ (d : Nat) (post : ρ → Prop) (a1 : A1) (a2 : A2) (a3 : A3) (a4 : A4), ok a1 a2 a3 a4 → μ a1 a2 a3 a4 < d → post (val a1 a2 a3 a4) → W d post a1 a2 a3 a4 := by
  intro d
  induction d with
  | zero => intro post a1 a2 a3 a4 _ h; omega
  | succ d ih =>
    intro post a1 a2 a3 a4 ho hm hp
    exact hs d post a1 a2 a3 a4 ho hp (fun post' b1 b2 b3 b4 ho' hm' hp' => ih post' b1 b2 b3 b4 ho' (by omega) hp')
theorem rp5 {ρ A1 A2 A3 A4 A5 : Type} (W : Nat → (ρ → Prop) → A1 → A2 → A3 → A4 → A5 → Prop) (ok : A1 → A2 → A3 → A4 → A5 → Prop) (μ : A1 → A2 → A3 → A4 → A5 → Nat) (val : A1 → A2 → A3 → A4 → A5 → ρ)
    (hs : ∀ (d : Nat) (post : ρ → Prop) (a1 : A1) (a2 : A2) (a3 : A3) (a4 : A4) (a5 : A5), ok a1 a2 a3 a4 a5 → post (val a1 a2 a3 a4 a5) → (∀ (post' : ρ → Prop) (b1 : A1) (b2 : A2) (b3 : A3) (b4 : A4) (b5 : A5), ok b1 b2 b3 b4 b5 → μ b1 b2 b3 b4 b5 < μ a1 a2 a3 a4 a5 → post' (val b1 b2 b3 b4 b5) → W d post' b1 b2 b3 b4 b5) → W (d + 1) post a1 a2 a3 a4 a5) :
    ∀ (d : Nat) (post : ρ → Prop) (a1 : A1) (a2 : A2) (a3 : A3) (a4 : A4) (a5 : A5), ok a1 a2 a3 a4 a5 → μ a1 a2 a3 a4 a5 < d → post (val a1 a2 a3 a4 a5) → W d post a1 a2 a3 a4 a5 := by
  intro d
  induction d with
  | zero => intro post a1 a2 a3 a4 a5 _ h; omega
  | succ d ih =>
    intro post a1 a2 a3 a4 a5 ho hm hp
    exact hs d post a1 a2 a3 a4 a5 ho hp (fun post' b1 b2 b3 b4 b5 ho' hm' hp' => ih post' b1 b2 b3 b4 b5 ho' (by omega) hp')
theorem rp6 {ρ A1 A2 A3 A4 A5 A6 : Type} (W : Nat → (ρ → Prop) → A1 → A2 → A3 → A4 → A5 → A6 → Prop) (ok : A1 → A2 → A3 → A4 → A5 → A6 → Prop) (μ : A1 → A2 → A3 → A4 → A5 → A6 → Nat) (val : A1 → A2 → A3 → A4 → A5 → A6 → ρ)
    (hs : ∀ (d : Nat) (post : ρ → Prop) (a1 : A1) (a2 : A2) (a3 : A3) (a4 : A4) (a5 : A5) (a6 : A6), ok a1 a2 a3 a4 a5 a6 → post (val a1 a2 a3 a4 a5 a6) → (∀ (post' : ρ → Prop) (b1 : A1) (b2 : A2) (b3 : A3) (b4 : A4) (b5 : A5) (b6 : A6), ok b1 b2 b3 b4 b5 b6 → μ b1 b2 b3 b4 b5 b6 < μ a1 a2 a3 a4 a5 a6 → post' (val b1 b2 b3 b4 b5 b6) → W d post' b1 b2 b3 b4 b5 b6) → W (d + 1) post a1 a2 a3 a4 a5 a6) :
    ∀ (d : Nat) (post : ρ → Prop) (a1 : A1) (a2 : A2) (a3 : A3) (a4 : A4) (a5 : A5) (a6 : A6), ok a1 a2 a3 a4 a5 a6 → μ a1 a2 a3 a4 a5 a6 < d → post (val a1 a2 a3 a4 a5 a6) → W d post a1 a2 a3 a4 a5 a6 := by
  intro d
  induction d with
  | zero => intro post a1 a2 a3 a4 a5 a6 _ h; omega
  | succ d ih =>
    intro post a1 a2 a3 a4 a5 a6 ho hm hp
    exact hs d post a1 a2 a3 a4 a5 a6 ho hp (fun post' b1 b2 b3 b4 b5 b6 ho' hm' hp' => ih post' b1 b2 b3 b4 b5 b6 ho' (by omega) hp')
theorem rec_p {σ ρ : Type} (W : Nat → (ρ → Prop) → σ → Prop) (ok : σ → Prop) (μ : σ → Nat) (val : σ → ρ)
    (hs : ∀ d s post, ok s → post (val s) → (∀ s' post', ok s' → μ s' < μ s → post' (val s') → W d post' s') → W (d + 1) post s) :
    ∀ d s post, ok s → μ s < d → post (val s) → W d post s := by
  intro d
  induction d with
  | zero => intro s post _ h; omega
  | succ d ih =>
    intro s post ho hm hp
    exact hs d s post ho hp (fun s' post' ho' hm' hp' => ih s' post' ho' (by omega) hp')
theorem rec_q {σ ρ : Type} (W : Nat → (ρ → Prop) → σ → Prop) (ok : σ → Prop) (μ : σ → Nat) (Q : σ → ρ → Prop)
    (hs : ∀ d s post, ok s → (∀ r, Q s r → post r) → (∀ s' post', ok s' → μ s' < μ s → (∀ r, Q s' r → post' r) → W d post' s') → W (d + 1) post s) :
    ∀ d s post, ok s → μ s < d → (∀ r, Q s r → post r) → W d post s := by
  intro d
  induction d with
  | zero => intro s post _ h; omega
  | succ d ih =>
    intro s post ho hm hp
    exact hs d s post ho hp (fun s' post' ho' hm' hp' => ih s' post' ho' (by omega) hp')
def bx_sum (f : Nat → Int32) : Nat → Int32
  | 0 => 0
  | n + 1 => bx_sum f n + f n
theorem ek_u {A : Prop} {B : Nat → Prop} {k N : Nat} (hk : k < N) (h : B k) : (some k = none → A) ∧ (∀ y : Nat, some k = some y → (y < N ∧ B y)) :=
  ⟨fun z => absurd z (Option.some_ne_none k), fun _ e => (by cases e; exact ⟨hk, h⟩)⟩
theorem ek_nu {A : Prop} {B : Nat → Prop} (h : A) : ((none : Option Nat) = none → A) ∧ (∀ y : Nat, (none : Option Nat) = some y → B y) :=
  ⟨fun _ => h, fun _ e => (by cases e)⟩
theorem ek_if {c d A B : Prop} (e : c ↔ d) (f : d → A) (g : ¬ d → B) : (c → A) ∧ (¬ c → B) :=
  ⟨fun z => f (e.mp z), fun z => g (fun y => z (e.mpr y))⟩
theorem ek_v {α : Sort _} {P : α → Prop} {a b : α} (e : a = b) (h : P b) : P a := e ▸ h
theorem co_some {x : Option Nat} {A : Prop} {B : Nat → Prop} (i : Nat) (h : B i) (hx : x = some i := by rfl) : (x = none → A) ∧ (∀ y : Nat, x = some y → B y) := by
  subst hx
  exact ⟨fun e => (nomatch e), fun y e => Option.some.inj e ▸ h⟩
theorem co_none {x : Option Nat} {A : Prop} {B : Nat → Prop} (h : A) (hx : x = none := by rfl) : (x = none → A) ∧ (∀ y : Nat, x = some y → B y) := by
  subst hx
  exact ⟨fun _ => h, fun y e => (nomatch e)⟩
theorem co_any {x : Option Nat} {A : Prop} {B : Nat → Prop} (hn : x = none → A) (hs : ∀ i : Nat, x = some i → B i) : (x = none → A) ∧ (∀ y : Nat, x = some y → B y) := ⟨hn, hs⟩
theorem co_2 {P : Nat → Prop} (h0 : P 0) (h1 : P 1) {i : Nat} (hi : i < 2) : P i :=
  match i, hi with
  | 0, _ => h0
  | 1, _ => h1
theorem co_3 {P : Nat → Prop} (h0 : P 0) (h1 : P 1) (h2 : P 2) {i : Nat} (hi : i < 3) : P i :=
  match i, hi with
  | 0, _ => h0
  | 1, _ => h1
  | 2, _ => h2
theorem co_4 {P : Nat → Prop} (h0 : P 0) (h1 : P 1) (h2 : P 2) (h3 : P 3) {i : Nat} (hi : i < 4) : P i :=
  match i, hi with
  | 0, _ => h0
  | 1, _ => h1
  | 2, _ => h2
  | 3, _ => h3
theorem co_dec {N : Nat} {P : Nat → Prop} [DecidablePred P] (h : (List.range N).all (fun i => decide (P i)) = true) {i : Nat} (hi : i < N) : P i := by
  have := List.all_eq_true.mp h i (List.mem_range.mpr hi)
  exact of_decide_eq_true this
theorem co_tab {α : Type} {l : List α} {d : α} {P : α → Prop} (h : ∀ a, a ∈ l → P a) {i : Nat} (hi : i < l.length) : P (l.getD i d) := by
  rw [List.getD_eq_getElem?_getD, List.getElem?_eq_getElem hi]
  exact h _ (List.getElem_mem hi)
theorem pk_mu {x : Int32} {L : Nat} (h0 : ¬ x < 0) (h : ¬ nI L ≤ x) (hL : L < 2 ^ 31) : ∃ j : Nat, j < L ∧ x = nI j ∧ x + 1 = nI (j + 1) ∧ x.toNatClampNeg = j ∧ L - (x + 1).toNatClampNeg < L - x.toNatClampNeg := by
  obtain ⟨j, hj, rfl⟩ := nI_of h0
  have hl : j < L := Nat.not_le.mp fun q => h (nI_le q hj)
  refine ⟨j, hl, rfl, nI_1 j, nI_clamp hj, ?_⟩
  rw [nI_1, nI_clamp (by omega), nI_clamp hj]
  omega
theorem op_s {α : Type} {r : Option α} {A : Prop} {B : α → Prop} {y : α} (h : r = some y) (b : B y) : (r = none → A) ∧ ∀ z, r = some z → B z :=
  ⟨fun e => (by rw [h] at e; cases e), fun z e => (by rw [h] at e; cases e; exact b)⟩
def l_holds {α : Type} (a : Nat → Option Nat) (LP : List Nat) (p : Nat → α) (c : Nat) (b : Nat → α) : Prop :=
  ∀ j, j < c → ∃ y, a j = some y ∧ y ∈ LP ∧ p y = b j
theorem l_holds_0 {α : Type} {a : Nat → Option Nat} {LP : List Nat} {p b : Nat → α} : l_holds a LP p 0 b := fun j h => absurd h (Nat.not_lt_zero j)
theorem l_in_new (LP : List Nat) (q : Nat) : q ∈ LP ++ [q] := List.mem_append.mpr (Or.inr (List.mem_singleton.mpr rfl))
def l_sum (b : Nat → Int32) : Nat → Int32
  | 0 => 0
  | k + 1 => l_sum b k + b k
theorem sb_shr0 (x : Int32) : x >>> ((0 : Int32) &&& 31) = x := by
  rw [show ((0 : Int32) &&& 31) = 0 by decide]
  simp
theorem sb_shl0 (x : Int32) : x <<< ((0 : Int32) &&& 31) = x := by
  rw [show ((0 : Int32) &&& 31) = 0 by decide]
  simp
theorem sb_cl0 : (0 : Int32).toNatClampNeg = 0 := by decide
theorem sb_m1 {p : Nat} (h : 0 < p) : nI p + (-1) = nI (p - 1) := by
  obtain ⟨q, rfl⟩ : ∃ q, p = q + 1 := ⟨p - 1, by omega⟩
  exact pk_m1 q
def sb_b (c : Nat) : Int32 := (nI c).toInt8.toInt32
theorem sb_byte : ∀ c, c < 256 → sb_b c &&& 255 = nI c ∧ ((nI c).toUInt32 % 65536).toInt32 = nI c ∧ nI c ≤ 255 := by decide +kernel
def sb_Fit (a : Nat → Int32) : Prop := ∀ j, fits .byte (.int (a j)) = true
def sb_Lat (t : Nat → Nat) (n : Nat) (a : Nat → Int32) : Prop := ∀ j, j < n → t j < 256 ∧ a j = sb_b (t j)
theorem sb_fitB (c : Nat) : fits .byte (.int (sb_b c)) = true := pk_fb _
theorem sb_fit0 : sb_Fit (fun _ => 0) := fun _ => by
  show fits .byte (.int 0) = true
  decide
theorem sb_fitU {a : Nat → Int32} {k : Nat} {x : Int32} (h : sb_Fit a) (hx : fits .byte (.int x) = true) : sb_Fit (upd a k x) := by
  intro j
  by_cases e : j = k
  · subst e
    rw [pk_us]
    exact hx
  · rw [pk_un e]
    exact h j
def sb_cat (t : Nat → Nat) (n : Nat) (s : Nat → Nat) : Nat → Nat := fun j => if j < n then t j else s (j - n)
theorem sb_cat_lo {t s : Nat → Nat} {n j : Nat} (h : j < n) : sb_cat t n s j = t j := if_pos h
theorem sb_cat_hi {t s : Nat → Nat} {n j : Nat} : sb_cat t n s (n + j) = s j := by
  show (if n + j < n then t (n + j) else s (n + j - n)) = s j
  rw [if_neg (by omega), Nat.add_sub_cancel_left]
theorem sb_latPut {t s : Nat → Nat} {n w : Nat} {a a' : Nat → Int32} (h : sb_Lat t n a) (hk : ∀ j, j < n → a' j = a j) (hs : ∀ i, i < w → s i < 256 ∧ a' (n + i) = sb_b (s i)) : sb_Lat (sb_cat t n s) (n + w) a' := by
  intro j hj
  by_cases e : j < n
  · rw [sb_cat_lo e, hk j e]
    exact h j e
  · obtain ⟨i, rfl⟩ : ∃ i, j = n + i := ⟨j - n, by omega⟩
    rw [sb_cat_hi]
    exact hs i (by omega)
theorem sb_latKeep {t : Nat → Nat} {n : Nat} {a a' : Nat → Int32} (h : sb_Lat t n a) (hk : ∀ j, j < n → a' j = a j) : sb_Lat t n a' := fun j hj => by
  rw [hk j hj]
  exact h j hj
def sb_cap (q m : Nat) : Nat := if q ≤ m then m else if 2 * m + 2 < q then q else 2 * m + 2
def sb_Room (q m mc ms : Nat) : Prop := q ≤ m ∨ (1 ≤ mc ∧ sb_cap q m ≤ ms ∧ sb_cap q m ≤ 65536)
theorem sb_cap_ge (q m : Nat) : q ≤ sb_cap q m := by
  unfold sb_cap
  split
  · omega
  · split <;> omega
theorem sb_cap_gem (q m : Nat) : m ≤ sb_cap q m := by
  unfold sb_cap
  split
  · omega
  · split <;> omega
theorem sb_cap_le {q m mc ms : Nat} (hm : m ≤ 65536) (hr : sb_Room q m mc ms) : sb_cap q m ≤ 65536 := by
  rcases hr with h | h
  · rw [sb_cap, if_pos h]
    exact hm
  · exact h.2.2
theorem sb_at {P : Int32 → Prop} {x y : Int32} (e : x = y) (h : P y) : P x := e ▸ h
def sb_dg (w : Nat) : Nat := if w < 10 then 1 else if w < 100 then 2 else if w < 1000 then 3 else if w < 10000 then 4 else if w < 100000 then 5 else if w < 1000000 then 6 else if w < 10000000 then 7 else if w < 100000000 then 8 else if w < 1000000000 then 9 else 10
def sb_dec (v : Nat) : Nat → Nat := fun i => 48 + v / 10 ^ (sb_dg v - 1 - i) % 10
theorem sb_dg_in (w : Nat) : 1 ≤ sb_dg w ∧ sb_dg w ≤ 10 := by
  unfold sb_dg
  constructor <;> (repeat' split) <;> omega
theorem sb_dg100 {w : Nat} (h : 100 ≤ w) (hw : w < 2 ^ 31) : sb_dg w = sb_dg (w / 100) + 2 := by
  rw [sb_dg, sb_dg, if_neg (show ¬ w < 10 by omega), if_neg (show ¬ w < 100 by omega)]
  by_cases h3 : w < 1000
  · rw [if_pos h3, if_pos (show w / 100 < 10 by omega)]
  rw [if_neg h3, if_neg (show ¬ w / 100 < 10 by omega)]
  by_cases h4 : w < 10000
  · rw [if_pos h4, if_pos (show w / 100 < 100 by omega)]
  rw [if_neg h4, if_neg (show ¬ w / 100 < 100 by omega)]
  by_cases h5 : w < 100000
  · rw [if_pos h5, if_pos (show w / 100 < 1000 by omega)]
  rw [if_neg h5, if_neg (show ¬ w / 100 < 1000 by omega)]
  by_cases h6 : w < 1000000
  · rw [if_pos h6, if_pos (show w / 100 < 10000 by omega)]
  rw [if_neg h6, if_neg (show ¬ w / 100 < 10000 by omega)]
  by_cases h7 : w < 10000000
  · rw [if_pos h7, if_pos (show w / 100 < 100000 by omega)]
  rw [if_neg h7, if_neg (show ¬ w / 100 < 100000 by omega)]
  by_cases h8 : w < 100000000
  · rw [if_pos h8, if_pos (show w / 100 < 1000000 by omega)]
  rw [if_neg h8, if_neg (show ¬ w / 100 < 1000000 by omega)]
  by_cases h9 : w < 1000000000
  · rw [if_pos h9, if_pos (show w / 100 < 10000000 by omega)]
  rw [if_neg h9, if_neg (show ¬ w / 100 < 10000000 by omega)]
  rw [if_pos (show w / 100 < 100000000 by omega)]
theorem sb_negT {w : Nat} (h : w < 2 ^ 31) : (-nI w).toInt = -(w : Int) := by
  rw [Int32.toInt_neg, nI_toInt h]
  exact Int.bmod_eq_of_le (by omega) (by omega)
theorem sb_nle {a b : Nat} (ha : a < 2 ^ 31) (hb : b < 2 ^ 31) : -nI a ≤ -nI b ↔ b ≤ a := by
  rw [Int32.le_iff_toInt_le, sb_negT ha, sb_negT hb]
  omega
theorem sb_nlt {a b : Nat} (ha : a < 2 ^ 31) (hb : b < 2 ^ 31) : -nI a < -nI b ↔ b < a := by
  rw [Int32.lt_iff_toInt_lt, sb_negT ha, sb_negT hb]
  omega
theorem sb_cmp {A B : Prop} {x : Int32} (v c : Nat) (f : c ≤ v → A) (g : v < c → B) (hv : v < 2 ^ 31) (hx : x = -nI c := by rfl) (hc : c < 2 ^ 31 := by omega) : (-nI v ≤ x → A) ∧ (¬ -nI v ≤ x → B) := by
  subst hx
  rw [sb_nle hv hc]
  exact ⟨f, fun z => g (by omega)⟩
theorem sb_ndiv {w : Nat} (hw : w < 2 ^ 31) : (-nI w) / 100 = -nI (w / 100) := by
  apply Int32.toInt_inj.mp
  have h100 : (100 : Int32).toInt = 100 := by decide
  rw [Int32.toInt_div, sb_negT hw, h100, sb_negT (by omega), Int.neg_tdiv, Int.tdiv_eq_ediv_of_nonneg (by omega), Int.bmod_eq_of_le (by omega) (by omega)]
  omega
theorem sb_nrem {w : Nat} (hw : w < 2 ^ 31) : (-nI (w / 100)) * 100 - (-nI w) = nI (w % 100) := by
  have h := pk_rem (a := w) (d := 100) hw (by decide) (by decide)
  rw [pk_div hw (by decide) (by decide)] at h
  rw [← h]
  show (-nI (w / 100)) * nI 100 - (-nI w) = nI w - nI (w / 100) * nI 100
  rw [Int32.neg_mul, Int32.sub_neg, Int32.add_comm, ← Int32.sub_eq_add_neg]
end
section
/-! rows on bits, shifts and unsigned numbers, to paste: each family out of a closed proof of our own, whole with what it rests on; each by itself clean at Lean in its own claim (generation 39, form 5). Take a family whole -/
/-! ===== Int32 by its bits: bt x i ===== -/
def bt (x : Int32) (i : Nat) : Bool := x.toBitVec.getLsbD i
theorem b_ext {x y : Int32} (h : ∀ i, i < 32 → bt x i = bt y i) : x = y := Int32.toBitVec_inj.mp (BitVec.eq_of_getLsbD_eq (fun i hi => h i hi))
theorem b_or (x y : Int32) (i : Nat) : bt (x ||| y) i = (bt x i || bt y i) := by unfold bt; rw [Int32.toBitVec_or, BitVec.getLsbD_or]
theorem b_and (x y : Int32) (i : Nat) : bt (x &&& y) i = (bt x i && bt y i) := by unfold bt; rw [Int32.toBitVec_and, BitVec.getLsbD_and]
theorem b_xor (x y : Int32) (i : Nat) : bt (x ^^^ y) i = (bt x i ^^ bt y i) := by unfold bt; rw [Int32.toBitVec_xor, BitVec.getLsbD_xor]
theorem b_big {x : Int32} {i : Nat} (h : 32 ≤ i) : bt x i = false := BitVec.getLsbD_of_ge _ _ h
theorem b_255 (i : Nat) : bt 255 i = decide (i < 8) := by
  rcases Nat.lt_or_ge i 32 with h | h
  · exact (by decide +kernel : ∀ i, i < 32 → bt 255 i = decide (i < 8)) i h
  · rw [b_big h, decide_eq_false (by omega)]
theorem b_65535 (i : Nat) : bt 65535 i = decide (i < 16) := by
  rcases Nat.lt_or_ge i 32 with h | h
  · exact (by decide +kernel : ∀ i, i < 32 → bt 65535 i = decide (i < 16)) i h
  · rw [b_big h, decide_eq_false (by omega)]
theorem b_m1 : ∀ i, i < 32 → bt (-1) i = true := by decide +kernel
theorem b_0 (i : Nat) : bt 0 i = false := BitVec.getLsbD_zero
theorem s_l : ∀ n, n < 32 → ((nI n &&& 31).toBitVec.smod 32).toNat = n := by decide +kernel
theorem s_u : ∀ n, n < 32 → (((nI n).toUInt32 &&& Int32.toUInt32 31).toBitVec % 32).toNat = n := by decide +kernel
theorem b_shl (n : Nat) (hn : n < 32) (x : Int32) {i : Nat} (hi : i < 32) : bt (x <<< (nI n &&& 31)) i = (decide (n ≤ i) && bt x (i - n)) := by
  unfold bt
  rw [Int32.toBitVec_shiftLeft]
  show (x.toBitVec <<< ((nI n &&& 31).toBitVec.smod 32).toNat).getLsbD i = _
  rw [s_l n hn, BitVec.getLsbD_shiftLeft]
  rcases Nat.lt_or_ge i n with h | h
  · simp [h, Nat.not_le.mpr h]
  · simp [hi, h, Nat.not_lt.mpr h]
theorem b_ushr (n : Nat) (hn : n < 32) (x : Int32) (i : Nat) : bt ((x.toUInt32 >>> ((nI n).toUInt32 &&& Int32.toUInt32 31)).toInt32) i = bt x (n + i) := by
  show (x.toUInt32 >>> ((nI n).toUInt32 &&& Int32.toUInt32 31)).toBitVec.getLsbD i = x.toUInt32.toBitVec.getLsbD (n + i)
  rw [UInt32.toBitVec_shiftRight]
  show (x.toUInt32.toBitVec >>> (((nI n).toUInt32 &&& Int32.toUInt32 31).toBitVec % 32).toNat).getLsbD i = _
  rw [s_u n hn, BitVec.getLsbD_ushiftRight]
theorem b_sshr (n : Nat) (hn : n < 32) (x : Int32) {i : Nat} (hi : i < 32) : bt (x >>> (nI n &&& 31)) i = if n + i < 32 then bt x (n + i) else bt x 31 := by
  unfold bt
  rw [Int32.toBitVec_shiftRight]
  show (x.toBitVec.sshiftRight ((nI n &&& 31).toBitVec.smod 32).toNat).getLsbD i = _
  rw [s_l n hn, BitVec.getLsbD_sshiftRight, BitVec.msb_eq_getLsbD_last]
  simp [hi]
theorem b_shl8 (x : Int32) {i : Nat} (hi : i < 32) : bt (x <<< ((8 : Int32) &&& 31)) i = (decide (8 ≤ i) && bt x (i - 8)) := b_shl 8 (by omega) x hi
theorem b_shl16 (x : Int32) {i : Nat} (hi : i < 32) : bt (x <<< ((16 : Int32) &&& 31)) i = (decide (16 ≤ i) && bt x (i - 16)) := b_shl 16 (by omega) x hi
theorem b_shl24 (x : Int32) {i : Nat} (hi : i < 32) : bt (x <<< ((24 : Int32) &&& 31)) i = (decide (24 ≤ i) && bt x (i - 24)) := b_shl 24 (by omega) x hi
theorem b_sshr8 (x : Int32) {i : Nat} (hi : i < 32) : bt (x >>> ((8 : Int32) &&& 31)) i = if 8 + i < 32 then bt x (8 + i) else bt x 31 := b_sshr 8 (by omega) x hi
/-! ===== nI under and, xor, >>>, one bit, 65535 ===== -/
theorem nx_and (a b : Nat) : nI a &&& nI b = nI (a &&& b) := by
  apply Int32.toBitVec_inj.1
  show BitVec.ofNat 32 a &&& BitVec.ofNat 32 b = BitVec.ofNat 32 (a &&& b)
  apply BitVec.eq_of_getLsbD_eq
  intro i hi
  simp [hi]
theorem nx_xor (a b : Nat) : nI a ^^^ nI b = nI (a ^^^ b) := by
  apply Int32.toBitVec_inj.1
  show BitVec.ofNat 32 a ^^^ BitVec.ofNat 32 b = BitVec.ofNat 32 (a ^^^ b)
  apply BitVec.eq_of_getLsbD_eq
  intro i hi
  simp [hi]
theorem nx_cnt : ∀ j : Fin 32, (UInt32.ofNat j.val &&& Int32.toUInt32 31).toNat % 32 = j.val := by decide +kernel
theorem nx_ush {k j : Nat} (hk : k < 65536) (hj : j < 32) : ((nI k).toUInt32 >>> ((nI j).toUInt32 &&& Int32.toUInt32 31)).toInt32 = nI (k >>> j) := by
  have hs : k >>> j ≤ k := by
    rw [Nat.shiftRight_eq_div_pow]
    exact Nat.div_le_self _ _
  have e2 : UInt32.ofNat k >>> (UInt32.ofNat j &&& Int32.toUInt32 31) = UInt32.ofNat (k >>> j) := by
    apply UInt32.toNat_inj.1
    have h1 : (UInt32.ofNat k).toNat = k := Nat.mod_eq_of_lt (by omega)
    have h2 : (UInt32.ofNat (k >>> j)).toNat = k >>> j := Nat.mod_eq_of_lt (by omega)
    rw [UInt32.toNat_shiftRight, nx_cnt ⟨j, hj⟩, h1, h2]
  show (UInt32.ofNat k >>> (UInt32.ofNat j &&& Int32.toUInt32 31)).toInt32 = _
  rw [e2]
  rfl
theorem nx_bit {k j : Nat} (hk : k < 65536) (hj : j < 16) : (((nI k).toUInt32 >>> ((nI j).toUInt32 &&& Int32.toUInt32 31)).toInt32 &&& 1) = 0 ↔ k.testBit j = false := by
  rw [nx_ush hk (by omega)]
  show nI (k >>> j) &&& nI 1 = 0 ↔ _
  rw [nx_and, Nat.and_one_is_mod, ← nI_0, nI_eq (by omega) (by omega), Nat.testBit_eq_decide_div_mod_eq, Nat.shiftRight_eq_div_pow, decide_eq_false_iff_not]
  generalize k / 2 ^ j = z
  omega
theorem nx_mod (k : Nat) : nI k &&& 65535 = nI (k % 65536) := by
  show nI k &&& nI 65535 = _
  rw [nx_and, show (65535 : Nat) = 2 ^ 16 - 1 from rfl, Nat.and_two_pow_sub_one_eq_mod]
theorem nx_m16 {k : Nat} (h : k < 65536) : nI k &&& 65535 = nI k := by rw [nx_mod, Nat.mod_eq_of_lt h]
theorem nx_mask (x : Int32) : ∃ k, k < 65536 ∧ x &&& 65535 = nI k := by
  have e : x = nI x.toBitVec.toNat := by
    apply Int32.toBitVec_inj.1
    show x.toBitVec = BitVec.ofNat 32 x.toBitVec.toNat
    simp
  refine ⟨x.toBitVec.toNat % 65536, Nat.mod_lt _ (by omega), ?_⟩
  rw [← nx_mod, ← e]
/-! ===== Int32 as a set of bits: test, set ===== -/
def nf_M (m : Int32) : Nat := 4294967296 - m.toBitVec.toNat
theorem nf_sh : ∀ l, l < 32 → ((1 : Int32) <<< (nI l &&& 31)).toBitVec = BitVec.twoPow 32 l := by decide +kernel
theorem nf_sl : ∀ l, l < 32 → (((nI l).toUInt32 &&& Int32.toUInt32 31).toBitVec % 32).toNat = l := by decide +kernel
theorem nf_tp : ∀ l, l < 32 → BitVec.twoPow 32 l ≠ 0#32 := by decide +kernel
theorem nf_bit (m : Int32) (l : Nat) (hl : l < 32) : ((m.toUInt32 >>> ((nI l).toUInt32 &&& Int32.toUInt32 31)).toInt32 &&& 1) = 0 ↔ (m &&& ((1 : Int32) <<< (nI l &&& 31))) = 0 := by
  have e : ((m.toUInt32 >>> ((nI l).toUInt32 &&& Int32.toUInt32 31)).toInt32).toBitVec = m.toBitVec >>> l := by
    show m.toBitVec >>> (((nI l).toUInt32 &&& Int32.toUInt32 31).toBitVec % 32) = m.toBitVec >>> l
    rw [BitVec.ushiftRight_eq', nf_sl l hl]
  rw [← Int32.toBitVec_inj, ← Int32.toBitVec_inj, Int32.toBitVec_and, Int32.toBitVec_and, nf_sh l hl, e, BitVec.and_twoPow]
  show (m.toBitVec >>> l &&& 1#32) = 0#32 ↔ _ = 0#32
  rw [BitVec.and_one_eq_setWidth_ofBool_getLsbD, BitVec.getLsbD_ushiftRight, Nat.add_zero]
  cases hb : m.toBitVec.getLsbD l
  · exact ⟨fun _ => by simp, fun _ => by decide⟩
  · exact ⟨fun z => absurd z (by decide), fun z => absurd ((if_pos rfl).symm.trans z) (nf_tp l hl)⟩
theorem nf_gr (m k : Int32) (h : m &&& k = 0) (hk : k ≠ 0) : nf_M (m ||| k) < nf_M m := by
  have hm := m.toBitVec.isLt
  have hm' := (m ||| k).toBitVec.isLt
  have h1 : m.toBitVec.toNat ≤ (m ||| k).toBitVec.toNat := by
    rw [Int32.toBitVec_or, BitVec.toNat_or]
    exact Nat.left_le_or
  have h2 : m.toBitVec.toNat ≠ (m ||| k).toBitVec.toNat := by
    intro e
    have e2 : m = m ||| k := Int32.toBitVec_inj.mp (BitVec.eq_of_toNat_eq e)
    apply hk
    apply Int32.toBitVec_inj.mp
    show k.toBitVec = 0#32
    apply BitVec.eq_of_getLsbD_eq
    intro i hi
    have a : m.toBitVec.getLsbD i = (m.toBitVec.getLsbD i || k.toBitVec.getLsbD i) := by rw [← BitVec.getLsbD_or, ← Int32.toBitVec_or, ← e2]
    have b : (m.toBitVec.getLsbD i && k.toBitVec.getLsbD i) = false := by
      rw [← BitVec.getLsbD_and, ← Int32.toBitVec_and, h]
      exact BitVec.getLsbD_zero
    rw [BitVec.getLsbD_zero]
    revert a b
    cases m.toBitVec.getLsbD i <;> cases k.toBitVec.getLsbD i <;> simp
  unfold nf_M
  omega
/-! ===== a byte read unsigned ===== -/
theorem bp_b (x : Int32) : x.toInt8.toInt32 &&& 255 = x &&& 255 := by
  apply Int32.toBitVec_inj.mp
  rw [Int32.toBitVec_and, Int32.toBitVec_and, Int8.toBitVec_toInt32, Int32.toBitVec_toInt8]
  apply BitVec.eq_of_getLsbD_eq
  intro i hi
  rw [BitVec.getLsbD_and, BitVec.getLsbD_and]
  have hm : ∀ i < 32, 8 ≤ i → (255 : Int32).toBitVec.getLsbD i = false := by decide
  rcases Nat.lt_or_ge i 8 with z | z
  · rw [BitVec.getLsbD_signExtend, BitVec.getLsbD_signExtend, if_pos z, if_pos hi]
    simp only [z, hi, decide_true, Bool.true_and]
  · rw [hm i hi z]; simp
/-! ===== the char cast and 65535 ===== -/
theorem em_w (v : Int32) : ∃ w : Nat, w < 65536 ∧ (v.toUInt32 % 65536).toInt32 = nI w ∧ v &&& 65535 = nI w := by
  have hr := lw_u16_r v
  have h0 : (0 : Int32).toInt = 0 := by decide
  obtain ⟨w, h1, h2⟩ := nI_of (x := lw_u16 v) (by rw [Int32.lt_iff_toInt_lt]; omega)
  have h3 : (v.toUInt32 % 65536).toInt32 = nI w := h2
  rw [h2, nI_toInt h1] at hr
  exact ⟨w, by omega, h3, by rw [← lg_i2c_mask, ← lg_i2c_nf, h3]⟩
/-! ===== Int64 as a set of bits: test, set, clear ===== -/
theorem ts_nf {x : Bool} (h : ¬ x = false) : x = true := by cases x <;> first | rfl | exact absurd rfl h
theorem ts_nt {x : Bool} (h : ¬ x = true) : x = false := by cases x <;> first | rfl | exact absurd rfl h
theorem ts_bit {w : Int64} {s : UInt64} {j : Nat} (hj : j < 64) (hs : s.toNat = j) : ((w.toUInt64 >>> s).toInt64 &&& 1) = 0 ↔ w.toBitVec.getLsbD j = false := by
  have e : (w.toUInt64 >>> s).toInt64.toBitVec = w.toBitVec >>> j := by
    apply BitVec.eq_of_toNat_eq
    show (w.toUInt64 >>> s).toNat = _
    rw [UInt64.toNat_shiftRight, hs, Nat.mod_eq_of_lt hj, BitVec.toNat_ushiftRight]
    rfl
  rw [← Int64.toBitVec_inj, Int64.toBitVec_and, e]
  show w.toBitVec >>> j &&& 1#64 = 0#64 ↔ _
  constructor
  · intro h
    have t := congrArg (fun x => x.getLsbD 0) h
    simpa using t
  · intro h
    apply BitVec.eq_of_getLsbD_eq
    intro i hi
    cases i with
    | zero => simp [h]
    | succ i => simp
theorem ts_or {w m : Int64} {j : Nat} (hj : j < 64) (hm : m.toBitVec = BitVec.twoPow 64 j) : (w ||| m) = w ↔ w.toBitVec.getLsbD j = true := by
  rw [← Int64.toBitVec_inj, Int64.toBitVec_or, hm]
  constructor
  · intro h
    have t := congrArg (fun x => x.getLsbD j) h
    simp only [BitVec.getLsbD_or, BitVec.getLsbD_twoPow] at t
    simpa [hj] using t.symm
  · intro h
    apply BitVec.eq_of_getLsbD_eq
    intro i hi
    rw [BitVec.getLsbD_or, BitVec.getLsbD_twoPow]
    by_cases e : j = i
    · subst e; rw [h, Bool.true_or]
    · simp [e]
theorem ts_and {w m : Int64} {j : Nat} (hj : j < 64) (hm : m.toBitVec = BitVec.twoPow 64 j) : (w &&& (m ^^^ (-1))) = w ↔ w.toBitVec.getLsbD j = false := by
  have ha : (-1 : Int64).toBitVec = BitVec.allOnes 64 := by decide
  rw [← Int64.toBitVec_inj, Int64.toBitVec_and, Int64.toBitVec_xor, hm, ha]
  constructor
  · intro h
    have t := congrArg (fun x => x.getLsbD j) h
    simp only [BitVec.getLsbD_and, BitVec.getLsbD_xor, BitVec.getLsbD_twoPow, BitVec.getLsbD_allOnes] at t
    simpa [hj] using t.symm
  · intro h
    apply BitVec.eq_of_getLsbD_eq
    intro i hi
    rw [BitVec.getLsbD_and, BitVec.getLsbD_xor, BitVec.getLsbD_twoPow, BitVec.getLsbD_allOnes]
    by_cases e : j = i
    · subst e; rw [h, Bool.false_and]
    · simp [e, hi]
/-! ===== lN n to 2^64: shifts, and, or, masks, one bit ===== -/
theorem wb_tb (n : Nat) : (lN n).toBitVec = BitVec.ofNat 64 n := rfl
theorem wb_inj {a b : Int64} (h : a.toBitVec = b.toBitVec) : a = b := Int64.toBitVec_inj.mp h
theorem wb_tn {n : Nat} (h : n < 2 ^ 64) : (lN n).toBitVec.toNat = n := by rw [wb_tb, BitVec.toNat_ofNat, Nat.mod_eq_of_lt h]
theorem wb_of (x : Int64) : ∃ n, n < 2 ^ 64 ∧ x = lN n := ⟨x.toBitVec.toNat, x.toBitVec.isLt, wb_inj (by rw [wb_tb]; simp)⟩
theorem wb_of32 (x : Int32) : ∃ n, n < 2 ^ 32 ∧ x = nI n := ⟨x.toBitVec.toNat, x.toBitVec.isLt, Int32.toBitVec_inj.mp (by show _ = BitVec.ofNat 32 _; simp)⟩
theorem wb_c : ∀ k, k < 64 → ((nI k).toInt64 &&& 63) = lN k := by decide +kernel
theorem wb_cu : ∀ k, k < 64 → ((nI k).toInt64.toUInt64 &&& Int64.toUInt64 63) = UInt64.ofNat k := by decide +kernel
theorem wb_sm : ∀ k, k < 64 → (BitVec.ofNat 64 k).smod 64 = BitVec.ofNat 64 k := by decide +kernel
theorem wb_pw {a b : Nat} (h : a ≤ b) : 2 ^ b = 2 ^ a * 2 ^ (b - a) := by rw [← Nat.pow_add]; congr 1; omega
theorem wb_lt2 {a b : Nat} (h : a < b) : 2 ^ a < 2 ^ b := Nat.pow_lt_pow_right (by decide) h
theorem wb_mod (n : Nat) : lN n = lN (n % 2 ^ 64) := wb_inj (by rw [wb_tb, wb_tb]; apply BitVec.eq_of_toNat_eq; rw [BitVec.toNat_ofNat, BitVec.toNat_ofNat, Nat.mod_mod])
theorem wb_shr {n k : Nat} (hn : n < 2 ^ 64) (hk : k < 64) : ((lN n).toUInt64 >>> ((nI k).toInt64.toUInt64 &&& Int64.toUInt64 63)).toInt64 = lN (n / 2 ^ k) := by
  rw [wb_cu k hk]
  apply wb_inj
  apply BitVec.eq_of_toNat_eq
  show ((lN n).toUInt64 >>> UInt64.ofNat k).toNat = (BitVec.ofNat 64 _).toNat
  have h1 : (UInt64.ofNat k).toNat = k := by
    show (BitVec.ofNat 64 k).toNat = k
    rw [BitVec.toNat_ofNat, Nat.mod_eq_of_lt (by omega)]
  have h2 : (lN n).toUInt64.toNat = n := wb_tn hn
  rw [UInt64.toNat_shiftRight, h1, h2, Nat.mod_eq_of_lt hk, Nat.shiftRight_eq_div_pow, BitVec.toNat_ofNat, Nat.mod_eq_of_lt (Nat.lt_of_le_of_lt (Nat.div_le_self _ _) hn)]
theorem wb_shl (n : Nat) {k : Nat} (hk : k < 64) : lN n <<< ((nI k).toInt64 &&& 63) = lN (n * 2 ^ k) := by
  rw [wb_c k hk]
  apply wb_inj
  rw [Int64.toBitVec_shiftLeft, wb_tb, wb_tb, wb_tb, wb_sm k hk]
  apply BitVec.eq_of_toNat_eq
  rw [BitVec.shiftLeft_eq', BitVec.toNat_shiftLeft, BitVec.toNat_ofNat, BitVec.toNat_ofNat, BitVec.toNat_ofNat, Nat.mod_eq_of_lt (show k < 2 ^ 64 by omega), Nat.shiftLeft_eq, Nat.mul_mod, Nat.mod_mod, ← Nat.mul_mod]
theorem wb_and {a b : Nat} (ha : a < 2 ^ 64) (hb : b < 2 ^ 64) : lN a &&& lN b = lN (a &&& b) := by
  apply wb_inj
  rw [Int64.toBitVec_and, wb_tb, wb_tb, wb_tb]
  apply BitVec.eq_of_toNat_eq
  rw [BitVec.toNat_and, BitVec.toNat_ofNat, BitVec.toNat_ofNat, BitVec.toNat_ofNat, Nat.mod_eq_of_lt ha, Nat.mod_eq_of_lt hb, Nat.mod_eq_of_lt (Nat.and_lt_two_pow _ hb)]
theorem wb_or {a b : Nat} (ha : a < 2 ^ 64) (hb : b < 2 ^ 64) : lN a ||| lN b = lN (a ||| b) := by
  apply wb_inj
  rw [Int64.toBitVec_or, wb_tb, wb_tb, wb_tb]
  apply BitVec.eq_of_toNat_eq
  rw [BitVec.toNat_or, BitVec.toNat_ofNat, BitVec.toNat_ofNat, BitVec.toNat_ofNat, Nat.mod_eq_of_lt ha, Nat.mod_eq_of_lt hb, Nat.mod_eq_of_lt (Nat.or_lt_two_pow ha hb)]
theorem wb_mask {n k : Nat} (hn : n < 2 ^ 64) (hk : k < 64) : lN n &&& lN (2 ^ k - 1) = lN (n % 2 ^ k) := by
  rw [wb_and hn (by have := wb_lt2 hk; omega), Nat.and_two_pow_sub_one_eq_mod]
theorem wb_a1 {n : Nat} (hn : n < 2 ^ 64) : lN n &&& 1 = lN (n % 2) := wb_mask (k := 1) hn (by decide)
theorem wb_bit {n k : Nat} (hn : n < 2 ^ 64) (hk : k < 64) : ((lN n).toUInt64 >>> ((nI k).toInt64.toUInt64 &&& Int64.toUInt64 63)).toInt64 &&& 1 = lN (n / 2 ^ k % 2) := by
  rw [wb_shr hn hk, wb_a1 (Nat.lt_of_le_of_lt (Nat.div_le_self _ _) hn)]
theorem wb_xor {q k : Nat} (hk : k < 63) (h : 2 ^ k ≤ q) (h2 : q < 2 ^ (k + 1)) : lN q ^^^ lN (2 ^ k) = lN (q - 2 ^ k) := by
  obtain ⟨r, rfl⟩ : ∃ r, q = 2 ^ k + r := ⟨q - 2 ^ k, by omega⟩
  have hr : r < 2 ^ k := by rw [Nat.pow_succ] at h2; omega
  have hx : (2 ^ k + r) ^^^ 2 ^ k = r := by
    apply Nat.eq_of_testBit_eq
    intro i
    rw [Nat.testBit_xor, Nat.testBit_two_pow]
    rcases Nat.lt_trichotomy i k with h | h | h
    · rw [Nat.testBit_two_pow_add_gt h]
      simp [show ¬ k = i by omega]
    · subst h
      rw [Nat.testBit_two_pow_add_eq]
      simp
    · have a1 : 2 ^ (k + 1) ≤ 2 ^ i := Nat.pow_le_pow_right (by decide) h
      rw [Nat.testBit_lt_two_pow (show 2 ^ k + r < 2 ^ i by omega), Nat.testBit_lt_two_pow (show r < 2 ^ i by omega)]
      simp [show ¬ k = i by omega]
  have b1 := wb_lt2 (show k + 1 < 64 by omega)
  have b2 := wb_lt2 (show k < 64 by omega)
  apply wb_inj
  rw [Int64.toBitVec_xor, wb_tb, wb_tb, wb_tb]
  apply BitVec.eq_of_toNat_eq
  rw [BitVec.toNat_xor, BitVec.toNat_ofNat, BitVec.toNat_ofNat, BitVec.toNat_ofNat, Nat.mod_eq_of_lt (by omega : 2 ^ k + r < 2 ^ 64), Nat.mod_eq_of_lt b2, hx, Nat.add_sub_cancel_left, Nat.mod_eq_of_lt (by omega)]
/-! ===== lN: masks, 'or' of parts that don't overlap is a sum ===== -/
theorem u_tn {n : Nat} (h : n < 2 ^ 64) : (UInt64.ofNat n).toNat = n := Nat.mod_eq_of_lt h
theorem g_and {a b c : Nat} (ha : a < 2 ^ 64) (hb : b < 2 ^ 64) (hc : a &&& b = c) : lN a &&& lN b = lN c := by
  subst hc
  have h : UInt64.ofNat a &&& UInt64.ofNat b = UInt64.ofNat (a &&& b) := UInt64.toNat_inj.mp (by rw [UInt64.toNat_and, u_tn ha, u_tn hb, u_tn (Nat.and_lt_two_pow a hb)])
  have h2 := congrArg UInt64.toInt64 h
  exact h2
theorem g_and1 {a : Nat} (ha : a < 2 ^ 64) : lN a &&& 1 = lN (a % 2) := g_and (b := 1) ha (by decide) (Nat.and_two_pow_sub_one_eq_mod a 1)
theorem g_mask {a s p : Nat} (hp : 2 ^ s = p) (hs : s < 64) (ha : a < 2 ^ 64) : lN a &&& lN (p - 1) = lN (a % p) := by
  subst hp
  have := Nat.pow_lt_pow_right (show 1 < 2 by decide) hs
  exact g_and ha (by omega) (Nat.and_two_pow_sub_one_eq_mod a s)
theorem g_or {k p a b : Nat} (hp : 2 ^ k = p) (ha : a < p) (h : b * p + a < 2 ^ 64) : lN (b * p) ||| lN a = lN (b * p + a) := by
  subst hp
  have h1 : b * 2 ^ k ||| a = b * 2 ^ k + a := by rw [← Nat.shiftLeft_eq, Nat.shiftLeft_add_eq_or_of_lt ha]
  have h3 : UInt64.ofNat (b * 2 ^ k) ||| UInt64.ofNat a = UInt64.ofNat (b * 2 ^ k + a) := UInt64.toNat_inj.mp (by rw [UInt64.toNat_or, u_tn (by omega), u_tn (by omega), u_tn h, h1])
  have h2 := congrArg UInt64.toInt64 h3
  exact h2
theorem g_or' {k p a b : Nat} (hp : 2 ^ k = p) (ha : a < p) (h : a + b * p < 2 ^ 64) : lN a ||| lN (b * p) = lN (a + b * p) := by
  rw [Int64.or_comm, g_or hp ha (by omega), Nat.add_comm]
theorem g_ushr {a k p : Nat} {y : UInt64} (hy : y = UInt64.ofNat k) (hk : k < 64) (hp : 2 ^ k = p) (ha : a < 2 ^ 64) : ((lN a).toUInt64 >>> y).toInt64 = lN (a / p) := by
  subst hy hp
  have h : UInt64.ofNat a >>> UInt64.ofNat k = UInt64.ofNat (a / 2 ^ k) := UInt64.toNat_inj.mp (by rw [UInt64.toNat_shiftRight, u_tn ha, u_tn (by omega), u_tn (Nat.lt_of_le_of_lt (Nat.div_le_self _ _) ha), Nat.mod_eq_of_lt hk, Nat.shiftRight_eq_div_pow])
  have h2 := congrArg UInt64.toInt64 h
  exact h2
theorem g_shl {a k p : Nat} {y : Int64} (hy : y.toBitVec.smod 64 = BitVec.ofNat 64 k) (hk : k < 64) (hp : 2 ^ k = p) (ha : a < 2 ^ 64) : lN a <<< y = lN (a * p) := by
  subst hp
  apply Int64.toBitVec_inj.mp
  rw [Int64.toBitVec_shiftLeft, hy]
  apply BitVec.eq_of_toNat_eq
  have hb : (lN a).toBitVec.toNat = a := Nat.mod_eq_of_lt ha
  have hk' : (BitVec.ofNat 64 k).toNat = k := Nat.mod_eq_of_lt (by omega)
  have h : ((lN a).toBitVec <<< BitVec.ofNat 64 k).toNat = (a * 2 ^ k) % 2 ^ 64 := by simp only [BitVec.shiftLeft_eq', BitVec.toNat_shiftLeft, hb, hk', Nat.shiftLeft_eq]
  exact h
/-! ===== lN to 2^62 under >> and >>> ===== -/
theorem pf_lI {a : Nat} (h : a < 2 ^ 63) : (lN a).toInt = (a : Int) := lg_ofNat_toInt h
theorem pf_shr {a d : Nat} {D : Int64} (hD : (D.toBitVec.smod 64).toNat = d) (h : a < 2 ^ 62) : lN a >>> D = lN (a / 2 ^ d) := by
  have hd : a / 2 ^ d ≤ a := Nat.div_le_self _ _
  apply Int64.toInt_inj.mp
  have e : (lN a >>> D).toInt = (lN a).toInt >>> d := by
    rw [← hD]
    exact BitVec.toInt_sshiftRight ..
  rw [e, Int.shiftRight_eq_div_pow, pf_lI (by omega), pf_lI (by omega)]
  rfl
theorem pf_ushr {a d : Nat} {D : UInt64} (hD : D.toNat % 64 = d) (h : a < 2 ^ 62) : ((lN a).toUInt64 >>> D).toInt64 = lN (a / 2 ^ d) := by
  have hd : a / 2 ^ d ≤ a := Nat.div_le_self _ _
  have e : (lN a).toUInt64 >>> D = UInt64.ofNat (a / 2 ^ d) := UInt64.toNat_inj.mp (by
    rw [UInt64.toNat_shiftRight, hD, Nat.shiftRight_eq_div_pow, UInt64.toNat_ofNat']
    show (UInt64.ofNat a).toNat / 2 ^ d = _
    rw [UInt64.toNat_ofNat', Nat.mod_eq_of_lt (by omega), Nat.mod_eq_of_lt (by omega)])
  rw [e]
  rfl
theorem pf_andw (x : Int64) : ∃ m, m < 2 ^ 32 ∧ x &&& 4294967295 = lN m := ⟨x.toBitVec.toNat % 2 ^ 32, Nat.mod_lt _ (by decide), Int64.toBitVec_inj.mp (BitVec.eq_of_toNat_eq (by
  show (x.toBitVec &&& 4294967295#64).toNat = (BitVec.ofNat 64 (x.toBitVec.toNat % 2 ^ 32)).toNat
  rw [BitVec.toNat_and, show (4294967295#64).toNat = 2 ^ 32 - 1 from by decide, Nat.and_two_pow_sub_one_eq_mod, BitVec.toNat_ofNat]
  omega))⟩
/-! ===== Int64 as an unsigned number: uN x ===== -/
def uN (x : Int64) : Nat := x.toUInt64.toNat
theorem uN_lt (x : Int64) : uN x < 18446744073709551616 := x.toUInt64.toNat_lt
theorem uN_inj {x y : Int64} (h : uN x = uN y) : x = y := congrArg UInt64.toInt64 (UInt64.toNat_inj.mp h)
theorem uN_add (x y : Int64) : uN (x + y) = (uN x + uN y) % 18446744073709551616 := by
  show (x.toUInt64 + y.toUInt64).toNat = _
  exact UInt64.toNat_add _ _
theorem uN_mul (x y : Int64) : uN (x * y) = (uN x * uN y) % 18446744073709551616 := by
  show (x.toUInt64 * y.toUInt64).toNat = _
  exact UInt64.toNat_mul _ _
theorem uN_shl (x : Int64) : uN (x <<< ((1 : Int32).toInt64 &&& 63)) = (2 * uN x) % 18446744073709551616 := by
  have h : (((1 : Int32).toInt64 &&& 63).toBitVec.smod 64).toNat = 1 := by decide
  show (x.toBitVec <<< (((1 : Int32).toInt64 &&& 63).toBitVec.smod 64).toNat).toNat = _
  rw [h, BitVec.toNat_shiftLeft, Nat.shiftLeft_eq, Nat.mul_comm]
  rfl
theorem uN_shr (x : Int64) (s : UInt64) : uN (x.toUInt64 >>> s).toInt64 = uN x / 2 ^ (s.toNat % 64) := by
  show (x.toUInt64 >>> s).toNat = _
  rw [UInt64.toNat_shiftRight, Nat.shiftRight_eq_div_pow]
  rfl
theorem uN_s32 (x : Int64) : uN (x.toUInt64 >>> ((32 : Int32).toInt64.toUInt64 &&& Int64.toUInt64 63)).toInt64 = uN x / 4294967296 := by
  have h : ((32 : Int32).toInt64.toUInt64 &&& Int64.toUInt64 63).toNat % 64 = 32 := by decide
  rw [uN_shr, h]
theorem uN_s63 (x : Int64) : uN (x.toUInt64 >>> ((63 : Int32).toInt64.toUInt64 &&& Int64.toUInt64 63)).toInt64 = uN x / 9223372036854775808 := by
  have h : ((63 : Int32).toInt64.toUInt64 &&& Int64.toUInt64 63).toNat % 64 = 63 := by decide
  rw [uN_shr, h]
theorem uN_lo (x : Int64) : uN (x &&& 4294967295) = uN x % 4294967296 := by
  show (x.toUInt64 &&& Int64.toUInt64 4294967295).toNat = _
  rw [UInt64.toNat_and]
  exact Nat.and_two_pow_sub_one_eq_mod _ 32
theorem uN_bit (x : Int64) : (x &&& 1) = 0 ↔ uN x % 2 = 0 := by
  have h : uN (x &&& 1) = uN x % 2 := by
    show (x.toUInt64 &&& Int64.toUInt64 1).toNat = _
    rw [UInt64.toNat_and]
    exact Nat.and_two_pow_sub_one_eq_mod _ 1
  rw [← h]
  exact ⟨fun z => by rw [z]; rfl, fun z => uN_inj (z.trans rfl)⟩
theorem uN_or {x y : Int64} (hy : uN y < 2) : uN ((x <<< ((1 : Int32).toInt64 &&& 63)) ||| y) = (2 * uN x) % 18446744073709551616 + uN y := by
  have h1 : uN ((x <<< ((1 : Int32).toInt64 &&& 63)) ||| y) = uN (x <<< ((1 : Int32).toInt64 &&& 63)) ||| uN y := UInt64.toNat_or _ _
  have h2 : (2 * uN x) % 18446744073709551616 = 2 ^ 1 * (uN x % 9223372036854775808) := by omega
  rw [h1, uN_shl, h2]
  exact (Nat.two_pow_add_eq_or_of_lt (i := 1) hy _).symm
theorem nat_xor {a : Nat} (h : a < 18446744073709551616) : a ^^^ 2 ^ 63 = (a + 9223372036854775808) % 18446744073709551616 := by
  have h1 : (a ^^^ 2 ^ 63) % 2 ^ 63 = a % 2 ^ 63 := by rw [Nat.xor_mod_two_pow, Nat.mod_self, Nat.xor_zero]
  have h2 : (a ^^^ 2 ^ 63) / 2 ^ 63 = (a / 2 ^ 63) ^^^ 1 := by rw [Nat.xor_div_two_pow, Nat.div_self (Nat.two_pow_pos 63)]
  have h3 : a / 2 ^ 63 = 0 ∨ a / 2 ^ 63 = 1 := by omega
  generalize a ^^^ 2 ^ 63 = t at h1 h2
  rcases h3 with h3 | h3
  · rw [h3] at h2
    have h2 : t / 2 ^ 63 = 1 := h2
    omega
  · rw [h3] at h2
    have h2 : t / 2 ^ 63 = 0 := h2
    omega
theorem uN_xor (x : Int64) : uN (x ^^^ (-9223372036854775808)) = (uN x + 9223372036854775808) % 18446744073709551616 := by
  rw [← nat_xor (uN_lt x)]
  exact UInt64.toNat_xor _ _
theorem uN_int (x : Int64) : x.toInt = if 2 * uN x < 18446744073709551616 then (uN x : Int) else (uN x : Int) - 18446744073709551616 := BitVec.toInt_eq_toNat_cond _
theorem uN_le (x y : Int64) : (x ^^^ (-9223372036854775808)) ≤ (y ^^^ (-9223372036854775808)) ↔ uN x ≤ uN y := by
  have hx := uN_lt x
  have hy := uN_lt y
  rw [Int64.le_iff_toInt_le, uN_int, uN_int, uN_xor, uN_xor]
  omega
theorem uN_sk (x : Int64) {k : Nat} (hk : k < 64) : uN (x.toUInt64 >>> ((nI k).toInt64.toUInt64 &&& Int64.toUInt64 63)).toInt64 = uN x / 2 ^ k := by
  have h : ((nI k).toInt64.toUInt64 &&& Int64.toUInt64 63).toNat % 64 = k := by
    rw [nI_l (by omega), UInt64.toNat_and]
    have e : (lN k).toUInt64.toNat = k % 2 ^ 64 := rfl
    have e2 : (Int64.toUInt64 63).toNat = 2 ^ 6 - 1 := by decide
    rw [e, e2, Nat.and_two_pow_sub_one_eq_mod]
    omega
  rw [uN_shr, h]
/-! ===== unsigned comparison by xor with the least ===== -/
theorem lN_bv (n : Nat) : (lN n).toBitVec = BitVec.ofNat 64 n := rfl
theorem lN_nat {n : Nat} (h : n < 2 ^ 64) : (lN n).toBitVec.toNat = n := by rw [lN_bv, BitVec.toNat_ofNat]; exact Nat.mod_eq_of_lt h
theorem lN_xor (a b : Nat) : lN a ^^^ lN b = lN (a ^^^ b) := by
  apply Int64.toBitVec_inj.mp; rw [Int64.toBitVec_xor, lN_bv, lN_bv, lN_bv]; apply BitVec.eq_of_getLsbD_eq; intro i hi; simp [BitVec.getLsbD_ofNat, Nat.testBit_xor, hi]
theorem lN_ti {m : Nat} (h : m < 2 ^ 64) : (lN m).toInt = if m < 2 ^ 63 then (m : Int) else (m : Int) - 2 ^ 64 := by
  have c := BitVec.toInt_eq_toNat_cond (lN m).toBitVec
  rw [lN_nat h] at c
  show (lN m).toBitVec.toInt = _
  rw [c]
  split <;> split <;> omega
theorem xor63 {x : Nat} (h : x < 2 ^ 63) : x ^^^ 2 ^ 63 = 2 ^ 63 + x := by
  apply Nat.eq_of_testBit_eq
  intro i
  rw [Nat.testBit_xor, Nat.testBit_two_pow]
  rcases Nat.lt_trichotomy i 63 with z | z | z
  · rw [Nat.testBit_two_pow_add_gt z, decide_eq_false (by omega)]; simp
  · subst z; rw [Nat.testBit_two_pow_add_eq]; simp
  · have hp : 2 ^ 64 ≤ 2 ^ i := Nat.pow_le_pow_right (by decide) z
    rw [Nat.testBit_lt_two_pow (show x < 2 ^ i by omega), Nat.testBit_lt_two_pow (show 2 ^ 63 + x < 2 ^ i by omega), decide_eq_false (by omega)]; rfl
theorem xorS {a : Nat} (h : a < 2 ^ 64) : (lN a ^^^ (-9223372036854775808)).toInt = (a : Int) - 2 ^ 63 := by
  rw [show (-9223372036854775808 : Int64) = lN (2 ^ 63) from by decide +kernel, lN_xor]
  rcases Nat.lt_or_ge a (2 ^ 63) with z | z
  · rw [xor63 z, lN_ti (by omega), if_neg (by omega)]; omega
  · obtain ⟨x, rfl⟩ : ∃ x, a = 2 ^ 63 + x := ⟨a - 2 ^ 63, by omega⟩
    rw [← xor63 (by omega), Nat.xor_assoc, Nat.xor_self, Nat.xor_zero, lN_ti (by omega), if_pos (by omega), xor63 (by omega)]; omega
theorem ultL {a b : Nat} (ha : a < 2 ^ 64) (hb : b < 2 ^ 64) : ((lN b ^^^ (-9223372036854775808)) ≤ (lN a ^^^ (-9223372036854775808))) ↔ b ≤ a := by
  rw [Int64.le_iff_toInt_le, xorS ha, xorS hb]; omega
/-! ===== Int64 masks of n low bits ===== -/
theorem cr_bits (W U M : BitVec 64) : ((W &&& U) &&& (U &&& (M ^^^ BitVec.allOnes 64))) = 0#64 ↔ (W &&& U) &&& M = W &&& U := by
  constructor
  · intro h
    apply BitVec.eq_of_getLsbD_eq
    intro i hi
    have e := congrArg (fun x => BitVec.getLsbD x i) h
    simp only [BitVec.getLsbD_and, BitVec.getLsbD_xor, BitVec.getLsbD_allOnes, BitVec.getLsbD_zero, hi, decide_true] at e ⊢
    revert e
    cases W.getLsbD i <;> cases U.getLsbD i <;> cases M.getLsbD i <;> decide
  · intro h
    apply BitVec.eq_of_getLsbD_eq
    intro i hi
    have e := congrArg (fun x => BitVec.getLsbD x i) h
    simp only [BitVec.getLsbD_and, BitVec.getLsbD_xor, BitVec.getLsbD_allOnes, BitVec.getLsbD_zero, hi, decide_true] at e ⊢
    revert e
    cases W.getLsbD i <;> cases U.getLsbD i <;> cases M.getLsbD i <;> decide
theorem cr_mask (w U m : Int64) (n : Nat) (hm : m.toBitVec.toNat = 2 ^ n - 1) : ((w &&& U) &&& (U &&& (m ^^^ (-1)))) = 0 ↔ (w &&& U).toBitVec.toNat < 2 ^ n := by
  have e0 : (-1 : Int64).toBitVec = BitVec.allOnes 64 := by decide
  have z0 : (0 : Int64).toBitVec = 0#64 := by decide
  rw [← Int64.toBitVec_inj, z0, Int64.toBitVec_and, Int64.toBitVec_and, Int64.toBitVec_and, Int64.toBitVec_xor, e0, cr_bits]
  generalize w.toBitVec &&& U.toBitVec = T
  rw [← BitVec.toNat_inj, BitVec.toNat_and, hm, Nat.and_two_pow_sub_one_eq_mod]
  constructor
  · intro h
    have t := Nat.mod_lt T.toNat (Nat.two_pow_pos n)
    rw [h] at t
    exact t
  · exact Nat.mod_eq_of_lt
theorem cr_shr (t : Int64) (x : UInt64) (n : Nat) (hx : x.toNat % 64 = n) : (t.toUInt64 >>> x).toInt64 = 0 ↔ t.toBitVec.toNat < 2 ^ n := by
  rw [← Int64.toBitVec_inj, ← BitVec.toNat_inj]
  show (t.toUInt64 >>> x).toNat = 0 ↔ t.toUInt64.toNat < 2 ^ n
  rw [UInt64.toNat_shiftRight, hx, Nat.shiftRight_eq_div_pow]
  constructor
  · intro h
    have d : t.toUInt64.toNat / 2 ^ n < 1 := by
      rw [h]
      decide
    have e := (Nat.div_lt_iff_lt_mul (Nat.two_pow_pos n)).mp d
    rw [Nat.one_mul] at e
    exact e
  · exact Nat.div_eq_of_lt
theorem cr_amt (s : Int64) : ∃ n, n < 64 ∧ s &&& 63 = lN n ∧ (s.toUInt64 &&& Int64.toUInt64 63).toNat % 64 = n := by
  have e : (s.toUInt64 &&& Int64.toUInt64 63).toNat = s.toUInt64.toNat % 2 ^ 6 := by
    rw [UInt64.toNat_and, show (Int64.toUInt64 63).toNat = 2 ^ 6 - 1 from by decide, Nat.and_two_pow_sub_one_eq_mod]
  refine ⟨s.toUInt64.toNat % 2 ^ 6, by omega, ?_, by omega⟩
  rw [← Int64.toBitVec_inj, ← BitVec.toNat_inj]
  show (s.toUInt64 &&& Int64.toUInt64 63).toNat = (BitVec.ofNat 64 (s.toUInt64.toNat % 2 ^ 6)).toNat
  rw [e, BitVec.toNat_ofNat]
  omega
end
section
/-! numbers: a value packed into a long, a head, a frame's first cell -/
def nb_vk (k : Nat) (w : Int32) : Int64 := ((nI k).toInt64 <<< ((32 : Int32).toInt64 &&& 63)) ||| (w.toInt64 &&& 4294967295)
def nb_ko (x : Int64) : Int32 := ((x.toUInt64 >>> ((32 : Int32).toInt64.toUInt64 &&& Int64.toUInt64 63)).toInt64).toInt32
theorem nb_low {n : Nat} (hn : n < 2 ^ 32) : (nI n).toInt64 &&& 4294967295 = lN n := by
  apply wb_inj
  apply BitVec.eq_of_toNat_eq
  rw [Int64.toBitVec_and, BitVec.toNat_and, Int32.toBitVec_toInt64, BitVec.toNat_signExtend, wb_tn (by omega)]
  have h1 : (4294967295 : Int64).toBitVec.toNat = 2 ^ 32 - 1 := by decide
  rw [h1, Nat.and_two_pow_sub_one_eq_mod, BitVec.toNat_setWidth, pk_tn hn]
  split <;> omega
theorem nb_pack {k : Nat} (hk : k < 4) {n : Nat} (hn : n < 2 ^ 32) : nb_vk k (nI n) = lN (k * 4294967296 + n) := by
  unfold nb_vk
  rw [nb_low hn, nI_l (by omega)]
  have h := wb_shl k (k := 32) (by decide)
  have e : lN k <<< ((32 : Int32).toInt64 &&& 63) = lN (k * 2 ^ 32) := h
  rw [e]
  exact g_or (k := 32) (p := 4294967296) (by decide) (by omega) (by omega)
theorem nb_ko_lN {m : Nat} (hm : m < 2 ^ 64) : nb_ko (lN m) = nI (m / 4294967296) := by
  unfold nb_ko
  have h := wb_shr hm (k := 32) (by decide)
  have e : ((lN m).toUInt64 >>> ((32 : Int32).toInt64.toUInt64 &&& Int64.toUInt64 63)).toInt64 = lN (m / 2 ^ 32) := h
  rw [e, lN_i]
theorem nb_ko_vk {k : Nat} (hk : k < 4) (w : Int32) : nb_ko (nb_vk k w) = nI k := by
  obtain ⟨n, hn, rfl⟩ := wb_of32 w
  rw [nb_pack hk hn, nb_ko_lN (by omega)]
  congr 1
  omega
theorem nb_mod (k n : Nat) : nI (k * 4294967296 + n) = nI n := by
  rw [← nI_add, ← pk_mul, show nI 4294967296 = 0 from by decide, Int32.mul_zero, Int32.zero_add]
theorem nb_lo_vk {k : Nat} (hk : k < 4) (w : Int32) : (nb_vk k w).toInt32 = w := by
  obtain ⟨n, hn, rfl⟩ := wb_of32 w
  rw [nb_pack hk hn, lN_i, nb_mod]
theorem nb_ko0 : nb_ko 0 = 0 := by decide
theorem nb_hd {s k : Nat} (hs : s < 2 ^ 20) (hk : k < 256) : ((nI s).toInt64 <<< ((8 : Int32).toInt64 &&& 63)) ||| (nI k).toInt64 = lN (s * 256 + k) := by
  rw [nI_l (by omega), nI_l (by omega)]
  have h := wb_shl s (k := 8) (by decide)
  have e : lN s <<< ((8 : Int32).toInt64 &&& 63) = lN (s * 2 ^ 8) := h
  rw [e]
  exact g_or (k := 8) (p := 256) (by decide) (by omega) (by omega)
theorem nb_hs {s k : Nat} (hs : s < 2 ^ 20) (hk : k < 256) : (((lN (s * 256 + k)).toUInt64 >>> ((8 : Int32).toInt64.toUInt64 &&& Int64.toUInt64 63)).toInt64).toInt32 = nI s := by
  have h := wb_shr (n := s * 256 + k) (by omega) (k := 8) (by decide)
  have e : ((lN (s * 256 + k)).toUInt64 >>> ((8 : Int32).toInt64.toUInt64 &&& Int64.toUInt64 63)).toInt64 = lN ((s * 256 + k) / 2 ^ 8) := h
  rw [e, lN_i]
  congr 1
  omega
theorem nb_hk {s k : Nat} (hs : s < 2 ^ 20) (hk : k < 256) : ((lN (s * 256 + k)) &&& 255).toInt32 = nI k := by
  have h := g_mask (a := s * 256 + k) (s := 8) (p := 256) (by decide) (by decide) (by omega)
  have e : lN (s * 256 + k) &&& 255 = lN ((s * 256 + k) % 256) := h
  rw [e, lN_i]
  congr 1
  omega
theorem nb_pos {a : Nat} (h : a < 2 ^ 63) : (0 : Int64) ≤ lN a := (pk_lLE (a := 0) (by decide) h).mpr (Nat.zero_le _)
theorem nb_ng {p : Nat} (h0 : 0 < p) (h : p < 2 ^ 31) : ¬ (0 : Int64) ≤ -(lN p) := by
  rw [Int64.le_iff_toInt_le, Int64.toInt_neg, lN_toInt h]
  have h1 : (0 : Int64).toInt = 0 := by decide
  rw [h1, Int.bmod_eq_of_le (by omega) (by omega)]
  omega
theorem nb_nn (p : Nat) : (-(-(lN p))).toInt32 = nI p := by rw [Int64.neg_neg, lN_i]
theorem nb_fr (kd n : Nat) (h : kd * 64 + n < 2 ^ 31) : ((nI kd * 64) + nI n).toInt64 = lN (kd * 64 + n) := by
  have e : nI kd * 64 = nI (kd * 64) := pk_mul kd 64
  rw [e, nI_add, nI_l h]
theorem nb_m3 (a : Nat) : nI a * 3 = nI (a * 3) := pk_mul a 3
theorem nb_a1 (a : Nat) : nI a + 1 = nI (a + 1) := nI_add a 1
theorem nb_a2 (a : Nat) : nI a + 2 = nI (a + 2) := nI_add a 2
theorem nb_s1 {a : Nat} (h : 0 < a) : nI a - 1 = nI (a - 1) := pk_sub h
theorem nb_d64 {m : Nat} (h : m < 2 ^ 31) : nI m / 64 = nI (m / 64) := pk_div h (by decide) (by decide)
theorem nb_r64 {m : Nat} (h : m < 2 ^ 31) : nI m - nI m / 64 * 64 = nI (m % 64) := pk_rem h (by decide) (by decide)
theorem nb_ld64 {m : Nat} (h : m < 2 ^ 31) : lN m / 64 = lN (m / 64) := pk_lDiv (by omega) (by decide) (by decide)
theorem nb_nz (h : 0 < 64) : ¬ (64 : Int32) = 0 := by decide
theorem nb_b {t : Nat} (h : t < 128) : (nI t).toInt8.toInt32 = nI t := by
  have h1 : ∀ t : Fin 128, (nI t.val).toInt8.toInt32 = nI t.val := by decide +kernel
  exact h1 ⟨t, h⟩
theorem nb_vb {t : Nat} (h : t < 128) : vp_nar .byte (nI t).toInt8.toInt32 = nI t := by rw [pk_vb, nb_b h]
theorem nb_vbm : vp_nar .byte (-1) = -1 := by rw [vp_nar_byte]; decide
theorem nb_vbm2 : vp_nar .byte ((-1 : Int32).toInt8.toInt32) = -1 := by rw [pk_vb]; decide
theorem nb_bt {t : Nat} (h : t ≤ 120) : vp_nar .byte ((nI t - 100).toInt8.toInt32) = nI t - 100 := by
  rw [pk_vb]
  have h1 : ∀ t : Fin 121, (nI t.val - 100).toInt8.toInt32 = nI t.val - 100 := by decide +kernel
  exact h1 ⟨t, by omega⟩
theorem nb_bo0 : vp_nar .boolean 0 = 0 := by decide
theorem nb_bo1 : vp_nar .boolean 1 = 1 := by decide
/-- an int that is none of the naturals -/
theorem nb_ne1 {a : Nat} (h : a < 2 ^ 31) : ¬ nI a = -1 := by
  intro e
  have h2 := nI_pos h
  rw [e] at h2
  exact h2 (by decide)
theorem nb_ne {a b : Nat} (ha : a < 2 ^ 31) (hb : b < 2 ^ 31) (h : a ≠ b) : ¬ nI a = nI b := fun e => h ((nI_eq ha hb).mp e)
end
section
/-! the list of tokens as a term: ends, scopes. No program in sight -/
def sg_pt (t : Nat) : Nat := if 80 ≤ t then 0 else if t < 40 then 0 else if t < 46 then 1 else if t ≤ 56 then 2 else if t = 57 then 3 else if t ≤ 59 then 1 else if t < 66 then 2 else 1
def sg_vt (t : Nat) : Prop := (80 ≤ t ∧ t ≤ 120) ∨ (30 ≤ t ∧ t ≤ 35) ∨ (40 ≤ t ∧ t ≤ 45) ∨ (52 ≤ t ∧ t ≤ 65) ∨ (70 ≤ t ∧ t ≤ 75)
/-- what is missing behind j tokens, less one -/
def sg_w (tn : Nat → Nat) : Nat → Int
  | 0 => 0
  | j + 1 => sg_w tn j + (sg_pt (tn j) : Int) - 1
theorem sg_w_s (tn : Nat → Nat) (j : Nat) : sg_w tn (j + 1) = sg_w tn j + (sg_pt (tn j) : Int) - 1 := rfl
def sg_f (tn : Nat → Nat) (p : Nat) : Nat → Nat → Nat
  | 0, i => i
  | d + 1, i => if sg_w tn i < sg_w tn p then i else sg_f tn p d (i + 1)
def sg_e (tn : Nat → Nat) (p : Nat) : Nat := sg_f tn p 40 (p + 1)
/-- a list that may be fed further or is whole -/
def sg_ok (tn : Nat → Nat) (N : Nat) : Prop := N ≤ 32 ∧ (∀ i, i < N → sg_vt (tn i)) ∧ (∀ j, j < N → 0 ≤ sg_w tn j)
def sg_cp (tn : Nat → Nat) (N : Nat) : Prop := sg_ok tn N ∧ sg_w tn N = -1
/-- the term at p ends at e -/
def sg_S (tn : Nat → Nat) (N p e : Nat) : Prop := p < e ∧ e ≤ N ∧ sg_w tn e = sg_w tn p - 1 ∧ ∀ j, p < j → j < e → sg_w tn p ≤ sg_w tn j
section
variable {tn : Nat → Nat} {N p q a e i : Nat}
theorem sg_f_spec (hw : sg_w tn N < sg_w tn p) : ∀ d i, p < i → i ≤ N → N < i + d → (∀ j, p < j → j < i → sg_w tn p ≤ sg_w tn j) → i ≤ sg_f tn p d i ∧ sg_f tn p d i ≤ N ∧ sg_w tn (sg_f tn p d i) < sg_w tn p ∧ ∀ j, p < j → j < sg_f tn p d i → sg_w tn p ≤ sg_w tn j := by
  intro d
  induction d with
  | zero => intro i h1 h2 h3; omega
  | succ d ih =>
    intro i h1 h2 h3 h4
    unfold sg_f
    by_cases hc : sg_w tn i < sg_w tn p
    · rw [if_pos hc]; exact ⟨Nat.le_refl _, h2, hc, h4⟩
    · rw [if_neg hc]
      have hi : i ≠ N := fun e => hc (e ▸ hw)
      have h5 := ih (i + 1) (by omega) (by omega) (by omega) (fun j h6 h7 => by
        rcases Nat.lt_or_ge j i with h8 | h8
        · exact h4 j h6 h8
        · have : j = i := by omega
          subst this; omega)
      exact ⟨by omega, h5.2⟩
theorem sg_free {e : Nat} (h : 0 < e) : sg_w tn (e - 1) - 1 ≤ sg_w tn e := by
  obtain ⟨m, rfl⟩ : ∃ m, e = m + 1 := ⟨e - 1, by omega⟩
  rw [sg_w_s, Nat.add_sub_cancel]
  omega
theorem sg_S_e (hc : sg_cp tn N) (hp : p < N) : sg_S tn N p (sg_e tn p) := by
  have hw : sg_w tn N < sg_w tn p := by have := hc.1.2.2 p hp; have := hc.2; omega
  have h := sg_f_spec hw 40 (p + 1) (by omega) (by omega) (by have := hc.1.1; omega) (fun j h1 h2 => by omega)
  have h1 : p < sg_e tn p := h.1
  refine ⟨h1, h.2.1, ?_, h.2.2.2⟩
  have h2 : sg_w tn (sg_e tn p) < sg_w tn p := h.2.2.1
  have h3 := sg_free (tn := tn) (e := sg_e tn p) (by omega)
  rcases Nat.lt_or_ge p (sg_e tn p - 1) with h4 | h4
  · have := h.2.2.2 (sg_e tn p - 1) h4 (show sg_e tn p - 1 < sg_e tn p by omega)
    omega
  · have : sg_e tn p - 1 = p := by omega
    rw [this] at h3
    omega
theorem sg_S_uniq {e e' : Nat} (h : sg_S tn N p e) (h' : sg_S tn N p e') : e = e' := by
  rcases Nat.lt_trichotomy e e' with h1 | h1 | h1
  · have := h'.2.2.2 e h.1 h1; have := h.2.2.1; omega
  · exact h1
  · have := h.2.2.2 e' h'.1 h1; have := h'.2.2.1; omega
theorem sg_e_of (hc : sg_cp tn N) (h : sg_S tn N p e) : sg_e tn p = e := sg_S_uniq (sg_S_e hc (by have := h.1; have := h.2.1; omega)) h
theorem sg_lam (hc : sg_cp tn N) (hp : p < N) (h1 : p ≤ q) (h2 : q < sg_e tn p) : sg_e tn q ≤ sg_e tn p := by
  have hP := sg_S_e hc hp
  have hq : q < N := by have := hP.2.1; omega
  have hQ := sg_S_e hc hq
  rcases Nat.eq_or_lt_of_le h1 with h3 | h3
  · rw [h3]; exact Nat.le_refl _
  · have h4 := hP.2.2.2 q h3 h2
    rcases Nat.lt_or_ge (sg_e tn p) (sg_e tn q) with h5 | h5
    · have := hQ.2.2.2 (sg_e tn p) h2 h5
      have := hP.2.2.1
      omega
    · exact h5
theorem sg_lt (hc : sg_cp tn N) (hp : p < N) : p < sg_e tn p := (sg_S_e hc hp).1
theorem sg_le (hc : sg_cp tn N) (hp : p < N) : sg_e tn p ≤ N := (sg_S_e hc hp).2.1
theorem sg_p1 (hc : sg_cp tn N) (hp : p < N) (h : 1 ≤ sg_pt (tn p)) : p + 1 < N := by
  have h1 := hc.1.2.2 p hp
  have h2 := sg_w_s tn p
  rcases Nat.lt_or_ge (p + 1) N with h3 | h3
  · exact h3
  · have : p + 1 = N := by omega
    rw [this] at h2; have := hc.2; omega
theorem sg_p2 (hc : sg_cp tn N) (hp : p < N) (h : 2 ≤ sg_pt (tn p)) : sg_e tn (p + 1) < N := by
  have h0 := sg_p1 hc hp (by omega)
  have h1 := hc.1.2.2 p hp
  have h2 := sg_w_s tn p
  have h3 := sg_S_e hc h0
  rcases Nat.lt_or_ge (sg_e tn (p + 1)) N with h4 | h4
  · exact h4
  · have h5 : sg_e tn (p + 1) = N := by have := h3.2.1; omega
    have h6 := h3.2.2.1
    rw [h5] at h6; have := hc.2; omega
theorem sg_p3 (hc : sg_cp tn N) (hp : p < N) (h : 3 ≤ sg_pt (tn p)) : sg_e tn (sg_e tn (p + 1)) < N := by
  have h0 := sg_p1 hc hp (by omega)
  have h00 := sg_p2 hc hp (by omega)
  have h1 := hc.1.2.2 p hp
  have h2 := sg_w_s tn p
  have h3 := sg_S_e hc h0
  have h7 := sg_S_e hc h00
  rcases Nat.lt_or_ge (sg_e tn (sg_e tn (p + 1))) N with h4 | h4
  · exact h4
  · have h5 : sg_e tn (sg_e tn (p + 1)) = N := by have := h7.2.1; omega
    have h6 := h3.2.2.1
    have h8 := h7.2.2.1
    rw [h5] at h8; have := hc.2; omega
theorem sg_e0 (hc : sg_cp tn N) (hp : p < N) (h : sg_pt (tn p) = 0) : sg_e tn p = p + 1 := by
  apply sg_e_of hc
  have h2 := sg_w_s tn p
  exact ⟨by omega, by omega, by omega, fun j h1 h2 => by omega⟩
theorem sg_e1 (hc : sg_cp tn N) (hp : p < N) (h : sg_pt (tn p) = 1) : sg_e tn p = sg_e tn (p + 1) := by
  apply sg_e_of hc
  have h2 := sg_w_s tn p
  have h3 := sg_S_e hc (sg_p1 hc hp (by omega))
  have h4 := h3.1; have h5 := h3.2.1; have h6 := h3.2.2.1
  refine ⟨by omega, by omega, by omega, fun j h7 h8 => ?_⟩
  rcases Nat.eq_or_lt_of_le h7 with h9 | h9
  · rw [← h9]; show sg_w tn p ≤ sg_w tn (p + 1); omega
  · have := h3.2.2.2 j h9 h8; omega
theorem sg_e2 (hc : sg_cp tn N) (hp : p < N) (h : sg_pt (tn p) = 2) : sg_e tn p = sg_e tn (sg_e tn (p + 1)) := by
  apply sg_e_of hc
  have h2 := sg_w_s tn p
  have h3 := sg_S_e hc (sg_p1 hc hp (by omega))
  have k3 := sg_S_e hc (sg_p2 hc hp (by omega))
  have h4 := h3.1; have h5 := h3.2.1; have h6 := h3.2.2.1
  have k4 := k3.1; have k5 := k3.2.1; have k6 := k3.2.2.1
  refine ⟨by omega, by omega, by omega, fun j h7 h8 => ?_⟩
  rcases Nat.lt_or_ge j (sg_e tn (p + 1)) with h9 | h9
  · rcases Nat.eq_or_lt_of_le h7 with h10 | h10
    · rw [← h10]; show sg_w tn p ≤ sg_w tn (p + 1); omega
    · have := h3.2.2.2 j h10 h9; omega
  · rcases Nat.eq_or_lt_of_le h9 with h10 | h10
    · rw [← h10]; omega
    · have := k3.2.2.2 j h10 h8; omega
theorem sg_e3 (hc : sg_cp tn N) (hp : p < N) (h : sg_pt (tn p) = 3) : sg_e tn p = sg_e tn (sg_e tn (sg_e tn (p + 1))) := by
  apply sg_e_of hc
  have h2 := sg_w_s tn p
  have h3 := sg_S_e hc (sg_p1 hc hp (by omega))
  have k3 := sg_S_e hc (sg_p2 hc hp (by omega))
  have l3 := sg_S_e hc (sg_p3 hc hp (by omega))
  have h4 := h3.1; have h5 := h3.2.1; have h6 := h3.2.2.1
  have k4 := k3.1; have k5 := k3.2.1; have k6 := k3.2.2.1
  have l4 := l3.1; have l5 := l3.2.1; have l6 := l3.2.2.1
  refine ⟨by omega, by omega, by omega, fun j h7 h8 => ?_⟩
  rcases Nat.lt_or_ge j (sg_e tn (p + 1)) with h9 | h9
  · rcases Nat.eq_or_lt_of_le h7 with h10 | h10
    · rw [← h10]; show sg_w tn p ≤ sg_w tn (p + 1); omega
    · have := h3.2.2.2 j h10 h9; omega
  · rcases Nat.lt_or_ge j (sg_e tn (sg_e tn (p + 1))) with h11 | h11
    · rcases Nat.eq_or_lt_of_le h9 with h10 | h10
      · rw [← h10]; omega
      · have := k3.2.2.2 j h10 h11; omega
    · rcases Nat.eq_or_lt_of_le h11 with h10 | h10
      · rw [← h10]; omega
      · have := l3.2.2.2 j h10 h8; omega
theorem sg_pt3 (t : Nat) : sg_pt t ≤ 3 := by
  unfold sg_pt
  repeat' split
  all_goals omega
theorem sg_e_0 (hc : sg_cp tn N) : sg_e tn 0 = N ∧ 0 < N := by
  have h0 : 0 < N := by
    rcases Nat.eq_zero_or_pos N with h | h
    · have h2 := hc.2; rw [h] at h2; exact absurd (show (0 : Int) = -1 from h2) (by decide)
    · exact h
  refine ⟨sg_e_of hc ⟨h0, Nat.le_refl _, by have := hc.2; show sg_w tn N = 0 - 1; omega, fun j _ h2 => hc.1.2.2 j h2⟩, h0⟩
theorem sg_max (tn : Nat → Nat) (i : Nat) : ∀ k, (∃ p, p < k ∧ i < sg_e tn p) → ∃ p, p < k ∧ i < sg_e tn p ∧ ∀ p', p < p' → p' < k → ¬ i < sg_e tn p' := by
  intro k
  induction k with
  | zero => rintro ⟨p, hp, _⟩; omega
  | succ k ih =>
    rintro ⟨p, hp, h⟩
    by_cases hk : i < sg_e tn k
    · exact ⟨k, by omega, hk, fun p' h1 h2 => by omega⟩
    · have hpk : p ≠ k := fun e => hk (e ▸ h)
      obtain ⟨p2, h1, h2, h3⟩ := ih ⟨p, by omega, h⟩
      refine ⟨p2, by omega, h2, fun p' h4 h5 => ?_⟩
      rcases Nat.lt_or_ge p' k with h6 | h6
      · exact h3 p' h4 h6
      · have : p' = k := by omega
        rw [this]; exact hk
/-- every token but the first is a part of an earlier one -/
theorem sg_par (hc : sg_cp tn N) (h0 : 0 < i) (hi : i < N) : ∃ p, p < i ∧ ((i = p + 1 ∧ 1 ≤ sg_pt (tn p)) ∨ (i = sg_e tn (p + 1) ∧ 2 ≤ sg_pt (tn p)) ∨ (i = sg_e tn (sg_e tn (p + 1)) ∧ 3 ≤ sg_pt (tn p))) := by
  obtain ⟨p, h1, h2, h3⟩ := sg_max tn i i ⟨0, h0, by rw [(sg_e_0 hc).1]; exact hi⟩
  have hp : p < N := by omega
  refine ⟨p, h1, ?_⟩
  have h4 := sg_pt3 (tn p)
  rcases Nat.eq_zero_or_pos (sg_pt (tn p)) with h5 | h5
  · rw [sg_e0 hc hp h5] at h2; omega
  rcases Nat.eq_or_lt_of_le (show p + 1 ≤ i from h1) with h6 | h6
  · exact Or.inl ⟨h6.symm, h5⟩
  have h7 := h3 (p + 1) (by omega) h6
  rcases Nat.eq_or_lt_of_le (show 1 ≤ sg_pt (tn p) from h5) with h8 | h8
  · rw [sg_e1 hc hp h8.symm] at h2; omega
  rcases Nat.eq_or_lt_of_le (show sg_e tn (p + 1) ≤ i by omega) with h9 | h9
  · exact Or.inr (Or.inl ⟨h9.symm, h8⟩)
  have h10 := sg_lt hc (sg_p1 hc hp h5)
  have h11 := h3 _ (show p < sg_e tn (p + 1) by omega) h9
  rcases Nat.eq_or_lt_of_le (show 2 ≤ sg_pt (tn p) from h8) with h12 | h12
  · rw [sg_e2 hc hp h12.symm] at h2; omega
  rcases Nat.eq_or_lt_of_le (show sg_e tn (sg_e tn (p + 1)) ≤ i by omega) with h13 | h13
  · exact Or.inr (Or.inr ⟨h13.symm, h12⟩)
  have h14 := sg_lt hc (sg_p2 hc hp h8)
  have h15 := h3 _ (show p < sg_e tn (sg_e tn (p + 1)) by omega) h13
  rw [sg_e3 hc hp (by omega)] at h2; omega
end
/-- the token at p gives its name a value at place q -/
def sg_c (tn : Nat → Nat) (p q : Nat) : Prop := (60 ≤ tn p ∧ tn p < 66 ∧ sg_e tn (p + 1) ≤ q ∧ q < sg_e tn p) ∨ (((40 ≤ tn p ∧ tn p < 46) ∨ (70 ≤ tn p ∧ tn p < 76)) ∧ p < q ∧ q < sg_e tn p)
noncomputable def sg_l (tn : Nat → Nat) : Nat → Nat → List Nat
  | 0, _ => []
  | k + 1, q => haveI := Classical.propDecidable (sg_c tn k q); if sg_c tn k q then (tn k % 10) :: sg_l tn k q else sg_l tn k q
/-- the names around place q, the innermost first -/
noncomputable def sg_s (tn : Nat → Nat) (q : Nat) : List Nat := sg_l tn q q
section
variable {tn : Nat → Nat} {N p q a e i : Nat}
theorem sg_l_t {k : Nat} (h : sg_c tn k q) : sg_l tn (k + 1) q = (tn k % 10) :: sg_l tn k q := by
  show (haveI := Classical.propDecidable (sg_c tn k q); if sg_c tn k q then (tn k % 10) :: sg_l tn k q else sg_l tn k q) = _
  exact if_pos h
theorem sg_l_f {k : Nat} (h : ¬ sg_c tn k q) : sg_l tn (k + 1) q = sg_l tn k q := by
  show (haveI := Classical.propDecidable (sg_c tn k q); if sg_c tn k q then (tn k % 10) :: sg_l tn k q else sg_l tn k q) = _
  exact if_neg h
theorem sg_l_eq {q' : Nat} : ∀ k, (∀ j, j < k → (sg_c tn j q ↔ sg_c tn j q')) → sg_l tn k q = sg_l tn k q' := by
  intro k
  induction k with
  | zero => intro _; rfl
  | succ k ih =>
    intro h
    have h1 := ih (fun j hj => h j (by omega))
    have h2 := h k (by omega)
    by_cases hk : sg_c tn k q
    · rw [sg_l_t hk, sg_l_t (h2.mp hk), h1]
    · rw [sg_l_f hk, sg_l_f (fun z => hk (h2.mpr z)), h1]
theorem sg_l_skip {k : Nat} : ∀ d, (∀ j, k ≤ j → j < k + d → ¬ sg_c tn j q) → sg_l tn (k + d) q = sg_l tn k q := by
  intro d
  induction d with
  | zero => intro _; rfl
  | succ d ih =>
    intro h
    rw [show k + (d + 1) = (k + d) + 1 from rfl, sg_l_f (h (k + d) (by omega) (by omega)), ih (fun j h1 h2 => h j h1 (by omega))]
theorem sg_l_skip' {k m : Nat} (hkm : k ≤ m) (h : ∀ j, k ≤ j → j < m → ¬ sg_c tn j q) : sg_l tn m q = sg_l tn k q := by
  obtain ⟨d, rfl⟩ : ∃ d, m = k + d := ⟨m - k, by omega⟩
  exact sg_l_skip d h
theorem sg_c_end {j : Nat} (h : sg_e tn j ≤ q) : ¬ sg_c tn j q := by
  rintro (⟨_, _, _, h1⟩ | ⟨_, _, h1⟩) <;> omega
theorem sg_c_in (hc : sg_cp tn N) (hp : p < N) (h1 : p < a) (h2 : a < sg_e tn p) {j : Nat} (hj : j < p) : sg_c tn j p ↔ sg_c tn j a := by
  have hjN : j < N := by omega
  have hjl := sg_lt hc hjN
  have hA : p < sg_e tn j ↔ a < sg_e tn j := by
    constructor
    · intro h; have := sg_lam hc hjN (Nat.le_of_lt hj) h; omega
    · intro h; omega
  have hB : 60 ≤ tn j → tn j < 66 → (sg_e tn (j + 1) ≤ p ↔ sg_e tn (j + 1) ≤ a) := by
    intro _ _
    constructor
    · intro h; omega
    · intro h
      rcases Nat.lt_or_ge p (sg_e tn (j + 1)) with h3 | h3
      · have := sg_lam hc (show j + 1 < N by omega) (show j + 1 ≤ p from hj) h3; omega
      · exact h3
  unfold sg_c
  constructor
  · rintro (⟨h3, h4, h5, h6⟩ | ⟨h3, h4, h5⟩)
    · exact Or.inl ⟨h3, h4, (hB h3 h4).mp h5, hA.mp h6⟩
    · exact Or.inr ⟨h3, by omega, hA.mp h5⟩
  · rintro (⟨h3, h4, h5, h6⟩ | ⟨h3, h4, h5⟩)
    · exact Or.inl ⟨h3, h4, (hB h3 h4).mpr h5, hA.mpr h6⟩
    · exact Or.inr ⟨h3, by omega, hA.mpr h5⟩
theorem sg_s_part (hc : sg_cp tn N) (hp : p < N) (h1 : p < a) (h2 : a < sg_e tn p) (h3 : ∀ j, p < j → j < a → sg_e tn j ≤ a) : (sg_c tn p a → sg_s tn a = (tn p % 10) :: sg_s tn p) ∧ (¬ sg_c tn p a → sg_s tn a = sg_s tn p) := by
  have e1 : sg_s tn a = sg_l tn (p + 1) a := sg_l_skip' (show p + 1 ≤ a from h1) (fun j h4 h5 => sg_c_end (h3 j h4 h5))
  have e2 : sg_l tn p a = sg_s tn p := (sg_l_eq p (fun j hj => sg_c_in hc hp h1 h2 hj)).symm
  constructor
  · intro h; rw [e1, sg_l_t h, e2]
  · intro h; rw [e1, sg_l_f h, e2]
/-- where the parts lie -/
theorem sg_in1 (hc : sg_cp tn N) (hp : p < N) (h : 1 ≤ sg_pt (tn p)) : p < p + 1 ∧ p + 1 < sg_e tn p ∧ ∀ j, p < j → j < p + 1 → sg_e tn j ≤ p + 1 := by
  refine ⟨by omega, ?_, fun j h1 h2 => by omega⟩
  have h1 := sg_lt hc (sg_p1 hc hp h)
  have h4 := sg_pt3 (tn p)
  rcases (by omega : sg_pt (tn p) = 1 ∨ sg_pt (tn p) = 2 ∨ sg_pt (tn p) = 3) with h5 | h5 | h5
  · rw [sg_e1 hc hp h5]; exact h1
  · rw [sg_e2 hc hp h5]; have := sg_lt hc (sg_p2 hc hp (by omega)); omega
  · rw [sg_e3 hc hp h5]; have := sg_lt hc (sg_p2 hc hp (by omega)); have := sg_lt hc (sg_p3 hc hp (by omega)); omega
theorem sg_in2 (hc : sg_cp tn N) (hp : p < N) (h : 2 ≤ sg_pt (tn p)) : p < sg_e tn (p + 1) ∧ sg_e tn (p + 1) < sg_e tn p ∧ ∀ j, p < j → j < sg_e tn (p + 1) → sg_e tn j ≤ sg_e tn (p + 1) := by
  have h1 := sg_lt hc (sg_p1 hc hp (by omega))
  refine ⟨by omega, ?_, fun j h1 h2 => sg_lam hc (sg_p1 hc hp (by omega)) h1 h2⟩
  have h4 := sg_pt3 (tn p)
  rcases (by omega : sg_pt (tn p) = 2 ∨ sg_pt (tn p) = 3) with h5 | h5
  · rw [sg_e2 hc hp h5]; exact sg_lt hc (sg_p2 hc hp (by omega))
  · rw [sg_e3 hc hp h5]; have := sg_lt hc (sg_p2 hc hp (by omega)); have := sg_lt hc (sg_p3 hc hp (by omega)); omega
theorem sg_in3 (hc : sg_cp tn N) (hp : p < N) (h : 3 ≤ sg_pt (tn p)) : p < sg_e tn (sg_e tn (p + 1)) ∧ sg_e tn (sg_e tn (p + 1)) < sg_e tn p ∧ ∀ j, p < j → j < sg_e tn (sg_e tn (p + 1)) → sg_e tn j ≤ sg_e tn (sg_e tn (p + 1)) := by
  have h1 := sg_lt hc (sg_p1 hc hp (by omega))
  have h2 := sg_lt hc (sg_p2 hc hp (by omega))
  refine ⟨by omega, ?_, fun j h5 h6 => ?_⟩
  · have h4 := sg_pt3 (tn p)
    rw [sg_e3 hc hp (by omega)]; exact sg_lt hc (sg_p3 hc hp (by omega))
  · rcases Nat.lt_or_ge j (sg_e tn (p + 1)) with h7 | h7
    · have := sg_lam hc (sg_p1 hc hp (by omega)) h5 h7; omega
    · exact sg_lam hc (sg_p2 hc hp (by omega)) h7 h6
theorem sg_s_0 : sg_s tn 0 = [] := rfl
/-- the scopes of the parts -/
theorem sg_s1b (hc : sg_cp tn N) (hp : p < N) (h : (40 ≤ tn p ∧ tn p < 46) ∨ (70 ≤ tn p ∧ tn p < 76)) (h1 : 1 ≤ sg_pt (tn p)) : sg_s tn (p + 1) = (tn p % 10) :: sg_s tn p := by
  have h2 := sg_in1 hc hp h1
  exact (sg_s_part hc hp h2.1 h2.2.1 h2.2.2).1 (Or.inr ⟨h, h2.1, h2.2.1⟩)
theorem sg_s1n (hc : sg_cp tn N) (hp : p < N) (h : ¬ ((40 ≤ tn p ∧ tn p < 46) ∨ (70 ≤ tn p ∧ tn p < 76))) (h1 : 1 ≤ sg_pt (tn p)) : sg_s tn (p + 1) = sg_s tn p := by
  have h2 := sg_in1 hc hp h1
  have h5 := sg_lt hc (sg_p1 hc hp h1)
  refine (sg_s_part hc hp h2.1 h2.2.1 h2.2.2).2 ?_
  rintro (⟨_, _, h3, _⟩ | ⟨h3, _⟩)
  · omega
  · exact h h3
theorem sg_s2b (hc : sg_cp tn N) (hp : p < N) (h : 60 ≤ tn p ∧ tn p < 66) (h1 : 2 ≤ sg_pt (tn p)) : sg_s tn (sg_e tn (p + 1)) = (tn p % 10) :: sg_s tn p := by
  have h2 := sg_in2 hc hp h1
  exact (sg_s_part hc hp h2.1 h2.2.1 h2.2.2).1 (Or.inl ⟨h.1, h.2, Nat.le_refl _, h2.2.1⟩)
theorem sg_s2n (hc : sg_cp tn N) (hp : p < N) (h : 46 ≤ tn p ∧ tn p < 60) (h1 : 2 ≤ sg_pt (tn p)) : sg_s tn (sg_e tn (p + 1)) = sg_s tn p := by
  have h2 := sg_in2 hc hp h1
  refine (sg_s_part hc hp h2.1 h2.2.1 h2.2.2).2 ?_
  rintro (⟨h3, _⟩ | ⟨h3, _⟩) <;> omega
theorem sg_s3n (hc : sg_cp tn N) (hp : p < N) (h : 46 ≤ tn p ∧ tn p < 60) (h1 : 3 ≤ sg_pt (tn p)) : sg_s tn (sg_e tn (sg_e tn (p + 1))) = sg_s tn p := by
  have h2 := sg_in3 hc hp h1
  refine (sg_s_part hc hp h2.1 h2.2.1 h2.2.2).2 ?_
  rintro (⟨h3, _⟩ | ⟨h3, _⟩) <;> omega
/-- a name is around q iff some token gives it there -/
theorem sg_mem {x : Nat} : ∀ k, x ∈ sg_l tn k q ↔ ∃ p, p < k ∧ sg_c tn p q ∧ tn p % 10 = x := by
  intro k
  induction k with
  | zero => exact ⟨fun h => absurd h (by intro h; cases h), fun ⟨p, h, _⟩ => absurd h (by omega)⟩
  | succ k ih =>
    by_cases hk : sg_c tn k q
    · rw [sg_l_t hk, List.mem_cons, ih]
      constructor
      · rintro (h | ⟨p, h1, h2⟩)
        · exact ⟨k, by omega, hk, h.symm⟩
        · exact ⟨p, by omega, h2⟩
      · rintro ⟨p, h1, h2, h3⟩
        rcases Nat.lt_or_ge p k with h4 | h4
        · exact Or.inr ⟨p, h4, h2, h3⟩
        · have : p = k := by omega
          rw [this] at h3; exact Or.inl h3.symm
    · rw [sg_l_f hk, ih]
      constructor
      · rintro ⟨p, h1, h2⟩; exact ⟨p, by omega, h2⟩
      · rintro ⟨p, h1, h2, h3⟩
        rcases Nat.lt_or_ge p k with h4 | h4
        · exact ⟨p, h4, h2, h3⟩
        · have : p = k := by omega
          rw [this] at h2; exact absurd h2 hk
end
/-- the place of a name among those around -/
def sg_i (x : Nat) : List Nat → Nat
  | [] => 0
  | y :: l => if y = x then 0 else sg_i x l + 1
theorem sg_i_lt {x : Nat} : ∀ l : List Nat, x ∈ l ↔ sg_i x l < l.length := by
  intro l
  induction l with
  | nil => simp [sg_i]
  | cons y l ih =>
    unfold sg_i
    by_cases h : y = x
    · rw [if_pos h]; simp [h]
    · rw [if_neg h, List.mem_cons, ih, List.length_cons]
      constructor
      · rintro (h1 | h1)
        · exact absurd h1.symm h
        · omega
      · intro h1; exact Or.inr (by omega)
theorem sg_l_len {tn : Nat → Nat} {q : Nat} : ∀ k, (sg_l tn k q).length ≤ k := by
  intro k
  induction k with
  | zero => exact Nat.le_refl _
  | succ k ih =>
    by_cases hk : sg_c tn k q
    · rw [sg_l_t hk, List.length_cons]; omega
    · rw [sg_l_f hk]; omega
end
section
/-! the memory: things laid one behind another, each cell stands for something; moving them. No step of the machine in sight -/
abbrev hp_Z : Type := Nat × Nat × (Nat → Nat) × (Nat → Nat) × (Nat → Nat)
def hp_m (Z : hp_Z) : Nat := Z.1
def hp_t (Z : hp_Z) : Nat := Z.2.1
def hp_a (Z : hp_Z) : Nat → Nat := Z.2.2.1
def hp_k (Z : hp_Z) : Nat → Nat := Z.2.2.2.1
def hp_q (Z : hp_Z) : Nat → Nat := Z.2.2.2.2
/-- a thing of kind k and tag g lies at p -/
def hp_O (Z : hp_Z) (p k g : Nat) : Prop := ∃ j, j < hp_m Z ∧ hp_a Z j = p ∧ hp_k Z j = k ∧ hp_q Z j = g
abbrev hp_C : Type := Nat × Int64 × Nat × Int32
def hp_R (x : Int64) : hp_C := (0, x, 0, 0)
def hp_P (e : Nat) : hp_C := (1, 0, e, 0)
def hp_V (k : Nat) (v : Int32) : hp_C := (2, 0, k, v)
def hp_pr (O : Nat → Nat → Nat → Prop) (e : Nat) (x : Int64) : Prop := (e = 0 ∧ x = 0) ∨ (∃ p, O p 1 e ∧ x = lN p)
def hp_vr (O : Nat → Nat → Nat → Prop) (k : Nat) (v : Int32) (x : Int64) : Prop := (k = 0 ∧ x = 0) ∨ (k = 1 ∧ x = nb_vk 1 v) ∨ ((k = 2 ∨ k = 3) ∧ ∃ p g, O p k g ∧ v = nI g ∧ x = nb_vk k (nI p))
def hp_rp (O : Nat → Nat → Nat → Prop) (c : hp_C) (x : Int64) : Prop := (c.1 = 0 → x = c.2.1) ∧ (c.1 = 1 → hp_pr O c.2.2.1 x) ∧ (c.1 = 2 → hp_vr O c.2.2.1 c.2.2.2 x)
theorem hp_rR {O : Nat → Nat → Nat → Prop} {r x : Int64} : hp_rp O (hp_R r) x ↔ x = r :=
  ⟨fun h => h.1 rfl, fun h => ⟨fun _ => h, fun z => absurd (show (0 : Nat) = 1 from z) (by decide), fun z => absurd (show (0 : Nat) = 2 from z) (by decide)⟩⟩
theorem hp_rP {O : Nat → Nat → Nat → Prop} {e : Nat} {x : Int64} : hp_rp O (hp_P e) x ↔ hp_pr O e x :=
  ⟨fun h => h.2.1 rfl, fun h => ⟨fun z => absurd (show (1 : Nat) = 0 from z) (by decide), fun _ => h, fun z => absurd (show (1 : Nat) = 2 from z) (by decide)⟩⟩
theorem hp_rV {O : Nat → Nat → Nat → Prop} {k : Nat} {v : Int32} {x : Int64} : hp_rp O (hp_V k v) x ↔ hp_vr O k v x :=
  ⟨fun h => h.2.2 rfl, fun h => ⟨fun z => absurd (show (2 : Nat) = 0 from z) (by decide), fun z => absurd (show (2 : Nat) = 1 from z) (by decide), fun _ => h⟩⟩
theorem hp_pr_m {O O2 : Nat → Nat → Nat → Prop} (h : ∀ p k g, O p k g → O2 p k g) {e : Nat} {x : Int64} (H : hp_pr O e x) : hp_pr O2 e x := by
  rcases H with H | ⟨p, h1, h2⟩
  · exact Or.inl H
  · exact Or.inr ⟨p, h _ _ _ h1, h2⟩
theorem hp_vr_m {O O2 : Nat → Nat → Nat → Prop} (h : ∀ p k g, O p k g → O2 p k g) {k : Nat} {v : Int32} {x : Int64} (H : hp_vr O k v x) : hp_vr O2 k v x := by
  rcases H with H | H | ⟨h0, p, g, h1, h2⟩
  · exact Or.inl H
  · exact Or.inr (Or.inl H)
  · exact Or.inr (Or.inr ⟨h0, p, g, h _ _ _ h1, h2⟩)
theorem hp_rp_m {O O2 : Nat → Nat → Nat → Prop} (h : ∀ p k g, O p k g → O2 p k g) {c : hp_C} {x : Int64} (H : hp_rp O c x) : hp_rp O2 c x :=
  ⟨H.1, fun z => hp_pr_m h (H.2.1 z), fun z => hp_vr_m h (H.2.2 z)⟩
/-- how things are laid out -/
def hp_L (ac : Nat → Nat → Nat → hp_C) (sz : Nat → Nat → Nat) (tg : Nat → Nat → Prop) : Prop :=
  (∀ k g, ac k g 0 = hp_R (lN (sz k g * 256 + k))) ∧
  (∀ g, sz 1 g = 3 ∧ (∃ kk v, ac 1 g 1 = hp_V kk v) ∧ (∃ e, ac 1 g 2 = hp_P e)) ∧
  (∀ g, sz 2 g = 3 ∧ (∃ r, ac 2 g 1 = hp_R r) ∧ (∃ e, ac 2 g 2 = hp_P e)) ∧
  (∀ g, ∃ n, n ≤ 15 ∧ sz 3 g = 2 + 3 * n ∧ ac 3 g 1 = hp_R (lN n) ∧ ∀ j, j < n → (∃ r, ac 3 g (2 + 3 * j) = hp_R r) ∧ (∃ e, ac 3 g (3 + 3 * j) = hp_P e) ∧ (∃ kk v, ac 3 g (4 + 3 * j) = hp_V kk v)) ∧
  (∀ k g, tg k g → k = 1 ∨ k = 2 ∨ k = 3)
def hp_T (sz : Nat → Nat → Nat) (tg : Nat → Nat → Prop) (b : Nat) (Z : hp_Z) : Prop :=
  hp_a Z 0 = b ∧ hp_a Z (hp_m Z) = hp_t Z ∧ (∀ j, j < hp_m Z → hp_a Z (j + 1) = hp_a Z j + sz (hp_k Z j) (hp_q Z j)) ∧ (∀ j, j < hp_m Z → tg (hp_k Z j) (hp_q Z j))
/-- a memory in order -/
def hp_H (ac : Nat → Nat → Nat → hp_C) (sz : Nat → Nat → Nat) (tg : Nat → Nat → Prop) (b : Nat) (Z : hp_Z) (mem : Nat → Int64) : Prop :=
  hp_T sz tg b Z ∧ ∀ j, j < hp_m Z → ∀ x, x < sz (hp_k Z j) (hp_q Z j) → hp_rp (hp_O Z) (ac (hp_k Z j) (hp_q Z j) x) (mem (hp_a Z j + x))
def hp_g (s fw : Nat → Nat) : Nat → Nat
  | 0 => 0
  | j + 1 => hp_g s fw j + (if fw j = 0 then 0 else s j)
/-- in the midst of moving: F from b on, Z from b' on, all below B mended; fw: where a thing went (plus one) -/
def hp_G (ac : Nat → Nat → Nat → hp_C) (sz : Nat → Nat → Nat) (tg : Nat → Nat → Prop) (b : Nat) (F : hp_Z) (b' : Nat) (Z : hp_Z) (B : Nat) (fw : Nat → Nat) (mem : Nat → Int64) : Prop :=
  hp_T sz tg b F ∧ hp_T sz tg b' Z ∧ ((hp_t F ≤ b' ∨ b' + (hp_t F - b) ≤ b) ∧ 1 ≤ b ∧ 1 ≤ b' ∧ hp_t F ≤ 116000 ∧ b' + (hp_t F - b) ≤ 116000) ∧ B ≤ hp_t Z ∧
  hp_t Z = b' + hp_g (fun j => sz (hp_k F j) (hp_q F j)) fw (hp_m F) ∧
  (∀ j, j < hp_m F → fw j = 0 → ∀ x, x < sz (hp_k F j) (hp_q F j) → hp_rp (hp_O F) (ac (hp_k F j) (hp_q F j) x) (mem (hp_a F j + x))) ∧
  (∀ j i, j < hp_m F → fw j = i + 1 → i < hp_m Z ∧ hp_k Z i = hp_k F j ∧ hp_q Z i = hp_q F j ∧ mem (hp_a F j) = -(lN (hp_a Z i))) ∧
  (∀ i, i < hp_m Z → ∀ x, x < sz (hp_k Z i) (hp_q Z i) → (hp_a Z i + x < B → hp_rp (hp_O Z) (ac (hp_k Z i) (hp_q Z i) x) (mem (hp_a Z i + x))) ∧ (B ≤ hp_a Z i + x → hp_rp (hp_O F) (ac (hp_k Z i) (hp_q Z i) x) (mem (hp_a Z i + x))))
/-- Z2 holds Z's things and more -/
def hp_X (Z Z2 : hp_Z) : Prop := hp_m Z ≤ hp_m Z2 ∧ (∀ i, i ≤ hp_m Z → hp_a Z2 i = hp_a Z i) ∧ (∀ i, i < hp_m Z → hp_k Z2 i = hp_k Z i ∧ hp_q Z2 i = hp_q Z i)
theorem hp_X_r (Z : hp_Z) : hp_X Z Z := ⟨Nat.le_refl _, fun _ _ => rfl, fun _ _ => ⟨rfl, rfl⟩⟩
theorem hp_X_t {Z Z2 Z3 : hp_Z} (h : hp_X Z Z2) (h2 : hp_X Z2 Z3) : hp_X Z Z3 :=
  ⟨Nat.le_trans h.1 h2.1, fun i hi => (h2.2.1 i (Nat.le_trans hi h.1)).trans (h.2.1 i hi), fun i hi => ⟨(h2.2.2 i (Nat.lt_of_lt_of_le hi h.1)).1.trans (h.2.2 i hi).1, (h2.2.2 i (Nat.lt_of_lt_of_le hi h.1)).2.trans (h.2.2 i hi).2⟩⟩
theorem hp_X_O {Z Z2 : hp_Z} (h : hp_X Z Z2) : ∀ p k g, hp_O Z p k g → hp_O Z2 p k g := by
  rintro p k g ⟨j, hj, h1, h2, h3⟩
  exact ⟨j, Nat.lt_of_lt_of_le hj h.1, (h.2.1 j (Nat.le_of_lt hj)).trans h1, (h.2.2 j hj).1.trans h2, (h.2.2 j hj).2.trans h3⟩
section
variable {ac : Nat → Nat → Nat → hp_C} {sz : Nat → Nat → Nat} {tg : Nat → Nat → Prop} {b b' B i j x y k g p : Nat} {F Z : hp_Z} {fw : Nat → Nat} {mem : Nat → Int64}
theorem hp_L_sz (L : hp_L ac sz tg) (hk : tg k g) : 2 ≤ sz k g ∧ sz k g ≤ 47 ∧ 1 ≤ k ∧ k ≤ 3 := by
  rcases L.2.2.2.2 k g hk with rfl | rfl | rfl
  · have := (L.2.1 g).1; omega
  · have := (L.2.2.1 g).1; omega
  · obtain ⟨n, h1, h2, _⟩ := L.2.2.2.1 g; omega
theorem hp_T_le (T : hp_T sz tg b Z) : ∀ d i, i + d ≤ hp_m Z → hp_a Z i ≤ hp_a Z (i + d) := by
  intro d
  induction d with
  | zero => intro i _; exact Nat.le_refl _
  | succ d ih =>
    intro i hi
    have h1 := ih i (by omega)
    have h2 := T.2.2.1 (i + d) (by omega)
    rw [show i + (d + 1) = (i + d) + 1 from rfl, h2]
    omega
theorem hp_T_lt (T : hp_T sz tg b Z) (h : i < j) (hj : j ≤ hp_m Z) : hp_a Z i + sz (hp_k Z i) (hp_q Z i) ≤ hp_a Z j := by
  have h1 := T.2.2.1 i (by omega)
  have h2 := hp_T_le T (j - (i + 1)) (i + 1) (by omega)
  rw [show i + 1 + (j - (i + 1)) = j from by omega] at h2
  omega
theorem hp_T_in (T : hp_T sz tg b Z) (hj : j < hp_m Z) : b ≤ hp_a Z j ∧ hp_a Z j + sz (hp_k Z j) (hp_q Z j) ≤ hp_t Z := by
  have h1 := hp_T_lt T hj (Nat.le_refl _)
  have h2 := hp_T_le T j 0 (by omega)
  rw [Nat.zero_add, T.1] at h2
  rw [T.2.1] at h1
  exact ⟨h2, h1⟩
theorem hp_T_b (T : hp_T sz tg b Z) : b ≤ hp_t Z := by
  have h2 := hp_T_le T (hp_m Z) 0 (by omega)
  rw [Nat.zero_add, T.1, T.2.1] at h2
  exact h2
theorem hp_T_one (T : hp_T sz tg b Z) (hi : i < hp_m Z) (hj : j < hp_m Z) (hx : x < sz (hp_k Z i) (hp_q Z i)) (hy : y < sz (hp_k Z j) (hp_q Z j)) (e : hp_a Z i + x = hp_a Z j + y) : i = j ∧ x = y := by
  rcases Nat.lt_trichotomy i j with h | h | h
  · have := hp_T_lt T h (Nat.le_of_lt hj); omega
  · subst h; exact ⟨rfl, by omega⟩
  · have := hp_T_lt T h (Nat.le_of_lt hi); omega
theorem hp_g_le (T : hp_T sz tg b F) : ∀ j, j ≤ hp_m F → b + hp_g (fun j => sz (hp_k F j) (hp_q F j)) fw j ≤ hp_a F j := by
  intro j
  induction j with
  | zero => intro _; rw [T.1]; exact Nat.le_refl _
  | succ j ih =>
    intro h
    have h1 := ih (by omega)
    have h2 := T.2.2.1 j (by omega)
    rw [h2]
    show b + (hp_g (fun j => sz (hp_k F j) (hp_q F j)) fw j + (if fw j = 0 then 0 else sz (hp_k F j) (hp_q F j))) ≤ _
    split <;> omega
theorem hp_g_up {s : Nat → Nat} {j0 v : Nat} (h0 : fw j0 = 0) (hv : v ≠ 0) : ∀ m, hp_g s (fun j => if j = j0 then v else fw j) m = hp_g s fw m + (if j0 < m then s j0 else 0) := by
  intro m
  induction m with
  | zero => rfl
  | succ m ih =>
    show hp_g s (fun j => if j = j0 then v else fw j) m + (if (if m = j0 then v else fw m) = 0 then 0 else s m) = hp_g s fw m + (if fw m = 0 then 0 else s m) + _
    rw [ih]
    by_cases h1 : m = j0
    · subst h1
      rw [if_pos rfl, if_neg hv, if_pos h0, if_neg (Nat.lt_irrefl _), if_pos (Nat.lt_succ_self _)]
    · rw [if_neg h1]
      by_cases h2 : j0 < m
      · rw [if_pos h2, if_pos (show j0 < m + 1 by omega)]; omega
      · rw [if_neg h2, if_neg (show ¬ j0 < m + 1 by omega)]; omega
theorem hp_G_t (G : hp_G ac sz tg b F b' Z B fw mem) : hp_t Z ≤ b' + (hp_t F - b) ∧ b ≤ hp_t F := by
  obtain ⟨T, T2, hb, hB, hg, h1, h2, h3⟩ := G
  have h4 := hp_g_le (fw := fw) T (hp_m F) (Nat.le_refl _)
  rw [T.2.1] at h4
  omega
theorem hp_G_room (G : hp_G ac sz tg b F b' Z B fw mem) (hj : j < hp_m F) (h0 : fw j = 0) : hp_t Z + sz (hp_k F j) (hp_q F j) ≤ b' + (hp_t F - b) := by
  obtain ⟨T, T2, hb, hB, hg, h1, h2, h3⟩ := G
  have h4 := hp_g_le (fw := fun i => if i = j then 1 else fw i) T (hp_m F) (Nat.le_refl _)
  rw [hp_g_up h0 (by decide), if_pos hj, T.2.1] at h4
  omega
/-- a cell at the border is mended -/
theorem hp_G_wr (L : hp_L ac sz tg) (G : hp_G ac sz tg b F b' Z B fw mem) (hi : i < hp_m Z) (hx : x < sz (hp_k Z i) (hp_q Z i)) (hB : hp_a Z i + x = B) {v : Int64} (hv : hp_rp (hp_O Z) (ac (hp_k Z i) (hp_q Z i) x) v) : hp_G ac sz tg b F b' Z (B + 1) fw (vp_updL mem B v) := by
  have hT := hp_G_t G
  obtain ⟨T, T2, hb, hB2, hg, h1, h2, h3⟩ := G
  have hI := hp_T_in T2 hi
  have hd : ∀ j, j < hp_m F → ∀ z, z < sz (hp_k F j) (hp_q F j) → hp_a F j + z ≠ B := by
    intro j hj z hz
    have := hp_T_in T hj
    omega
  refine ⟨T, T2, hb, by omega, hg, fun j hj h0 z hz => ?_, fun j i hj h0 => ?_, fun i' hi' z hz => ?_⟩
  · rw [pk_uLn (hd j hj z hz)]; exact h1 j hj h0 z hz
  · obtain ⟨a1, a2, a3, a4⟩ := h2 j i hj h0
    have hlt := hp_T_in T hj
    have hsz := hp_L_sz L (T.2.2.2 j hj)
    refine ⟨a1, a2, a3, ?_⟩
    rw [pk_uLn (show hp_a F j ≠ B by omega)]
    exact a4
  · by_cases hz2 : hp_a Z i' + z = B
    · obtain ⟨rfl, rfl⟩ := hp_T_one T2 hi' hi hz hx (hz2.trans hB.symm)
      rw [hz2, pk_uLs]
      exact ⟨fun _ => hv, fun h => by omega⟩
    · rw [pk_uLn hz2]
      have := h3 i' hi' z hz
      exact ⟨fun h => this.1 (by omega), fun h => this.2 (by omega)⟩
theorem hp_G_sk (G : hp_G ac sz tg b F b' Z B fw mem) (hi : i < hp_m Z) (hx : x < sz (hp_k Z i) (hp_q Z i)) (hB : hp_a Z i + x = B) {r : Int64} (hr : ac (hp_k Z i) (hp_q Z i) x = hp_R r) : hp_G ac sz tg b F b' Z (B + 1) fw mem := by
  obtain ⟨T, T2, hb, hB2, hg, h1, h2, h3⟩ := G
  have hI := hp_T_in T2 hi
  refine ⟨T, T2, hb, by omega, hg, h1, h2, fun i' hi' z hz => ?_⟩
  have h4 := h3 i' hi' z hz
  by_cases hz2 : hp_a Z i' + z = B
  · obtain ⟨rfl, rfl⟩ := hp_T_one T2 hi' hi hz hx (hz2.trans hB.symm)
    have h5 := h4.2 (by omega)
    rw [hr, hp_rR] at h5
    exact ⟨fun _ => by rw [hr, hp_rR]; exact h5, fun h => by omega⟩
  · exact ⟨fun h => h4.1 (by omega), fun h => h4.2 (by omega)⟩
/-- the memory with w cells of it copied from p to t -/
def hp_cp (mem : Nat → Int64) (p t w : Nat) : Nat → Int64 := fun y => if t ≤ y ∧ y < t + w then mem (p + (y - t)) else mem y
theorem hp_cp0 (mem : Nat → Int64) (p t : Nat) : hp_cp mem p t 0 = mem := by
  funext y; unfold hp_cp; rw [if_neg (by omega)]
theorem hp_cps {t w : Nat} (h : p + w < t ∨ t ≤ p) : vp_updL (hp_cp mem p t w) (t + w) (hp_cp mem p t w (p + w)) = hp_cp mem p t (w + 1) := by
  funext y
  by_cases hy : y = t + w
  · subst hy
    rw [pk_uLs]
    unfold hp_cp
    rw [if_neg (by omega), if_pos (by omega)]
    congr 1; omega
  · rw [pk_uLn hy]
    unfold hp_cp
    by_cases h2 : t ≤ y ∧ y < t + w
    · rw [if_pos h2, if_pos (by omega)]
    · rw [if_neg h2, if_neg (by omega)]
/-- one more thing moved -/
def hp_new (Z : hp_Z) (k g s : Nat) : hp_Z := (hp_m Z + 1, hp_t Z + s, (fun i => if i = hp_m Z + 1 then hp_t Z + s else hp_a Z i), (fun i => if i = hp_m Z then k else hp_k Z i), (fun i => if i = hp_m Z then g else hp_q Z i))
theorem hp_new_m {s : Nat} : hp_m (hp_new Z k g s) = hp_m Z + 1 := rfl
theorem hp_new_t {s : Nat} : hp_t (hp_new Z k g s) = hp_t Z + s := rfl
theorem hp_new_a {s : Nat} (h : i ≤ hp_m Z) : hp_a (hp_new Z k g s) i = hp_a Z i := if_neg (by omega)
theorem hp_new_a' {s : Nat} : hp_a (hp_new Z k g s) (hp_m Z + 1) = hp_t Z + s := if_pos rfl
theorem hp_new_k {s : Nat} (h : i < hp_m Z) : hp_k (hp_new Z k g s) i = hp_k Z i := if_neg (by omega)
theorem hp_new_k' {s : Nat} : hp_k (hp_new Z k g s) (hp_m Z) = k := if_pos rfl
theorem hp_new_q {s : Nat} (h : i < hp_m Z) : hp_q (hp_new Z k g s) i = hp_q Z i := if_neg (by omega)
theorem hp_new_q' {s : Nat} : hp_q (hp_new Z k g s) (hp_m Z) = g := if_pos rfl
theorem hp_new_X {s : Nat} : hp_X Z (hp_new Z k g s) := ⟨Nat.le_succ _, fun _ h => hp_new_a h, fun _ h => ⟨hp_new_k h, hp_new_q h⟩⟩
theorem hp_new_T (T : hp_T sz tg b Z) (hk : tg k g) : hp_T sz tg b (hp_new Z k g (sz k g)) := by
  refine ⟨?_, hp_new_a', fun j hj => ?_, fun j hj => ?_⟩
  · rw [hp_new_a (Nat.zero_le _)]; exact T.1
  · rw [hp_new_m] at hj
    rcases Nat.lt_or_ge j (hp_m Z) with h | h
    · rw [hp_new_a (show j + 1 ≤ hp_m Z from h), hp_new_a (Nat.le_of_lt h), hp_new_k h, hp_new_q h]; exact T.2.2.1 j h
    · have : j = hp_m Z := by omega
      subst this
      rw [hp_new_a', hp_new_a (Nat.le_refl _), hp_new_k', hp_new_q', T.2.1]
  · rw [hp_new_m] at hj
    rcases Nat.lt_or_ge j (hp_m Z) with h | h
    · rw [hp_new_k h, hp_new_q h]; exact T.2.2.2 j h
    · have : j = hp_m Z := by omega
      subst this
      rw [hp_new_k', hp_new_q']; exact hk
theorem hp_G_new (L : hp_L ac sz tg) (G : hp_G ac sz tg b F b' Z B fw mem) (hj : j < hp_m F) (h0 : fw j = 0) :
    hp_G ac sz tg b F b' (hp_new Z (hp_k F j) (hp_q F j) (sz (hp_k F j) (hp_q F j))) B (fun i => if i = j then hp_m Z + 1 else fw i) (vp_updL (hp_cp mem (hp_a F j) (hp_t Z) (sz (hp_k F j) (hp_q F j))) (hp_a F j) (-(lN (hp_t Z)))) := by
  have hT := hp_G_t G
  have hR := hp_G_room G hj h0
  obtain ⟨T, T2, hb, hB2, hg, h1, h2, h3⟩ := G
  have hI := hp_T_in T hj
  have hk := T.2.2.2 j hj
  have hs := hp_L_sz L (g := hp_q F j) hk
  have hfar : ∀ j', j' < hp_m F → ∀ z, z < sz (hp_k F j') (hp_q F j') → ¬ (hp_t Z ≤ hp_a F j' + z ∧ hp_a F j' + z < hp_t Z + sz (hp_k F j) (hp_q F j)) := by
    intro j' hj' z hz
    have := hp_T_in T hj'
    have := hp_T_b T2
    omega
  refine ⟨T, hp_new_T T2 hk, hb, ?_, ?_, fun j' hj' (hf : (if j' = j then hp_m Z + 1 else fw j') = 0) z hz => ?_, fun j' i hj' (hf : (if j' = j then hp_m Z + 1 else fw j') = i + 1) => ?_, fun i hi z hz => ?_⟩
  · rw [hp_new_t]; omega
  · rw [hp_new_t, hp_g_up h0 (by omega), if_pos hj, hg]; omega
  · by_cases hjj : j' = j
    · rw [if_pos hjj] at hf; omega
    · rw [if_neg hjj] at hf
      have hne : hp_a F j' + z ≠ hp_a F j := by
        intro e
        have := hp_T_one T hj' hj hz (show 0 < sz (hp_k F j) (hp_q F j) by omega) (e.trans (Nat.add_zero _).symm)
        exact hjj this.1
      rw [pk_uLn hne]
      unfold hp_cp
      rw [if_neg (hfar j' hj' z hz)]
      exact h1 j' hj' hf z hz
  · by_cases hjj : j' = j
    · rw [if_pos hjj] at hf
      have hi : i = hp_m Z := by omega
      subst hi hjj
      refine ⟨Nat.lt_succ_self _, hp_new_k', hp_new_q', ?_⟩
      rw [pk_uLs, hp_new_a (Nat.le_refl _), T2.2.1]
    · rw [if_neg hjj] at hf
      obtain ⟨a1, a2, a3, a4⟩ := h2 j' i hj' hf
      have hs' := hp_L_sz L (g := hp_q F j') (T.2.2.2 j' hj')
      have hne : hp_a F j' ≠ hp_a F j := by
        intro e
        exact hjj (hp_T_one T hj' hj (show 0 < sz (hp_k F j') (hp_q F j') by omega) (show 0 < sz (hp_k F j) (hp_q F j) by omega) (by omega)).1
      refine ⟨by rw [hp_new_m]; omega, (hp_new_k a1).trans a2, (hp_new_q a1).trans a3, ?_⟩
      rw [pk_uLn hne, hp_new_a (Nat.le_of_lt a1)]
      unfold hp_cp
      rw [if_neg (by have := hfar j' hj' 0 (by omega); exact this)]
      exact a4
  · rw [hp_new_m] at hi
    have hbt := hp_T_b T2
    rcases Nat.lt_or_ge i (hp_m Z) with h | h
    · rw [hp_new_k h, hp_new_q h] at hz ⊢
      rw [hp_new_a (Nat.le_of_lt h)]
      have hII := hp_T_in T2 h
      have e : (vp_updL (hp_cp mem (hp_a F j) (hp_t Z) (sz (hp_k F j) (hp_q F j))) (hp_a F j) (-(lN (hp_t Z)))) (hp_a Z i + z) = mem (hp_a Z i + z) := by
        rw [pk_uLn (by omega)]
        unfold hp_cp
        rw [if_neg (by omega)]
      rw [e]
      have h4 := h3 i h z hz
      exact ⟨fun h5 => hp_rp_m (hp_X_O hp_new_X) (h4.1 h5), h4.2⟩
    · have : i = hp_m Z := by omega
      subst this
      rw [hp_new_k', hp_new_q'] at hz ⊢
      rw [hp_new_a (Nat.le_refl _), T2.2.1]
      have e : (vp_updL (hp_cp mem (hp_a F j) (hp_t Z) (sz (hp_k F j) (hp_q F j))) (hp_a F j) (-(lN (hp_t Z)))) (hp_t Z + z) = mem (hp_a F j + z) := by
        rw [pk_uLn (by omega)]
        unfold hp_cp
        rw [if_pos (by omega)]
        congr 1; omega
      rw [e]
      exact ⟨fun h5 => by omega, fun _ => h1 j hj h0 z hz⟩
theorem hp_G_rd (G : hp_G ac sz tg b F b' Z B fw mem) (hi : i < hp_m Z) (hx : x < sz (hp_k Z i) (hp_q Z i)) (hB : B ≤ hp_a Z i + x) : hp_rp (hp_O F) (ac (hp_k Z i) (hp_q Z i) x) (mem (hp_a Z i + x)) := (G.2.2.2.2.2.2.2 i hi x hx).2 hB
theorem hp_G_in (G : hp_G ac sz tg b F b' Z B fw mem) (hi : i < hp_m Z) : 1 ≤ hp_a Z i ∧ hp_a Z i + sz (hp_k Z i) (hp_q Z i) ≤ hp_t Z ∧ hp_t Z ≤ 116000 := by
  have h1 := hp_G_t G
  have h2 := hp_T_in G.2.1 hi
  have h3 := G.2.2.1
  omega
theorem hp_G_inF (G : hp_G ac sz tg b F b' Z B fw mem) (hj : j < hp_m F) : 1 ≤ hp_a F j ∧ hp_a F j + sz (hp_k F j) (hp_q F j) ≤ 116000 := by
  have h2 := hp_T_in G.1 hj
  have h3 := G.2.2.1
  omega
/-- the start of moving -/
theorem hp_G_0 (H : hp_H ac sz tg b F mem) (hb : (hp_t F ≤ b' ∨ b' + (hp_t F - b) ≤ b) ∧ 1 ≤ b ∧ 1 ≤ b' ∧ hp_t F ≤ 116000 ∧ b' + (hp_t F - b) ≤ 116000) : hp_G ac sz tg b F b' (0, b', (fun _ => b'), (fun _ => 0), (fun _ => 0)) b' (fun _ => 0) mem := by
  refine ⟨H.1, ⟨rfl, rfl, fun j hj => absurd hj (Nat.not_lt_zero _), fun j hj => absurd hj (Nat.not_lt_zero _)⟩, hb, Nat.le_refl _, ?_, fun j hj _ x hx => H.2 j hj x hx, fun j i hj h => absurd (show (0 : Nat) = i + 1 from h) (by omega), fun i hi => absurd hi (Nat.not_lt_zero _)⟩
  have h : ∀ (s : Nat → Nat) m, hp_g s (fun _ => 0) m = 0 := by
    intro s m
    induction m with
    | zero => rfl
    | succ m ih => show hp_g s (fun _ => 0) m + (if (0 : Nat) = 0 then 0 else s m) = 0; rw [ih]; rfl
  rw [h]; rfl
/-- the end of moving: what is outside of Z doesn't matter -/
theorem hp_G_end (G : hp_G ac sz tg b F b' Z B fw mem) (hB : B = hp_t Z) {mem2 : Nat → Int64} (h : ∀ y, b' ≤ y → y < hp_t Z → mem2 y = mem y) : hp_H ac sz tg b' Z mem2 := by
  obtain ⟨T, T2, hb, hB2, hg, h1, h2, h3⟩ := G
  refine ⟨T2, fun i hi x hx => ?_⟩
  have hI := hp_T_in T2 hi
  rw [h _ (by omega) (by omega)]
  exact (h3 i hi x hx).1 (by omega)
end
end
section
/-! moved, movedValue, moveParts -/
section
variable {f_count f_scopes f_freeNames f_base f_top f_sinceCollected f_room f_depth f_returning f_code f_bindings : Int32} {f_value f_other : Int64} {f_lastStatus f_lastKind f_lastNumber f_outCount f_callCount f_shiftCount f_mostPending : Int32} {a_tokens a_spans a_codeOp a_codeArgument a_partOne a_partTwo a_partThree a_scopeName a_scopeAround a_scopeOf : Nat → Int32} {a_memory a_frames : Nat → Int64} {a_outputs : Nat → Int32} {n_memory : Nat}
variable {ac : Nat → Nat → Nat → hp_C} {sz : Nat → Nat → Nat} {tg : Nat → Nat → Prop} {b b' B i j x y k g p : Nat} {F Z : hp_Z} {fw : Nat → Nat} {mem : Nat → Int64}
theorem mv_39 {post : Int32 → SX → Prop} {p s t : Nat} (hp : p + s ≤ 116000) (ht : t + s ≤ 116000) (hd : p + s ≤ t ∨ t ≤ p) (h0 : 0 < s)
    (K : post (nI t) (f_count, f_scopes, f_freeNames, f_base, nI (t + s), f_sinceCollected, f_room, f_depth, f_returning, f_code, f_bindings, f_value, f_other, f_lastStatus, f_lastKind, f_lastNumber, f_outCount, f_callCount, f_shiftCount, f_mostPending, a_tokens, a_spans, a_codeOp, a_codeArgument, a_partOne, a_partTwo, a_partThree, a_scopeName, a_scopeAround, a_scopeOf, vp_updL (hp_cp mem p t s) p (-(lN t)), a_frames, a_outputs, 116000)) :
    ∀ n i, i ≤ s → s - i < n → wX_moved_39 post (nI p) (nI s) (nI t) f_count f_scopes f_freeNames f_base (nI t) f_sinceCollected f_room f_depth f_returning f_code f_bindings f_value f_other f_lastStatus f_lastKind f_lastNumber f_outCount f_callCount f_shiftCount f_mostPending 116000 n (nI i) a_tokens a_spans a_codeOp a_codeArgument a_partOne a_partTwo a_partThree a_scopeName a_scopeAround a_scopeOf (hp_cp mem p t i) a_frames a_outputs := by
  intro n
  induction n with
  | zero => intro i _ h; omega
  | succ n ih =>
    intro i hi hn
    rcases Nat.lt_or_ge i s with h | h
    · have e1 := pk_cl (p + i) (nI_add p i) (by omega)
      have e2 := pk_cl (t + i) (nI_add t i) (by omega)
      refine br_f (nI_ge h (by omega)) ⟨pk_in (p + i) 116000 (by omega) (nI_add p i) (by decide), pk_in (t + i) 116000 (by omega) (nI_add t i) (by decide), nm_r (e' := hp_cp mem p t (i + 1)) ?_ (nm_r (nI_1 i) (ih (i + 1) h (by omega)))⟩
      rw [e1, e2]
      exact hp_cps (by omega)
    · have hs : i = s := by omega
      subst hs
      refine br_t (nI_le (Nat.le_refl _) (by omega)) (nm_r (nI_add t i) ⟨vp_in_nI (by omega) (by decide), nm_r (e' := vp_updL (hp_cp mem p t i) p (-(lN t))) ?_ K⟩)
      rw [nI_clamp (by omega), nI_l (by omega)]
theorem mv_moved {post : Int32 → SX → Prop} (L : hp_L ac sz tg) (G : hp_G ac sz tg b F b' Z B fw a_memory) (hO : hp_O F p k g)
    (K : ∀ (Z2 : hp_Z) (fw2 : Nat → Nat) (mem2 : Nat → Int64) (p2 : Nat), hp_G ac sz tg b F b' Z2 B fw2 mem2 → hp_X Z Z2 → hp_O Z2 p2 k g → p2 < 2 ^ 31 → post (nI p2) (f_count, f_scopes, f_freeNames, f_base, nI (hp_t Z2), f_sinceCollected, f_room, f_depth, f_returning, f_code, f_bindings, f_value, f_other, f_lastStatus, f_lastKind, f_lastNumber, f_outCount, f_callCount, f_shiftCount, f_mostPending, a_tokens, a_spans, a_codeOp, a_codeArgument, a_partOne, a_partTwo, a_partThree, a_scopeName, a_scopeAround, a_scopeOf, mem2, a_frames, a_outputs, 116000)) :
    wpX_moved post (f_count, f_scopes, f_freeNames, f_base, nI (hp_t Z), f_sinceCollected, f_room, f_depth, f_returning, f_code, f_bindings, f_value, f_other, f_lastStatus, f_lastKind, f_lastNumber, f_outCount, f_callCount, f_shiftCount, f_mostPending, a_tokens, a_spans, a_codeOp, a_codeArgument, a_partOne, a_partTwo, a_partThree, a_scopeName, a_scopeAround, a_scopeOf, a_memory, a_frames, a_outputs, 116000) (nI p) := by
  obtain ⟨j, hj, rfl, rfl, rfl⟩ := hO
  have hI := hp_G_inF G hj
  have hs := hp_L_sz L (g := hp_q F j) (G.1.2.2.2 j hj)
  have hk3 := G.1.2.2.2 j hj
  have ec : (nI (hp_a F j)).toNatClampNeg = hp_a F j := nI_clamp (by omega)
  refine br_f (nI_ne0 (by omega) (by omega)) ⟨vp_in_nI (by omega) (by decide), ?_⟩
  by_cases h0 : fw j = 0
  · have hh := G.2.2.2.2.2.1 j hj h0 0 (by omega)
    rw [L.1, hp_rR] at hh
    have hh2 : a_memory (nI (hp_a F j)).toNatClampNeg = lN (sz (hp_k F j) (hp_q F j) * 256 + hp_k F j) := by rw [ec]; exact hh
    have hR := hp_G_room G hj h0
    have hb := G.2.2.1
    have hbt := hp_T_b G.2.1
    have hI2 := hp_T_in G.1 hj
    refine nm_r hh2 (br_t (nb_pos (by omega)) (nm_r (nb_hs (by omega) (by omega)) ⟨sz (hp_k F j) (hp_q F j) + 1, ?_⟩))
    have hl := mv_39 (f_count := f_count) (f_scopes := f_scopes) (f_freeNames := f_freeNames) (f_base := f_base) (f_sinceCollected := f_sinceCollected) (f_room := f_room) (f_depth := f_depth) (f_returning := f_returning) (f_code := f_code) (f_bindings := f_bindings) (f_value := f_value) (f_other := f_other) (f_lastStatus := f_lastStatus) (f_lastKind := f_lastKind) (f_lastNumber := f_lastNumber) (f_outCount := f_outCount) (f_callCount := f_callCount) (f_shiftCount := f_shiftCount) (f_mostPending := f_mostPending) (a_tokens := a_tokens) (a_spans := a_spans) (a_codeOp := a_codeOp) (a_codeArgument := a_codeArgument) (a_partOne := a_partOne) (a_partTwo := a_partTwo) (a_partThree := a_partThree) (a_scopeName := a_scopeName) (a_scopeAround := a_scopeAround) (a_scopeOf := a_scopeOf) (a_frames := a_frames) (a_outputs := a_outputs) (mem := a_memory) (post := post) (p := hp_a F j) (s := sz (hp_k F j) (hp_q F j)) (t := hp_t Z) (by omega) (by omega) (by omega) (by omega) ?_ (sz (hp_k F j) (hp_q F j) + 1) 0 (Nat.zero_le _) (by omega)
    · rw [hp_cp0] at hl
      exact hl
    · exact K (hp_new Z (hp_k F j) (hp_q F j) (sz (hp_k F j) (hp_q F j))) _ _ (hp_t Z) (hp_G_new L G hj h0) hp_new_X ⟨hp_m Z, Nat.lt_succ_self _, by rw [hp_new_a (Nat.le_refl _)]; exact G.2.1.2.1, hp_new_k', hp_new_q'⟩ (by omega)
  · obtain ⟨i, hi⟩ : ∃ i, fw j = i + 1 := ⟨fw j - 1, by omega⟩
    obtain ⟨a1, a2, a3, a4⟩ := G.2.2.2.2.2.2.1 j i hj hi
    have hZ := hp_G_in G a1
    have hh2 : a_memory (nI (hp_a F j)).toNatClampNeg = -(lN (hp_a Z i)) := by rw [ec]; exact a4
    have hs2 := hp_L_sz L (g := hp_q Z i) (G.2.1.2.2.2 i a1)
    refine nm_r hh2 (br_f (nb_ng (by omega) (by omega)) ?_)
    rw [nb_nn]
    exact K Z fw a_memory (hp_a Z i) G (hp_X_r Z) ⟨i, a1, rfl, a2, a3⟩ (by omega)
theorem mv_ptr {post : Int32 → SX → Prop} {e : Nat} {v : Int64} (L : hp_L ac sz tg) (G : hp_G ac sz tg b F b' Z B fw a_memory) (hP : hp_pr (hp_O F) e v)
    (K : ∀ (Z2 : hp_Z) (fw2 : Nat → Nat) (mem2 : Nat → Int64) (p2 : Nat), hp_G ac sz tg b F b' Z2 B fw2 mem2 → hp_X Z Z2 → hp_pr (hp_O Z2) e (lN p2) → p2 < 2 ^ 31 → post (nI p2) (f_count, f_scopes, f_freeNames, f_base, nI (hp_t Z2), f_sinceCollected, f_room, f_depth, f_returning, f_code, f_bindings, f_value, f_other, f_lastStatus, f_lastKind, f_lastNumber, f_outCount, f_callCount, f_shiftCount, f_mostPending, a_tokens, a_spans, a_codeOp, a_codeArgument, a_partOne, a_partTwo, a_partThree, a_scopeName, a_scopeAround, a_scopeOf, mem2, a_frames, a_outputs, 116000)) :
    wpX_moved post (f_count, f_scopes, f_freeNames, f_base, nI (hp_t Z), f_sinceCollected, f_room, f_depth, f_returning, f_code, f_bindings, f_value, f_other, f_lastStatus, f_lastKind, f_lastNumber, f_outCount, f_callCount, f_shiftCount, f_mostPending, a_tokens, a_spans, a_codeOp, a_codeArgument, a_partOne, a_partTwo, a_partThree, a_scopeName, a_scopeAround, a_scopeOf, a_memory, a_frames, a_outputs, 116000) v.toInt32 := by
  rcases hP with ⟨h1, h2⟩ | ⟨p, h1, h2⟩
  · subst h2
    have e0 : (0 : Int64).toInt32 = nI 0 := by decide
    rw [e0]
    exact br_t (by decide) (K Z fw a_memory 0 G (hp_X_r Z) (Or.inl ⟨h1, rfl⟩) (by decide))
  · subst h2
    rw [lN_i]
    exact mv_moved L G h1 fun Z2 fw2 mem2 p2 a1 a2 a3 a4 => K Z2 fw2 mem2 p2 a1 a2 (Or.inr ⟨p2, a3, rfl⟩) a4
theorem mv_17 {post : Int64 → SX → Prop} {v : Int64} {z : Int32} (L : hp_L ac sz tg) (G : hp_G ac sz tg b F b' Z B fw a_memory) (hO : hp_O F p k g) (ez : z = nI k) (ev : v.toInt32 = nI p)
    (K : ∀ (Z2 : hp_Z) (fw2 : Nat → Nat) (mem2 : Nat → Int64) (p2 : Nat), hp_G ac sz tg b F b' Z2 B fw2 mem2 → hp_X Z Z2 → hp_O Z2 p2 k g → p2 < 2 ^ 31 → post (nb_vk k (nI p2)) (f_count, f_scopes, f_freeNames, f_base, nI (hp_t Z2), f_sinceCollected, f_room, f_depth, f_returning, f_code, f_bindings, f_value, f_other, f_lastStatus, f_lastKind, f_lastNumber, f_outCount, f_callCount, f_shiftCount, f_mostPending, a_tokens, a_spans, a_codeOp, a_codeArgument, a_partOne, a_partTwo, a_partThree, a_scopeName, a_scopeAround, a_scopeOf, mem2, a_frames, a_outputs, 116000)) :
    wX_movedValue_17 post v z f_count f_scopes f_freeNames f_base (nI (hp_t Z)) f_sinceCollected f_room f_depth f_returning f_code f_bindings f_value f_other f_lastStatus f_lastKind f_lastNumber f_outCount f_callCount f_shiftCount f_mostPending a_tokens a_spans a_codeOp a_codeArgument a_partOne a_partTwo a_partThree a_scopeName a_scopeAround a_scopeOf a_memory a_frames a_outputs 116000 := by
  subst ez
  unfold wX_movedValue_17
  rw [ev]
  refine mv_moved L G hO ?_
  intro Z2 fw2 mem2 p2 a1 a2 a3 a4
  exact K Z2 fw2 mem2 p2 a1 a2 a3 a4
theorem mv_val {post : Int64 → SX → Prop} {kk : Nat} {w : Int32} {v : Int64} (L : hp_L ac sz tg) (G : hp_G ac sz tg b F b' Z B fw a_memory) (hV : hp_vr (hp_O F) kk w v)
    (K : ∀ (Z2 : hp_Z) (fw2 : Nat → Nat) (mem2 : Nat → Int64) (v2 : Int64), hp_G ac sz tg b F b' Z2 B fw2 mem2 → hp_X Z Z2 → hp_vr (hp_O Z2) kk w v2 → post v2 (f_count, f_scopes, f_freeNames, f_base, nI (hp_t Z2), f_sinceCollected, f_room, f_depth, f_returning, f_code, f_bindings, f_value, f_other, f_lastStatus, f_lastKind, f_lastNumber, f_outCount, f_callCount, f_shiftCount, f_mostPending, a_tokens, a_spans, a_codeOp, a_codeArgument, a_partOne, a_partTwo, a_partThree, a_scopeName, a_scopeAround, a_scopeOf, mem2, a_frames, a_outputs, 116000)) :
    wpX_movedValue post (f_count, f_scopes, f_freeNames, f_base, nI (hp_t Z), f_sinceCollected, f_room, f_depth, f_returning, f_code, f_bindings, f_value, f_other, f_lastStatus, f_lastKind, f_lastNumber, f_outCount, f_callCount, f_shiftCount, f_mostPending, a_tokens, a_spans, a_codeOp, a_codeArgument, a_partOne, a_partTwo, a_partThree, a_scopeName, a_scopeAround, a_scopeOf, a_memory, a_frames, a_outputs, 116000) v := by
  rcases hV with ⟨h1, h2⟩ | ⟨h1, h2⟩ | ⟨h0, p, g, h1, h2, h3⟩
  · subst h2
    have e0 : nb_ko 0 = 0 := nb_ko0
    have e2 : ¬ nb_ko 0 = 2 := by rw [e0]; decide
    have e3 : ¬ nb_ko 0 = 3 := by rw [e0]; decide
    exact br_f e2 (br_f e3 (K Z fw a_memory 0 G (hp_X_r Z) (Or.inl ⟨h1, rfl⟩)))
  · have e0 : nb_ko v = 1 := by rw [h2]; exact nb_ko_vk (by decide) w
    have e2 : ¬ nb_ko v = 2 := by rw [e0]; decide
    have e3 : ¬ nb_ko v = 3 := by rw [e0]; decide
    exact br_f e2 (br_f e3 (K Z fw a_memory v G (hp_X_r Z) (Or.inr (Or.inl ⟨h1, h2⟩))))
  · have hk4 : kk < 4 := by omega
    have e0 : nb_ko v = nI kk := by rw [h3]; exact nb_ko_vk hk4 _
    have e1 : v.toInt32 = nI p := by rw [h3]; exact nb_lo_vk hk4 _
    have K2 : ∀ (Z2 : hp_Z) (fw2 : Nat → Nat) (mem2 : Nat → Int64) (p2 : Nat), hp_G ac sz tg b F b' Z2 B fw2 mem2 → hp_X Z Z2 → hp_O Z2 p2 kk g → p2 < 2 ^ 31 → post (nb_vk kk (nI p2)) (f_count, f_scopes, f_freeNames, f_base, nI (hp_t Z2), f_sinceCollected, f_room, f_depth, f_returning, f_code, f_bindings, f_value, f_other, f_lastStatus, f_lastKind, f_lastNumber, f_outCount, f_callCount, f_shiftCount, f_mostPending, a_tokens, a_spans, a_codeOp, a_codeArgument, a_partOne, a_partTwo, a_partThree, a_scopeName, a_scopeAround, a_scopeOf, mem2, a_frames, a_outputs, 116000) :=
      fun Z2 fw2 mem2 p2 a1 a2 a3 a4 => K Z2 fw2 mem2 _ a1 a2 (Or.inr (Or.inr ⟨h0, p2, g, a3, h2, rfl⟩))
    have M := mv_17 (z := nb_ko v) L G h1 e0 e1 K2
    rcases h0 with rfl | rfl
    · have e2 : nb_ko v = 2 := e0
      exact br_t e2 M
    · have e2 : ¬ nb_ko v = 2 := by rw [e0]; decide
      have e3 : nb_ko v = 3 := e0
      exact br_f e2 (br_t e3 M)
/-- a value's cell is mended where it lies -/
theorem mv_parts1 {post : SX → Prop} (L : hp_L ac sz tg) (G : hp_G ac sz tg b F b' Z (hp_a Z i) fw a_memory) (hi : i < hp_m Z) (hk : hp_k Z i = 1)
    (K : ∀ (Z2 : hp_Z) (fw2 : Nat → Nat) (mem2 : Nat → Int64), hp_G ac sz tg b F b' Z2 (hp_a Z i + 3) fw2 mem2 → hp_X Z Z2 → post (f_count, f_scopes, f_freeNames, f_base, nI (hp_t Z2), f_sinceCollected, f_room, f_depth, f_returning, f_code, f_bindings, f_value, f_other, f_lastStatus, f_lastKind, f_lastNumber, f_outCount, f_callCount, f_shiftCount, f_mostPending, a_tokens, a_spans, a_codeOp, a_codeArgument, a_partOne, a_partTwo, a_partThree, a_scopeName, a_scopeAround, a_scopeOf, mem2, a_frames, a_outputs, 116000)) :
    wpX_moveParts post (f_count, f_scopes, f_freeNames, f_base, nI (hp_t Z), f_sinceCollected, f_room, f_depth, f_returning, f_code, f_bindings, f_value, f_other, f_lastStatus, f_lastKind, f_lastNumber, f_outCount, f_callCount, f_shiftCount, f_mostPending, a_tokens, a_spans, a_codeOp, a_codeArgument, a_partOne, a_partTwo, a_partThree, a_scopeName, a_scopeAround, a_scopeOf, a_memory, a_frames, a_outputs, 116000) (nI (hp_a Z i)) := by
  obtain ⟨s3, ⟨kk, w, c1⟩, ⟨e, c2⟩⟩ := L.2.1 (hp_q Z i)
  have hI := hp_G_in G hi
  rw [hk, s3] at hI
  have ec0 : (nI (hp_a Z i)).toNatClampNeg = hp_a Z i := nI_clamp (by omega)
  have ec1 : (nI (hp_a Z i) + 1).toNatClampNeg = hp_a Z i + 1 := pk_cl _ (nb_a1 _) (by omega)
  have ec2 : (nI (hp_a Z i) + 2).toNatClampNeg = hp_a Z i + 2 := pk_cl _ (nb_a2 _) (by omega)
  have hh := hp_G_rd G hi (x := 0) (by rw [hk, s3]; decide) (Nat.le_refl _)
  rw [L.1, hp_rR, hk, s3] at hh
  have hh2 : ((a_memory (nI (hp_a Z i)).toNatClampNeg) &&& 255).toInt32 = nI 1 := by
    rw [ec0]
    have e : a_memory (hp_a Z i) = lN (3 * 256 + 1) := hh
    rw [e]
    exact nb_hk (by decide) (by decide)
  have i1 : vp_in (nI (hp_a Z i) + 1) 116000 := pk_in (hp_a Z i + 1) _ (by omega) (nb_a1 _) (by decide)
  have i2 : vp_in (nI (hp_a Z i) + 2) 116000 := pk_in (hp_a Z i + 2) _ (by omega) (nb_a2 _) (by decide)
  have G1 := hp_G_sk (x := 0) G hi (by rw [hk, s3]; decide) rfl (L.1 _ _)
  have hV := hp_G_rd G1 hi (x := 1) (by rw [hk, s3]; decide) (Nat.le_refl _)
  rw [hk, c1, hp_rV] at hV
  have hV2 : hp_vr (hp_O F) kk w (a_memory (nI (hp_a Z i) + 1).toNatClampNeg) := by rw [ec1]; exact hV
  refine ⟨vp_in_nI (by omega) (by decide), nm_r hh2 (br_t (by decide) ⟨i1, mv_val L G1 hV2 ?_⟩)⟩
  intro Z2 fw2 mem2 v2 G2 X2 V2
  have hi2 : i < hp_m Z2 := Nat.lt_of_lt_of_le hi X2.1
  have ea2 := X2.2.1 i (Nat.le_of_lt hi)
  obtain ⟨ek2, eq2⟩ := X2.2.2 i hi
  have G3 := hp_G_wr L (x := 1) (v := v2) G2 hi2 (by rw [ek2, eq2, hk, s3]; decide) (by rw [ea2]) (by rw [ek2, eq2, hk, c1, hp_rV]; exact V2)
  have hP := hp_G_rd G3 hi2 (x := 2) (by rw [ek2, eq2, hk, s3]; decide) (by rw [ea2]; exact Nat.le_refl _)
  rw [ek2, eq2, hk, c2, hp_rP, ea2] at hP
  refine ⟨i1, nm_r (e' := vp_updL mem2 (hp_a Z i + 0 + 1) v2) (by rw [ec1]) ⟨i2, ?_⟩⟩
  refine mv_ptr (v := vp_updL mem2 (hp_a Z i + 0 + 1) v2 (nI (hp_a Z i) + 2).toNatClampNeg) (e := e) L G3 (by rw [ec2]; exact hP) ?_
  intro Z4 fw4 mem4 p4 G4 X4 P4 hp4
  have hi4 : i < hp_m Z4 := Nat.lt_of_lt_of_le hi2 X4.1
  have ea4 := (X4.2.1 i (Nat.le_of_lt hi2)).trans ea2
  have ek4 := (X4.2.2 i hi2).1.trans ek2
  have eq4 := (X4.2.2 i hi2).2.trans eq2
  have G5 := hp_G_wr L (x := 2) (v := lN p4) G4 hi4 (by rw [ek4, eq4, hk, s3]; decide) (by rw [ea4]) (by rw [ek4, eq4, hk, c2, hp_rP]; exact P4)
  exact ⟨i2, nm_r (e' := vp_updL mem4 (hp_a Z i + 0 + 1 + 1) (lN p4)) (by rw [ec2, nI_l hp4]) (K Z4 fw4 _ G5 (hp_X_t X2 X4))⟩
theorem mv_parts2 {post : SX → Prop} (L : hp_L ac sz tg) (G : hp_G ac sz tg b F b' Z (hp_a Z i) fw a_memory) (hi : i < hp_m Z) (hk : hp_k Z i = 2)
    (K : ∀ (Z2 : hp_Z) (fw2 : Nat → Nat) (mem2 : Nat → Int64), hp_G ac sz tg b F b' Z2 (hp_a Z i + 3) fw2 mem2 → hp_X Z Z2 → post (f_count, f_scopes, f_freeNames, f_base, nI (hp_t Z2), f_sinceCollected, f_room, f_depth, f_returning, f_code, f_bindings, f_value, f_other, f_lastStatus, f_lastKind, f_lastNumber, f_outCount, f_callCount, f_shiftCount, f_mostPending, a_tokens, a_spans, a_codeOp, a_codeArgument, a_partOne, a_partTwo, a_partThree, a_scopeName, a_scopeAround, a_scopeOf, mem2, a_frames, a_outputs, 116000)) :
    wpX_moveParts post (f_count, f_scopes, f_freeNames, f_base, nI (hp_t Z), f_sinceCollected, f_room, f_depth, f_returning, f_code, f_bindings, f_value, f_other, f_lastStatus, f_lastKind, f_lastNumber, f_outCount, f_callCount, f_shiftCount, f_mostPending, a_tokens, a_spans, a_codeOp, a_codeArgument, a_partOne, a_partTwo, a_partThree, a_scopeName, a_scopeAround, a_scopeOf, a_memory, a_frames, a_outputs, 116000) (nI (hp_a Z i)) := by
  obtain ⟨s3, ⟨r, c1⟩, ⟨e, c2⟩⟩ := L.2.2.1 (hp_q Z i)
  have hI := hp_G_in G hi
  rw [hk, s3] at hI
  have ec0 : (nI (hp_a Z i)).toNatClampNeg = hp_a Z i := nI_clamp (by omega)
  have ec2 : (nI (hp_a Z i) + 2).toNatClampNeg = hp_a Z i + 2 := pk_cl _ (nb_a2 _) (by omega)
  have hh := hp_G_rd G hi (x := 0) (by rw [hk, s3]; decide) (Nat.le_refl _)
  rw [L.1, hp_rR, hk, s3] at hh
  have hh2 : ((a_memory (nI (hp_a Z i)).toNatClampNeg) &&& 255).toInt32 = nI 2 := by
    rw [ec0]
    have e : a_memory (hp_a Z i) = lN (3 * 256 + 2) := hh
    rw [e]
    exact nb_hk (by decide) (by decide)
  have i2 : vp_in (nI (hp_a Z i) + 2) 116000 := pk_in (hp_a Z i + 2) _ (by omega) (nb_a2 _) (by decide)
  have G1 := hp_G_sk (x := 0) G hi (by rw [hk, s3]; decide) rfl (L.1 _ _)
  have G2 := hp_G_sk (x := 1) (r := r) G1 hi (by rw [hk, s3]; decide) rfl (by rw [hk]; exact c1)
  have hP := hp_G_rd G2 hi (x := 2) (by rw [hk, s3]; decide) (Nat.le_refl _)
  rw [hk, c2, hp_rP] at hP
  have hP2 : hp_pr (hp_O F) e (a_memory (nI (hp_a Z i) + 2).toNatClampNeg) := by rw [ec2]; exact hP
  refine ⟨vp_in_nI (by omega) (by decide), nm_r hh2 (br_f (by decide) (br_t (by decide) ⟨i2, mv_ptr L G2 hP2 ?_⟩))⟩
  intro Z4 fw4 mem4 p4 G4 X4 P4 hp4
  have hi4 : i < hp_m Z4 := Nat.lt_of_lt_of_le hi X4.1
  have ea4 := X4.2.1 i (Nat.le_of_lt hi)
  have ek4 := (X4.2.2 i hi).1
  have eq4 := (X4.2.2 i hi).2
  have G5 := hp_G_wr L (x := 2) (v := lN p4) G4 hi4 (by rw [ek4, eq4, hk, s3]; decide) (by rw [ea4]) (by rw [ek4, eq4, hk, c2, hp_rP]; exact P4)
  exact ⟨i2, nm_r (e' := vp_updL mem4 (hp_a Z i + 0 + 1 + 1) (lN p4)) (by rw [ec2, nI_l hp4]) (K Z4 fw4 _ G5 X4)⟩
theorem mv_105 {post : SX → Prop} {at0 n0 : Nat} (L : hp_L ac sz tg) (hn0 : n0 ≤ 15) (hs : sz 3 g = 2 + 3 * n0) (hc : ∀ j, j < n0 → (∃ r, ac 3 g (2 + 3 * j) = hp_R r) ∧ (∃ e, ac 3 g (3 + 3 * j) = hp_P e) ∧ (∃ kk v, ac 3 g (4 + 3 * j) = hp_V kk v))
    (K : ∀ (Z2 : hp_Z) (fw2 : Nat → Nat) (mem2 : Nat → Int64), hp_G ac sz tg b F b' Z2 (at0 + 2 + 3 * n0) fw2 mem2 → hp_X Z Z2 → post (f_count, f_scopes, f_freeNames, f_base, nI (hp_t Z2), f_sinceCollected, f_room, f_depth, f_returning, f_code, f_bindings, f_value, f_other, f_lastStatus, f_lastKind, f_lastNumber, f_outCount, f_callCount, f_shiftCount, f_mostPending, a_tokens, a_spans, a_codeOp, a_codeArgument, a_partOne, a_partTwo, a_partThree, a_scopeName, a_scopeAround, a_scopeOf, mem2, a_frames, a_outputs, 116000)) :
    ∀ n j (Z2 : hp_Z) (fw2 : Nat → Nat) (mem2 : Nat → Int64), j ≤ n0 → n0 - j < n → hp_G ac sz tg b F b' Z2 (at0 + 2 + 3 * j) fw2 mem2 → hp_X Z Z2 → i < hp_m Z2 → hp_a Z2 i = at0 → hp_k Z2 i = 3 → hp_q Z2 i = g →
      wX_moveParts_105 post (nI at0) (nI n0) n (nI j) f_count f_scopes f_freeNames f_base (nI (hp_t Z2)) f_sinceCollected f_room f_depth f_returning f_code f_bindings f_value f_other f_lastStatus f_lastKind f_lastNumber f_outCount f_callCount f_shiftCount f_mostPending a_tokens a_spans a_codeOp a_codeArgument a_partOne a_partTwo a_partThree a_scopeName a_scopeAround a_scopeOf mem2 a_frames a_outputs 116000 := by
  intro n
  induction n with
  | zero => intro j Z2 fw2 mem2 _ h; omega
  | succ n ih =>
    intro j Z2 fw2 mem2 hj hn G X hi ea ek eg
    rcases Nat.lt_or_ge j n0 with h | h
    · obtain ⟨⟨r, c0⟩, ⟨e, c1⟩, ⟨kk, w, c2⟩⟩ := hc j h
      have hI := hp_G_in G hi
      rw [ek, eg, hs, ea] at hI
      have ef : (nI at0 + 2) + (nI j * 3) = nI (at0 + 2 + 3 * j) := by rw [nb_a2, nb_m3, nI_add]; congr 1; omega
      have ec1 : (nI (at0 + 2 + 3 * j) + 1).toNatClampNeg = at0 + 2 + 3 * j + 1 := pk_cl _ (nb_a1 _) (by omega)
      have ec2 : (nI (at0 + 2 + 3 * j) + 2).toNatClampNeg = at0 + 2 + 3 * j + 2 := pk_cl _ (nb_a2 _) (by omega)
      have i1 : vp_in (nI (at0 + 2 + 3 * j) + 1) 116000 := pk_in _ _ (by omega) (nb_a1 _) (by decide)
      have i2 : vp_in (nI (at0 + 2 + 3 * j) + 2) 116000 := pk_in _ _ (by omega) (nb_a2 _) (by decide)
      have hsz : sz (hp_k Z2 i) (hp_q Z2 i) = 2 + 3 * n0 := by rw [ek, eg, hs]
      have G1 := hp_G_sk (x := 2 + 3 * j) (r := r) G hi (by omega) (by omega) (by rw [ek, eg]; exact c0)
      have hP := hp_G_rd G1 hi (x := 3 + 3 * j) (by omega) (by omega)
      rw [ek, eg, c1, hp_rP, ea] at hP
      refine br_f (nI_ge h (by omega)) (nm_r ef ⟨i1, ?_⟩)
      refine mv_ptr (v := mem2 (nI (at0 + 2 + 3 * j) + 1).toNatClampNeg) (e := e) L G1 (by rw [ec1, show at0 + 2 + 3 * j + 1 = at0 + (3 + 3 * j) from by omega]; exact hP) ?_
      intro Z4 fw4 mem4 p4 G4 X4 P4 hp4
      have hi4 : i < hp_m Z4 := Nat.lt_of_lt_of_le hi X4.1
      have ea4 := (X4.2.1 i (Nat.le_of_lt hi)).trans ea
      have ek4 := (X4.2.2 i hi).1.trans ek
      have eq4 := (X4.2.2 i hi).2.trans eg
      have hsz4 : sz (hp_k Z4 i) (hp_q Z4 i) = 2 + 3 * n0 := by rw [ek4, eq4, hs]
      have G5 := hp_G_wr L (x := 3 + 3 * j) (v := lN p4) G4 hi4 (by omega) (by omega) (by rw [ek4, eq4, c1, hp_rP]; exact P4)
      have hV := hp_G_rd G5 hi4 (x := 4 + 3 * j) (by omega) (by omega)
      rw [ek4, eq4, c2, hp_rV, ea4] at hV
      refine ⟨i1, nm_r (e' := vp_updL mem4 (at0 + 2 + 3 * j + 1) (lN p4)) (by rw [ec1, nI_l hp4]) ⟨i2, ?_⟩⟩
      refine mv_val (v := vp_updL mem4 (at0 + 2 + 3 * j + 1) (lN p4) (nI (at0 + 2 + 3 * j) + 2).toNatClampNeg) (kk := kk) (w := w) L G5 (by rw [ec2, show at0 + 2 + 3 * j + 2 = at0 + (4 + 3 * j) from by omega]; exact hV) ?_
      intro Z6 fw6 mem6 v6 G6 X6 V6
      have hi6 : i < hp_m Z6 := Nat.lt_of_lt_of_le hi4 X6.1
      have ea6 := (X6.2.1 i (Nat.le_of_lt hi4)).trans ea4
      have ek6 := (X6.2.2 i hi4).1.trans ek4
      have eq6 := (X6.2.2 i hi4).2.trans eq4
      have hsz6 : sz (hp_k Z6 i) (hp_q Z6 i) = 2 + 3 * n0 := by rw [ek6, eq6, hs]
      have G7 := hp_G_wr L (x := 4 + 3 * j) (v := v6) G6 hi6 (by omega) (by omega) (by rw [ek6, eq6, c2, hp_rV]; exact V6)
      refine ⟨i2, nm_r (e' := vp_updL mem6 (at0 + 2 + 3 * j + 1 + 1) v6) (by rw [ec2]) (nm_r (nI_1 j) (ih (j + 1) Z6 fw6 _ h (by omega) ?_ (hp_X_t X (hp_X_t X4 X6)) hi6 ea6 ek6 eq6))⟩
      exact G7
    · have : j = n0 := by omega
      subst this
      exact br_t (nI_le (Nat.le_refl _) (by omega)) (K Z2 fw2 mem2 G X)
theorem mv_parts3 {post : SX → Prop} (L : hp_L ac sz tg) (G : hp_G ac sz tg b F b' Z (hp_a Z i) fw a_memory) (hi : i < hp_m Z) (hk : hp_k Z i = 3)
    (K : ∀ (Z2 : hp_Z) (fw2 : Nat → Nat) (mem2 : Nat → Int64), hp_G ac sz tg b F b' Z2 (hp_a Z i + sz 3 (hp_q Z i)) fw2 mem2 → hp_X Z Z2 → post (f_count, f_scopes, f_freeNames, f_base, nI (hp_t Z2), f_sinceCollected, f_room, f_depth, f_returning, f_code, f_bindings, f_value, f_other, f_lastStatus, f_lastKind, f_lastNumber, f_outCount, f_callCount, f_shiftCount, f_mostPending, a_tokens, a_spans, a_codeOp, a_codeArgument, a_partOne, a_partTwo, a_partThree, a_scopeName, a_scopeAround, a_scopeOf, mem2, a_frames, a_outputs, 116000)) :
    wpX_moveParts post (f_count, f_scopes, f_freeNames, f_base, nI (hp_t Z), f_sinceCollected, f_room, f_depth, f_returning, f_code, f_bindings, f_value, f_other, f_lastStatus, f_lastKind, f_lastNumber, f_outCount, f_callCount, f_shiftCount, f_mostPending, a_tokens, a_spans, a_codeOp, a_codeArgument, a_partOne, a_partTwo, a_partThree, a_scopeName, a_scopeAround, a_scopeOf, a_memory, a_frames, a_outputs, 116000) (nI (hp_a Z i)) := by
  obtain ⟨n0, hn0, s3, c1, hc⟩ := L.2.2.2.1 (hp_q Z i)
  have hI := hp_G_in G hi
  rw [hk, s3] at hI
  have ec0 : (nI (hp_a Z i)).toNatClampNeg = hp_a Z i := nI_clamp (by omega)
  have ec1 : (nI (hp_a Z i) + 1).toNatClampNeg = hp_a Z i + 1 := pk_cl _ (nb_a1 _) (by omega)
  have hsz : sz (hp_k Z i) (hp_q Z i) = 2 + 3 * n0 := by rw [hk, s3]
  have hh := hp_G_rd G hi (x := 0) (by omega) (Nat.le_refl _)
  rw [L.1, hp_rR, hk, s3] at hh
  have hh2 : ((a_memory (nI (hp_a Z i)).toNatClampNeg) &&& 255).toInt32 = nI 3 := by
    rw [ec0]
    have e : a_memory (hp_a Z i) = lN ((2 + 3 * n0) * 256 + 3) := hh
    rw [e]
    exact nb_hk (by omega) (by decide)
  have i1 : vp_in (nI (hp_a Z i) + 1) 116000 := pk_in (hp_a Z i + 1) _ (by omega) (nb_a1 _) (by decide)
  have G1 := hp_G_sk (x := 0) G hi (by omega) rfl (L.1 _ _)
  have h1 := hp_G_rd G1 hi (x := 1) (by omega) (Nat.le_refl _)
  rw [hk, c1, hp_rR] at h1
  have hn : (a_memory (nI (hp_a Z i) + 1).toNatClampNeg).toInt32 = nI n0 := by rw [ec1, h1, lN_i]
  have G2 := hp_G_sk (x := 1) (r := lN n0) G1 hi (by omega) rfl (by rw [hk]; exact c1)
  refine ⟨vp_in_nI (by omega) (by decide), nm_r hh2 (br_f (by decide) (br_f (by decide) ⟨i1, nm_r hn ⟨n0 + 1, ?_⟩⟩))⟩
  refine mv_105 (Z := Z) (g := hp_q Z i) L hn0 s3 hc ?_ (n0 + 1) 0 Z fw a_memory (Nat.zero_le _) (by omega) G2 (hp_X_r Z) hi rfl hk rfl
  intro Z2 fw2 mem2 G3 X3
  refine K Z2 fw2 mem2 ?_ X3
  rw [s3]
  rw [show hp_a Z i + 2 + 3 * n0 = hp_a Z i + (2 + 3 * n0) from by omega] at G3
  exact G3
theorem mv_parts {post : SX → Prop} (L : hp_L ac sz tg) (G : hp_G ac sz tg b F b' Z (hp_a Z i) fw a_memory) (hi : i < hp_m Z)
    (K : ∀ (Z2 : hp_Z) (fw2 : Nat → Nat) (mem2 : Nat → Int64), hp_G ac sz tg b F b' Z2 (hp_a Z i + sz (hp_k Z i) (hp_q Z i)) fw2 mem2 → hp_X Z Z2 → post (f_count, f_scopes, f_freeNames, f_base, nI (hp_t Z2), f_sinceCollected, f_room, f_depth, f_returning, f_code, f_bindings, f_value, f_other, f_lastStatus, f_lastKind, f_lastNumber, f_outCount, f_callCount, f_shiftCount, f_mostPending, a_tokens, a_spans, a_codeOp, a_codeArgument, a_partOne, a_partTwo, a_partThree, a_scopeName, a_scopeAround, a_scopeOf, mem2, a_frames, a_outputs, 116000)) :
    wpX_moveParts post (f_count, f_scopes, f_freeNames, f_base, nI (hp_t Z), f_sinceCollected, f_room, f_depth, f_returning, f_code, f_bindings, f_value, f_other, f_lastStatus, f_lastKind, f_lastNumber, f_outCount, f_callCount, f_shiftCount, f_mostPending, a_tokens, a_spans, a_codeOp, a_codeArgument, a_partOne, a_partTwo, a_partThree, a_scopeName, a_scopeAround, a_scopeOf, a_memory, a_frames, a_outputs, 116000) (nI (hp_a Z i)) := by
  rcases L.2.2.2.2 _ _ (G.2.1.2.2.2 i hi) with hk | hk | hk
  · refine mv_parts1 L G hi hk ?_
    rw [hk, (L.2.1 _).1] at K
    exact K
  · refine mv_parts2 L G hi hk ?_
    rw [hk, (L.2.2.1 _).1] at K
    exact K
  · refine mv_parts3 L G hi hk ?_
    rw [hk] at K
    exact K
end
end
section
/-! collect and take -/
/-- what the cells of the pending work are -/
def cl_F (rc : Nat → hp_C) (d : Nat) : Prop := ∀ f, f < d → (∃ r, rc (3 * f) = hp_R r) ∧ (∃ e, rc (3 * f + 1) = hp_P e) ∧ (∃ k v, rc (3 * f + 2) = hp_V k v)
section
variable {f_count f_scopes f_freeNames f_base f_top f_sinceCollected f_room f_depth f_returning f_code f_bindings : Int32} {f_value f_other : Int64} {f_lastStatus f_lastKind f_lastNumber f_outCount f_callCount f_shiftCount f_mostPending : Int32} {a_tokens a_spans a_codeOp a_codeArgument a_partOne a_partTwo a_partThree a_scopeName a_scopeAround a_scopeOf : Nat → Int32} {a_memory a_frames : Nat → Int64} {a_outputs : Nat → Int32} {n_memory : Nat}
variable {ac : Nat → Nat → Nat → hp_C} {sz : Nat → Nat → Nat} {tg : Nat → Nat → Prop} {b b' B i j x y k g p d e k2 pb lo hi : Nat} {F Z Z1 : hp_Z} {fw : Nat → Nat} {mem : Nat → Int64} {rc : Nat → hp_C} {w w2 : Int32}
theorem cl_188 {post : SX → Prop} (hhi : hi ≤ 116000) (K : ∀ mem2 : Nat → Int64, (∀ y, (y < lo ∨ hi ≤ y) → mem2 y = mem y) → post (f_count, f_scopes, f_freeNames, f_base, f_top, f_sinceCollected, f_room, f_depth, f_returning, f_code, f_bindings, f_value, f_other, f_lastStatus, f_lastKind, f_lastNumber, f_outCount, f_callCount, f_shiftCount, f_mostPending, a_tokens, a_spans, a_codeOp, a_codeArgument, a_partOne, a_partTwo, a_partThree, a_scopeName, a_scopeAround, a_scopeOf, mem2, a_frames, a_outputs, 116000)) :
    ∀ n i (mem1 : Nat → Int64), lo ≤ i → i ≤ hi → hi - i < n → (∀ y, (y < lo ∨ hi ≤ y) → mem1 y = mem y) → wX_collect_188 post (nI hi) f_count f_scopes f_freeNames f_base f_top f_sinceCollected f_room f_depth f_returning f_code f_bindings f_value f_other f_lastStatus f_lastKind f_lastNumber f_outCount f_callCount f_shiftCount f_mostPending 116000 n (nI i) a_tokens a_spans a_codeOp a_codeArgument a_partOne a_partTwo a_partThree a_scopeName a_scopeAround a_scopeOf mem1 a_frames a_outputs := by
  intro n
  induction n with
  | zero => intro i _ _ _ h; omega
  | succ n ih =>
    intro i mem1 h1 h2 h3 h4
    rcases Nat.lt_or_ge i hi with h | h
    · refine br_f (nI_ge h (by omega)) ⟨vp_in_nI (by omega) (by decide), nm_r (e' := vp_updL mem1 i 0) (by rw [nI_clamp (by omega)]) (nm_r (nI_1 i) (ih (i + 1) _ (by omega) h (by omega) ?_))⟩
      intro y hy
      rw [pk_uLn (by omega)]
      exact h4 y hy
    · exact br_t (nI_le h (by omega)) (K mem1 h4)
theorem cl_152 {post : SX → Prop} (L : hp_L ac sz tg)
    (K : ∀ (Z2 : hp_Z) (fw2 : Nat → Nat) (mem2 : Nat → Int64), hp_G ac sz tg b F b' Z2 (hp_t Z2) fw2 mem2 → hp_X Z1 Z2 → ∃ n188 : Nat, wX_collect_188 post (nI hi) f_count f_scopes f_freeNames f_base (nI (hp_t Z2)) f_sinceCollected f_room f_depth f_returning f_code f_bindings f_value f_other f_lastStatus f_lastKind f_lastNumber f_outCount f_callCount f_shiftCount f_mostPending 116000 n188 (nI lo) a_tokens a_spans a_codeOp a_codeArgument a_partOne a_partTwo a_partThree a_scopeName a_scopeAround a_scopeOf mem2 a_frames a_outputs) :
    ∀ n i (Z : hp_Z) (fw : Nat → Nat) (mem : Nat → Int64), i ≤ hp_m Z → hp_G ac sz tg b F b' Z (hp_a Z i) fw mem → hp_X Z1 Z → b' + (hp_t F - b) - hp_a Z i < n →
      wX_collect_152 post (nI lo) (nI hi) n (nI (hp_a Z i)) f_count f_scopes f_freeNames f_base (nI (hp_t Z)) f_sinceCollected f_room f_depth f_returning f_code f_bindings f_value f_other f_lastStatus f_lastKind f_lastNumber f_outCount f_callCount f_shiftCount f_mostPending a_tokens a_spans a_codeOp a_codeArgument a_partOne a_partTwo a_partThree a_scopeName a_scopeAround a_scopeOf mem a_frames a_outputs 116000 := by
  intro n
  induction n with
  | zero => intro i Z fw mem _ _ _ h; omega
  | succ n ih =>
    intro i Z fw mem hi G X hn
    have hG := hp_G_t G
    have hGb := G.2.2.1
    rcases Nat.lt_or_ge i (hp_m Z) with h | h
    · have hI := hp_G_in G h
      have hk := G.2.1.2.2.2 i h
      have hs := hp_L_sz L (g := hp_q Z i) hk
      have hh := hp_G_rd G h (x := 0) (by omega) (Nat.le_refl _)
      rw [L.1, hp_rR] at hh
      have hh2 : (((mem (nI (hp_a Z i)).toNatClampNeg).toUInt64 >>> ((8 : Int32).toInt64.toUInt64 &&& Int64.toUInt64 63)).toInt64).toInt32 = nI (sz (hp_k Z i) (hp_q Z i)) := by
        rw [nI_clamp (by omega)]
        have e : mem (hp_a Z i) = lN (sz (hp_k Z i) (hp_q Z i) * 256 + hp_k Z i) := hh
        rw [e]
        exact nb_hs (by omega) (by omega)
      refine br_f (nI_ge (show hp_a Z i < hp_t Z by omega) (by omega)) ⟨vp_in_nI (by omega) (by decide), nm_r hh2 (mv_parts L G h ?_)⟩
      intro Z2 fw2 mem2 G2 X2
      have ea : hp_a Z2 (i + 1) = hp_a Z i + sz (hp_k Z i) (hp_q Z i) := by
        rw [X2.2.1 (i + 1) h, G.2.1.2.2.1 i h]
      rw [← ea] at G2
      refine nm_r (e' := nI (hp_a Z2 (i + 1))) (by rw [nI_add, ea]) ?_
      exact ih (i + 1) Z2 fw2 mem2 (by have := X2.1; omega) G2 (hp_X_t X X2) (by omega)
    · have hi2 : i = hp_m Z := by omega
      have ea : hp_a Z i = hp_t Z := by rw [hi2]; exact G.2.1.2.1
      rw [ea] at G ⊢
      refine br_t (nI_le (Nat.le_refl _) (by omega)) (K Z fw mem G X)
theorem cl_79 {post : SX → Prop} {x1 x2 : Int32} (L : hp_L ac sz tg) (hF : cl_F rc d) (hd : d ≤ 16)
    (K : ∀ (Z2 : hp_Z) (fw2 : Nat → Nat) (mem2 frm2 : Nat → Int64), hp_G ac sz tg b F b' Z2 B fw2 mem2 → hp_X Z1 Z2 → (∀ y, y < 3 * d → hp_rp (hp_O Z2) (rc y) (frm2 y)) → ∃ n152 : Nat, wX_collect_152 post x1 x2 n152 f_base f_count f_scopes f_freeNames f_base (nI (hp_t Z2)) f_sinceCollected f_room (nI d) f_returning f_code f_bindings f_value f_other f_lastStatus f_lastKind f_lastNumber f_outCount f_callCount f_shiftCount f_mostPending a_tokens a_spans a_codeOp a_codeArgument a_partOne a_partTwo a_partThree a_scopeName a_scopeAround a_scopeOf mem2 frm2 a_outputs 116000) :
    ∀ n f (Z : hp_Z) (fw : Nat → Nat) (mem frm : Nat → Int64), f ≤ d → d - f < n → hp_G ac sz tg b F b' Z B fw mem → hp_X Z1 Z → (∀ y, y < 3 * d → (y < 3 * f → hp_rp (hp_O Z) (rc y) (frm y)) ∧ (3 * f ≤ y → hp_rp (hp_O F) (rc y) (frm y))) →
      wX_collect_79 post x1 x2 n (nI f) f_count f_scopes f_freeNames f_base (nI (hp_t Z)) f_sinceCollected f_room (nI d) f_returning f_code f_bindings f_value f_other f_lastStatus f_lastKind f_lastNumber f_outCount f_callCount f_shiftCount f_mostPending a_tokens a_spans a_codeOp a_codeArgument a_partOne a_partTwo a_partThree a_scopeName a_scopeAround a_scopeOf mem frm a_outputs 116000 := by
  intro n
  induction n with
  | zero => intro f Z fw mem frm _ h; omega
  | succ n ih =>
    intro f Z fw mem frm hf hn G X hr
    rcases Nat.lt_or_ge f d with h | h
    · obtain ⟨⟨r, c0⟩, ⟨e, c1⟩, ⟨kk, v, c2⟩⟩ := hF f h
      have e1 : (nI f * 3) + 1 = nI (3 * f + 1) := by rw [nb_m3, nb_a1, Nat.mul_comm]
      have e2 : (nI f * 3) + 2 = nI (3 * f + 2) := by rw [nb_m3, nb_a2, Nat.mul_comm]
      have ec1 : ((nI f * 3) + 1).toNatClampNeg = 3 * f + 1 := pk_cl _ e1 (by omega)
      have ec2 : ((nI f * 3) + 2).toNatClampNeg = 3 * f + 2 := pk_cl _ e2 (by omega)
      have i1 : vp_in ((nI f * 3) + 1) 48 := pk_in _ _ (by omega) e1 (by decide)
      have i2 : vp_in ((nI f * 3) + 2) 48 := pk_in _ _ (by omega) e2 (by decide)
      have hP := (hr (3 * f + 1) (by omega)).2 (by omega)
      rw [c1, hp_rP] at hP
      have hV := (hr (3 * f + 2) (by omega)).2 (by omega)
      rw [c2, hp_rV] at hV
      refine br_f (nI_ge h (by omega)) ⟨i1, ?_⟩
      refine mv_ptr (v := frm ((nI f * 3) + 1).toNatClampNeg) (e := e) L G (by rw [ec1]; exact hP) ?_
      intro Z4 fw4 mem4 p4 G4 X4 P4 hp4
      refine ⟨i1, nm_r (e' := vp_updL frm (3 * f + 1) (lN p4)) (by rw [ec1, nI_l hp4]) ⟨i2, ?_⟩⟩
      refine mv_val (v := vp_updL frm (3 * f + 1) (lN p4) ((nI f * 3) + 2).toNatClampNeg) (kk := kk) (w := v) L G4 (by rw [ec2, pk_uLn (by omega)]; exact hV) ?_
      intro Z6 fw6 mem6 v6 G6 X6 V6
      refine ⟨i2, nm_r (e' := vp_updL (vp_updL frm (3 * f + 1) (lN p4)) (3 * f + 2) v6) (by rw [ec2]) (nm_r (nI_1 f) (ih (f + 1) Z6 fw6 mem6 _ h (by omega) G6 (hp_X_t X (hp_X_t X4 X6)) ?_))⟩
      intro y hy
      by_cases hy2 : y = 3 * f + 2
      · subst hy2
        rw [pk_uLs, c2, hp_rV]
        exact ⟨fun _ => V6, fun h => by omega⟩
      · rw [pk_uLn hy2]
        by_cases hy1 : y = 3 * f + 1
        · subst hy1
          rw [pk_uLs, c1, hp_rP]
          exact ⟨fun _ => hp_pr_m (hp_X_O X6) P4, fun h => by omega⟩
        · rw [pk_uLn hy1]
          have h5 := hr y hy
          by_cases hy0 : y = 3 * f
          · subst hy0
            have h6 := h5.2 (Nat.le_refl _)
            rw [c0, hp_rR] at h6
            rw [c0, hp_rR, hp_rR]
            exact ⟨fun _ => h6, fun _ => h6⟩
          · exact ⟨fun h7 => hp_rp_m (hp_X_O (hp_X_t X4 X6)) (h5.1 (by omega)), fun h7 => h5.2 (by omega)⟩
    · have : f = d := by omega
      subst this
      exact br_t (nI_le (Nat.le_refl _) (by omega)) (K Z fw mem frm G X fun y hy => (hr y hy).1 hy)
theorem mv_ptrN {post : Int32 → SX → Prop} (L : hp_L ac sz tg) (G : hp_G ac sz tg b F b' Z B fw a_memory) (hP : hp_pr (hp_O F) e (lN p))
    (K : ∀ (Z2 : hp_Z) (fw2 : Nat → Nat) (mem2 : Nat → Int64) (p2 : Nat), hp_G ac sz tg b F b' Z2 B fw2 mem2 → hp_X Z Z2 → hp_pr (hp_O Z2) e (lN p2) → p2 < 2 ^ 31 → post (nI p2) (f_count, f_scopes, f_freeNames, f_base, nI (hp_t Z2), f_sinceCollected, f_room, f_depth, f_returning, f_code, f_bindings, f_value, f_other, f_lastStatus, f_lastKind, f_lastNumber, f_outCount, f_callCount, f_shiftCount, f_mostPending, a_tokens, a_spans, a_codeOp, a_codeArgument, a_partOne, a_partTwo, a_partThree, a_scopeName, a_scopeAround, a_scopeOf, mem2, a_frames, a_outputs, 116000)) :
    wpX_moved post (f_count, f_scopes, f_freeNames, f_base, nI (hp_t Z), f_sinceCollected, f_room, f_depth, f_returning, f_code, f_bindings, f_value, f_other, f_lastStatus, f_lastKind, f_lastNumber, f_outCount, f_callCount, f_shiftCount, f_mostPending, a_tokens, a_spans, a_codeOp, a_codeArgument, a_partOne, a_partTwo, a_partThree, a_scopeName, a_scopeAround, a_scopeOf, a_memory, a_frames, a_outputs, 116000) (nI p) := by
  have h := mv_ptr L G hP K
  rw [lN_i] at h
  exact h
theorem cl_25 {post : SX → Prop} (L : hp_L ac sz tg) (H : hp_H ac sz tg b F a_memory) (hbb : (hp_t F ≤ b' ∨ b' + (hp_t F - b) ≤ b) ∧ 1 ≤ b ∧ 1 ≤ b' ∧ hp_t F ≤ 116000 ∧ b' + (hp_t F - b) ≤ 116000) (hd : d ≤ 16) (hF : cl_F rc d)
    (hbn : hp_pr (hp_O F) e (lN pb)) (hv : hp_vr (hp_O F) k w f_value) (ho : hp_vr (hp_O F) k2 w2 f_other) (hfr : ∀ y, y < 3 * d → hp_rp (hp_O F) (rc y) (a_frames y))
    (K : ∀ (Z2 : hp_Z) (mem2 frm2 : Nat → Int64) (pb2 : Nat) (v2 o2 : Int64), hp_H ac sz tg b' Z2 mem2 → hp_t Z2 - b' ≤ hp_t F - b → pb2 < 2 ^ 31 → hp_pr (hp_O Z2) e (lN pb2) → hp_vr (hp_O Z2) k w v2 → hp_vr (hp_O Z2) k2 w2 o2 → (∀ y, y < 3 * d → hp_rp (hp_O Z2) (rc y) (frm2 y)) →
      post (f_count, f_scopes, f_freeNames, nI b', nI (hp_t Z2), 0, f_room, nI d, f_returning, f_code, nI pb2, v2, o2, f_lastStatus, f_lastKind, f_lastNumber, f_outCount, f_callCount, f_shiftCount, f_mostPending, a_tokens, a_spans, a_codeOp, a_codeArgument, a_partOne, a_partTwo, a_partThree, a_scopeName, a_scopeAround, a_scopeOf, mem2, frm2, a_outputs, 116000)) :
    wX_collect_25 post (nI b) (nI (hp_t F)) (nI b') f_count f_scopes f_freeNames (nI b) (nI (hp_t F)) f_sinceCollected f_room (nI d) f_returning f_code (nI pb) f_value f_other f_lastStatus f_lastKind f_lastNumber f_outCount f_callCount f_shiftCount f_mostPending a_tokens a_spans a_codeOp a_codeArgument a_partOne a_partTwo a_partThree a_scopeName a_scopeAround a_scopeOf a_memory a_frames a_outputs 116000 := by
  have G0 := hp_G_0 (b' := b') H hbb
  have hFb := hp_T_b H.1
  unfold wX_collect_25
  refine mv_ptrN (Z := (0, b', (fun _ => b'), (fun _ => 0), (fun _ => 0))) L G0 hbn ?_
  intro Z1 fw1 mem1 p1 G1 X1 P1 hp1
  dsimp only
  refine mv_val L G1 hv ?_
  intro Z2 fw2 mem2 v2 G2 X2 V2
  dsimp only
  refine mv_val L G2 ho ?_
  intro Z3 fw3 mem3 o3 G3 X3 V3
  dsimp only
  refine ⟨d + 1, cl_79 (Z1 := Z3) (rc := rc) (b := b) (F := F) (b' := b') (B := b') L hF hd ?_ (d + 1) 0 Z3 fw3 mem3 a_frames (Nat.zero_le _) (by omega) G3 (hp_X_r Z3) (fun y hy => ⟨fun h => by omega, fun _ => hfr y hy⟩)⟩
  intro Z4 fw4 mem4 frm4 G4 X4 R4
  have ha0 : hp_a Z4 0 = b' := G4.2.1.1
  have G4' : hp_G ac sz tg b F b' Z4 (hp_a Z4 0) fw4 mem4 := by rw [ha0]; exact G4
  refine ⟨b' + (hp_t F - b) + 1, ?_⟩
  have hl := cl_152 (Z1 := Z4) (b := b) (F := F) (b' := b') (hi := hp_t F) (lo := b) (post := post) (f_count := f_count) (f_scopes := f_scopes) (f_freeNames := f_freeNames) (f_base := nI b') (f_sinceCollected := 0) (f_room := f_room) (f_depth := nI d) (f_returning := f_returning) (f_code := f_code) (f_bindings := nI p1) (f_value := v2) (f_other := o3) (f_lastStatus := f_lastStatus) (f_lastKind := f_lastKind) (f_lastNumber := f_lastNumber) (f_outCount := f_outCount) (f_callCount := f_callCount) (f_shiftCount := f_shiftCount) (f_mostPending := f_mostPending) (a_tokens := a_tokens) (a_spans := a_spans) (a_codeOp := a_codeOp) (a_codeArgument := a_codeArgument) (a_partOne := a_partOne) (a_partTwo := a_partTwo) (a_partThree := a_partThree) (a_scopeName := a_scopeName) (a_scopeAround := a_scopeAround) (a_scopeOf := a_scopeOf) (a_frames := frm4) (a_outputs := a_outputs) L ?_ (b' + (hp_t F - b) + 1) 0 Z4 fw4 mem4 (Nat.zero_le _) G4' (hp_X_r Z4) (by omega)
  · rw [ha0] at hl
    exact hl
  · intro Z5 fw5 mem5 G5 X5
    have hG5 := hp_G_t G5
    refine ⟨hp_t F + 1, cl_188 (lo := b) (mem := mem5) (by omega) ?_ (hp_t F + 1) b mem5 (Nat.le_refl _) hFb (by omega) (fun y _ => rfl)⟩
    intro mem6 h6
    refine K Z5 mem6 frm4 p1 v2 o3 (hp_G_end G5 rfl (fun y h7 h8 => h6 y (by omega))) (by omega) hp1 (hp_pr_m (hp_X_O (hp_X_t X2 (hp_X_t X3 (hp_X_t X4 X5)))) P1) (hp_vr_m (hp_X_O (hp_X_t X3 (hp_X_t X4 X5))) V2) (hp_vr_m (hp_X_O (hp_X_t X4 X5)) V3) (fun y hy => hp_rp_m (hp_X_O X5) (R4 y hy))
theorem cl_collect {post : SX → Prop} (L : hp_L ac sz tg) (H : hp_H ac sz tg b F a_memory) (hb : b = 1 ∨ b = 58000) (ht : hp_t F ≤ b + 57999) (hd : d ≤ 16) (hF : cl_F rc d)
    (hbn : hp_pr (hp_O F) e (lN pb)) (hv : hp_vr (hp_O F) k w f_value) (ho : hp_vr (hp_O F) k2 w2 f_other) (hfr : ∀ y, y < 3 * d → hp_rp (hp_O F) (rc y) (a_frames y))
    (K : ∀ (b2 : Nat) (Z2 : hp_Z) (mem2 frm2 : Nat → Int64) (pb2 : Nat) (v2 o2 : Int64), (b2 = 1 ∨ b2 = 58000) → hp_H ac sz tg b2 Z2 mem2 → hp_t Z2 - b2 ≤ hp_t F - b → pb2 < 2 ^ 31 → hp_pr (hp_O Z2) e (lN pb2) → hp_vr (hp_O Z2) k w v2 → hp_vr (hp_O Z2) k2 w2 o2 → (∀ y, y < 3 * d → hp_rp (hp_O Z2) (rc y) (frm2 y)) →
      post (f_count, f_scopes, f_freeNames, nI b2, nI (hp_t Z2), 0, f_room, nI d, f_returning, f_code, nI pb2, v2, o2, f_lastStatus, f_lastKind, f_lastNumber, f_outCount, f_callCount, f_shiftCount, f_mostPending, a_tokens, a_spans, a_codeOp, a_codeArgument, a_partOne, a_partTwo, a_partThree, a_scopeName, a_scopeAround, a_scopeOf, mem2, frm2, a_outputs, 116000)) :
    wpX_collect post (f_count, f_scopes, f_freeNames, nI b, nI (hp_t F), f_sinceCollected, f_room, nI d, f_returning, f_code, nI pb, f_value, f_other, f_lastStatus, f_lastKind, f_lastNumber, f_outCount, f_callCount, f_shiftCount, f_mostPending, a_tokens, a_spans, a_codeOp, a_codeArgument, a_partOne, a_partTwo, a_partThree, a_scopeName, a_scopeAround, a_scopeOf, a_memory, a_frames, a_outputs, 116000) := by
  have hFb := hp_T_b H.1
  rcases hb with rfl | rfl
  · exact br_t (by decide) (cl_25 (b' := 58000) L H (by omega) hd hF hbn hv ho hfr fun Z2 mem2 frm2 pb2 v2 o2 h1 h2 h3 h4 h5 h6 h7 => K 58000 Z2 mem2 frm2 pb2 v2 o2 (Or.inr rfl) h1 h2 h3 h4 h5 h6 h7)
  · exact br_f (by decide) (cl_25 (b' := 1) L H (by omega) hd hF hbn hv ho hfr fun Z2 mem2 frm2 pb2 v2 o2 h1 h2 h3 h4 h5 h6 h7 => K 1 Z2 mem2 frm2 pb2 v2 o2 (Or.inl rfl) h1 h2 h3 h4 h5 h6 h7)
theorem cl_15 {post : Int32 → SX → Prop} {kd s t : Nat} (hs : s < 2 ^ 20) (hk : kd < 256) (ht : t < 116000)
    (K : ∀ sc : Int32, post (nI t) (f_count, f_scopes, f_freeNames, f_base, nI (t + s), sc, f_room, f_depth, f_returning, f_code, f_bindings, f_value, f_other, f_lastStatus, f_lastKind, f_lastNumber, f_outCount, f_callCount, f_shiftCount, f_mostPending, a_tokens, a_spans, a_codeOp, a_codeArgument, a_partOne, a_partTwo, a_partThree, a_scopeName, a_scopeAround, a_scopeOf, vp_updL a_memory t (lN (s * 256 + kd)), a_frames, a_outputs, 116000)) :
    wX_take_15 post (nI kd) (nI s) f_count f_scopes f_freeNames f_base (nI t) f_sinceCollected f_room f_depth f_returning f_code f_bindings f_value f_other f_lastStatus f_lastKind f_lastNumber f_outCount f_callCount f_shiftCount f_mostPending a_tokens a_spans a_codeOp a_codeArgument a_partOne a_partTwo a_partThree a_scopeName a_scopeAround a_scopeOf a_memory a_frames a_outputs 116000 := by
  refine nm_r (nI_add t s) (nm_e ?_)
  refine ⟨vp_in_nI ht (by decide), nm_r (e' := vp_updL a_memory t (lN (s * 256 + kd))) ?_ (K _)⟩
  rw [nI_clamp (by omega), nb_hd hs hk]
theorem cl_take {post : Int32 → SX → Prop} {kd s : Nat} (L : hp_L ac sz tg) (H : hp_H ac sz tg b F a_memory) (hb : b = 1 ∨ b = 58000) (ht : hp_t F ≤ b + 57900) (hd : d ≤ 16) (hF : cl_F rc d)
    (hbn : hp_pr (hp_O F) e (lN pb)) (hpb : pb < 2 ^ 31) (hv : hp_vr (hp_O F) k w f_value) (ho : hp_vr (hp_O F) k2 w2 f_other) (hfr : ∀ y, y < 3 * d → hp_rp (hp_O F) (rc y) (a_frames y)) (hs : s < 100) (hkd : kd < 256)
    (K : ∀ (b2 : Nat) (Z2 : hp_Z) (mem2 frm2 : Nat → Int64) (pb2 : Nat) (v2 o2 : Int64) (sc : Int32), (b2 = 1 ∨ b2 = 58000) → hp_H ac sz tg b2 Z2 mem2 → hp_t Z2 - b2 ≤ hp_t F - b → pb2 < 2 ^ 31 → hp_pr (hp_O Z2) e (lN pb2) → hp_vr (hp_O Z2) k w v2 → hp_vr (hp_O Z2) k2 w2 o2 → (∀ y, y < 3 * d → hp_rp (hp_O Z2) (rc y) (frm2 y)) →
      post (nI (hp_t Z2)) (f_count, f_scopes, f_freeNames, nI b2, nI (hp_t Z2 + s), sc, f_room, nI d, f_returning, f_code, nI pb2, v2, o2, f_lastStatus, f_lastKind, f_lastNumber, f_outCount, f_callCount, f_shiftCount, f_mostPending, a_tokens, a_spans, a_codeOp, a_codeArgument, a_partOne, a_partTwo, a_partThree, a_scopeName, a_scopeAround, a_scopeOf, vp_updL mem2 (hp_t Z2) (lN (s * 256 + kd)), frm2, a_outputs, 116000)) :
    wpX_take post (f_count, f_scopes, f_freeNames, nI b, nI (hp_t F), f_sinceCollected, f_room, nI d, f_returning, f_code, nI pb, f_value, f_other, f_lastStatus, f_lastKind, f_lastNumber, f_outCount, f_callCount, f_shiftCount, f_mostPending, a_tokens, a_spans, a_codeOp, a_codeArgument, a_partOne, a_partTwo, a_partThree, a_scopeName, a_scopeAround, a_scopeOf, a_memory, a_frames, a_outputs, 116000) (nI kd) (nI s) := by
  have hFb := hp_T_b H.1
  refine br_c (fun _ => ?_) (fun _ => ?_)
  · exact cl_15 (by omega) hkd (by omega) fun sc => K b F a_memory a_frames pb f_value f_other sc hb H (Nat.le_refl _) hpb hbn hv ho hfr
  · refine cl_collect L H hb (by omega) hd hF hbn hv ho hfr ?_
    intro b2 Z2 mem2 frm2 pb2 v2 o2 h1 h2 h3 h4 h5 h6 h7 h8
    have hZb := hp_T_b h2.1
    exact cl_15 (by omega) hkd (by omega) fun sc => K b2 Z2 mem2 frm2 pb2 v2 o2 sc h1 h2 h3 h4 h5 h6 h7 h8
end
section
variable {ac ac' : Nat → Nat → Nat → hp_C} {sz sz' : Nat → Nat → Nat} {tg tg' : Nat → Nat → Prop} {b k g : Nat} {Z : hp_Z} {mem mem' : Nat → Int64}
theorem hp_T_ag (T : hp_T sz tg b Z) (h : ∀ j, j < hp_m Z → sz' (hp_k Z j) (hp_q Z j) = sz (hp_k Z j) (hp_q Z j) ∧ tg' (hp_k Z j) (hp_q Z j)) : hp_T sz' tg' b Z :=
  ⟨T.1, T.2.1, fun j hj => by rw [(h j hj).1]; exact T.2.2.1 j hj, fun j hj => (h j hj).2⟩
/-- a thing is made -/
theorem hp_H_new (H : hp_H ac sz tg b Z mem) (hk : tg' k g) (hag : ∀ j, j < hp_m Z → sz' (hp_k Z j) (hp_q Z j) = sz (hp_k Z j) (hp_q Z j) ∧ tg' (hp_k Z j) (hp_q Z j) ∧ ∀ x, x < sz (hp_k Z j) (hp_q Z j) → ac' (hp_k Z j) (hp_q Z j) x = ac (hp_k Z j) (hp_q Z j) x)
    (hm : ∀ y, b ≤ y → y < hp_t Z → mem' y = mem y) (hc : ∀ x, x < sz' k g → hp_rp (hp_O (hp_new Z k g (sz' k g))) (ac' k g x) (mem' (hp_t Z + x))) : hp_H ac' sz' tg' b (hp_new Z k g (sz' k g)) mem' := by
  have T' := hp_T_ag (sz' := sz') (tg' := tg') H.1 (fun j hj => ⟨(hag j hj).1, (hag j hj).2.1⟩)
  refine ⟨hp_new_T T' hk, fun j hj x hx => ?_⟩
  rw [hp_new_m] at hj
  rcases Nat.lt_or_ge j (hp_m Z) with h | h
  · rw [hp_new_k h, hp_new_q h] at hx ⊢
    rw [hp_new_a (Nat.le_of_lt h)]
    rw [(hag j h).1] at hx
    have hI := hp_T_in H.1 h
    rw [hm _ (by omega) (by omega), (hag j h).2.2 x hx]
    exact hp_rp_m (hp_X_O hp_new_X) (H.2 j h x hx)
  · have : j = hp_m Z := by omega
    subst this
    rw [hp_new_k', hp_new_q'] at hx ⊢
    rw [hp_new_a (Nat.le_refl _), H.1.2.1]
    exact hc x hx
theorem hp_new_O {s : Nat} (T : hp_T sz tg b Z) : hp_O (hp_new Z k g s) (hp_t Z) k g := ⟨hp_m Z, Nat.lt_succ_self _, by rw [hp_new_a (Nat.le_refl _)]; exact T.2.1, hp_new_k', hp_new_q'⟩
end
end
section
/-! the abstract machine: names (append only), rests, pending work; no program in sight -/
abbrev ab_F : Type := Nat × Nat × Nat × Nat × Int32
abbrev ab_H : Type := Nat × (Nat → Nat) × (Nat → Nat) × (Nat → Int32) × (Nat → Nat)
abbrev ab_R : Type := Nat × (Nat → Nat) × (Nat → Nat → ab_F)
def fr_d (f : ab_F) : Nat := f.1
def fr_p (f : ab_F) : Nat := f.2.1
def fr_e (f : ab_F) : Nat := f.2.2.1
def fr_k (f : ab_F) : Nat := f.2.2.2.1
def fr_v (f : ab_F) : Int32 := f.2.2.2.2
def hn_b (H : ab_H) : Nat := H.1
def hn_x (H : ab_H) : Nat → Nat := H.2.1
def hn_k (H : ab_H) : Nat → Nat := H.2.2.1
def hn_v (H : ab_H) : Nat → Int32 := H.2.2.2.1
def hn_o (H : ab_H) : Nat → Nat := H.2.2.2.2
def rs_n (R : ab_R) : Nat := R.1
def rs_l (R : ab_R) : Nat → Nat := R.2.1
def rs_f (R : ab_R) : Nat → Nat → ab_F := R.2.2
/-- a name is bound -/
def hn_add (H : ab_H) (x k : Nat) (v : Int32) (o : Nat) : ab_H :=
  (hn_b H + 1, (fun i => if i = hn_b H + 1 then x else hn_x H i), (fun i => if i = hn_b H + 1 then k else hn_k H i), (fun i => if i = hn_b H + 1 then v else hn_v H i), (fun i => if i = hn_b H + 1 then o else hn_o H i))
/-- a rest is taken -/
def rs_add (R : ab_R) (n : Nat) (f : Nat → ab_F) : ab_R := (rs_n R + 1, (fun r => if r = rs_n R then n else rs_l R r), (fun r => if r = rs_n R then f else rs_f R r))
section
variable {H : ab_H} {R : ab_R} {x k o i n r : Nat} {v : Int32} {f : Nat → ab_F}
theorem hn_add_b : hn_b (hn_add H x k v o) = hn_b H + 1 := rfl
theorem hn_add_x (h : i ≤ hn_b H) : hn_x (hn_add H x k v o) i = hn_x H i := if_neg (by omega)
theorem hn_add_k (h : i ≤ hn_b H) : hn_k (hn_add H x k v o) i = hn_k H i := if_neg (by omega)
theorem hn_add_v (h : i ≤ hn_b H) : hn_v (hn_add H x k v o) i = hn_v H i := if_neg (by omega)
theorem hn_add_o (h : i ≤ hn_b H) : hn_o (hn_add H x k v o) i = hn_o H i := if_neg (by omega)
theorem hn_add_x' : hn_x (hn_add H x k v o) (hn_b H + 1) = x := if_pos rfl
theorem hn_add_k' : hn_k (hn_add H x k v o) (hn_b H + 1) = k := if_pos rfl
theorem hn_add_v' : hn_v (hn_add H x k v o) (hn_b H + 1) = v := if_pos rfl
theorem hn_add_o' : hn_o (hn_add H x k v o) (hn_b H + 1) = o := if_pos rfl
theorem rs_add_n : rs_n (rs_add R n f) = rs_n R + 1 := rfl
theorem rs_add_l (h : r ≠ rs_n R) : rs_l (rs_add R n f) r = rs_l R r := if_neg h
theorem rs_add_l' : rs_l (rs_add R n f) (rs_n R) = n := if_pos rfl
theorem rs_add_f (h : r ≠ rs_n R) : rs_f (rs_add R n f) r = rs_f R r := if_neg h
theorem rs_add_f' : rs_f (rs_add R n f) (rs_n R) = f := if_pos rfl
end
/-- the names from e outwards are just those of the list -/
def ab_E (H : ab_H) : List Nat → Nat → Prop
  | [], e => e = 0
  | x :: l, e => 1 ≤ e ∧ e ≤ hn_b H ∧ hn_x H e = x ∧ ab_E H l (hn_o H e)
/-- a value that may be -/
def ab_V (tn : Nat → Nat) (N : Nat) (H : ab_H) (R : ab_R) (k : Nat) (v : Int32) : Prop :=
  k = 1 ∨ (k = 2 ∧ ∃ s p, v = nI (64 * s + p) ∧ p < N ∧ 40 ≤ tn p ∧ tn p < 46 ∧ s ≤ hn_b H ∧ ab_E H (sg_s tn p) s) ∨ (k = 3 ∧ ∃ r, r < rs_n R ∧ v = nI r)
/-- a pending piece of work that may be -/
def ab_W (tn : Nat → Nat) (N : Nat) (H : ab_H) (R : ab_R) (f : ab_F) : Prop :=
  fr_p f < 32 ∧ (fr_d f ≠ 1 → fr_k f = 0) ∧
  ((fr_d f = 0 ∧ fr_p f < N ∧ 52 ≤ tn (fr_p f) ∧ tn (fr_p f) ≤ 56 ∧ ab_E H (sg_s tn (fr_p f)) (fr_e f)) ∨
   (fr_d f = 1 ∧ fr_p f < N ∧ 52 ≤ tn (fr_p f) ∧ tn (fr_p f) ≤ 56 ∧ ab_V tn N H R (fr_k f) (fr_v f)) ∨
   (fr_d f = 2 ∧ fr_p f < N ∧ tn (fr_p f) = 57 ∧ ab_E H (sg_s tn (fr_p f)) (fr_e f)) ∨
   (fr_d f = 3 ∧ fr_p f < N ∧ tn (fr_p f) = 58) ∨
   fr_d f = 4 ∨
   (fr_d f = 5 ∧ fr_p f < N ∧ 60 ≤ tn (fr_p f) ∧ tn (fr_p f) < 66 ∧ ab_E H (sg_s tn (fr_p f)) (fr_e f)))
section
variable {tn : Nat → Nat} {N : Nat} {H : ab_H} {R : ab_R} {x k o i n r : Nat} {v : Int32} {f : Nat → ab_F}
theorem ab_E_le : ∀ (l : List Nat) (e : Nat), ab_E H l e → e ≤ hn_b H := by
  intro l e h
  cases l with
  | nil => have h2 : e = 0 := h; omega
  | cons y l => exact h.2.1
theorem ab_E_add : ∀ (l : List Nat) (e : Nat), ab_E H l e → ab_E (hn_add H x k v o) l e := by
  intro l
  induction l with
  | nil => intro e h; exact h
  | cons y l ih =>
    intro e h
    obtain ⟨h1, h2, h3, h4⟩ := h
    refine ⟨h1, by rw [hn_add_b]; omega, by rw [hn_add_x h2]; exact h3, ?_⟩
    rw [hn_add_o h2]
    exact ih _ h4
theorem ab_E_new {l : List Nat} {e : Nat} (h : ab_E H l e) : ab_E (hn_add H x k v e) (x :: l) (hn_b H + 1) := by
  refine ⟨by omega, Nat.le_refl _, hn_add_x', ?_⟩
  rw [hn_add_o']
  exact ab_E_add l e h
theorem ab_V_addH {k' : Nat} {v' : Int32} (h : ab_V tn N H R k' v') : ab_V tn N (hn_add H x k v o) R k' v' := by
  rcases h with h | ⟨h0, s, p, h1, h2, h3, h4, h5, h6⟩ | h
  · exact Or.inl h
  · exact Or.inr (Or.inl ⟨h0, s, p, h1, h2, h3, h4, by rw [hn_add_b]; omega, ab_E_add _ _ h6⟩)
  · exact Or.inr (Or.inr h)
theorem ab_V_addR {k' : Nat} {v' : Int32} (h : ab_V tn N H R k' v') : ab_V tn N H (rs_add R n f) k' v' := by
  rcases h with h | h | ⟨h0, r, h1, h2⟩
  · exact Or.inl h
  · exact Or.inr (Or.inl h)
  · exact Or.inr (Or.inr ⟨h0, r, by rw [rs_add_n]; omega, h2⟩)
theorem ab_W_addH {g : ab_F} (h : ab_W tn N H R g) : ab_W tn N (hn_add H x k v o) R g := by
  obtain ⟨h1, h2, h⟩ := h
  refine ⟨h1, h2, ?_⟩
  rcases h with ⟨a, b, c, d, e⟩ | ⟨a, b, c, d, e⟩ | ⟨a, b, c, d⟩ | ⟨a, b, c⟩ | a | ⟨a, b, c, d, e⟩
  · exact Or.inl ⟨a, b, c, d, ab_E_add _ _ e⟩
  · exact Or.inr (Or.inl ⟨a, b, c, d, ab_V_addH e⟩)
  · exact Or.inr (Or.inr (Or.inl ⟨a, b, c, ab_E_add _ _ d⟩))
  · exact Or.inr (Or.inr (Or.inr (Or.inl ⟨a, b, c⟩)))
  · exact Or.inr (Or.inr (Or.inr (Or.inr (Or.inl a))))
  · exact Or.inr (Or.inr (Or.inr (Or.inr (Or.inr ⟨a, b, c, d, ab_E_add _ _ e⟩))))
theorem ab_W_addR {g : ab_F} (h : ab_W tn N H R g) : ab_W tn N H (rs_add R n f) g := by
  obtain ⟨h1, h2, h⟩ := h
  refine ⟨h1, h2, ?_⟩
  rcases h with h | ⟨a, b, c, d, e⟩ | h
  · exact Or.inl h
  · exact Or.inr (Or.inl ⟨a, b, c, d, ab_V_addR e⟩)
  · exact Or.inr (Or.inr h)
theorem ab_V_k {k' : Nat} {v' : Int32} (h : ab_V tn N H R k' v') : 1 ≤ k' ∧ k' ≤ 3 := by
  rcases h with h | ⟨h, _⟩ | ⟨h, _⟩ <;> omega
end
/-- what is left to do: for a term, for a pending piece, for all pending ones -/
def pm_t (tn : Nat → Nat) (p : Nat) : Nat := 28 * (sg_e tn p - p) - 25
def pm_f (tn : Nat → Nat) (f : ab_F) : Nat :=
  if fr_d f = 0 then pm_t tn (sg_e tn (fr_p f + 1)) + 6 else if fr_d f = 2 then pm_t tn (sg_e tn (fr_p f + 1)) + pm_t tn (sg_e tn (sg_e tn (fr_p f + 1))) + 3 else if fr_d f = 5 then pm_t tn (sg_e tn (fr_p f + 1)) + 50 else 3
def pm_s (g : Nat → Nat) : Nat → Nat
  | 0 => 0
  | d + 1 => pm_s g d + g d
theorem pm_s_eq {g h : Nat → Nat} : ∀ d, (∀ i, i < d → g i = h i) → pm_s g d = pm_s h d := by
  intro d
  induction d with
  | zero => intro _; rfl
  | succ d ih => intro hh; show pm_s g d + g d = pm_s h d + h d; rw [ih (fun i hi => hh i (by omega)), hh d (by omega)]
theorem pm_s_le {g : Nat → Nat} {c : Nat} : ∀ d, (∀ i, i < d → g i ≤ c) → pm_s g d ≤ d * c := by
  intro d
  induction d with
  | zero => intro _; exact Nat.zero_le _
  | succ d ih =>
    intro hh
    have h1 := ih (fun i hi => hh i (by omega))
    have h2 := hh d (by omega)
    show pm_s g d + g d ≤ (d + 1) * c
    rw [Nat.add_mul]
    omega
theorem pm_s_add {g : Nat → Nat} (d : Nat) : ∀ n, pm_s g (d + n) = pm_s g d + pm_s (fun i => g (d + i)) n := by
  intro n
  induction n with
  | zero => rfl
  | succ n ih => show pm_s g (d + n) + g (d + n) = pm_s g d + (pm_s (fun i => g (d + i)) n + g (d + n)); rw [ih]; omega
theorem pm_s_mono {g : Nat → Nat} {d d' : Nat} (h : d ≤ d') : pm_s g d ≤ pm_s g d' := by
  obtain ⟨n, rfl⟩ : ∃ n, d' = d + n := ⟨d' - d, by omega⟩
  rw [pm_s_add]; omega
section
variable {tn : Nat → Nat} {N p : Nat}
theorem pm_t_le (hc : sg_cp tn N) (hp : p < N) : 3 ≤ pm_t tn p ∧ pm_t tn p + 28 * p ≤ 28 * N - 25 := by
  have h1 := sg_lt hc hp
  have h2 := sg_le hc hp
  have h3 := hc.1.1
  unfold pm_t
  omega
theorem pm_f_le {H : ab_H} {R : ab_R} {f : ab_F} (hc : sg_cp tn N) (hf : ab_W tn N H R f) : pm_f tn f ≤ 865 := by
  have hN := hc.1.1
  have hpt : ∀ t, 52 ≤ t → t ≤ 56 → sg_pt t = 2 := by intro t h1 h2; unfold sg_pt; rw [if_neg (by omega), if_neg (by omega), if_neg (by omega), if_pos (by omega)]
  have hpt3 : sg_pt 57 = 3 := by decide
  have hpt6 : ∀ t, 60 ≤ t → t < 66 → sg_pt t = 2 := by intro t h1 h2; unfold sg_pt; rw [if_neg (by omega), if_neg (by omega), if_neg (by omega), if_neg (by omega), if_neg (by omega), if_neg (by omega), if_pos (by omega)]
  unfold pm_f
  obtain ⟨_, _, hf⟩ := hf
  rcases hf with ⟨a, b, c, d, e⟩ | ⟨a, b, c, d, e⟩ | ⟨a, b, c, d⟩ | ⟨a, b, c⟩ | a | ⟨a, b, c, d, e⟩
  · have h0 := hpt _ c d
    have h1 := sg_lt hc (sg_p1 hc b (by omega))
    have h2 := pm_t_le hc (sg_p2 hc b (by omega))
    rw [if_pos a]; omega
  · rw [if_neg (by omega), if_neg (by omega), if_neg (by omega)]; omega
  · have h0 := hpt3
    rw [← c] at h0
    have h1 := sg_lt hc (sg_p1 hc b (by omega))
    have h2 := sg_lt hc (sg_p2 hc b (by omega))
    have h3 := sg_lt hc (sg_p3 hc b (by omega))
    have h4 := sg_le hc (sg_p3 hc b (by omega))
    rw [if_neg (by omega), if_pos a]
    unfold pm_t
    omega
  · rw [if_neg (by omega), if_neg (by omega), if_neg (by omega)]; omega
  · rw [if_neg (by omega), if_neg (by omega), if_neg (by omega)]; omega
  · have h0 := hpt6 _ c d
    have h1 := sg_lt hc (sg_p1 hc b (by omega))
    have h2 := pm_t_le hc (sg_p2 hc b (by omega))
    rw [if_neg (by omega), if_neg (by omega), if_pos a]; omega
end
/-- parts of the tokens by their numbers -/
theorem sg_pt_leaf {t : Nat} (h : 80 ≤ t ∨ t < 40) : sg_pt t = 0 := by
  unfold sg_pt; repeat' split
  all_goals omega
theorem sg_pt_one {t : Nat} (h : (40 ≤ t ∧ t < 46) ∨ (70 ≤ t ∧ t < 80) ∨ t = 58 ∨ t = 59) : sg_pt t = 1 := by
  unfold sg_pt; repeat' split
  all_goals omega
theorem sg_pt_two {t : Nat} (h : (52 ≤ t ∧ t ≤ 56) ∨ (60 ≤ t ∧ t < 66)) : sg_pt t = 2 := by
  unfold sg_pt; repeat' split
  all_goals omega
theorem sg_pt_three : sg_pt 57 = 3 := by decide
end
section
/-! the component's state against the abstract machine -/
def ab_mx (a b : Nat) : Nat := if a ≤ b then b else a
abbrev ab_C : Type := Bool × Nat × Nat × Nat × Int32 × Nat × (Nat → ab_F) × ab_H × ab_R × Nat × Nat × Nat × (Nat → Int32)
def ab_psh (s : Nat → ab_F) (d : Nat) (f : ab_F) : Nat → ab_F := fun i => if i = d then f else s i
def xm_sz (R : ab_R) (k g : Nat) : Nat := if k = 3 then 2 + 3 * rs_l R g else 3
def xm_fc (f : ab_F) (x : Nat) : hp_C := if x = 0 then hp_R (lN (fr_d f * 64 + fr_p f)) else if x = 1 then hp_P (fr_e f) else hp_V (fr_k f) (fr_v f)
def xm_rc (s : Nat → ab_F) (y : Nat) : hp_C := xm_fc (s (y / 3)) (y % 3)
def xm_ac (H : ab_H) (R : ab_R) (k g x : Nat) : hp_C :=
  if x = 0 then hp_R (lN (xm_sz R k g * 256 + k)) else if k = 1 then (if x = 1 then hp_V (hn_k H g) (hn_v H g) else hp_P (hn_o H g))
  else if k = 2 then (if x = 1 then hp_R (lN (g % 64)) else hp_P (g / 64)) else (if x = 1 then hp_R (lN (rs_l R g)) else xm_rc (rs_f R g) (x - 2))
def xm_tg (H : ab_H) (R : ab_R) (k g : Nat) : Prop := g < 2 ^ 30 ∧ ((k = 1 ∧ 1 ≤ g ∧ g ≤ hn_b H) ∨ k = 2 ∨ (k = 3 ∧ g < rs_n R))
section
variable {H : ab_H} {R : ab_R} {k g x o i n r f y e d : Nat} {v : Int32} {s : Nat → ab_F} {fs : Nat → ab_F} {O : Nat → Nat → Nat → Prop} {frm : Nat → Int64}
theorem xm_rc0 : xm_rc s (3 * f) = hp_R (lN (fr_d (s f) * 64 + fr_p (s f))) := by
  unfold xm_rc; rw [show 3 * f / 3 = f from by omega, show 3 * f % 3 = 0 from by omega]; rfl
theorem xm_rc1 : xm_rc s (3 * f + 1) = hp_P (fr_e (s f)) := by
  unfold xm_rc; rw [show (3 * f + 1) / 3 = f from by omega, show (3 * f + 1) % 3 = 1 from by omega]; rfl
theorem xm_rc2 : xm_rc s (3 * f + 2) = hp_V (fr_k (s f)) (fr_v (s f)) := by
  unfold xm_rc; rw [show (3 * f + 2) / 3 = f from by omega, show (3 * f + 2) % 3 = 2 from by omega]; rfl
theorem xm_cF : cl_F (xm_rc s) d := fun f _ => ⟨⟨_, xm_rc0⟩, ⟨_, xm_rc1⟩, ⟨_, _, xm_rc2⟩⟩
theorem xm_ac3 : xm_ac H R 3 g (2 + y) = xm_rc (rs_f R g) y := by
  unfold xm_ac
  rw [if_neg (by omega), if_neg (by decide), if_neg (by decide), if_neg (by omega), show 2 + y - 2 = y from by omega]
theorem xm_L (hR : ∀ r, rs_l R r ≤ 15) : hp_L (xm_ac H R) (xm_sz R) (xm_tg H R) := by
  refine ⟨fun k g => if_pos rfl, fun g => ⟨rfl, ⟨_, _, rfl⟩, ⟨_, rfl⟩⟩, fun g => ⟨rfl, ⟨_, rfl⟩, ⟨_, rfl⟩⟩, fun g => ⟨rs_l R g, hR g, rfl, rfl, fun j hj => ?_⟩, fun k g h => ?_⟩
  · refine ⟨⟨_, (xm_ac3).trans xm_rc0⟩, ⟨fr_e (rs_f R g j), ?_⟩, ⟨fr_k (rs_f R g j), fr_v (rs_f R g j), ?_⟩⟩
    · rw [show 3 + 3 * j = 2 + (3 * j + 1) from by omega, xm_ac3, xm_rc1]
    · rw [show 4 + 3 * j = 2 + (3 * j + 2) from by omega, xm_ac3, xm_rc2]
  · rcases h.2 with h | h | h
    · exact Or.inl h.1
    · exact Or.inr (Or.inl h)
    · exact Or.inr (Or.inr h.1)
theorem xm_agH {x' k' : Nat} (h : xm_tg H R k g) : xm_tg (hn_add H x' k' v o) R k g ∧ ∀ x, xm_ac (hn_add H x' k' v o) R k g x = xm_ac H R k g x := by
  refine ⟨⟨h.1, ?_⟩, fun x => ?_⟩
  · rcases h.2 with h | h | h
    · exact Or.inl ⟨h.1, h.2.1, by rw [hn_add_b]; omega⟩
    · exact Or.inr (Or.inl h)
    · exact Or.inr (Or.inr h)
  · unfold xm_ac
    by_cases hk : k = 1
    · have hg : g ≤ hn_b H := by rcases h.2 with h | h | h <;> omega
      rw [hn_add_k hg, hn_add_v hg, hn_add_o hg]
    · rw [if_neg hk, if_neg hk]
theorem xm_agR (h : xm_tg H R k g) : xm_sz (rs_add R n fs) k g = xm_sz R k g ∧ xm_tg H (rs_add R n fs) k g ∧ ∀ x, xm_ac H (rs_add R n fs) k g x = xm_ac H R k g x := by
  have hs : xm_sz (rs_add R n fs) k g = xm_sz R k g := by
    unfold xm_sz
    by_cases hk : k = 3
    · have hg : g ≠ rs_n R := by rcases h.2 with h | h | h <;> omega
      rw [if_pos hk, if_pos hk, rs_add_l hg]
    · rw [if_neg hk, if_neg hk]
  refine ⟨hs, ⟨h.1, ?_⟩, fun x => ?_⟩
  · rcases h.2 with h | h | h
    · exact Or.inl h
    · exact Or.inr (Or.inl h)
    · exact Or.inr (Or.inr ⟨h.1, by rw [rs_add_n]; omega⟩)
  · unfold xm_ac
    rw [hs]
    by_cases hk : k = 3
    · have hg : g ≠ rs_n R := by rcases h.2 with h | h | h <;> omega
      rw [rs_add_l hg, rs_add_f hg]
    · by_cases hk1 : k = 1
      · rw [if_pos hk1, if_pos hk1]
      · have hk2 : k = 2 := by rcases h.2 with h | h | h <;> omega
        rw [if_neg hk1, if_pos hk2, if_neg hk1, if_pos hk2]
/-- the cells of one pending piece -/
theorem xm_f1 (h : ∀ y, y < 3 * d → hp_rp O (xm_rc s y) (frm y)) (hf : f < d) : frm (3 * f) = lN (fr_d (s f) * 64 + fr_p (s f)) ∧ hp_pr O (fr_e (s f)) (frm (3 * f + 1)) ∧ hp_vr O (fr_k (s f)) (fr_v (s f)) (frm (3 * f + 2)) := by
  have h0 := h (3 * f) (by omega)
  have h1 := h (3 * f + 1) (by omega)
  have h2 := h (3 * f + 2) (by omega)
  rw [xm_rc0, hp_rR] at h0
  rw [xm_rc1, hp_rP] at h1
  rw [xm_rc2, hp_rV] at h2
  exact ⟨h0, h1, h2⟩
theorem xm_f2 (h : ∀ f, f < d → frm (3 * f) = lN (fr_d (s f) * 64 + fr_p (s f)) ∧ hp_pr O (fr_e (s f)) (frm (3 * f + 1)) ∧ hp_vr O (fr_k (s f)) (fr_v (s f)) (frm (3 * f + 2))) : ∀ y, y < 3 * d → hp_rp O (xm_rc s y) (frm y) := by
  intro y hy
  have h3 := h (y / 3) (by omega)
  rcases (by omega : y = 3 * (y / 3) ∨ y = 3 * (y / 3) + 1 ∨ y = 3 * (y / 3) + 2) with e | e | e
  · rw [e, xm_rc0, hp_rR]; exact h3.1
  · rw [e, xm_rc1, hp_rP]; exact h3.2.1
  · rw [e, xm_rc2, hp_rV]; exact h3.2.2
theorem xm_psh {fr : ab_F} {a b c : Int64} (h : ∀ y, y < 3 * d → hp_rp O (xm_rc s y) (frm y)) (ha : a = lN (fr_d fr * 64 + fr_p fr)) (hb : hp_pr O (fr_e fr) b) (hc : hp_vr O (fr_k fr) (fr_v fr) c) :
    ∀ y, y < 3 * (d + 1) → hp_rp O (xm_rc (ab_psh s d fr) y) (vp_updL (vp_updL (vp_updL frm (d * 3) a) (d * 3 + 1) b) (d * 3 + 2) c y) := by
  apply xm_f2
  intro f hf
  rcases Nat.lt_or_ge f d with h1 | h1
  · have e : ab_psh s d fr f = s f := if_neg (by omega)
    rw [e, pk_uLn (by omega), pk_uLn (by omega), pk_uLn (by omega), pk_uLn (by omega), pk_uLn (by omega), pk_uLn (by omega), pk_uLn (by omega), pk_uLn (by omega), pk_uLn (by omega)]
    exact xm_f1 h h1
  · have e2 : f = d := by omega
    subst e2
    have e : ab_psh s f fr f = fr := if_pos rfl
    rw [e, Nat.mul_comm 3 f, pk_uLn (by omega), pk_uLn (by omega), pk_uLs, pk_uLn (by omega), pk_uLs, pk_uLs]
    exact ⟨ha, hb, hc⟩
end
/-- memory and all that is reached from outside of it -/
def xm_M (H : ab_H) (R : ab_R) (T b : Nat) (Z : hp_Z) (e k : Nat) (v : Int32) (d : Nat) (s : Nat → ab_F) (pb : Nat) (val oth : Int64) (mem frm : Nat → Int64) : Prop :=
  (b = 1 ∨ b = 58000) ∧ hp_H (xm_ac H R) (xm_sz R) (xm_tg H R) b Z mem ∧ hp_t Z ≤ b + T ∧ pb < 2 ^ 31 ∧ hp_pr (hp_O Z) e (lN pb) ∧ hp_vr (hp_O Z) k v val ∧ (∃ k2 w2, hp_vr (hp_O Z) k2 w2 oth) ∧ ∀ y, y < 3 * d → hp_rp (hp_O Z) (xm_rc s y) (frm y)
section
variable {H H' : ab_H} {R R' : ab_R} {T b e k d pb kk g : Nat} {Z : hp_Z} {v : Int32} {s : Nat → ab_F} {val oth : Int64} {mem mem' frm : Nat → Int64}
theorem xm_t (h : xm_M H R T b Z e k v d s pb val oth mem frm) (hT : T ≤ 57999) : 1 ≤ b ∧ b ≤ hp_t Z ∧ hp_t Z ≤ 115999 ∧ (b = 1 ∨ b = 58000) := by
  have h1 := hp_T_b h.2.1.1
  have h2 := h.1
  have h3 := h.2.2.1
  omega
theorem xm_O (h : xm_M H R T b Z e k v d s pb val oth mem frm) (hT : T ≤ 57999) (hR : ∀ r, rs_l R r ≤ 15) {p : Nat} (hO : hp_O Z p kk g) : 1 ≤ p ∧ p + xm_sz R kk g ≤ 116000 ∧ xm_tg H R kk g ∧ ∀ x, x < xm_sz R kk g → hp_rp (hp_O Z) (xm_ac H R kk g x) (mem (p + x)) := by
  obtain ⟨j, hj, rfl, rfl, rfl⟩ := hO
  have h1 := xm_t h hT
  have h2 := hp_T_in h.2.1.1 hj
  exact ⟨by omega, by omega, h.2.1.1.2.2.2 j hj, h.2.1.2 j hj⟩
/-- a thing is made; what is reached from outside stays -/
theorem xm_new (h : xm_M H R T b Z e k v d s pb val oth mem frm) (hk : xm_tg H' R' kk g) (hag : ∀ k g, xm_tg H R k g → xm_sz R' k g = xm_sz R k g ∧ xm_tg H' R' k g ∧ ∀ x, xm_ac H' R' k g x = xm_ac H R k g x)
    (hm : ∀ y, y < hp_t Z → mem' y = mem y) (hc : ∀ x, x < xm_sz R' kk g → hp_rp (hp_O (hp_new Z kk g (xm_sz R' kk g))) (xm_ac H' R' kk g x) (mem' (hp_t Z + x))) :
    xm_M H' R' (T + xm_sz R' kk g) b (hp_new Z kk g (xm_sz R' kk g)) e k v d s pb val oth mem' frm := by
  obtain ⟨h1, h2, h3, h4, h5, h6, ⟨k2, w2, h7⟩, h8⟩ := h
  refine ⟨h1, ?_, by rw [hp_new_t]; omega, h4, hp_pr_m (hp_X_O hp_new_X) h5, hp_vr_m (hp_X_O hp_new_X) h6, ⟨k2, w2, hp_vr_m (hp_X_O hp_new_X) h7⟩, fun y hy => hp_rp_m (hp_X_O hp_new_X) (h8 y hy)⟩
  refine hp_H_new h2 hk ?_ (fun y _ hy => hm y hy) hc
  intro j hj
  have h9 := hag _ _ (h2.1.2.2.2 j hj)
  exact ⟨h9.1, h9.2.1, fun x _ => h9.2.2 x⟩
theorem xm_bind (v' : Int32) (k' x o : Nat) : ∀ k g, xm_tg H R k g → xm_sz R k g = xm_sz R k g ∧ xm_tg (hn_add H x k' v' o) R k g ∧ ∀ y, xm_ac (hn_add H x k' v' o) R k g y = xm_ac H R k g y := fun _ _ h => ⟨rfl, xm_agH h⟩
end
/-- the code -/
noncomputable def xc_o (tn : Nat → Nat) (i : Nat) : Nat :=
  haveI := Classical.propDecidable (tn i - 30 ∈ sg_s tn i)
  if 80 ≤ tn i then 0 else if 70 ≤ tn i then 13 else if 60 ≤ tn i then 12 else if 52 ≤ tn i then tn i - 48 else if 40 ≤ tn i then 3 else if tn i - 30 ∈ sg_s tn i then 1 else 2
def xc_C (tn : Nat → Nat) (N : Nat) (cop car p1 p2 p3 : Nat → Int32) : Prop :=
  ∀ i, i < N → cop i = nI (xc_o tn i) ∧ p1 i = nI (i + 1) ∧ (2 ≤ sg_pt (tn i) → p2 i = nI (sg_e tn (i + 1))) ∧ (3 ≤ sg_pt (tn i) → p3 i = nI (sg_e tn (sg_e tn (i + 1)))) ∧ (80 ≤ tn i → car i = nI (tn i) - 100) ∧ (tn i < 40 → tn i - 30 ∈ sg_s tn i → car i = nI (sg_i (tn i - 30) (sg_s tn i)))
end
section
/-! the component's small methods: take, bind, push, lookUp, makeFunction -/
section
variable {f_count f_scopes f_freeNames f_base f_top f_sinceCollected f_room f_depth f_returning f_code f_bindings : Int32} {f_value f_other : Int64} {f_lastStatus f_lastKind f_lastNumber f_outCount f_callCount f_shiftCount f_mostPending : Int32} {a_tokens a_spans a_codeOp a_codeArgument a_partOne a_partTwo a_partThree a_scopeName a_scopeAround a_scopeOf : Nat → Int32} {a_memory a_frames : Nat → Int64} {a_outputs : Nat → Int32} {n_memory : Nat}
variable {H : ab_H} {R : ab_R} {T b e k d pb kd n ms : Nat} {Z : hp_Z} {v : Int32} {s : Nat → ab_F}
theorem xs_take {post : Int32 → SX → Prop} {w : Nat} (h : xm_M H R T b Z e k v d s pb f_value f_other a_memory a_frames) (hT : T ≤ 57900) (hR : ∀ r, rs_l R r ≤ 15) (hd : d ≤ 16) (hw : w < 100) (hkd : kd < 256)
    (K : ∀ (b2 : Nat) (Z2 : hp_Z) (mem2 frm2 : Nat → Int64) (pb2 : Nat) (v2 o2 : Int64) (sc : Int32), xm_M H R T b2 Z2 e k v d s pb2 v2 o2 mem2 frm2 →
      post (nI (hp_t Z2)) (f_count, f_scopes, f_freeNames, nI b2, nI (hp_t Z2 + w), sc, f_room, nI d, f_returning, f_code, nI pb2, v2, o2, f_lastStatus, f_lastKind, f_lastNumber, f_outCount, f_callCount, f_shiftCount, f_mostPending, a_tokens, a_spans, a_codeOp, a_codeArgument, a_partOne, a_partTwo, a_partThree, a_scopeName, a_scopeAround, a_scopeOf, vp_updL mem2 (hp_t Z2) (lN (w * 256 + kd)), frm2, a_outputs, 116000)) :
    wpX_take post (f_count, f_scopes, f_freeNames, nI b, nI (hp_t Z), f_sinceCollected, f_room, nI d, f_returning, f_code, nI pb, f_value, f_other, f_lastStatus, f_lastKind, f_lastNumber, f_outCount, f_callCount, f_shiftCount, f_mostPending, a_tokens, a_spans, a_codeOp, a_codeArgument, a_partOne, a_partTwo, a_partThree, a_scopeName, a_scopeAround, a_scopeOf, a_memory, a_frames, a_outputs, 116000) (nI kd) (nI w) := by
  obtain ⟨h1, h2, h3, h4, h5, h6, ⟨k2, w2, h7⟩, h8⟩ := h
  refine cl_take (xm_L hR) h2 h1 (by omega) hd xm_cF h5 h4 h6 h7 h8 hw hkd ?_
  intro b2 Z2 mem2 frm2 pb2 v2 o2 sc a1 a2 a3 a4 a5 a6 a7 a8
  have hb := hp_T_b h2.1
  have hb2 := hp_T_b a2.1
  exact K b2 Z2 mem2 frm2 pb2 v2 o2 sc ⟨a1, a2, by omega, a4, a5, a6, ⟨k2, w2, a7⟩, a8⟩
theorem xs_bind {post : SX → Prop} {val : Int64} (x : Nat) (h : xm_M H R T b Z e k v d s pb val f_other a_memory a_frames) (hT : T ≤ 57900) (hR : ∀ r, rs_l R r ≤ 15) (hd : d ≤ 16) (hb : hn_b H < 2 ^ 29)
    (K : ∀ (b2 : Nat) (Z2 : hp_Z) (mem2 frm2 : Nat → Int64) (pb2 : Nat) (v2 o2 : Int64) (sc : Int32), xm_M (hn_add H x k v e) R (T + 3) b2 Z2 (hn_b H + 1) k v d s pb2 v2 o2 mem2 frm2 →
      post (f_count, f_scopes, f_freeNames, nI b2, nI (hp_t Z2), sc, f_room, nI d, f_returning, f_code, nI pb2, v2, o2, f_lastStatus, f_lastKind, f_lastNumber, f_outCount, f_callCount, f_shiftCount, f_mostPending, a_tokens, a_spans, a_codeOp, a_codeArgument, a_partOne, a_partTwo, a_partThree, a_scopeName, a_scopeAround, a_scopeOf, mem2, frm2, a_outputs, 116000)) :
    wpX_bind post (f_count, f_scopes, f_freeNames, nI b, nI (hp_t Z), f_sinceCollected, f_room, nI d, f_returning, f_code, f_bindings, f_value, f_other, f_lastStatus, f_lastKind, f_lastNumber, f_outCount, f_callCount, f_shiftCount, f_mostPending, a_tokens, a_spans, a_codeOp, a_codeArgument, a_partOne, a_partTwo, a_partThree, a_scopeName, a_scopeAround, a_scopeOf, a_memory, a_frames, a_outputs, 116000) val (nI pb) := by
  unfold wpX_bind
  refine xs_take (kd := 1) (w := 3) h hT hR hd (by decide) (by decide) ?_
  intro b2 Z2 mem2 frm2 pb2 v2 o2 sc hM
  have ht := xm_t hM (by omega)
  have hz : hp_t Z2 ≤ b2 + T := hM.2.2.1
  have e1 : (nI (hp_t Z2) + 1).toNatClampNeg = hp_t Z2 + 1 := pk_cl _ (nb_a1 _) (by omega)
  have e2 : (nI (hp_t Z2) + 2).toNatClampNeg = hp_t Z2 + 2 := pk_cl _ (nb_a2 _) (by omega)
  refine And.intro (pk_in _ _ (by omega) (nb_a1 _) (by decide)) (nm_r (e' := vp_updL (vp_updL mem2 (hp_t Z2) (lN (3 * 256 + 1))) (hp_t Z2 + 1) v2) (by rw [e1]) (And.intro (pk_in _ _ (by omega) (nb_a2 _) (by decide)) (nm_r (e' := vp_updL (vp_updL (vp_updL mem2 (hp_t Z2) (lN (3 * 256 + 1))) (hp_t Z2 + 1) v2) (hp_t Z2 + 2) (lN pb2)) (by rw [e2, nI_l hM.2.2.2.1]) ?_)))
  have hX : hp_X Z2 (hp_new Z2 1 (hn_b H + 1) 3) := hp_new_X
  have hN := xm_new (H' := hn_add H x k v e) (R' := R) (kk := 1) (g := hn_b H + 1) (mem' := vp_updL (vp_updL (vp_updL mem2 (hp_t Z2) (lN (3 * 256 + 1))) (hp_t Z2 + 1) v2) (hp_t Z2 + 2) (lN pb2)) hM ⟨by omega, Or.inl ⟨rfl, by omega, Nat.le_refl _⟩⟩ (xm_bind v k x e) (fun y hy => by rw [pk_uLn (by omega), pk_uLn (by omega), pk_uLn (by omega)]) (fun y hy => by
    have hy3 : y < 3 := hy
    rcases (by omega : y = 0 ∨ y = 1 ∨ y = 2) with rfl | rfl | rfl
    · rw [show hp_t Z2 + 0 = hp_t Z2 from rfl, pk_uLn (by omega), pk_uLn (by omega), pk_uLs]
      exact hp_rR.mpr rfl
    · rw [pk_uLn (by omega), pk_uLs]
      show hp_rp _ (hp_V (hn_k (hn_add H x k v e) (hn_b H + 1)) (hn_v (hn_add H x k v e) (hn_b H + 1))) v2
      rw [hn_add_k', hn_add_v', hp_rV]
      exact hp_vr_m (hp_X_O hX) hM.2.2.2.2.2.1
    · rw [pk_uLs]
      show hp_rp _ (hp_P (hn_o (hn_add H x k v e) (hn_b H + 1))) (lN pb2)
      rw [hn_add_o', hp_rP]
      exact hp_pr_m (hp_X_O hX) hM.2.2.2.2.1)
  obtain ⟨a1, a2, a3, a4, a5, a6, a7, a8⟩ := hN
  exact K b2 (hp_new Z2 1 (hn_b H + 1) 3) _ frm2 (hp_t Z2) v2 o2 sc ⟨a1, a2, a3, by omega, Or.inr ⟨hp_t Z2, hp_new_O hM.2.1.1, rfl⟩, a6, a7, a8⟩
theorem xs_push {post : SX → Prop} {p2 : Int64} (hd : d < 16) (hms : ms ≤ 16) (hkn : kd * 64 + n < 2 ^ 20) (hpb : pb < 2 ^ 31)
    (K : post (f_count, f_scopes, f_freeNames, f_base, f_top, f_sinceCollected, f_room, nI (d + 1), f_returning, f_code, nI pb, f_value, f_other, f_lastStatus, f_lastKind, f_lastNumber, f_outCount, f_callCount, f_shiftCount, nI (ab_mx (d + 1) ms), a_tokens, a_spans, a_codeOp, a_codeArgument, a_partOne, a_partTwo, a_partThree, a_scopeName, a_scopeAround, a_scopeOf, a_memory, vp_updL (vp_updL (vp_updL a_frames (d * 3) (lN (kd * 64 + n))) (d * 3 + 1) (lN pb)) (d * 3 + 2) p2, a_outputs, n_memory)) :
    wpX_push post (f_count, f_scopes, f_freeNames, f_base, f_top, f_sinceCollected, f_room, nI d, f_returning, f_code, nI pb, f_value, f_other, f_lastStatus, f_lastKind, f_lastNumber, f_outCount, f_callCount, f_shiftCount, nI ms, a_tokens, a_spans, a_codeOp, a_codeArgument, a_partOne, a_partTwo, a_partThree, a_scopeName, a_scopeAround, a_scopeOf, a_memory, a_frames, a_outputs, n_memory) (nI kd) (nI n) p2 := by
  have e0 : nI d * 3 = nI (d * 3) := nb_m3 d
  have e1 : nI d * 3 + 1 = nI (d * 3 + 1) := by rw [e0, nb_a1]
  have e2 : nI d * 3 + 2 = nI (d * 3 + 2) := by rw [e0, nb_a2]
  have c0 : (nI d * 3).toNatClampNeg = d * 3 := pk_cl _ e0 (by omega)
  have c1 : (nI d * 3 + 1).toNatClampNeg = d * 3 + 1 := pk_cl _ e1 (by omega)
  have c2 : (nI d * 3 + 2).toNatClampNeg = d * 3 + 2 := pk_cl _ e2 (by omega)
  refine br_t (nI_lt (b := 16) hd (by decide)) ⟨pk_in _ _ (by omega) e0 (by decide), nm_r (e' := vp_updL a_frames (d * 3) (lN (kd * 64 + n))) (by rw [c0, nb_fr _ _ (by omega)]) ⟨pk_in _ _ (by omega) e1 (by decide), nm_r (e' := vp_updL (vp_updL a_frames (d * 3) (lN (kd * 64 + n))) (d * 3 + 1) (lN pb)) (by rw [c1, nI_l hpb]) ⟨pk_in _ _ (by omega) e2 (by decide), nm_r (e' := vp_updL (vp_updL (vp_updL a_frames (d * 3) (lN (kd * 64 + n))) (d * 3 + 1) (lN pb)) (d * 3 + 2) p2) (by rw [c2]) (nm_r (nI_1 d) ?_)⟩⟩⟩
  unfold ab_mx at K
  by_cases hm : d + 1 ≤ ms
  · rw [if_pos hm] at K
    exact br_t (nI_le hm (by omega)) K
  · rw [if_neg hm] at K
    exact br_f (nI_ge (show ms < d + 1 by omega) (by omega)) K
/-- going outwards i times -/
def ab_u (H : ab_H) : Nat → Nat → Nat
  | 0, e => e
  | i + 1, e => ab_u H i (hn_o H e)
theorem ab_u_E {H : ab_H} : ∀ (i : Nat) (l : List Nat) (e : Nat), ab_E H l e → i < l.length → 1 ≤ ab_u H i e ∧ ab_u H i e ≤ hn_b H ∧ hn_x H (ab_u H i e) = l.getD i 0 := by
  intro i
  induction i with
  | zero =>
    intro l e h hi
    cases l with
    | nil => exact absurd hi (Nat.not_lt_zero _)
    | cons x l => exact ⟨h.1, h.2.1, h.2.2.1⟩
  | succ i ih =>
    intro l e h hi
    cases l with
    | nil => exact absurd hi (Nat.not_lt_zero _)
    | cons x l => exact ih l (hn_o H e) h.2.2.2 (Nat.lt_of_succ_lt_succ hi)
theorem xs_lookUp7 {post : SX → Prop} {pl : Nat} (h : xm_M H R T b Z e k v d s pb f_value f_other a_memory a_frames) (hT : T ≤ 57999) (hR : ∀ r, rs_l R r ≤ 15) (hpl : pl < 64) (e0 : Nat)
    (K : ∀ v2 : Int64, hp_vr (hp_O Z) (hn_k H e0) (hn_v H e0) v2 → post (f_count, f_scopes, f_freeNames, f_base, f_top, f_sinceCollected, f_room, f_depth, 1, f_code, f_bindings, v2, f_other, f_lastStatus, f_lastKind, f_lastNumber, f_outCount, f_callCount, f_shiftCount, f_mostPending, a_tokens, a_spans, a_codeOp, a_codeArgument, a_partOne, a_partTwo, a_partThree, a_scopeName, a_scopeAround, a_scopeOf, a_memory, a_frames, a_outputs, 116000)) :
    ∀ m i (l : List Nat) e' p', pl - i < m → i ≤ pl → pl - i < l.length → ab_E H l e' → ab_u H (pl - i) e' = e0 → hp_pr (hp_O Z) e' (lN p') → p' < 2 ^ 31 → wX_lookUp_7 post (nI pl) f_count f_scopes f_freeNames f_base f_top f_sinceCollected f_room f_depth f_returning f_code f_bindings f_value f_other f_lastStatus f_lastKind f_lastNumber f_outCount f_callCount f_shiftCount f_mostPending a_tokens a_spans a_codeOp a_codeArgument a_partOne a_partTwo a_partThree a_scopeName a_scopeAround a_scopeOf a_memory a_frames a_outputs 116000 m (nI p') (nI i) := by
  intro m
  induction m with
  | zero => intro i l e' p' h1; omega
  | succ m ih =>
    intro i l e' p' h1 h2 h3 h4 h5 h6 h7
    cases l with
    | nil => exact absurd h3 (Nat.not_lt_zero _)
    | cons x l =>
      obtain ⟨g1, g2, g3, g4⟩ := h4
      rcases h6 with ⟨z, _⟩ | ⟨p, hO, hp⟩
      · omega
      have hP := xm_O h hT hR hO
      have hs3 : xm_sz R 1 e' = 3 := rfl
      rw [hs3] at hP
      have hpp : p' = p := by
        have h9 := congrArg Int64.toInt32 hp
        rw [lN_i, lN_i] at h9
        exact (nI_eq h7 (by omega)).mp h9
      subst hpp
      have c1 : (nI p' + 1).toNatClampNeg = p' + 1 := pk_cl _ (nb_a1 _) (by omega)
      have c2 : (nI p' + 2).toNatClampNeg = p' + 2 := pk_cl _ (nb_a2 _) (by omega)
      rcases Nat.eq_or_lt_of_le h2 with h10 | h10
      · subst h10
        rw [Nat.sub_self] at h5
        have h5' : e' = e0 := h5
        subst h5'
        have hv := hP.2.2.2 1 (by decide)
        rw [show xm_ac H R 1 e' 1 = hp_V (hn_k H e') (hn_v H e') from rfl, hp_rV] at hv
        refine br_t (nI_le (Nat.le_refl _) (by omega)) ⟨pk_in _ _ (by omega) (nb_a1 _) (by decide), ?_⟩
        rw [c1]
        exact K _ hv
      · have hv := hP.2.2.2 2 (by decide)
        rw [show xm_ac H R 1 e' 2 = hp_P (hn_o H e') from rfl, hp_rP] at hv
        have hsub : pl - i = (pl - (i + 1)) + 1 := by omega
        rw [hsub] at h5 h3
        have h3' : pl - (i + 1) < l.length := Nat.lt_of_succ_lt_succ h3
        obtain ⟨q, hq, hq1⟩ : ∃ q, q < 2 ^ 31 ∧ a_memory (p' + 2) = lN q := by
          rcases hv with ⟨_, hv⟩ | ⟨q, hO2, hv⟩
          · exact ⟨0, by decide, hv⟩
          · have := xm_O h hT hR hO2
            exact ⟨q, by omega, hv⟩
        refine br_f (nI_ge h10 (by omega)) ⟨pk_in _ _ (by omega) (nb_a2 _) (by decide), nm_r (e' := nI q) (by rw [c2, hq1, lN_i]) (nm_r (nI_1 i) (ih (i + 1) l (hn_o H e') q (by omega) h10 h3' g4 h5 (hq1 ▸ hv) hq))⟩
theorem xs_lookUp {post : SX → Prop} {pl : Nat} {l : List Nat} (h : xm_M H R T b Z e k v d s pb f_value f_other a_memory a_frames) (hT : T ≤ 57999) (hR : ∀ r, rs_l R r ≤ 15) (hl : pl < l.length) (hl2 : l.length ≤ 64) (hE : ab_E H l e)
    (K : ∀ v2 : Int64, xm_M H R T b Z e (hn_k H (ab_u H pl e)) (hn_v H (ab_u H pl e)) d s pb v2 f_other a_memory a_frames → post (f_count, f_scopes, f_freeNames, f_base, f_top, f_sinceCollected, f_room, f_depth, 1, f_code, nI pb, v2, f_other, f_lastStatus, f_lastKind, f_lastNumber, f_outCount, f_callCount, f_shiftCount, f_mostPending, a_tokens, a_spans, a_codeOp, a_codeArgument, a_partOne, a_partTwo, a_partThree, a_scopeName, a_scopeAround, a_scopeOf, a_memory, a_frames, a_outputs, 116000)) :
    wpX_lookUp post (f_count, f_scopes, f_freeNames, f_base, f_top, f_sinceCollected, f_room, f_depth, f_returning, f_code, nI pb, f_value, f_other, f_lastStatus, f_lastKind, f_lastNumber, f_outCount, f_callCount, f_shiftCount, f_mostPending, a_tokens, a_spans, a_codeOp, a_codeArgument, a_partOne, a_partTwo, a_partThree, a_scopeName, a_scopeAround, a_scopeOf, a_memory, a_frames, a_outputs, 116000) (nI pl) := by
  obtain ⟨h1, h2, h3, h4, h5, h6, h7, h8⟩ := h
  refine ⟨pl + 1, xs_lookUp7 ⟨h1, h2, h3, h4, h5, h6, h7, h8⟩ hT hR (by omega) (ab_u H pl e) ?_ (pl + 1) 0 l e pb (by omega) (Nat.zero_le _) hl hE rfl h5 h4⟩
  intro v2 hv
  exact K v2 ⟨h1, h2, h3, h4, h5, hv, h7, h8⟩
theorem xs_makeFunction {post : SX → Prop} (h : xm_M H R T b Z e k v d s pb f_value f_other a_memory a_frames) (hT : T ≤ 57900) (hR : ∀ r, rs_l R r ≤ 15) (hd : d ≤ 16) (he : e < 2 ^ 20) (hn : n < 64)
    (K : ∀ (b2 : Nat) (Z2 : hp_Z) (mem2 frm2 : Nat → Int64) (pb2 : Nat) (v2 o2 : Int64) (sc : Int32), xm_M H R (T + 3) b2 Z2 e 2 (nI (64 * e + n)) d s pb2 v2 o2 mem2 frm2 →
      post (f_count, f_scopes, f_freeNames, nI b2, nI (hp_t Z2), sc, f_room, nI d, 1, f_code, nI pb2, v2, o2, f_lastStatus, f_lastKind, f_lastNumber, f_outCount, f_callCount, f_shiftCount, f_mostPending, a_tokens, a_spans, a_codeOp, a_codeArgument, a_partOne, a_partTwo, a_partThree, a_scopeName, a_scopeAround, a_scopeOf, mem2, frm2, a_outputs, 116000)) :
    wpX_makeFunction post (f_count, f_scopes, f_freeNames, nI b, nI (hp_t Z), f_sinceCollected, f_room, nI d, f_returning, f_code, nI pb, f_value, f_other, f_lastStatus, f_lastKind, f_lastNumber, f_outCount, f_callCount, f_shiftCount, f_mostPending, a_tokens, a_spans, a_codeOp, a_codeArgument, a_partOne, a_partTwo, a_partThree, a_scopeName, a_scopeAround, a_scopeOf, a_memory, a_frames, a_outputs, 116000) (nI n) := by
  unfold wpX_makeFunction
  refine xs_take (kd := 2) (w := 3) h hT hR hd (by decide) (by decide) ?_
  intro b2 Z2 mem2 frm2 pb2 v2 o2 sc hM
  have ht := xm_t hM (by omega)
  have hz : hp_t Z2 ≤ b2 + T := hM.2.2.1
  have e1 : (nI (hp_t Z2) + 1).toNatClampNeg = hp_t Z2 + 1 := pk_cl _ (nb_a1 _) (by omega)
  have e2 : (nI (hp_t Z2) + 2).toNatClampNeg = hp_t Z2 + 2 := pk_cl _ (nb_a2 _) (by omega)
  refine And.intro (pk_in _ _ (by omega) (nb_a1 _) (by decide)) (nm_r (e' := vp_updL (vp_updL mem2 (hp_t Z2) (lN (3 * 256 + 2))) (hp_t Z2 + 1) (lN n)) (by rw [e1, nI_l (by omega)]) (And.intro (pk_in _ _ (by omega) (nb_a2 _) (by decide)) (nm_r (e' := vp_updL (vp_updL (vp_updL mem2 (hp_t Z2) (lN (3 * 256 + 2))) (hp_t Z2 + 1) (lN n)) (hp_t Z2 + 2) (lN pb2)) (by rw [e2, nI_l hM.2.2.2.1]) ?_)))
  have hX : hp_X Z2 (hp_new Z2 2 (64 * e + n) 3) := hp_new_X
  have hN := xm_new (H' := H) (R' := R) (kk := 2) (g := 64 * e + n) (mem' := vp_updL (vp_updL (vp_updL mem2 (hp_t Z2) (lN (3 * 256 + 2))) (hp_t Z2 + 1) (lN n)) (hp_t Z2 + 2) (lN pb2)) hM ⟨by omega, Or.inr (Or.inl rfl)⟩ (fun k g h => ⟨rfl, h, fun x => rfl⟩) (fun y hy => by rw [pk_uLn (by omega), pk_uLn (by omega), pk_uLn (by omega)]) (fun y hy => by
    have hy3 : y < 3 := hy
    rcases (by omega : y = 0 ∨ y = 1 ∨ y = 2) with rfl | rfl | rfl
    · rw [show hp_t Z2 + 0 = hp_t Z2 from rfl, pk_uLn (by omega), pk_uLn (by omega), pk_uLs]
      exact hp_rR.mpr rfl
    · rw [pk_uLn (by omega), pk_uLs]
      show hp_rp _ (hp_R (lN ((64 * e + n) % 64))) (lN n)
      rw [hp_rR, show (64 * e + n) % 64 = n from by omega]
    · rw [pk_uLs]
      show hp_rp _ (hp_P ((64 * e + n) / 64)) (lN pb2)
      rw [hp_rP, show (64 * e + n) / 64 = e from by omega]
      exact hp_pr_m (hp_X_O hX) hM.2.2.2.2.1)
  obtain ⟨a1, a2, a3, a4, a5, a6, a7, a8⟩ := hN
  exact K b2 (hp_new Z2 2 (64 * e + n) 3) _ frm2 pb2 (nb_vk 2 (nI (hp_t Z2))) o2 sc ⟨a1, a2, a3, a4, a5, Or.inr (Or.inr ⟨Or.inl rfl, hp_t Z2, 64 * e + n, hp_new_O hM.2.1.1, rfl, rfl⟩), a7, a8⟩
end
end
section
/-! the component in the midst of a run, and at its end -/
-- base E f_count=nI N; f_base=nI b; f_top=nI (hp_t Z); f_depth=nI c_d; f_returning=0; f_code=nI c_at; f_bindings=nI pb; f_lastStatus=0; f_lastKind=0; f_lastNumber=0; f_outCount=nI c_oc; f_callCount=nI c_cl; f_shiftCount=nI (rs_n c_R); f_mostPending=nI c_ms; a_tokens=tok; a_outputs=c_out; n_memory=116000
-- base V f_count=nI N; f_base=nI b; f_top=nI (hp_t Z); f_depth=nI c_d; f_returning=1; f_bindings=nI pb; f_lastStatus=0; f_lastKind=0; f_lastNumber=0; f_outCount=nI c_oc; f_callCount=nI c_cl; f_shiftCount=nI (rs_n c_R); f_mostPending=nI c_ms; a_tokens=tok; a_outputs=c_out; n_memory=116000
def xr_R (tn : Nat → Nat) (tok : Nat → Int32) (N T : Nat) (c : ab_C) (u : SX) : Prop := match c, u with
  | (c_has, c_at, c_e, c_k, c_v, c_d, c_s, c_H, c_R, c_cl, c_ms, c_oc, c_out), (f_count, f_scopes, f_freeNames, f_base, f_top, f_sinceCollected, f_room, f_depth, f_returning, f_code, f_bindings, f_value, f_other, f_lastStatus, f_lastKind, f_lastNumber, f_outCount, f_callCount, f_shiftCount, f_mostPending, a_tokens, a_spans, a_codeOp, a_codeArgument, a_partOne, a_partTwo, a_partThree, a_scopeName, a_scopeAround, a_scopeOf, a_memory, a_frames, a_outputs, n_memory) => f_count = nI N ∧ f_depth = nI c_d ∧ f_returning = (if c_has = true then 1 else 0) ∧ (c_has = false → f_code = nI c_at) ∧ f_lastStatus = 0 ∧ f_lastKind = 0 ∧ f_lastNumber = 0 ∧ f_outCount = nI c_oc ∧ f_callCount = nI c_cl ∧ f_shiftCount = nI (rs_n c_R) ∧ f_mostPending = nI c_ms ∧ a_tokens = tok ∧ a_outputs = c_out ∧ n_memory = 116000 ∧
    xc_C tn N a_codeOp a_codeArgument a_partOne a_partTwo a_partThree ∧ ∃ (b : Nat) (Z : hp_Z) (pb : Nat), f_base = nI b ∧ f_top = nI (hp_t Z) ∧ f_bindings = nI pb ∧ xm_M c_H c_R T b Z c_e c_k c_v c_d c_s pb f_value f_other a_memory a_frames
/-- a run's end: its status, counts, and the value if it is done -/
def xf_R (tok : Nat → Int32) (N st k : Nat) (v : Int32) (cl sh ms oc : Nat) (out : Nat → Int32) (u : SX) : Prop := match u with
  | (f_count, f_scopes, f_freeNames, f_base, f_top, f_sinceCollected, f_room, f_depth, f_returning, f_code, f_bindings, f_value, f_other, f_lastStatus, f_lastKind, f_lastNumber, f_outCount, f_callCount, f_shiftCount, f_mostPending, a_tokens, a_spans, a_codeOp, a_codeArgument, a_partOne, a_partTwo, a_partThree, a_scopeName, a_scopeAround, a_scopeOf, a_memory, a_frames, a_outputs, n_memory) => f_count = nI N ∧ f_lastStatus = nI st ∧ f_lastKind = 0 ∧ f_lastNumber = 0 ∧ f_outCount = nI oc ∧ f_callCount = nI cl ∧ f_shiftCount = nI sh ∧ f_mostPending = nI ms ∧ a_tokens = tok ∧ a_outputs = out ∧ n_memory = 116000 ∧ (st = 1 → nb_ko f_value = nI k ∧ (k = 1 → f_value.toInt32 = v)) ∧ ∃ b t : Nat, f_base = nI b ∧ f_top = nI t ∧ b ≤ t ∧ t ≤ 116000
section
variable {f_count f_scopes f_freeNames f_base f_top f_sinceCollected f_room f_depth f_returning f_code f_bindings : Int32} {f_value f_other : Int64} {f_lastStatus f_lastKind f_lastNumber f_outCount f_callCount f_shiftCount f_mostPending : Int32} {a_tokens a_spans a_codeOp a_codeArgument a_partOne a_partTwo a_partThree a_scopeName a_scopeAround a_scopeOf : Nat → Int32} {a_memory a_frames : Nat → Int64} {a_outputs : Nat → Int32} {n_memory : Nat}
variable {c_has : Bool} {c_at c_e c_k : Nat} {c_v : Int32} {c_d : Nat} {c_s : Nat → ab_F} {c_H : ab_H} {c_R : ab_R} {c_cl c_ms c_oc : Nat} {c_out : Nat → Int32}
variable {tn : Nat → Nat} {tok : Nat → Int32} {N T b pb : Nat} {Z : hp_Z}
theorem xr_mk0 (hc : xc_C tn N a_codeOp a_codeArgument a_partOne a_partTwo a_partThree) (hm : xm_M c_H c_R T b Z c_e c_k c_v c_d c_s pb f_value f_other a_memory a_frames) :
    xr_R tn tok N T (false, c_at, c_e, c_k, c_v, c_d, c_s, c_H, c_R, c_cl, c_ms, c_oc, c_out) (nI N, f_scopes, f_freeNames, nI b, nI (hp_t Z), f_sinceCollected, f_room, nI c_d, 0, nI c_at, nI pb, f_value, f_other, 0, 0, 0, nI c_oc, nI c_cl, nI (rs_n c_R), nI c_ms, tok, a_spans, a_codeOp, a_codeArgument, a_partOne, a_partTwo, a_partThree, a_scopeName, a_scopeAround, a_scopeOf, a_memory, a_frames, c_out, 116000) := ⟨rfl, rfl, rfl, fun _ => rfl, rfl, rfl, rfl, rfl, rfl, rfl, rfl, rfl, rfl, rfl, hc, b, Z, pb, rfl, rfl, rfl, hm⟩
theorem xr_mk1 (hc : xc_C tn N a_codeOp a_codeArgument a_partOne a_partTwo a_partThree) (hm : xm_M c_H c_R T b Z c_e c_k c_v c_d c_s pb f_value f_other a_memory a_frames) :
    xr_R tn tok N T (true, c_at, c_e, c_k, c_v, c_d, c_s, c_H, c_R, c_cl, c_ms, c_oc, c_out) (nI N, f_scopes, f_freeNames, nI b, nI (hp_t Z), f_sinceCollected, f_room, nI c_d, 1, f_code, nI pb, f_value, f_other, 0, 0, 0, nI c_oc, nI c_cl, nI (rs_n c_R), nI c_ms, tok, a_spans, a_codeOp, a_codeArgument, a_partOne, a_partTwo, a_partThree, a_scopeName, a_scopeAround, a_scopeOf, a_memory, a_frames, c_out, 116000) := ⟨rfl, rfl, rfl, fun z => absurd z (by decide), rfl, rfl, rfl, rfl, rfl, rfl, rfl, rfl, rfl, rfl, hc, b, Z, pb, rfl, rfl, rfl, hm⟩
theorem xf_mk {st k ms cl sh oc t : Nat} {v : Int32} {out : Nat → Int32} (hv : st = 1 → nb_ko f_value = nI k ∧ (k = 1 → f_value.toInt32 = v)) (hb : b ≤ t) (ht : t ≤ 116000) :
    xf_R tok N st k v cl sh ms oc out (nI N, f_scopes, f_freeNames, nI b, nI t, f_sinceCollected, f_room, f_depth, f_returning, f_code, f_bindings, f_value, f_other, nI st, 0, 0, nI oc, nI cl, nI sh, nI ms, tok, a_spans, a_codeOp, a_codeArgument, a_partOne, a_partTwo, a_partThree, a_scopeName, a_scopeAround, a_scopeOf, a_memory, a_frames, out, 116000) :=
  ⟨rfl, rfl, rfl, rfl, rfl, rfl, rfl, rfl, rfl, rfl, rfl, hv, b, t, rfl, rfl, hb, ht⟩
end
section
variable {c_has : Bool} {c_at c_e c_k : Nat} {c_v : Int32} {c_d : Nat} {c_s : Nat → ab_F} {c_H : ab_H} {c_R : ab_R} {c_cl c_ms c_oc : Nat} {c_out : Nat → Int32}
variable {tn : Nat → Nat} {tok : Nat → Int32} {N T : Nat} {u : SX} {P : SX → Prop}
theorem xr_el0 (h : ∀ (b : Nat) (Z : hp_Z) (pb : Nat) (f_scopes f_freeNames f_sinceCollected f_room : Int32) (f_value f_other : Int64) (a_spans a_codeOp a_codeArgument a_partOne a_partTwo a_partThree a_scopeName a_scopeAround a_scopeOf : Nat → Int32) (a_memory a_frames : Nat → Int64),
      xc_C tn N a_codeOp a_codeArgument a_partOne a_partTwo a_partThree → xm_M c_H c_R T b Z c_e c_k c_v c_d c_s pb f_value f_other a_memory a_frames → P (nI N, f_scopes, f_freeNames, nI b, nI (hp_t Z), f_sinceCollected, f_room, nI c_d, 0, nI c_at, nI pb, f_value, f_other, 0, 0, 0, nI c_oc, nI c_cl, nI (rs_n c_R), nI c_ms, tok, a_spans, a_codeOp, a_codeArgument, a_partOne, a_partTwo, a_partThree, a_scopeName, a_scopeAround, a_scopeOf, a_memory, a_frames, c_out, 116000)) (I : xr_R tn tok N T (false, c_at, c_e, c_k, c_v, c_d, c_s, c_H, c_R, c_cl, c_ms, c_oc, c_out) u) : P u := by
  obtain ⟨f_count, f_scopes, f_freeNames, f_base, f_top, f_sinceCollected, f_room, f_depth, f_returning, f_code, f_bindings, f_value, f_other, f_lastStatus, f_lastKind, f_lastNumber, f_outCount, f_callCount, f_shiftCount, f_mostPending, a_tokens, a_spans, a_codeOp, a_codeArgument, a_partOne, a_partTwo, a_partThree, a_scopeName, a_scopeAround, a_scopeOf, a_memory, a_frames, a_outputs, n_memory⟩ := u
  obtain ⟨e1, e2, e3, e4, e5, e6, e7, e8, e9, e10, e11, e12, e13, e14, hc, b, Z, pb, e15, e16, e17, hm⟩ := I
  have e4' := e4 rfl
  have e3' : f_returning = 0 := e3
  subst e1 e2 e3' e4' e5 e6 e7 e8 e9 e10 e11 e12 e13 e14 e15 e16 e17
  exact h b Z pb _ _ _ _ _ _ _ _ _ _ _ _ _ _ _ _ _ hc hm
theorem xr_el1 (h : ∀ (b : Nat) (Z : hp_Z) (pb : Nat) (f_scopes f_freeNames f_sinceCollected f_room f_code : Int32) (f_value f_other : Int64) (a_spans a_codeOp a_codeArgument a_partOne a_partTwo a_partThree a_scopeName a_scopeAround a_scopeOf : Nat → Int32) (a_memory a_frames : Nat → Int64),
      xc_C tn N a_codeOp a_codeArgument a_partOne a_partTwo a_partThree → xm_M c_H c_R T b Z c_e c_k c_v c_d c_s pb f_value f_other a_memory a_frames → P (nI N, f_scopes, f_freeNames, nI b, nI (hp_t Z), f_sinceCollected, f_room, nI c_d, 1, f_code, nI pb, f_value, f_other, 0, 0, 0, nI c_oc, nI c_cl, nI (rs_n c_R), nI c_ms, tok, a_spans, a_codeOp, a_codeArgument, a_partOne, a_partTwo, a_partThree, a_scopeName, a_scopeAround, a_scopeOf, a_memory, a_frames, c_out, 116000)) (I : xr_R tn tok N T (true, c_at, c_e, c_k, c_v, c_d, c_s, c_H, c_R, c_cl, c_ms, c_oc, c_out) u) : P u := by
  obtain ⟨f_count, f_scopes, f_freeNames, f_base, f_top, f_sinceCollected, f_room, f_depth, f_returning, f_code, f_bindings, f_value, f_other, f_lastStatus, f_lastKind, f_lastNumber, f_outCount, f_callCount, f_shiftCount, f_mostPending, a_tokens, a_spans, a_codeOp, a_codeArgument, a_partOne, a_partTwo, a_partThree, a_scopeName, a_scopeAround, a_scopeOf, a_memory, a_frames, a_outputs, n_memory⟩ := u
  obtain ⟨e1, e2, e3, e4, e5, e6, e7, e8, e9, e10, e11, e12, e13, e14, hc, b, Z, pb, e15, e16, e17, hm⟩ := I
  have e3' : f_returning = 1 := e3
  subst e1 e2 e3' e5 e6 e7 e8 e9 e10 e11 e12 e13 e14 e15 e16 e17
  exact h b Z pb _ _ _ _ _ _ _ _ _ _ _ _ _ _ _ _ _ _ hc hm
end
end
section
/-! workOut, case by case -/
section
variable {H : ab_H} {R : ab_R} {T b e k d pb e' k' d' pb' : Nat} {Z : hp_Z} {v v' : Int32} {s s' : Nat → ab_F} {val oth val' oth' : Int64} {mem frm frm' : Nat → Int64}
theorem xm_val (h : xm_M H R T b Z e k v d s pb val oth mem frm) (hv : hp_vr (hp_O Z) k' v' val') : xm_M H R T b Z e k' v' d s pb val' oth mem frm := ⟨h.1, h.2.1, h.2.2.1, h.2.2.2.1, h.2.2.2.2.1, hv, h.2.2.2.2.2.2.1, h.2.2.2.2.2.2.2⟩
theorem xm_env (h : xm_M H R T b Z e k v d s pb val oth mem frm) (hp : pb' < 2 ^ 31) (he : hp_pr (hp_O Z) e' (lN pb')) : xm_M H R T b Z e' k v d s pb' val oth mem frm := ⟨h.1, h.2.1, h.2.2.1, hp, he, h.2.2.2.2.2.1, h.2.2.2.2.2.2.1, h.2.2.2.2.2.2.2⟩
theorem xm_oth (h : xm_M H R T b Z e k v d s pb val oth mem frm) (ho : hp_vr (hp_O Z) k' v' oth') : xm_M H R T b Z e k v d s pb val oth' mem frm := ⟨h.1, h.2.1, h.2.2.1, h.2.2.2.1, h.2.2.2.2.1, h.2.2.2.2.2.1, ⟨k', v', ho⟩, h.2.2.2.2.2.2.2⟩
theorem xm_stk (h : xm_M H R T b Z e k v d s pb val oth mem frm) (hs : ∀ y, y < 3 * d' → hp_rp (hp_O Z) (xm_rc s' y) (frm' y)) : xm_M H R T b Z e k v d' s' pb val oth mem frm' := ⟨h.1, h.2.1, h.2.2.1, h.2.2.2.1, h.2.2.2.2.1, h.2.2.2.2.2.1, h.2.2.2.2.2.2.1, hs⟩
theorem xm_T {T' : Nat} (h : xm_M H R T b Z e k v d s pb val oth mem frm) (hT : T ≤ T') : xm_M H R T' b Z e k v d s pb val oth mem frm := ⟨h.1, h.2.1, Nat.le_trans h.2.2.1 (by omega), h.2.2.2⟩
theorem xm_pq (h : xm_M H R T b Z e k v d s pb val oth mem frm) (hT : T ≤ 57999) (hR : ∀ r, rs_l R r ≤ 15) {x : Int64} {e0 : Nat} (hp : hp_pr (hp_O Z) e0 x) : ∃ q, q < 2 ^ 31 ∧ x = lN q := by
  rcases hp with ⟨_, hv⟩ | ⟨q, hO2, hv⟩
  · exact ⟨0, by decide, hv⟩
  · have := xm_O h hT hR hO2
    exact ⟨q, by omega, hv⟩
end
def ab_kd (t : Nat) : Nat := if t ≤ 56 then 0 else if t = 57 then 2 else if t = 58 then 3 else if t = 59 then 4 else 5
theorem ab_kd_lt (t : Nat) : ab_kd t ≤ 5 := by unfold ab_kd; repeat' split
                                               all_goals omega
section
variable {c_has : Bool} {c_at c_e c_k : Nat} {c_v : Int32} {c_d : Nat} {c_s : Nat → ab_F} {c_H : ab_H} {c_R : ab_R} {c_cl c_ms c_oc : Nat} {c_out : Nat → Int32}
variable {tn : Nat → Nat} {tok : Nat → Int32} {N T : Nat} {u : SX} {post : SX → Prop}
theorem xw_num (I : xr_R tn tok N T (false, c_at, c_e, c_k, c_v, c_d, c_s, c_H, c_R, c_cl, c_ms, c_oc, c_out) u) (hat : c_at < N) (hN : N ≤ 32) (ht : 80 ≤ tn c_at)
    (K : ∀ u', xr_R tn tok N T (true, c_at, c_e, 1, nI (tn c_at) - 100, c_d, c_s, c_H, c_R, c_cl, c_ms, c_oc, c_out) u' → post u') : wpX_workOut post u := by
  refine xr_el0 (P := fun u => wpX_workOut post u) ?_ I
  intro b Z pb f_scopes f_freeNames f_sinceCollected f_room f_value f_other a_spans a_codeOp a_codeArgument a_partOne a_partTwo a_partThree a_scopeName a_scopeAround a_scopeOf a_memory a_frames hc hm
  have hcl : (nI c_at).toNatClampNeg = c_at := nI_clamp (by omega)
  have hop : a_codeOp (nI c_at).toNatClampNeg = nI 0 := by rw [hcl, (hc c_at hat).1]; unfold xc_o; rw [if_pos ht]
  have hin : vp_in (nI c_at) 32 := vp_in_nI (by omega) (by decide)
  refine ⟨hin, nm_r hop (br_t rfl ⟨hin, ?_⟩)⟩
  rw [hcl, (hc c_at hat).2.2.2.2.1 ht]
  exact K _ (xr_mk1 hc (xm_val hm (Or.inr (Or.inl ⟨rfl, rfl⟩))))
theorem xw_look (I : xr_R tn tok N T (false, c_at, c_e, c_k, c_v, c_d, c_s, c_H, c_R, c_cl, c_ms, c_oc, c_out) u) (hat : c_at < N) (hN : N ≤ 32) (hT : T ≤ 57800) (hR : ∀ r, rs_l c_R r ≤ 15) (ht : tn c_at < 40) (hx : tn c_at - 30 ∈ sg_s tn c_at) (hE : ab_E c_H (sg_s tn c_at) c_e)
    (K : ∀ u', xr_R tn tok N T (true, c_at, c_e, hn_k c_H (ab_u c_H (sg_i (tn c_at - 30) (sg_s tn c_at)) c_e), hn_v c_H (ab_u c_H (sg_i (tn c_at - 30) (sg_s tn c_at)) c_e), c_d, c_s, c_H, c_R, c_cl, c_ms, c_oc, c_out) u' → post u') : wpX_workOut post u := by
  refine xr_el0 (P := fun u => wpX_workOut post u) ?_ I
  intro b Z pb f_scopes f_freeNames f_sinceCollected f_room f_value f_other a_spans a_codeOp a_codeArgument a_partOne a_partTwo a_partThree a_scopeName a_scopeAround a_scopeOf a_memory a_frames hc hm
  have hcl : (nI c_at).toNatClampNeg = c_at := nI_clamp (by omega)
  have hop : a_codeOp (nI c_at).toNatClampNeg = nI 1 := by
    rw [hcl, (hc c_at hat).1]; unfold xc_o; rw [if_neg (by omega), if_neg (by omega), if_neg (by omega), if_neg (by omega), if_neg (by omega), if_pos hx]
  have hin : vp_in (nI c_at) 32 := vp_in_nI (by omega) (by decide)
  have hlen : (sg_s tn c_at).length ≤ c_at := sg_l_len c_at
  refine ⟨hin, nm_r hop (br_f (by decide) (br_t rfl ⟨hin, ?_⟩))⟩
  rw [hcl, (hc c_at hat).2.2.2.2.2 ht hx]
  refine xs_lookUp hm (by omega) hR ((sg_i_lt _).mp hx) (by omega) hE ?_
  intro v2 hm2
  exact K _ (xr_mk1 hc hm2)
theorem xw_none (I : xr_R tn tok N T (false, c_at, c_e, c_k, c_v, c_d, c_s, c_H, c_R, c_cl, c_ms, c_oc, c_out) u) (hat : c_at < N) (hN : N ≤ 32) (hT : T ≤ 57800) (ht : tn c_at < 40) (hx : ¬ tn c_at - 30 ∈ sg_s tn c_at)
    (K : ∀ u', xf_R tok N 2 0 0 c_cl (rs_n c_R) c_ms c_oc c_out u' → post u') : wpX_workOut post u := by
  refine xr_el0 (P := fun u => wpX_workOut post u) ?_ I
  intro b Z pb f_scopes f_freeNames f_sinceCollected f_room f_value f_other a_spans a_codeOp a_codeArgument a_partOne a_partTwo a_partThree a_scopeName a_scopeAround a_scopeOf a_memory a_frames hc hm
  have hcl : (nI c_at).toNatClampNeg = c_at := nI_clamp (by omega)
  have hop : a_codeOp (nI c_at).toNatClampNeg = nI 2 := by
    rw [hcl, (hc c_at hat).1]; unfold xc_o; rw [if_neg (by omega), if_neg (by omega), if_neg (by omega), if_neg (by omega), if_neg (by omega), if_neg hx]
  have hin : vp_in (nI c_at) 32 := vp_in_nI (by omega) (by decide)
  have hxt := xm_t hm (by omega)
  refine ⟨hin, nm_r hop (br_f (by decide) (br_f (by decide) (br_t rfl ?_)))⟩
  exact K _ (xf_mk (st := 2) (fun z => absurd z (by decide)) hxt.2.1 (by omega))
theorem xw_fun (I : xr_R tn tok N T (false, c_at, c_e, c_k, c_v, c_d, c_s, c_H, c_R, c_cl, c_ms, c_oc, c_out) u) (hat : c_at < N) (hN : N ≤ 32) (hT : T ≤ 57800) (hR : ∀ r, rs_l c_R r ≤ 15) (hd : c_d ≤ 16) (he : c_e < 2 ^ 20) (ht : 40 ≤ tn c_at ∧ tn c_at < 46)
    (K : ∀ u', xr_R tn tok N (T + 3) (true, c_at, c_e, 2, nI (64 * c_e + c_at), c_d, c_s, c_H, c_R, c_cl, c_ms, c_oc, c_out) u' → post u') : wpX_workOut post u := by
  refine xr_el0 (P := fun u => wpX_workOut post u) ?_ I
  intro b Z pb f_scopes f_freeNames f_sinceCollected f_room f_value f_other a_spans a_codeOp a_codeArgument a_partOne a_partTwo a_partThree a_scopeName a_scopeAround a_scopeOf a_memory a_frames hc hm
  have hcl : (nI c_at).toNatClampNeg = c_at := nI_clamp (by omega)
  have hop : a_codeOp (nI c_at).toNatClampNeg = nI 3 := by
    rw [hcl, (hc c_at hat).1]; unfold xc_o; rw [if_neg (by omega), if_neg (by omega), if_neg (by omega), if_neg (by omega), if_pos (by omega)]
  have hin : vp_in (nI c_at) 32 := vp_in_nI (by omega) (by decide)
  refine ⟨hin, nm_r hop (br_f (by decide) (br_f (by decide) (br_f (by decide) (br_t rfl ?_))))⟩
  refine xs_makeFunction hm (by omega) hR hd he (by omega) ?_
  intro b2 Z2 mem2 frm2 pb2 v2 o2 sc hm2
  exact K _ (xr_mk1 hc hm2)
theorem xw_kf {post : Int32 → Prop} {t : Nat} (h : 52 ≤ t ∧ t < 66) {op : Nat} (ho : op = if 60 ≤ t then 12 else t - 48) (K : post (nI (ab_kd t))) : wpX_kindFor post (nI op) := by
  unfold ab_kd at K
  rcases (by omega : t ≤ 56 ∨ t = 57 ∨ t = 58 ∨ t = 59 ∨ 60 ≤ t) with h1 | h1 | h1 | h1 | h1
  · rw [if_pos h1] at K
    rw [if_neg (by omega)] at ho
    exact br_f (nb_ne (b := 9) (by omega) (by decide) (by omega)) (br_f (nb_ne (b := 10) (by omega) (by decide) (by omega)) (br_f (nb_ne (b := 11) (by omega) (by decide) (by omega)) (br_f (nb_ne (b := 12) (by omega) (by decide) (by omega)) K)))
  · subst h1; subst ho
    exact br_t (by decide) K
  · subst h1; subst ho
    exact br_f (by decide) (br_t (by decide) K)
  · subst h1; subst ho
    exact br_f (by decide) (br_f (by decide) (br_t (by decide) K))
  · rw [if_neg (by omega), if_neg (by omega), if_neg (by omega), if_neg (by omega)] at K
    rw [if_pos h1] at ho
    subst ho
    exact br_f (by decide) (br_f (by decide) (br_f (by decide) (br_t (by decide) K)))
theorem xw_opush (hc : 52 ≤ tn c_at ∧ tn c_at < 66) : xc_o tn c_at = if 60 ≤ tn c_at then 12 else tn c_at - 48 := by
  unfold xc_o
  rw [if_neg (by omega), if_neg (by omega)]
  by_cases h : 60 ≤ tn c_at
  · rw [if_pos h, if_pos h]
  · rw [if_neg h, if_neg h, if_pos (by omega)]
theorem xw_push (I : xr_R tn tok N T (false, c_at, c_e, c_k, c_v, c_d, c_s, c_H, c_R, c_cl, c_ms, c_oc, c_out) u) (hat : c_at < N) (hN : N ≤ 32) (hd : c_d < 16) (hms : c_ms ≤ 16) (ht : 52 ≤ tn c_at ∧ tn c_at < 66)
    (K : ∀ u', xr_R tn tok N T (false, c_at + 1, c_e, c_k, c_v, c_d + 1, ab_psh c_s c_d (ab_kd (tn c_at), c_at, c_e, 0, 0), c_H, c_R, c_cl, ab_mx (c_d + 1) c_ms, c_oc, c_out) u' → post u') : wpX_workOut post u := by
  refine xr_el0 (P := fun u => wpX_workOut post u) ?_ I
  intro b Z pb f_scopes f_freeNames f_sinceCollected f_room f_value f_other a_spans a_codeOp a_codeArgument a_partOne a_partTwo a_partThree a_scopeName a_scopeAround a_scopeOf a_memory a_frames hc hm
  have hcl : (nI c_at).toNatClampNeg = c_at := nI_clamp (by omega)
  have ho := xw_opush (tn := tn) (c_at := c_at) ht
  have hop : a_codeOp (nI c_at).toNatClampNeg = nI (xc_o tn c_at) := by rw [hcl, (hc c_at hat).1]
  have hin : vp_in (nI c_at) 32 := vp_in_nI (by omega) (by decide)
  have hol : 4 ≤ xc_o tn c_at ∧ xc_o tn c_at ≤ 12 := by rw [ho]; split <;> omega
  have hk5 := ab_kd_lt (tn c_at)
  refine ⟨hin, nm_r hop (br_f (nb_ne (b := 0) (by omega) (by decide) (by omega)) (br_f (nb_ne (b := 1) (by omega) (by decide) (by omega)) (br_f (nb_ne (b := 2) (by omega) (by decide) (by omega)) (br_f (nb_ne (b := 3) (by omega) (by decide) (by omega)) (br_f (nb_ne (b := 13) (by omega) (by decide) (by omega)) ?_)))))⟩
  refine xw_kf ht ho ?_
  refine xs_push hd hms (by omega) hm.2.2.2.1 ?_
  refine And.intro hin ?_
  have hgo : a_partOne (nI c_at).toNatClampNeg = nI (c_at + 1) := by rw [hcl]; exact (hc c_at hat).2.1
  rw [hgo]
  exact K _ (xr_mk0 hc (xm_stk hm (xm_psh hm.2.2.2.2.2.2.2 rfl hm.2.2.2.2.1 (Or.inl ⟨rfl, rfl⟩))))
theorem xw_deep (I : xr_R tn tok N T (false, c_at, c_e, c_k, c_v, c_d, c_s, c_H, c_R, c_cl, c_ms, c_oc, c_out) u) (hat : c_at < N) (hN : N ≤ 32) (hT : T ≤ 57800) (hd : c_d = 16) (ht : 52 ≤ tn c_at ∧ tn c_at < 66)
    (K : ∀ u', xf_R tok N 4 0 0 c_cl (rs_n c_R) c_ms c_oc c_out u' → post u') : wpX_workOut post u := by
  refine xr_el0 (P := fun u => wpX_workOut post u) ?_ I
  intro b Z pb f_scopes f_freeNames f_sinceCollected f_room f_value f_other a_spans a_codeOp a_codeArgument a_partOne a_partTwo a_partThree a_scopeName a_scopeAround a_scopeOf a_memory a_frames hc hm
  have hcl : (nI c_at).toNatClampNeg = c_at := nI_clamp (by omega)
  have ho := xw_opush (tn := tn) (c_at := c_at) ht
  have hop : a_codeOp (nI c_at).toNatClampNeg = nI (xc_o tn c_at) := by rw [hcl, (hc c_at hat).1]
  have hin : vp_in (nI c_at) 32 := vp_in_nI (by omega) (by decide)
  have hol : 4 ≤ xc_o tn c_at ∧ xc_o tn c_at ≤ 12 := by rw [ho]; split <;> omega
  have hxt := xm_t hm (by omega)
  refine ⟨hin, nm_r hop (br_f (nb_ne (b := 0) (by omega) (by decide) (by omega)) (br_f (nb_ne (b := 1) (by omega) (by decide) (by omega)) (br_f (nb_ne (b := 2) (by omega) (by decide) (by omega)) (br_f (nb_ne (b := 3) (by omega) (by decide) (by omega)) (br_f (nb_ne (b := 13) (by omega) (by decide) (by omega)) ?_)))))⟩
  refine xw_kf ht ho ?_
  refine br_f (nI_nlt (b := 16) (by omega) (by omega)) ?_
  refine And.intro hin ?_
  exact K _ (xf_mk (st := 4) (fun z => absurd z (by decide)) hxt.2.1 (by omega))
end
end
section
/-! shift -/
def hp_c2 (mem frm : Nat → Int64) (p t w : Nat) : Nat → Int64 := fun y => if t ≤ y ∧ y < t + w then frm (p + (y - t)) else mem y
theorem hp_c2_0 (mem frm : Nat → Int64) (p t : Nat) : hp_c2 mem frm p t 0 = mem := by
  funext y; unfold hp_c2; rw [if_neg (by omega)]
theorem hp_c2_s {mem frm : Nat → Int64} {p t w : Nat} : vp_updL (hp_c2 mem frm p t w) (t + w) (frm (p + w)) = hp_c2 mem frm p t (w + 1) := by
  funext y
  by_cases hy : y = t + w
  · subst hy
    rw [pk_uLs]
    unfold hp_c2
    rw [if_pos (by omega)]
    congr 1; omega
  · rw [pk_uLn hy]
    unfold hp_c2
    by_cases h2 : t ≤ y ∧ y < t + w
    · rw [if_pos h2, if_pos (by omega)]
    · rw [if_neg h2, if_neg (by omega)]
section
variable {f_count f_scopes f_freeNames f_base f_top f_sinceCollected f_room f_depth f_returning f_code f_bindings : Int32} {f_value f_other : Int64} {f_lastStatus f_lastKind f_lastNumber f_outCount f_callCount f_shiftCount f_mostPending : Int32} {a_tokens a_spans a_codeOp a_codeArgument a_partOne a_partTwo a_partThree a_scopeName a_scopeAround a_scopeOf : Nat → Int32} {a_memory a_frames : Nat → Int64} {a_outputs : Nat → Int32} {n_memory : Nat}
variable {m tk t n0 d : Nat} {mem : Nat → Int64} {s : Nat → ab_F} {post : SX → Prop}
theorem xh_96 (hm : m + 1 + tk ≤ 16) (ht : t + 2 + 3 * tk ≤ 116000)
    (K : ∀ n, wX_shift_96 post (nI n0) (nI m) (nI tk) (nI t) f_count f_scopes f_freeNames f_base f_top f_sinceCollected f_room f_depth f_returning f_code f_bindings f_value f_other f_lastStatus f_lastKind f_lastNumber f_outCount f_callCount f_shiftCount f_mostPending 116000 (n + 1) (nI (3 * tk)) a_tokens a_spans a_codeOp a_codeArgument a_partOne a_partTwo a_partThree a_scopeName a_scopeAround a_scopeOf (hp_c2 mem a_frames ((m + 1) * 3) (t + 2) (3 * tk)) a_frames a_outputs) :
    ∀ n i, i ≤ 3 * tk → 3 * tk - i < n → wX_shift_96 post (nI n0) (nI m) (nI tk) (nI t) f_count f_scopes f_freeNames f_base f_top f_sinceCollected f_room f_depth f_returning f_code f_bindings f_value f_other f_lastStatus f_lastKind f_lastNumber f_outCount f_callCount f_shiftCount f_mostPending 116000 n (nI i) a_tokens a_spans a_codeOp a_codeArgument a_partOne a_partTwo a_partThree a_scopeName a_scopeAround a_scopeOf (hp_c2 mem a_frames ((m + 1) * 3) (t + 2) i) a_frames a_outputs := by
  intro n
  induction n with
  | zero => intro i _ h; omega
  | succ n ih =>
    intro i h1 h2
    rcases Nat.lt_or_ge i (3 * tk) with h | h
    · have e3 : nI tk * 3 = nI (3 * tk) := by rw [nb_m3, Nat.mul_comm]
      have ea : (nI m + 1) * 3 + nI i = nI ((m + 1) * 3 + i) := by rw [nb_a1, nb_m3, nI_add]
      have eb : (nI t + 2) + nI i = nI (t + 2 + i) := by rw [nb_a2, nI_add]
      refine br_f (by rw [e3]; exact nI_ge h (by omega)) ⟨pk_in _ _ (by omega) ea (by decide), pk_in _ _ (by omega) eb (by decide), nm_r (e' := hp_c2 mem a_frames ((m + 1) * 3) (t + 2) (i + 1)) ?_ (nm_r (nI_1 i) (ih (i + 1) h (by omega)))⟩
      rw [pk_cl _ ea (by omega), pk_cl _ eb (by omega)]
      exact hp_c2_s
    · have : i = 3 * tk := by omega
      subst this
      exact K n
theorem xh_32 (hd : d ≤ 16) (hm : m < d) (hm4 : fr_d (s m) = 4) (hmf : ∀ f, m < f → f < d → fr_d (s f) ≠ 4) (hp : ∀ f, f < d → fr_d (s f) ≤ 5 ∧ fr_p (s f) < 64) (hfr : ∀ f, f < d → a_frames (3 * f) = lN (fr_d (s f) * 64 + fr_p (s f)))
    (K : wX_shift_61 post (nI n0) (nI m) f_count f_scopes f_freeNames f_base f_top f_sinceCollected f_room f_depth f_returning f_code f_bindings f_value f_other f_lastStatus f_lastKind f_lastNumber f_outCount f_callCount f_shiftCount f_mostPending a_tokens a_spans a_codeOp a_codeArgument a_partOne a_partTwo a_partThree a_scopeName a_scopeAround a_scopeOf a_memory a_frames a_outputs n_memory) : ∀ n i, m ≤ i → i < d → i - m < n → wX_shift_32 post (nI n0) f_count f_scopes f_freeNames f_base f_top f_sinceCollected f_room f_depth f_returning f_code f_bindings f_value f_other f_lastStatus f_lastKind f_lastNumber f_outCount f_callCount f_shiftCount f_mostPending a_tokens a_spans a_codeOp a_codeArgument a_partOne a_partTwo a_partThree a_scopeName a_scopeAround a_scopeOf a_memory a_frames a_outputs n_memory n (nI i) := by
  intro n
  induction n with
  | zero => intro i _ _ h; omega
  | succ n ih =>
    intro i h1 h2 h3
    rcases Nat.eq_zero_or_pos i with h0 | h0
    · have hm0 : m = 0 := by omega
      subst h0; subst hm0
      exact br_t (by decide) K
    · have e3 : nI i * 3 = nI (3 * i) := by rw [nb_m3, Nat.mul_comm]
      have hpi := hp i h2
      have hdiv : a_frames (nI i * 3).toNatClampNeg / 64 = lN (fr_d (s i)) := by
        rw [pk_cl _ e3 (by omega), hfr i h2, nb_ld64 (by omega)]
        congr 1; omega
      refine br_f (nI_nle h0 (by omega)) ⟨pk_in _ _ (by omega) e3 (by decide), by decide, ?_⟩
      rcases Nat.eq_or_lt_of_le h1 with h4 | h4
      · subst h4
        have h5 : a_frames (nI m * 3).toNatClampNeg / 64 = 4 := by rw [hdiv, hm4]; decide
        exact br_t h5 K
      · have h5 : ¬ a_frames (nI i * 3).toNatClampNeg / 64 = 4 := by
          rw [hdiv]
          intro z
          exact hmf i h4 h2 ((lN_eq (b := 4) (by omega) (by decide)).mp z)
        exact br_f h5 (nm_r (sb_m1 h0) (ih (i - 1) (by omega) (by omega) (by omega)))
end
section
variable {c_has : Bool} {c_at c_e c_k : Nat} {c_v : Int32} {c_d : Nat} {c_s : Nat → ab_F} {c_H : ab_H} {c_R : ab_R} {c_cl c_ms c_oc : Nat} {c_out : Nat → Int32}
variable {tn : Nat → Nat} {tok : Nat → Int32} {N T : Nat} {u : SX} {post : SX → Prop}
theorem xw_slong (I : xr_R tn tok N T (false, c_at, c_e, c_k, c_v, c_d, c_s, c_H, c_R, c_cl, c_ms, c_oc, c_out) u) (hat : c_at < N) (hN : N ≤ 32) (hT : T ≤ 57800) (hsh : rs_n c_R = 8) (ht : 70 ≤ tn c_at ∧ tn c_at < 76)
    (K : ∀ u', xf_R tok N 3 0 0 c_cl (rs_n c_R) c_ms c_oc c_out u' → post u') : wpX_workOut post u := by
  refine xr_el0 (P := fun u => wpX_workOut post u) ?_ I
  intro b Z pb f_scopes f_freeNames f_sinceCollected f_room f_value f_other a_spans a_codeOp a_codeArgument a_partOne a_partTwo a_partThree a_scopeName a_scopeAround a_scopeOf a_memory a_frames hc hm
  have hcl : (nI c_at).toNatClampNeg = c_at := nI_clamp (by omega)
  have hop : a_codeOp (nI c_at).toNatClampNeg = nI 13 := by
    rw [hcl, (hc c_at hat).1]; unfold xc_o; rw [if_neg (by omega), if_pos (by omega)]
  have hin : vp_in (nI c_at) 32 := vp_in_nI (by omega) (by decide)
  have hxt := xm_t hm (by omega)
  refine ⟨hin, nm_r hop (br_f (by decide) (br_f (by decide) (br_f (by decide) (br_f (by decide) (br_t rfl ?_)))))⟩
  refine br_f (nI_nlt (b := 8) (by omega) (by omega)) ?_
  exact K _ (xf_mk (st := 3) (fun z => absurd z (by decide)) hxt.2.1 (by omega))
theorem xw_shift (I : xr_R tn tok N T (false, c_at, c_e, c_k, c_v, c_d, c_s, c_H, c_R, c_cl, c_ms, c_oc, c_out) u) (hat : c_at < N) (hN : N ≤ 32) (hT : T ≤ 57800) (hR : ∀ r, rs_l c_R r ≤ 15) (hd : c_d ≤ 16) (hsh : rs_n c_R < 8) (hnb : hn_b c_H < 2 ^ 29) (ht : 70 ≤ tn c_at ∧ tn c_at < 76)
    {m : Nat} (hm : m < c_d) (hm4 : fr_d (c_s m) = 4) (hmf : ∀ f, m < f → f < c_d → fr_d (c_s f) ≠ 4) (hp : ∀ f, f < c_d → fr_d (c_s f) ≤ 5 ∧ fr_p (c_s f) < 64)
    (K : ∀ u', xr_R tn tok N (T + 50) (false, c_at + 1, hn_b c_H + 1, 3, nI (rs_n c_R), m + 1, c_s, hn_add c_H (tn c_at - 70) 3 (nI (rs_n c_R)) c_e, rs_add c_R (c_d - 1 - m) (fun j => c_s (m + 1 + j)), c_cl, c_ms, c_oc, c_out) u' → post u') : wpX_workOut post u := by
  refine xr_el0 (P := fun u => wpX_workOut post u) ?_ I
  intro b Z pb f_scopes f_freeNames f_sinceCollected f_room f_value f_other a_spans a_codeOp a_codeArgument a_partOne a_partTwo a_partThree a_scopeName a_scopeAround a_scopeOf a_memory a_frames hc hM
  have hcl : (nI c_at).toNatClampNeg = c_at := nI_clamp (by omega)
  have hop : a_codeOp (nI c_at).toNatClampNeg = nI 13 := by
    rw [hcl, (hc c_at hat).1]; unfold xc_o; rw [if_neg (by omega), if_pos (by omega)]
  have hin : vp_in (nI c_at) 32 := vp_in_nI (by omega) (by decide)
  refine ⟨hin, nm_r hop (br_f (by decide) (br_f (by decide) (br_f (by decide) (br_f (by decide) (br_t rfl ?_)))))⟩
  refine br_t (nI_lt (b := 8) hsh (by decide)) (nm_r (nI_1 _) (nm_r (nb_s1 (show 0 < c_d by omega)) ⟨17, ?_⟩))
  refine xh_32 hd hm hm4 hmf hp (fun f hf => (xm_f1 hM.2.2.2.2.2.2.2 hf).1) ?_ 17 (c_d - 1) (by omega) (by omega) (by omega)
  have etk : (nI c_d - 1) - nI m = nI (c_d - 1 - m) := by rw [nb_s1 (by omega), pk_sub (by omega)]
  refine nm_r etk ?_
  have ew : (2 : Int32) + nI (c_d - 1 - m) * 3 = nI (2 + 3 * (c_d - 1 - m)) := by
    rw [nb_m3, show (2 : Int32) = nI 2 from rfl, nI_add, Nat.mul_comm]
  rw [ew]
  refine xs_take (kd := 3) hM (by omega) hR hd (by omega) (by decide) ?_
  intro b2 Z2 mem2 frm2 pb2 v2 o2 sc hM2
  generalize htk : c_d - 1 - m = tk at *
  have hxt := xm_t hM2 (by omega)
  have hzt := hM2.2.2.1
  have c1 : (nI (hp_t Z2) + 1).toNatClampNeg = hp_t Z2 + 1 := pk_cl _ (nb_a1 _) (by omega)
  refine And.intro (pk_in _ _ (by omega) (nb_a1 _) (by decide)) (nm_r (e' := vp_updL (vp_updL mem2 (hp_t Z2) (lN ((2 + 3 * tk) * 256 + 3))) (hp_t Z2 + 1) (lN tk)) (by rw [c1, nI_l (by omega)]) ⟨3 * tk + 1, ?_⟩)
  have hl := xh_96 (post := post) (n0 := c_at) (m := m) (tk := tk) (t := hp_t Z2) (mem := vp_updL (vp_updL mem2 (hp_t Z2) (lN ((2 + 3 * tk) * 256 + 3))) (hp_t Z2 + 1) (lN tk))
    (f_count := nI N) (f_scopes := f_scopes) (f_freeNames := f_freeNames) (f_base := nI b2) (f_top := nI (hp_t Z2 + (2 + 3 * tk))) (f_sinceCollected := sc) (f_room := f_room) (f_depth := nI c_d) (f_returning := 0) (f_code := nI c_at) (f_bindings := nI pb2) (f_value := v2) (f_other := o2) (f_lastStatus := 0) (f_lastKind := 0) (f_lastNumber := 0) (f_outCount := nI c_oc) (f_callCount := nI c_cl) (f_shiftCount := nI (rs_n c_R + 1)) (f_mostPending := nI c_ms) (a_tokens := tok) (a_spans := a_spans) (a_codeOp := a_codeOp) (a_codeArgument := a_codeArgument) (a_partOne := a_partOne) (a_partTwo := a_partTwo) (a_partThree := a_partThree) (a_scopeName := a_scopeName) (a_scopeAround := a_scopeAround) (a_scopeOf := a_scopeOf) (a_frames := frm2) (a_outputs := c_out) (by omega) (by omega) ?_ (3 * tk + 1) 0 (Nat.zero_le _) (by omega)
  · rw [hp_c2_0] at hl
    exact hl
  intro n
  have e3 : nI tk * 3 = nI (3 * tk) := by rw [nb_m3, Nat.mul_comm]
  refine br_t (by rw [e3]; exact nI_le (Nat.le_refl _) (by omega)) (nm_r (nI_1 m) ?_)
  unfold wpX_valueOf
  have hsz : xm_sz (rs_add c_R tk (fun j => c_s (m + 1 + j))) 3 (rs_n c_R) = 2 + 3 * tk := by
    unfold xm_sz; rw [if_pos rfl, rs_add_l']
  have hN0 := xm_new (H' := c_H) (R' := rs_add c_R tk (fun j => c_s (m + 1 + j))) (kk := 3) (g := rs_n c_R) (mem' := hp_c2 (vp_updL (vp_updL mem2 (hp_t Z2) (lN ((2 + 3 * tk) * 256 + 3))) (hp_t Z2 + 1) (lN tk)) frm2 ((m + 1) * 3) (hp_t Z2 + 2) (3 * tk)) hM2 ⟨by omega, Or.inr (Or.inr ⟨rfl, by rw [rs_add_n]; omega⟩)⟩ (fun k g h => xm_agR h)
    (fun y hy => by unfold hp_c2; rw [if_neg (by omega), pk_uLn (by omega), pk_uLn (by omega)]) (fun y hy => by
      rw [hsz] at hy
      rcases (by omega : y = 0 ∨ y = 1 ∨ 2 ≤ y) with rfl | rfl | hy2
      · unfold hp_c2
        rw [if_neg (by omega), show hp_t Z2 + 0 = hp_t Z2 from rfl, pk_uLn (by omega), pk_uLs]
        show hp_rp _ (hp_R (lN (xm_sz (rs_add c_R tk (fun j => c_s (m + 1 + j))) 3 (rs_n c_R) * 256 + 3))) _
        rw [hsz, hp_rR]
      · unfold hp_c2
        rw [if_neg (by omega), pk_uLs]
        show hp_rp _ (hp_R (lN (rs_l (rs_add c_R tk (fun j => c_s (m + 1 + j))) (rs_n c_R)))) _
        rw [rs_add_l', hp_rR]
      · obtain ⟨z, rfl⟩ : ∃ z, y = 2 + z := ⟨y - 2, by omega⟩
        unfold hp_c2
        rw [if_pos (by omega), xm_ac3, rs_add_f', show (m + 1) * 3 + (hp_t Z2 + (2 + z) - (hp_t Z2 + 2)) = 3 * (m + 1) + z from by omega]
        have h9 := hM2.2.2.2.2.2.2.2 (3 * (m + 1) + z) (by omega)
        have e9 : xm_rc c_s (3 * (m + 1) + z) = xm_rc (fun j => c_s (m + 1 + j)) z := by
          unfold xm_rc
          rw [show (3 * (m + 1) + z) / 3 = m + 1 + z / 3 from by omega, show (3 * (m + 1) + z) % 3 = z % 3 from by omega]
        rw [e9] at h9
        exact hp_rp_m (hp_X_O hp_new_X) h9)
  rw [hsz] at hN0
  have hN1 := xm_stk (d' := m + 1) (s' := c_s) (frm' := frm2) hN0 (fun y hy => hN0.2.2.2.2.2.2.2 y (by omega))
  have hN2 := xm_val (k' := 3) (v' := nI (rs_n c_R)) (val' := nb_vk 3 (nI (hp_t Z2))) hN1 (Or.inr (Or.inr ⟨Or.inr rfl, hp_t Z2, rs_n c_R, hp_new_O hM2.2.1.1, rfl, rfl⟩))
  have hR2 : ∀ r, rs_l (rs_add c_R tk (fun j => c_s (m + 1 + j))) r ≤ 15 := by
    intro r
    by_cases hr : r = rs_n c_R
    · rw [hr, rs_add_l']; omega
    · rw [rs_add_l hr]; exact hR r
  refine xs_bind (tn c_at - 70) hN2 (by omega) hR2 (by omega) hnb ?_
  intro b3 Z3 mem3 frm3 pb3 v3 o3 sc3 hM3
  have hgo : a_partOne (nI c_at).toNatClampNeg = nI (c_at + 1) := by rw [hcl]; exact (hc c_at hat).2.1
  refine And.intro hin ?_
  rw [hgo]
  exact K _ (xr_mk0 hc (xm_T hM3 (by omega)))
end
end
section
/-! goOn, case by case (written by mk14.py) -/
-- base V f_count=nI N; f_base=nI b; f_top=nI (hp_t Z); f_depth=nI c_d; f_returning=1; f_bindings=nI pb; f_lastStatus=0; f_lastKind=0; f_lastNumber=0; f_outCount=nI c_oc; f_callCount=nI c_cl; f_shiftCount=nI (rs_n c_R); f_mostPending=nI c_ms; a_tokens=tok; a_outputs=c_out; n_memory=116000
def ab_ca (t : Nat) (x y : Int32) : Int32 := if t = 53 then x + y else if t = 54 then x - y else if t = 55 then x * y else if y ≤ x then 0 else 1
def ab_brk (s : Nat → ab_F) (d : Nat) (g : Nat → ab_F) : Nat → ab_F := fun f => if f ≤ d then ab_psh s d (4, 0, 0, 0, 0) f else g (f - (d + 1))
theorem xm_ko {O : Nat → Nat → Nat → Prop} {k : Nat} {v : Int32} {x : Int64} (h : hp_vr O k v x) : nb_ko x = nI k ∧ (k = 1 → x.toInt32 = v) := by
  rcases h with ⟨rfl, rfl⟩ | ⟨rfl, rfl⟩ | ⟨hk, p, g, _, _, rfl⟩
  · exact ⟨nb_ko0, fun z => absurd z (by decide)⟩
  · exact ⟨nb_ko_vk (by decide) _, fun _ => nb_lo_vk (by decide) _⟩
  · exact ⟨nb_ko_vk (by omega) _, fun z => by omega⟩
section
variable {f_count f_scopes f_freeNames f_base f_top f_sinceCollected f_room f_depth f_returning f_code f_bindings : Int32} {f_value f_other : Int64} {f_lastStatus f_lastKind f_lastNumber f_outCount f_callCount f_shiftCount f_mostPending : Int32} {a_tokens a_spans a_codeOp a_codeArgument a_partOne a_partTwo a_partThree a_scopeName a_scopeAround a_scopeOf : Nat → Int32} {a_memory a_frames : Nat → Int64} {a_outputs : Nat → Int32} {n_memory : Nat}
variable {p n0 d ms : Nat} {frm : Nat → Int64} {post : SX → Prop}
theorem xb_43 (hd : d + n0 ≤ 16) (ht : p + 2 + 3 * n0 ≤ 116000) (hms : ms ≤ 16)
    (K : post (f_count, f_scopes, f_freeNames, f_base, f_top, f_sinceCollected, f_room, nI (d + n0), 1, f_code, f_bindings, f_value, f_other, f_lastStatus, f_lastKind, f_lastNumber, f_outCount, f_callCount, f_shiftCount, nI (ab_mx (d + n0) ms), a_tokens, a_spans, a_codeOp, a_codeArgument, a_partOne, a_partTwo, a_partThree, a_scopeName, a_scopeAround, a_scopeOf, a_memory, hp_c2 frm a_memory (p + 2) (d * 3) (3 * n0), a_outputs, 116000)) :
    ∀ n i, i ≤ 3 * n0 → 3 * n0 - i < n → wX_bringBack_43 post (nI p) (nI n0) f_count f_scopes f_freeNames f_base f_top f_sinceCollected f_room (nI d) f_returning f_code f_bindings f_value f_other f_lastStatus f_lastKind f_lastNumber f_outCount f_callCount f_shiftCount (nI ms) 116000 n (nI i) a_tokens a_spans a_codeOp a_codeArgument a_partOne a_partTwo a_partThree a_scopeName a_scopeAround a_scopeOf a_memory (hp_c2 frm a_memory (p + 2) (d * 3) i) a_outputs := by
  intro n
  induction n with
  | zero => intro i _ h; omega
  | succ n ih =>
    intro i h1 h2
    have e3 : nI n0 * 3 = nI (3 * n0) := by rw [nb_m3, Nat.mul_comm]
    rcases Nat.lt_or_ge i (3 * n0) with h | h
    · have ea : (nI p + 2) + nI i = nI (p + 2 + i) := by rw [nb_a2, nI_add]
      have eb : nI d * 3 + nI i = nI (d * 3 + i) := by rw [nb_m3, nI_add]
      refine br_f (by rw [e3]; exact nI_ge h (by omega)) ⟨pk_in _ _ (by omega) ea (by decide), pk_in _ _ (by omega) eb (by decide), nm_r (e' := hp_c2 frm a_memory (p + 2) (d * 3) (i + 1)) ?_ (nm_r (nI_1 i) (ih (i + 1) h (by omega)))⟩
      rw [pk_cl _ ea (by omega), pk_cl _ eb (by omega)]
      exact hp_c2_s
    · have : i = 3 * n0 := by omega
      subst this
      refine br_t (by rw [e3]; exact nI_le (Nat.le_refl _) (by omega)) (nm_r (nI_add d n0) ?_)
      unfold ab_mx at K
      by_cases hm : d + n0 ≤ ms
      · rw [if_pos hm] at K
        exact br_t (nI_le hm (by omega)) K
      · rw [if_neg hm] at K
        exact br_f (nI_ge (show ms < d + n0 by omega) (by omega)) K
end
section
variable {c_has : Bool} {c_at c_e c_k : Nat} {c_v : Int32} {c_d : Nat} {c_s : Nat → ab_F} {c_H : ab_H} {c_R : ab_R} {c_cl c_ms c_oc : Nat} {c_out : Nat → Int32}
variable {tn : Nat → Nat} {tok : Nat → Int32} {N T : Nat} {u : SX} {post : SX → Prop}
theorem xg_first (I : xr_R tn tok N T (true, c_at, c_e, c_k, c_v, c_d + 1, c_s, c_H, c_R, c_cl, c_ms, c_oc, c_out) u) (hR : ∀ r, rs_l c_R r ≤ 15) (hT : T ≤ 57800) (hd : c_d + 1 ≤ 16) (hfd : fr_d (c_s c_d) = 0) (hfp : fr_p (c_s c_d) < 32) (hN : N ≤ 32) (hp : fr_p (c_s c_d) < N) (hpt : 2 ≤ sg_pt (tn (fr_p (c_s c_d)))) (hms : c_d + 1 ≤ c_ms) (hms2 : c_ms ≤ 16)
    (K : ∀ u', xr_R tn tok N T (false, sg_e tn (fr_p (c_s c_d) + 1), fr_e (c_s c_d), c_k, c_v, c_d + 1, ab_psh c_s c_d (1, fr_p (c_s c_d), fr_e (c_s c_d), c_k, c_v), c_H, c_R, c_cl, c_ms, c_oc, c_out) u' → post u') : wpX_goOn post u := by
  refine xr_el1 (P := fun u => wpX_goOn post u) ?_ I
  intro b Z pb f_scopes f_freeNames f_sinceCollected f_room f_code f_value f_other a_spans a_codeOp a_codeArgument a_partOne a_partTwo a_partThree a_scopeName a_scopeAround a_scopeOf a_memory a_frames hc hM
  have hf := xm_f1 hM.2.2.2.2.2.2.2 (show c_d < c_d + 1 by omega)
  obtain ⟨q, hq, hq1⟩ := xm_pq hM (by omega) hR hf.2.1
  have e0 : nI c_d * 3 = nI (3 * c_d) := by rw [nb_m3, Nat.mul_comm]
  have e1 : nI c_d * 3 + 1 = nI (3 * c_d + 1) := by rw [e0, nb_a1]
  have e2 : nI c_d * 3 + 2 = nI (3 * c_d + 2) := by rw [e0, nb_a2]
  have i0 : vp_in (nI c_d * 3) 48 := pk_in _ _ (by omega) e0 (by decide)
  have i1 : vp_in (nI c_d * 3 + 1) 48 := pk_in _ _ (by omega) e1 (by decide)
  have i2 : vp_in (nI c_d * 3 + 2) 48 := pk_in _ _ (by omega) e2 (by decide)
  have g0 : (a_frames (nI c_d * 3).toNatClampNeg).toInt32 = nI (0 * 64 + fr_p (c_s c_d)) := by rw [pk_cl _ e0 (by omega), hf.1, lN_i, hfd]
  have gk : (a_frames (nI c_d * 3).toNatClampNeg).toInt32 / 64 = nI 0 := by rw [g0, nb_d64 (by omega)]; congr 1; omega
  have gp : (a_frames (nI c_d * 3).toNatClampNeg).toInt32 - (a_frames (nI c_d * 3).toNatClampNeg).toInt32 / 64 * 64 = nI (fr_p (c_s c_d)) := by rw [g0, nb_r64 (by omega)]; congr 1; omega
  have gb : (a_frames (nI c_d * 3 + 1).toNatClampNeg).toInt32 = nI q := by rw [pk_cl _ e1 (by omega), hq1, lN_i]
  have hP : hp_pr (hp_O Z) (fr_e (c_s c_d)) (lN q) := hq1 ▸ hf.2.1
  have hcl : (nI (fr_p (c_s c_d))).toNatClampNeg = fr_p (c_s c_d) := nI_clamp (by omega)
  have hin : vp_in (nI (fr_p (c_s c_d))) 32 := vp_in_nI (by omega) (by decide)
  have hxt := xm_t hM (by omega)
  have hS : ∀ y, y < 3 * c_d → hp_rp (hp_O Z) (xm_rc c_s y) (a_frames y) := fun y hy => hM.2.2.2.2.2.2.2 y (by omega)
  have hM1 := xm_env hM hq hP
  have hM2 := xm_stk (d' := c_d) (s' := c_s) (frm' := a_frames) hM1 hS
  refine nm_r (nI_pred c_d) ⟨i0, by decide, nm_r gk ⟨i0, by decide, nm_r gp ⟨i1, nm_r gb ?_⟩⟩⟩
  refine br_t rfl ?_
  refine xs_push (kd := 1) (ms := c_ms) (by omega) hms2 (by omega) hq ?_
  refine And.intro hin ?_
  have hgo : a_partTwo (nI (fr_p (c_s c_d))).toNatClampNeg = nI (sg_e tn (fr_p (c_s c_d) + 1)) := by rw [hcl]; exact (hc _ hp).2.2.1 hpt
  have hmx : ab_mx (c_d + 1) c_ms = c_ms := if_pos hms
  rw [hgo, hmx]
  exact K _ (xr_mk0 hc (xm_stk hM1 (xm_psh hS rfl hP hM.2.2.2.2.2.1)))
theorem xg_yes (I : xr_R tn tok N T (true, c_at, c_e, c_k, c_v, c_d + 1, c_s, c_H, c_R, c_cl, c_ms, c_oc, c_out) u) (hR : ∀ r, rs_l c_R r ≤ 15) (hT : T ≤ 57800) (hd : c_d + 1 ≤ 16) (hfd : fr_d (c_s c_d) = 2) (hfp : fr_p (c_s c_d) < 32) (hN : N ≤ 32) (hp : fr_p (c_s c_d) < N) (hpt : 3 ≤ sg_pt (tn (fr_p (c_s c_d)))) (hk : c_k = 1) (hv : ¬ c_v = 0)
    (K : ∀ u', xr_R tn tok N T (false, sg_e tn (fr_p (c_s c_d) + 1), fr_e (c_s c_d), c_k, c_v, c_d, c_s, c_H, c_R, c_cl, c_ms, c_oc, c_out) u' → post u') : wpX_goOn post u := by
  refine xr_el1 (P := fun u => wpX_goOn post u) ?_ I
  intro b Z pb f_scopes f_freeNames f_sinceCollected f_room f_code f_value f_other a_spans a_codeOp a_codeArgument a_partOne a_partTwo a_partThree a_scopeName a_scopeAround a_scopeOf a_memory a_frames hc hM
  have hf := xm_f1 hM.2.2.2.2.2.2.2 (show c_d < c_d + 1 by omega)
  obtain ⟨q, hq, hq1⟩ := xm_pq hM (by omega) hR hf.2.1
  have e0 : nI c_d * 3 = nI (3 * c_d) := by rw [nb_m3, Nat.mul_comm]
  have e1 : nI c_d * 3 + 1 = nI (3 * c_d + 1) := by rw [e0, nb_a1]
  have e2 : nI c_d * 3 + 2 = nI (3 * c_d + 2) := by rw [e0, nb_a2]
  have i0 : vp_in (nI c_d * 3) 48 := pk_in _ _ (by omega) e0 (by decide)
  have i1 : vp_in (nI c_d * 3 + 1) 48 := pk_in _ _ (by omega) e1 (by decide)
  have i2 : vp_in (nI c_d * 3 + 2) 48 := pk_in _ _ (by omega) e2 (by decide)
  have g0 : (a_frames (nI c_d * 3).toNatClampNeg).toInt32 = nI (2 * 64 + fr_p (c_s c_d)) := by rw [pk_cl _ e0 (by omega), hf.1, lN_i, hfd]
  have gk : (a_frames (nI c_d * 3).toNatClampNeg).toInt32 / 64 = nI 2 := by rw [g0, nb_d64 (by omega)]; congr 1; omega
  have gp : (a_frames (nI c_d * 3).toNatClampNeg).toInt32 - (a_frames (nI c_d * 3).toNatClampNeg).toInt32 / 64 * 64 = nI (fr_p (c_s c_d)) := by rw [g0, nb_r64 (by omega)]; congr 1; omega
  have gb : (a_frames (nI c_d * 3 + 1).toNatClampNeg).toInt32 = nI q := by rw [pk_cl _ e1 (by omega), hq1, lN_i]
  have hP : hp_pr (hp_O Z) (fr_e (c_s c_d)) (lN q) := hq1 ▸ hf.2.1
  have hcl : (nI (fr_p (c_s c_d))).toNatClampNeg = fr_p (c_s c_d) := nI_clamp (by omega)
  have hin : vp_in (nI (fr_p (c_s c_d))) 32 := vp_in_nI (by omega) (by decide)
  have hxt := xm_t hM (by omega)
  have hS : ∀ y, y < 3 * c_d → hp_rp (hp_O Z) (xm_rc c_s y) (a_frames y) := fun y hy => hM.2.2.2.2.2.2.2 y (by omega)
  have hM1 := xm_env hM hq hP
  have hM2 := xm_stk (d' := c_d) (s' := c_s) (frm' := a_frames) hM1 hS
  refine nm_r (nI_pred c_d) ⟨i0, by decide, nm_r gk ⟨i0, by decide, nm_r gp ⟨i1, nm_r gb ?_⟩⟩⟩
  refine br_f (by decide) (br_f (by decide) (br_t rfl ?_))
  have hko := xm_ko hM.2.2.2.2.2.1
  have hk1 : nb_ko f_value = 1 := by rw [hko.1, hk]; rfl
  have hv1 : f_value.toInt32 = c_v := hko.2 hk
  have hgo : a_partTwo (nI (fr_p (c_s c_d))).toNatClampNeg = nI (sg_e tn (fr_p (c_s c_d) + 1)) := by rw [hcl]; exact (hc _ hp).2.2.1 (by omega)
  refine br_t hk1 (br_f (by rw [hv1]; exact hv) ⟨hin, ?_⟩)
  rw [hgo]
  exact K _ (xr_mk0 hc hM2)
theorem xg_no (I : xr_R tn tok N T (true, c_at, c_e, c_k, c_v, c_d + 1, c_s, c_H, c_R, c_cl, c_ms, c_oc, c_out) u) (hR : ∀ r, rs_l c_R r ≤ 15) (hT : T ≤ 57800) (hd : c_d + 1 ≤ 16) (hfd : fr_d (c_s c_d) = 2) (hfp : fr_p (c_s c_d) < 32) (hN : N ≤ 32) (hp : fr_p (c_s c_d) < N) (hpt : 3 ≤ sg_pt (tn (fr_p (c_s c_d)))) (hk : c_k = 1) (hv : c_v = 0)
    (K : ∀ u', xr_R tn tok N T (false, sg_e tn (sg_e tn (fr_p (c_s c_d) + 1)), fr_e (c_s c_d), c_k, c_v, c_d, c_s, c_H, c_R, c_cl, c_ms, c_oc, c_out) u' → post u') : wpX_goOn post u := by
  refine xr_el1 (P := fun u => wpX_goOn post u) ?_ I
  intro b Z pb f_scopes f_freeNames f_sinceCollected f_room f_code f_value f_other a_spans a_codeOp a_codeArgument a_partOne a_partTwo a_partThree a_scopeName a_scopeAround a_scopeOf a_memory a_frames hc hM
  have hf := xm_f1 hM.2.2.2.2.2.2.2 (show c_d < c_d + 1 by omega)
  obtain ⟨q, hq, hq1⟩ := xm_pq hM (by omega) hR hf.2.1
  have e0 : nI c_d * 3 = nI (3 * c_d) := by rw [nb_m3, Nat.mul_comm]
  have e1 : nI c_d * 3 + 1 = nI (3 * c_d + 1) := by rw [e0, nb_a1]
  have e2 : nI c_d * 3 + 2 = nI (3 * c_d + 2) := by rw [e0, nb_a2]
  have i0 : vp_in (nI c_d * 3) 48 := pk_in _ _ (by omega) e0 (by decide)
  have i1 : vp_in (nI c_d * 3 + 1) 48 := pk_in _ _ (by omega) e1 (by decide)
  have i2 : vp_in (nI c_d * 3 + 2) 48 := pk_in _ _ (by omega) e2 (by decide)
  have g0 : (a_frames (nI c_d * 3).toNatClampNeg).toInt32 = nI (2 * 64 + fr_p (c_s c_d)) := by rw [pk_cl _ e0 (by omega), hf.1, lN_i, hfd]
  have gk : (a_frames (nI c_d * 3).toNatClampNeg).toInt32 / 64 = nI 2 := by rw [g0, nb_d64 (by omega)]; congr 1; omega
  have gp : (a_frames (nI c_d * 3).toNatClampNeg).toInt32 - (a_frames (nI c_d * 3).toNatClampNeg).toInt32 / 64 * 64 = nI (fr_p (c_s c_d)) := by rw [g0, nb_r64 (by omega)]; congr 1; omega
  have gb : (a_frames (nI c_d * 3 + 1).toNatClampNeg).toInt32 = nI q := by rw [pk_cl _ e1 (by omega), hq1, lN_i]
  have hP : hp_pr (hp_O Z) (fr_e (c_s c_d)) (lN q) := hq1 ▸ hf.2.1
  have hcl : (nI (fr_p (c_s c_d))).toNatClampNeg = fr_p (c_s c_d) := nI_clamp (by omega)
  have hin : vp_in (nI (fr_p (c_s c_d))) 32 := vp_in_nI (by omega) (by decide)
  have hxt := xm_t hM (by omega)
  have hS : ∀ y, y < 3 * c_d → hp_rp (hp_O Z) (xm_rc c_s y) (a_frames y) := fun y hy => hM.2.2.2.2.2.2.2 y (by omega)
  have hM1 := xm_env hM hq hP
  have hM2 := xm_stk (d' := c_d) (s' := c_s) (frm' := a_frames) hM1 hS
  refine nm_r (nI_pred c_d) ⟨i0, by decide, nm_r gk ⟨i0, by decide, nm_r gp ⟨i1, nm_r gb ?_⟩⟩⟩
  refine br_f (by decide) (br_f (by decide) (br_t rfl ?_))
  have hko := xm_ko hM.2.2.2.2.2.1
  have hk1 : nb_ko f_value = 1 := by rw [hko.1, hk]; rfl
  have hv1 : f_value.toInt32 = c_v := hko.2 hk
  have hgo : a_partThree (nI (fr_p (c_s c_d))).toNatClampNeg = nI (sg_e tn (sg_e tn (fr_p (c_s c_d) + 1))) := by rw [hcl]; exact (hc _ hp).2.2.2.1 hpt
  refine br_t hk1 (br_t (by rw [hv1]; exact hv) ⟨hin, ?_⟩)
  rw [hgo]
  exact K _ (xr_mk0 hc hM2)
theorem xg_cw (I : xr_R tn tok N T (true, c_at, c_e, c_k, c_v, c_d + 1, c_s, c_H, c_R, c_cl, c_ms, c_oc, c_out) u) (hR : ∀ r, rs_l c_R r ≤ 15) (hT : T ≤ 57800) (hd : c_d + 1 ≤ 16) (hfd : fr_d (c_s c_d) = 2) (hfp : fr_p (c_s c_d) < 32) (hk : ¬ c_k = 1) (hk3 : c_k ≤ 3)
    (K : ∀ u', xf_R tok N 2 0 (0) c_cl (rs_n c_R) c_ms c_oc c_out u' → post u') : wpX_goOn post u := by
  refine xr_el1 (P := fun u => wpX_goOn post u) ?_ I
  intro b Z pb f_scopes f_freeNames f_sinceCollected f_room f_code f_value f_other a_spans a_codeOp a_codeArgument a_partOne a_partTwo a_partThree a_scopeName a_scopeAround a_scopeOf a_memory a_frames hc hM
  have hf := xm_f1 hM.2.2.2.2.2.2.2 (show c_d < c_d + 1 by omega)
  obtain ⟨q, hq, hq1⟩ := xm_pq hM (by omega) hR hf.2.1
  have e0 : nI c_d * 3 = nI (3 * c_d) := by rw [nb_m3, Nat.mul_comm]
  have e1 : nI c_d * 3 + 1 = nI (3 * c_d + 1) := by rw [e0, nb_a1]
  have e2 : nI c_d * 3 + 2 = nI (3 * c_d + 2) := by rw [e0, nb_a2]
  have i0 : vp_in (nI c_d * 3) 48 := pk_in _ _ (by omega) e0 (by decide)
  have i1 : vp_in (nI c_d * 3 + 1) 48 := pk_in _ _ (by omega) e1 (by decide)
  have i2 : vp_in (nI c_d * 3 + 2) 48 := pk_in _ _ (by omega) e2 (by decide)
  have g0 : (a_frames (nI c_d * 3).toNatClampNeg).toInt32 = nI (2 * 64 + fr_p (c_s c_d)) := by rw [pk_cl _ e0 (by omega), hf.1, lN_i, hfd]
  have gk : (a_frames (nI c_d * 3).toNatClampNeg).toInt32 / 64 = nI 2 := by rw [g0, nb_d64 (by omega)]; congr 1; omega
  have gp : (a_frames (nI c_d * 3).toNatClampNeg).toInt32 - (a_frames (nI c_d * 3).toNatClampNeg).toInt32 / 64 * 64 = nI (fr_p (c_s c_d)) := by rw [g0, nb_r64 (by omega)]; congr 1; omega
  have gb : (a_frames (nI c_d * 3 + 1).toNatClampNeg).toInt32 = nI q := by rw [pk_cl _ e1 (by omega), hq1, lN_i]
  have hP : hp_pr (hp_O Z) (fr_e (c_s c_d)) (lN q) := hq1 ▸ hf.2.1
  have hcl : (nI (fr_p (c_s c_d))).toNatClampNeg = fr_p (c_s c_d) := nI_clamp (by omega)
  have hin : vp_in (nI (fr_p (c_s c_d))) 32 := vp_in_nI (by omega) (by decide)
  have hxt := xm_t hM (by omega)
  have hS : ∀ y, y < 3 * c_d → hp_rp (hp_O Z) (xm_rc c_s y) (a_frames y) := fun y hy => hM.2.2.2.2.2.2.2 y (by omega)
  have hM1 := xm_env hM hq hP
  have hM2 := xm_stk (d' := c_d) (s' := c_s) (frm' := a_frames) hM1 hS
  refine nm_r (nI_pred c_d) ⟨i0, by decide, nm_r gk ⟨i0, by decide, nm_r gp ⟨i1, nm_r gb ?_⟩⟩⟩
  refine br_f (by decide) (br_f (by decide) (br_t rfl ?_))
  have hko := xm_ko hM.2.2.2.2.2.1
  have hk1 : ¬ nb_ko f_value = 1 := by rw [hko.1]; exact nb_ne (b := 1) (by omega) (by decide) hk
  refine br_f hk1 ?_
  exact K _ (xf_mk (st := 2) (fun z => absurd z (by decide)) hxt.2.1 (by omega))
theorem xg_print (I : xr_R tn tok N T (true, c_at, c_e, c_k, c_v, c_d + 1, c_s, c_H, c_R, c_cl, c_ms, c_oc, c_out) u) (hR : ∀ r, rs_l c_R r ≤ 15) (hT : T ≤ 57800) (hd : c_d + 1 ≤ 16) (hfd : fr_d (c_s c_d) = 3) (hfp : fr_p (c_s c_d) < 32) (hk : c_k = 1) (ho : c_oc < 16)
    (K : ∀ u', xr_R tn tok N T (true, c_at, fr_e (c_s c_d), c_k, c_v, c_d, c_s, c_H, c_R, c_cl, c_ms, c_oc + 1, upd c_out c_oc c_v) u' → post u') : wpX_goOn post u := by
  refine xr_el1 (P := fun u => wpX_goOn post u) ?_ I
  intro b Z pb f_scopes f_freeNames f_sinceCollected f_room f_code f_value f_other a_spans a_codeOp a_codeArgument a_partOne a_partTwo a_partThree a_scopeName a_scopeAround a_scopeOf a_memory a_frames hc hM
  have hf := xm_f1 hM.2.2.2.2.2.2.2 (show c_d < c_d + 1 by omega)
  obtain ⟨q, hq, hq1⟩ := xm_pq hM (by omega) hR hf.2.1
  have e0 : nI c_d * 3 = nI (3 * c_d) := by rw [nb_m3, Nat.mul_comm]
  have e1 : nI c_d * 3 + 1 = nI (3 * c_d + 1) := by rw [e0, nb_a1]
  have e2 : nI c_d * 3 + 2 = nI (3 * c_d + 2) := by rw [e0, nb_a2]
  have i0 : vp_in (nI c_d * 3) 48 := pk_in _ _ (by omega) e0 (by decide)
  have i1 : vp_in (nI c_d * 3 + 1) 48 := pk_in _ _ (by omega) e1 (by decide)
  have i2 : vp_in (nI c_d * 3 + 2) 48 := pk_in _ _ (by omega) e2 (by decide)
  have g0 : (a_frames (nI c_d * 3).toNatClampNeg).toInt32 = nI (3 * 64 + fr_p (c_s c_d)) := by rw [pk_cl _ e0 (by omega), hf.1, lN_i, hfd]
  have gk : (a_frames (nI c_d * 3).toNatClampNeg).toInt32 / 64 = nI 3 := by rw [g0, nb_d64 (by omega)]; congr 1; omega
  have gp : (a_frames (nI c_d * 3).toNatClampNeg).toInt32 - (a_frames (nI c_d * 3).toNatClampNeg).toInt32 / 64 * 64 = nI (fr_p (c_s c_d)) := by rw [g0, nb_r64 (by omega)]; congr 1; omega
  have gb : (a_frames (nI c_d * 3 + 1).toNatClampNeg).toInt32 = nI q := by rw [pk_cl _ e1 (by omega), hq1, lN_i]
  have hP : hp_pr (hp_O Z) (fr_e (c_s c_d)) (lN q) := hq1 ▸ hf.2.1
  have hcl : (nI (fr_p (c_s c_d))).toNatClampNeg = fr_p (c_s c_d) := nI_clamp (by omega)
  have hin : vp_in (nI (fr_p (c_s c_d))) 32 := vp_in_nI (by omega) (by decide)
  have hxt := xm_t hM (by omega)
  have hS : ∀ y, y < 3 * c_d → hp_rp (hp_O Z) (xm_rc c_s y) (a_frames y) := fun y hy => hM.2.2.2.2.2.2.2 y (by omega)
  have hM1 := xm_env hM hq hP
  have hM2 := xm_stk (d' := c_d) (s' := c_s) (frm' := a_frames) hM1 hS
  refine nm_r (nI_pred c_d) ⟨i0, by decide, nm_r gk ⟨i0, by decide, nm_r gp ⟨i1, nm_r gb ?_⟩⟩⟩
  refine br_f (by decide) (br_f (by decide) (br_f (by decide) (br_t rfl ?_)))
  have hko := xm_ko hM.2.2.2.2.2.1
  have hk1 : nb_ko f_value = 1 := by rw [hko.1, hk]; rfl
  have hv1 : f_value.toInt32 = c_v := hko.2 hk
  refine br_t hk1 (br_t (nI_lt (b := 16) ho (by decide)) ⟨vp_in_nI ho (by decide), nm_r (e' := upd c_out c_oc c_v) (by rw [nI_clamp (by omega), hv1]) (nm_r (nI_1 _) ?_)⟩)
  exact K _ (xr_mk1 hc hM2)
theorem xg_pfull (I : xr_R tn tok N T (true, c_at, c_e, c_k, c_v, c_d + 1, c_s, c_H, c_R, c_cl, c_ms, c_oc, c_out) u) (hR : ∀ r, rs_l c_R r ≤ 15) (hT : T ≤ 57800) (hd : c_d + 1 ≤ 16) (hfd : fr_d (c_s c_d) = 3) (hfp : fr_p (c_s c_d) < 32) (hk : c_k = 1) (ho : c_oc = 16)
    (K : ∀ u', xf_R tok N 5 0 (0) c_cl (rs_n c_R) c_ms c_oc c_out u' → post u') : wpX_goOn post u := by
  refine xr_el1 (P := fun u => wpX_goOn post u) ?_ I
  intro b Z pb f_scopes f_freeNames f_sinceCollected f_room f_code f_value f_other a_spans a_codeOp a_codeArgument a_partOne a_partTwo a_partThree a_scopeName a_scopeAround a_scopeOf a_memory a_frames hc hM
  have hf := xm_f1 hM.2.2.2.2.2.2.2 (show c_d < c_d + 1 by omega)
  obtain ⟨q, hq, hq1⟩ := xm_pq hM (by omega) hR hf.2.1
  have e0 : nI c_d * 3 = nI (3 * c_d) := by rw [nb_m3, Nat.mul_comm]
  have e1 : nI c_d * 3 + 1 = nI (3 * c_d + 1) := by rw [e0, nb_a1]
  have e2 : nI c_d * 3 + 2 = nI (3 * c_d + 2) := by rw [e0, nb_a2]
  have i0 : vp_in (nI c_d * 3) 48 := pk_in _ _ (by omega) e0 (by decide)
  have i1 : vp_in (nI c_d * 3 + 1) 48 := pk_in _ _ (by omega) e1 (by decide)
  have i2 : vp_in (nI c_d * 3 + 2) 48 := pk_in _ _ (by omega) e2 (by decide)
  have g0 : (a_frames (nI c_d * 3).toNatClampNeg).toInt32 = nI (3 * 64 + fr_p (c_s c_d)) := by rw [pk_cl _ e0 (by omega), hf.1, lN_i, hfd]
  have gk : (a_frames (nI c_d * 3).toNatClampNeg).toInt32 / 64 = nI 3 := by rw [g0, nb_d64 (by omega)]; congr 1; omega
  have gp : (a_frames (nI c_d * 3).toNatClampNeg).toInt32 - (a_frames (nI c_d * 3).toNatClampNeg).toInt32 / 64 * 64 = nI (fr_p (c_s c_d)) := by rw [g0, nb_r64 (by omega)]; congr 1; omega
  have gb : (a_frames (nI c_d * 3 + 1).toNatClampNeg).toInt32 = nI q := by rw [pk_cl _ e1 (by omega), hq1, lN_i]
  have hP : hp_pr (hp_O Z) (fr_e (c_s c_d)) (lN q) := hq1 ▸ hf.2.1
  have hcl : (nI (fr_p (c_s c_d))).toNatClampNeg = fr_p (c_s c_d) := nI_clamp (by omega)
  have hin : vp_in (nI (fr_p (c_s c_d))) 32 := vp_in_nI (by omega) (by decide)
  have hxt := xm_t hM (by omega)
  have hS : ∀ y, y < 3 * c_d → hp_rp (hp_O Z) (xm_rc c_s y) (a_frames y) := fun y hy => hM.2.2.2.2.2.2.2 y (by omega)
  have hM1 := xm_env hM hq hP
  have hM2 := xm_stk (d' := c_d) (s' := c_s) (frm' := a_frames) hM1 hS
  refine nm_r (nI_pred c_d) ⟨i0, by decide, nm_r gk ⟨i0, by decide, nm_r gp ⟨i1, nm_r gb ?_⟩⟩⟩
  refine br_f (by decide) (br_f (by decide) (br_f (by decide) (br_t rfl ?_)))
  have hko := xm_ko hM.2.2.2.2.2.1
  have hk1 : nb_ko f_value = 1 := by rw [hko.1, hk]; rfl
  refine br_t hk1 (br_f (nI_nlt (b := 16) (by omega) (by omega)) ?_)
  exact K _ (xf_mk (st := 5) (fun z => absurd z (by decide)) hxt.2.1 (by omega))
theorem xg_pw (I : xr_R tn tok N T (true, c_at, c_e, c_k, c_v, c_d + 1, c_s, c_H, c_R, c_cl, c_ms, c_oc, c_out) u) (hR : ∀ r, rs_l c_R r ≤ 15) (hT : T ≤ 57800) (hd : c_d + 1 ≤ 16) (hfd : fr_d (c_s c_d) = 3) (hfp : fr_p (c_s c_d) < 32) (hk : ¬ c_k = 1) (hk3 : c_k ≤ 3)
    (K : ∀ u', xf_R tok N 2 0 (0) c_cl (rs_n c_R) c_ms c_oc c_out u' → post u') : wpX_goOn post u := by
  refine xr_el1 (P := fun u => wpX_goOn post u) ?_ I
  intro b Z pb f_scopes f_freeNames f_sinceCollected f_room f_code f_value f_other a_spans a_codeOp a_codeArgument a_partOne a_partTwo a_partThree a_scopeName a_scopeAround a_scopeOf a_memory a_frames hc hM
  have hf := xm_f1 hM.2.2.2.2.2.2.2 (show c_d < c_d + 1 by omega)
  obtain ⟨q, hq, hq1⟩ := xm_pq hM (by omega) hR hf.2.1
  have e0 : nI c_d * 3 = nI (3 * c_d) := by rw [nb_m3, Nat.mul_comm]
  have e1 : nI c_d * 3 + 1 = nI (3 * c_d + 1) := by rw [e0, nb_a1]
  have e2 : nI c_d * 3 + 2 = nI (3 * c_d + 2) := by rw [e0, nb_a2]
  have i0 : vp_in (nI c_d * 3) 48 := pk_in _ _ (by omega) e0 (by decide)
  have i1 : vp_in (nI c_d * 3 + 1) 48 := pk_in _ _ (by omega) e1 (by decide)
  have i2 : vp_in (nI c_d * 3 + 2) 48 := pk_in _ _ (by omega) e2 (by decide)
  have g0 : (a_frames (nI c_d * 3).toNatClampNeg).toInt32 = nI (3 * 64 + fr_p (c_s c_d)) := by rw [pk_cl _ e0 (by omega), hf.1, lN_i, hfd]
  have gk : (a_frames (nI c_d * 3).toNatClampNeg).toInt32 / 64 = nI 3 := by rw [g0, nb_d64 (by omega)]; congr 1; omega
  have gp : (a_frames (nI c_d * 3).toNatClampNeg).toInt32 - (a_frames (nI c_d * 3).toNatClampNeg).toInt32 / 64 * 64 = nI (fr_p (c_s c_d)) := by rw [g0, nb_r64 (by omega)]; congr 1; omega
  have gb : (a_frames (nI c_d * 3 + 1).toNatClampNeg).toInt32 = nI q := by rw [pk_cl _ e1 (by omega), hq1, lN_i]
  have hP : hp_pr (hp_O Z) (fr_e (c_s c_d)) (lN q) := hq1 ▸ hf.2.1
  have hcl : (nI (fr_p (c_s c_d))).toNatClampNeg = fr_p (c_s c_d) := nI_clamp (by omega)
  have hin : vp_in (nI (fr_p (c_s c_d))) 32 := vp_in_nI (by omega) (by decide)
  have hxt := xm_t hM (by omega)
  have hS : ∀ y, y < 3 * c_d → hp_rp (hp_O Z) (xm_rc c_s y) (a_frames y) := fun y hy => hM.2.2.2.2.2.2.2 y (by omega)
  have hM1 := xm_env hM hq hP
  have hM2 := xm_stk (d' := c_d) (s' := c_s) (frm' := a_frames) hM1 hS
  refine nm_r (nI_pred c_d) ⟨i0, by decide, nm_r gk ⟨i0, by decide, nm_r gp ⟨i1, nm_r gb ?_⟩⟩⟩
  refine br_f (by decide) (br_f (by decide) (br_f (by decide) (br_t rfl ?_)))
  have hko := xm_ko hM.2.2.2.2.2.1
  have hk1 : ¬ nb_ko f_value = 1 := by rw [hko.1]; exact nb_ne (b := 1) (by omega) (by decide) hk
  refine br_f hk1 ?_
  exact K _ (xf_mk (st := 2) (fun z => absurd z (by decide)) hxt.2.1 (by omega))
theorem xg_mark (I : xr_R tn tok N T (true, c_at, c_e, c_k, c_v, c_d + 1, c_s, c_H, c_R, c_cl, c_ms, c_oc, c_out) u) (hR : ∀ r, rs_l c_R r ≤ 15) (hT : T ≤ 57800) (hd : c_d + 1 ≤ 16) (hfd : fr_d (c_s c_d) = 4) (hfp : fr_p (c_s c_d) < 32) (h0 : 0 < c_d)
    (K : ∀ u', xr_R tn tok N T (true, c_at, fr_e (c_s c_d), c_k, c_v, c_d, c_s, c_H, c_R, c_cl, c_ms, c_oc, c_out) u' → post u') : wpX_goOn post u := by
  refine xr_el1 (P := fun u => wpX_goOn post u) ?_ I
  intro b Z pb f_scopes f_freeNames f_sinceCollected f_room f_code f_value f_other a_spans a_codeOp a_codeArgument a_partOne a_partTwo a_partThree a_scopeName a_scopeAround a_scopeOf a_memory a_frames hc hM
  have hf := xm_f1 hM.2.2.2.2.2.2.2 (show c_d < c_d + 1 by omega)
  obtain ⟨q, hq, hq1⟩ := xm_pq hM (by omega) hR hf.2.1
  have e0 : nI c_d * 3 = nI (3 * c_d) := by rw [nb_m3, Nat.mul_comm]
  have e1 : nI c_d * 3 + 1 = nI (3 * c_d + 1) := by rw [e0, nb_a1]
  have e2 : nI c_d * 3 + 2 = nI (3 * c_d + 2) := by rw [e0, nb_a2]
  have i0 : vp_in (nI c_d * 3) 48 := pk_in _ _ (by omega) e0 (by decide)
  have i1 : vp_in (nI c_d * 3 + 1) 48 := pk_in _ _ (by omega) e1 (by decide)
  have i2 : vp_in (nI c_d * 3 + 2) 48 := pk_in _ _ (by omega) e2 (by decide)
  have g0 : (a_frames (nI c_d * 3).toNatClampNeg).toInt32 = nI (4 * 64 + fr_p (c_s c_d)) := by rw [pk_cl _ e0 (by omega), hf.1, lN_i, hfd]
  have gk : (a_frames (nI c_d * 3).toNatClampNeg).toInt32 / 64 = nI 4 := by rw [g0, nb_d64 (by omega)]; congr 1; omega
  have gp : (a_frames (nI c_d * 3).toNatClampNeg).toInt32 - (a_frames (nI c_d * 3).toNatClampNeg).toInt32 / 64 * 64 = nI (fr_p (c_s c_d)) := by rw [g0, nb_r64 (by omega)]; congr 1; omega
  have gb : (a_frames (nI c_d * 3 + 1).toNatClampNeg).toInt32 = nI q := by rw [pk_cl _ e1 (by omega), hq1, lN_i]
  have hP : hp_pr (hp_O Z) (fr_e (c_s c_d)) (lN q) := hq1 ▸ hf.2.1
  have hcl : (nI (fr_p (c_s c_d))).toNatClampNeg = fr_p (c_s c_d) := nI_clamp (by omega)
  have hin : vp_in (nI (fr_p (c_s c_d))) 32 := vp_in_nI (by omega) (by decide)
  have hxt := xm_t hM (by omega)
  have hS : ∀ y, y < 3 * c_d → hp_rp (hp_O Z) (xm_rc c_s y) (a_frames y) := fun y hy => hM.2.2.2.2.2.2.2 y (by omega)
  have hM1 := xm_env hM hq hP
  have hM2 := xm_stk (d' := c_d) (s' := c_s) (frm' := a_frames) hM1 hS
  refine nm_r (nI_pred c_d) ⟨i0, by decide, nm_r gk ⟨i0, by decide, nm_r gp ⟨i1, nm_r gb ?_⟩⟩⟩
  refine br_f (by decide) (br_f (by decide) (br_f (by decide) (br_f (by decide) (br_f (by decide) ?_))))
  refine br_f (nI_ne0 h0 (by omega)) ?_
  exact K _ (xr_mk1 hc hM2)
theorem xg_done (I : xr_R tn tok N T (true, c_at, c_e, c_k, c_v, c_d + 1, c_s, c_H, c_R, c_cl, c_ms, c_oc, c_out) u) (hR : ∀ r, rs_l c_R r ≤ 15) (hT : T ≤ 57800) (hd : c_d + 1 ≤ 16) (hfd : fr_d (c_s c_d) = 4) (hfp : fr_p (c_s c_d) < 32) (h0 : c_d = 0)
    (K : ∀ u', xf_R tok N 1 c_k (c_v) c_cl (rs_n c_R) c_ms c_oc c_out u' → post u') : wpX_goOn post u := by
  refine xr_el1 (P := fun u => wpX_goOn post u) ?_ I
  intro b Z pb f_scopes f_freeNames f_sinceCollected f_room f_code f_value f_other a_spans a_codeOp a_codeArgument a_partOne a_partTwo a_partThree a_scopeName a_scopeAround a_scopeOf a_memory a_frames hc hM
  have hf := xm_f1 hM.2.2.2.2.2.2.2 (show c_d < c_d + 1 by omega)
  obtain ⟨q, hq, hq1⟩ := xm_pq hM (by omega) hR hf.2.1
  have e0 : nI c_d * 3 = nI (3 * c_d) := by rw [nb_m3, Nat.mul_comm]
  have e1 : nI c_d * 3 + 1 = nI (3 * c_d + 1) := by rw [e0, nb_a1]
  have e2 : nI c_d * 3 + 2 = nI (3 * c_d + 2) := by rw [e0, nb_a2]
  have i0 : vp_in (nI c_d * 3) 48 := pk_in _ _ (by omega) e0 (by decide)
  have i1 : vp_in (nI c_d * 3 + 1) 48 := pk_in _ _ (by omega) e1 (by decide)
  have i2 : vp_in (nI c_d * 3 + 2) 48 := pk_in _ _ (by omega) e2 (by decide)
  have g0 : (a_frames (nI c_d * 3).toNatClampNeg).toInt32 = nI (4 * 64 + fr_p (c_s c_d)) := by rw [pk_cl _ e0 (by omega), hf.1, lN_i, hfd]
  have gk : (a_frames (nI c_d * 3).toNatClampNeg).toInt32 / 64 = nI 4 := by rw [g0, nb_d64 (by omega)]; congr 1; omega
  have gp : (a_frames (nI c_d * 3).toNatClampNeg).toInt32 - (a_frames (nI c_d * 3).toNatClampNeg).toInt32 / 64 * 64 = nI (fr_p (c_s c_d)) := by rw [g0, nb_r64 (by omega)]; congr 1; omega
  have gb : (a_frames (nI c_d * 3 + 1).toNatClampNeg).toInt32 = nI q := by rw [pk_cl _ e1 (by omega), hq1, lN_i]
  have hP : hp_pr (hp_O Z) (fr_e (c_s c_d)) (lN q) := hq1 ▸ hf.2.1
  have hcl : (nI (fr_p (c_s c_d))).toNatClampNeg = fr_p (c_s c_d) := nI_clamp (by omega)
  have hin : vp_in (nI (fr_p (c_s c_d))) 32 := vp_in_nI (by omega) (by decide)
  have hxt := xm_t hM (by omega)
  have hS : ∀ y, y < 3 * c_d → hp_rp (hp_O Z) (xm_rc c_s y) (a_frames y) := fun y hy => hM.2.2.2.2.2.2.2 y (by omega)
  have hM1 := xm_env hM hq hP
  have hM2 := xm_stk (d' := c_d) (s' := c_s) (frm' := a_frames) hM1 hS
  refine nm_r (nI_pred c_d) ⟨i0, by decide, nm_r gk ⟨i0, by decide, nm_r gp ⟨i1, nm_r gb ?_⟩⟩⟩
  refine br_f (by decide) (br_f (by decide) (br_f (by decide) (br_f (by decide) (br_f (by decide) ?_))))
  have hz : nI c_d = 0 := by rw [h0]; rfl
  refine br_t hz ?_
  exact K _ (xf_mk (st := 1) (fun _ => xm_ko hM.2.2.2.2.2.1) hxt.2.1 (by omega))
theorem xg_named (I : xr_R tn tok N T (true, c_at, c_e, c_k, c_v, c_d + 1, c_s, c_H, c_R, c_cl, c_ms, c_oc, c_out) u) (hR : ∀ r, rs_l c_R r ≤ 15) (hT : T ≤ 57800) (hd : c_d + 1 ≤ 16) (hfd : fr_d (c_s c_d) = 5) (hfp : fr_p (c_s c_d) < 32) (hN : N ≤ 32) (hp : fr_p (c_s c_d) < N) (hpt : 2 ≤ sg_pt (tn (fr_p (c_s c_d)))) (hnb : hn_b c_H < 2 ^ 29)
    (K : ∀ u', xr_R tn tok N (T + 3) (false, sg_e tn (fr_p (c_s c_d) + 1), hn_b c_H + 1, c_k, c_v, c_d, c_s, hn_add c_H (tn (fr_p (c_s c_d)) - 60) c_k c_v (fr_e (c_s c_d)), c_R, c_cl, c_ms, c_oc, c_out) u' → post u') : wpX_goOn post u := by
  refine xr_el1 (P := fun u => wpX_goOn post u) ?_ I
  intro b Z pb f_scopes f_freeNames f_sinceCollected f_room f_code f_value f_other a_spans a_codeOp a_codeArgument a_partOne a_partTwo a_partThree a_scopeName a_scopeAround a_scopeOf a_memory a_frames hc hM
  have hf := xm_f1 hM.2.2.2.2.2.2.2 (show c_d < c_d + 1 by omega)
  obtain ⟨q, hq, hq1⟩ := xm_pq hM (by omega) hR hf.2.1
  have e0 : nI c_d * 3 = nI (3 * c_d) := by rw [nb_m3, Nat.mul_comm]
  have e1 : nI c_d * 3 + 1 = nI (3 * c_d + 1) := by rw [e0, nb_a1]
  have e2 : nI c_d * 3 + 2 = nI (3 * c_d + 2) := by rw [e0, nb_a2]
  have i0 : vp_in (nI c_d * 3) 48 := pk_in _ _ (by omega) e0 (by decide)
  have i1 : vp_in (nI c_d * 3 + 1) 48 := pk_in _ _ (by omega) e1 (by decide)
  have i2 : vp_in (nI c_d * 3 + 2) 48 := pk_in _ _ (by omega) e2 (by decide)
  have g0 : (a_frames (nI c_d * 3).toNatClampNeg).toInt32 = nI (5 * 64 + fr_p (c_s c_d)) := by rw [pk_cl _ e0 (by omega), hf.1, lN_i, hfd]
  have gk : (a_frames (nI c_d * 3).toNatClampNeg).toInt32 / 64 = nI 5 := by rw [g0, nb_d64 (by omega)]; congr 1; omega
  have gp : (a_frames (nI c_d * 3).toNatClampNeg).toInt32 - (a_frames (nI c_d * 3).toNatClampNeg).toInt32 / 64 * 64 = nI (fr_p (c_s c_d)) := by rw [g0, nb_r64 (by omega)]; congr 1; omega
  have gb : (a_frames (nI c_d * 3 + 1).toNatClampNeg).toInt32 = nI q := by rw [pk_cl _ e1 (by omega), hq1, lN_i]
  have hP : hp_pr (hp_O Z) (fr_e (c_s c_d)) (lN q) := hq1 ▸ hf.2.1
  have hcl : (nI (fr_p (c_s c_d))).toNatClampNeg = fr_p (c_s c_d) := nI_clamp (by omega)
  have hin : vp_in (nI (fr_p (c_s c_d))) 32 := vp_in_nI (by omega) (by decide)
  have hxt := xm_t hM (by omega)
  have hS : ∀ y, y < 3 * c_d → hp_rp (hp_O Z) (xm_rc c_s y) (a_frames y) := fun y hy => hM.2.2.2.2.2.2.2 y (by omega)
  have hM1 := xm_env hM hq hP
  have hM2 := xm_stk (d' := c_d) (s' := c_s) (frm' := a_frames) hM1 hS
  refine nm_r (nI_pred c_d) ⟨i0, by decide, nm_r gk ⟨i0, by decide, nm_r gp ⟨i1, nm_r gb ?_⟩⟩⟩
  refine br_f (by decide) (br_f (by decide) (br_f (by decide) (br_f (by decide) (br_t rfl ?_))))
  refine xs_bind (tn (fr_p (c_s c_d)) - 60) hM2 (by omega) hR (by omega) hnb ?_
  intro b3 Z3 mem3 frm3 pb3 v3 o3 sc3 hM3
  have hgo : a_partTwo (nI (fr_p (c_s c_d))).toNatClampNeg = nI (sg_e tn (fr_p (c_s c_d) + 1)) := by rw [hcl]; exact (hc _ hp).2.2.1 hpt
  refine And.intro hin ?_
  rw [hgo]
  exact K _ (xr_mk0 hc hM3)
theorem xg_calc (I : xr_R tn tok N T (true, c_at, c_e, c_k, c_v, c_d + 1, c_s, c_H, c_R, c_cl, c_ms, c_oc, c_out) u) (hR : ∀ r, rs_l c_R r ≤ 15) (hT : T ≤ 57800) (hd : c_d + 1 ≤ 16) (hfd : fr_d (c_s c_d) = 1) (hfp : fr_p (c_s c_d) < 32) (hN : N ≤ 32) (hp : fr_p (c_s c_d) < N) (ht : 52 ≤ tn (fr_p (c_s c_d)) ∧ tn (fr_p (c_s c_d)) ≤ 56) (h52 : tn (fr_p (c_s c_d)) ≠ 52) (hk : c_k = 1) (hkk : fr_k (c_s c_d) = 1)
    (K : ∀ u', xr_R tn tok N T (true, c_at, fr_e (c_s c_d), 1, ab_ca (tn (fr_p (c_s c_d))) (fr_v (c_s c_d)) c_v, c_d, c_s, c_H, c_R, c_cl, c_ms, c_oc, c_out) u' → post u') : wpX_goOn post u := by
  refine xr_el1 (P := fun u => wpX_goOn post u) ?_ I
  intro b Z pb f_scopes f_freeNames f_sinceCollected f_room f_code f_value f_other a_spans a_codeOp a_codeArgument a_partOne a_partTwo a_partThree a_scopeName a_scopeAround a_scopeOf a_memory a_frames hc hM
  have hf := xm_f1 hM.2.2.2.2.2.2.2 (show c_d < c_d + 1 by omega)
  obtain ⟨q, hq, hq1⟩ := xm_pq hM (by omega) hR hf.2.1
  have e0 : nI c_d * 3 = nI (3 * c_d) := by rw [nb_m3, Nat.mul_comm]
  have e1 : nI c_d * 3 + 1 = nI (3 * c_d + 1) := by rw [e0, nb_a1]
  have e2 : nI c_d * 3 + 2 = nI (3 * c_d + 2) := by rw [e0, nb_a2]
  have i0 : vp_in (nI c_d * 3) 48 := pk_in _ _ (by omega) e0 (by decide)
  have i1 : vp_in (nI c_d * 3 + 1) 48 := pk_in _ _ (by omega) e1 (by decide)
  have i2 : vp_in (nI c_d * 3 + 2) 48 := pk_in _ _ (by omega) e2 (by decide)
  have g0 : (a_frames (nI c_d * 3).toNatClampNeg).toInt32 = nI (1 * 64 + fr_p (c_s c_d)) := by rw [pk_cl _ e0 (by omega), hf.1, lN_i, hfd]
  have gk : (a_frames (nI c_d * 3).toNatClampNeg).toInt32 / 64 = nI 1 := by rw [g0, nb_d64 (by omega)]; congr 1; omega
  have gp : (a_frames (nI c_d * 3).toNatClampNeg).toInt32 - (a_frames (nI c_d * 3).toNatClampNeg).toInt32 / 64 * 64 = nI (fr_p (c_s c_d)) := by rw [g0, nb_r64 (by omega)]; congr 1; omega
  have gb : (a_frames (nI c_d * 3 + 1).toNatClampNeg).toInt32 = nI q := by rw [pk_cl _ e1 (by omega), hq1, lN_i]
  have hP : hp_pr (hp_O Z) (fr_e (c_s c_d)) (lN q) := hq1 ▸ hf.2.1
  have hcl : (nI (fr_p (c_s c_d))).toNatClampNeg = fr_p (c_s c_d) := nI_clamp (by omega)
  have hin : vp_in (nI (fr_p (c_s c_d))) 32 := vp_in_nI (by omega) (by decide)
  have hxt := xm_t hM (by omega)
  have hS : ∀ y, y < 3 * c_d → hp_rp (hp_O Z) (xm_rc c_s y) (a_frames y) := fun y hy => hM.2.2.2.2.2.2.2 y (by omega)
  have hM1 := xm_env hM hq hP
  have hM2 := xm_stk (d' := c_d) (s' := c_s) (frm' := a_frames) hM1 hS
  refine nm_r (nI_pred c_d) ⟨i0, by decide, nm_r gk ⟨i0, by decide, nm_r gp ⟨i1, nm_r gb ?_⟩⟩⟩
  have hoe : a_frames (nI c_d * 3 + 2).toNatClampNeg = a_frames (3 * c_d + 2) := by rw [pk_cl _ e2 (by omega)]
  refine br_f (by decide) (br_t rfl ⟨i2, nm_r hoe ?_⟩)
  have hcop : a_codeOp (nI (fr_p (c_s c_d))).toNatClampNeg = nI (tn (fr_p (c_s c_d)) - 48) := by
    rw [hcl, (hc _ hp).1, xw_opush (by omega), if_neg (by omega)]
  refine And.intro hin (nm_r hcop ?_)
  have hM3 := xm_oth hM2 hf.2.2
  have hko := xm_ko hM.2.2.2.2.2.1
  have hkf := xm_ko hf.2.2
  refine br_f (nb_ne (b := 4) (by omega) (by decide) (by omega)) ?_
  have hk1 : nb_ko f_value = 1 := by rw [hko.1, hk]; rfl
  have hk2 : nb_ko (a_frames (3 * c_d + 2)) = 1 := by rw [hkf.1, hkk]; rfl
  have hv1 : f_value.toInt32 = c_v := hko.2 hk
  have hv2 : (a_frames (3 * c_d + 2)).toInt32 = fr_v (c_s c_d) := hkf.2 hkk
  refine br_t hk1 (br_t hk2 ?_)
  rw [hv1, hv2]
  have hfin : ∀ z0 : Int32, (tn (fr_p (c_s c_d)) = 56 → z0 = ab_ca 56 (fr_v (c_s c_d)) c_v) → wX_combine_69 post (nI (tn (fr_p (c_s c_d)) - 48)) (fr_v (c_s c_d)) c_v z0 (nI N) f_scopes f_freeNames (nI b) (nI (hp_t Z)) f_sinceCollected f_room (nI c_d) 1 f_code (nI q) f_value (a_frames (3 * c_d + 2)) 0 0 0 (nI c_oc) (nI c_cl) (nI (rs_n c_R)) (nI c_ms) tok a_spans a_codeOp a_codeArgument a_partOne a_partTwo a_partThree a_scopeName a_scopeAround a_scopeOf a_memory a_frames c_out 116000 := by
    intro z0 hz
    rcases (by omega : tn (fr_p (c_s c_d)) = 53 ∨ tn (fr_p (c_s c_d)) = 54 ∨ tn (fr_p (c_s c_d)) = 55 ∨ tn (fr_p (c_s c_d)) = 56) with h | h | h | h
    · rw [h] at K ⊢
      exact br_t (by decide) (nm_e (K _ (xr_mk1 hc (xm_val hM3 (Or.inr (Or.inl ⟨rfl, rfl⟩))))))
    · rw [h] at K ⊢
      exact br_f (by decide) (br_t (by decide) (nm_e (K _ (xr_mk1 hc (xm_val hM3 (Or.inr (Or.inl ⟨rfl, rfl⟩)))))))
    · rw [h] at K ⊢
      exact br_f (by decide) (br_f (by decide) (br_t (by decide) (nm_e (K _ (xr_mk1 hc (xm_val hM3 (Or.inr (Or.inl ⟨rfl, rfl⟩))))))))
    · rw [hz h]
      rw [h] at K ⊢
      exact br_f (by decide) (br_f (by decide) (br_f (by decide) (K _ (xr_mk1 hc (xm_val hM3 (Or.inr (Or.inl ⟨rfl, rfl⟩)))))))
  refine br_c (fun hle => hfin 0 (fun _ => ?_)) (fun hle => hfin 1 (fun _ => ?_))
  · exact (if_pos hle).symm
  · exact (if_neg hle).symm
theorem xg_wrong (I : xr_R tn tok N T (true, c_at, c_e, c_k, c_v, c_d + 1, c_s, c_H, c_R, c_cl, c_ms, c_oc, c_out) u) (hR : ∀ r, rs_l c_R r ≤ 15) (hT : T ≤ 57800) (hd : c_d + 1 ≤ 16) (hfd : fr_d (c_s c_d) = 1) (hfp : fr_p (c_s c_d) < 32) (hN : N ≤ 32) (hp : fr_p (c_s c_d) < N) (ht : 52 ≤ tn (fr_p (c_s c_d)) ∧ tn (fr_p (c_s c_d)) ≤ 56) (h52 : tn (fr_p (c_s c_d)) ≠ 52) (hk3 : c_k ≤ 3) (hkk3 : fr_k (c_s c_d) ≤ 3) (hk : ¬ (c_k = 1 ∧ fr_k (c_s c_d) = 1))
    (K : ∀ u', xf_R tok N 2 0 (0) c_cl (rs_n c_R) c_ms c_oc c_out u' → post u') : wpX_goOn post u := by
  refine xr_el1 (P := fun u => wpX_goOn post u) ?_ I
  intro b Z pb f_scopes f_freeNames f_sinceCollected f_room f_code f_value f_other a_spans a_codeOp a_codeArgument a_partOne a_partTwo a_partThree a_scopeName a_scopeAround a_scopeOf a_memory a_frames hc hM
  have hf := xm_f1 hM.2.2.2.2.2.2.2 (show c_d < c_d + 1 by omega)
  obtain ⟨q, hq, hq1⟩ := xm_pq hM (by omega) hR hf.2.1
  have e0 : nI c_d * 3 = nI (3 * c_d) := by rw [nb_m3, Nat.mul_comm]
  have e1 : nI c_d * 3 + 1 = nI (3 * c_d + 1) := by rw [e0, nb_a1]
  have e2 : nI c_d * 3 + 2 = nI (3 * c_d + 2) := by rw [e0, nb_a2]
  have i0 : vp_in (nI c_d * 3) 48 := pk_in _ _ (by omega) e0 (by decide)
  have i1 : vp_in (nI c_d * 3 + 1) 48 := pk_in _ _ (by omega) e1 (by decide)
  have i2 : vp_in (nI c_d * 3 + 2) 48 := pk_in _ _ (by omega) e2 (by decide)
  have g0 : (a_frames (nI c_d * 3).toNatClampNeg).toInt32 = nI (1 * 64 + fr_p (c_s c_d)) := by rw [pk_cl _ e0 (by omega), hf.1, lN_i, hfd]
  have gk : (a_frames (nI c_d * 3).toNatClampNeg).toInt32 / 64 = nI 1 := by rw [g0, nb_d64 (by omega)]; congr 1; omega
  have gp : (a_frames (nI c_d * 3).toNatClampNeg).toInt32 - (a_frames (nI c_d * 3).toNatClampNeg).toInt32 / 64 * 64 = nI (fr_p (c_s c_d)) := by rw [g0, nb_r64 (by omega)]; congr 1; omega
  have gb : (a_frames (nI c_d * 3 + 1).toNatClampNeg).toInt32 = nI q := by rw [pk_cl _ e1 (by omega), hq1, lN_i]
  have hP : hp_pr (hp_O Z) (fr_e (c_s c_d)) (lN q) := hq1 ▸ hf.2.1
  have hcl : (nI (fr_p (c_s c_d))).toNatClampNeg = fr_p (c_s c_d) := nI_clamp (by omega)
  have hin : vp_in (nI (fr_p (c_s c_d))) 32 := vp_in_nI (by omega) (by decide)
  have hxt := xm_t hM (by omega)
  have hS : ∀ y, y < 3 * c_d → hp_rp (hp_O Z) (xm_rc c_s y) (a_frames y) := fun y hy => hM.2.2.2.2.2.2.2 y (by omega)
  have hM1 := xm_env hM hq hP
  have hM2 := xm_stk (d' := c_d) (s' := c_s) (frm' := a_frames) hM1 hS
  refine nm_r (nI_pred c_d) ⟨i0, by decide, nm_r gk ⟨i0, by decide, nm_r gp ⟨i1, nm_r gb ?_⟩⟩⟩
  have hoe : a_frames (nI c_d * 3 + 2).toNatClampNeg = a_frames (3 * c_d + 2) := by rw [pk_cl _ e2 (by omega)]
  refine br_f (by decide) (br_t rfl ⟨i2, nm_r hoe ?_⟩)
  have hcop : a_codeOp (nI (fr_p (c_s c_d))).toNatClampNeg = nI (tn (fr_p (c_s c_d)) - 48) := by
    rw [hcl, (hc _ hp).1, xw_opush (by omega), if_neg (by omega)]
  refine And.intro hin (nm_r hcop ?_)
  have hM3 := xm_oth hM2 hf.2.2
  have hko := xm_ko hM.2.2.2.2.2.1
  have hkf := xm_ko hf.2.2
  refine br_f (nb_ne (b := 4) (by omega) (by decide) (by omega)) ?_
  by_cases hk1 : c_k = 1
  · have h1 : nb_ko f_value = 1 := by rw [hko.1, hk1]; rfl
    have h2 : ¬ nb_ko (a_frames (3 * c_d + 2)) = 1 := by rw [hkf.1]; exact nb_ne (b := 1) (by omega) (by decide) (fun z => hk ⟨hk1, z⟩)
    refine br_t h1 (br_f h2 ?_)
    exact K _ (xf_mk (st := 2) (fun z => absurd z (by decide)) hxt.2.1 (by omega))
  · have h1 : ¬ nb_ko f_value = 1 := by rw [hko.1]; exact nb_ne (b := 1) (by omega) (by decide) hk1
    refine br_f h1 ?_
    exact K _ (xf_mk (st := 2) (fun z => absurd z (by decide)) hxt.2.1 (by omega))
theorem xg_callw (I : xr_R tn tok N T (true, c_at, c_e, c_k, c_v, c_d + 1, c_s, c_H, c_R, c_cl, c_ms, c_oc, c_out) u) (hR : ∀ r, rs_l c_R r ≤ 15) (hT : T ≤ 57800) (hd : c_d + 1 ≤ 16) (hfd : fr_d (c_s c_d) = 1) (hfp : fr_p (c_s c_d) < 32) (hN : N ≤ 32) (hp : fr_p (c_s c_d) < N) (ht : 52 ≤ tn (fr_p (c_s c_d)) ∧ tn (fr_p (c_s c_d)) ≤ 56) (h52 : tn (fr_p (c_s c_d)) = 52) (hkk : fr_k (c_s c_d) = 1)
    (K : ∀ u', xf_R tok N 2 0 (0) c_cl (rs_n c_R) c_ms c_oc c_out u' → post u') : wpX_goOn post u := by
  refine xr_el1 (P := fun u => wpX_goOn post u) ?_ I
  intro b Z pb f_scopes f_freeNames f_sinceCollected f_room f_code f_value f_other a_spans a_codeOp a_codeArgument a_partOne a_partTwo a_partThree a_scopeName a_scopeAround a_scopeOf a_memory a_frames hc hM
  have hf := xm_f1 hM.2.2.2.2.2.2.2 (show c_d < c_d + 1 by omega)
  obtain ⟨q, hq, hq1⟩ := xm_pq hM (by omega) hR hf.2.1
  have e0 : nI c_d * 3 = nI (3 * c_d) := by rw [nb_m3, Nat.mul_comm]
  have e1 : nI c_d * 3 + 1 = nI (3 * c_d + 1) := by rw [e0, nb_a1]
  have e2 : nI c_d * 3 + 2 = nI (3 * c_d + 2) := by rw [e0, nb_a2]
  have i0 : vp_in (nI c_d * 3) 48 := pk_in _ _ (by omega) e0 (by decide)
  have i1 : vp_in (nI c_d * 3 + 1) 48 := pk_in _ _ (by omega) e1 (by decide)
  have i2 : vp_in (nI c_d * 3 + 2) 48 := pk_in _ _ (by omega) e2 (by decide)
  have g0 : (a_frames (nI c_d * 3).toNatClampNeg).toInt32 = nI (1 * 64 + fr_p (c_s c_d)) := by rw [pk_cl _ e0 (by omega), hf.1, lN_i, hfd]
  have gk : (a_frames (nI c_d * 3).toNatClampNeg).toInt32 / 64 = nI 1 := by rw [g0, nb_d64 (by omega)]; congr 1; omega
  have gp : (a_frames (nI c_d * 3).toNatClampNeg).toInt32 - (a_frames (nI c_d * 3).toNatClampNeg).toInt32 / 64 * 64 = nI (fr_p (c_s c_d)) := by rw [g0, nb_r64 (by omega)]; congr 1; omega
  have gb : (a_frames (nI c_d * 3 + 1).toNatClampNeg).toInt32 = nI q := by rw [pk_cl _ e1 (by omega), hq1, lN_i]
  have hP : hp_pr (hp_O Z) (fr_e (c_s c_d)) (lN q) := hq1 ▸ hf.2.1
  have hcl : (nI (fr_p (c_s c_d))).toNatClampNeg = fr_p (c_s c_d) := nI_clamp (by omega)
  have hin : vp_in (nI (fr_p (c_s c_d))) 32 := vp_in_nI (by omega) (by decide)
  have hxt := xm_t hM (by omega)
  have hS : ∀ y, y < 3 * c_d → hp_rp (hp_O Z) (xm_rc c_s y) (a_frames y) := fun y hy => hM.2.2.2.2.2.2.2 y (by omega)
  have hM1 := xm_env hM hq hP
  have hM2 := xm_stk (d' := c_d) (s' := c_s) (frm' := a_frames) hM1 hS
  refine nm_r (nI_pred c_d) ⟨i0, by decide, nm_r gk ⟨i0, by decide, nm_r gp ⟨i1, nm_r gb ?_⟩⟩⟩
  have hoe : a_frames (nI c_d * 3 + 2).toNatClampNeg = a_frames (3 * c_d + 2) := by rw [pk_cl _ e2 (by omega)]
  refine br_f (by decide) (br_t rfl ⟨i2, nm_r hoe ?_⟩)
  have hcop : a_codeOp (nI (fr_p (c_s c_d))).toNatClampNeg = nI (tn (fr_p (c_s c_d)) - 48) := by
    rw [hcl, (hc _ hp).1, xw_opush (by omega), if_neg (by omega)]
  refine And.intro hin (nm_r hcop ?_)
  have hM3 := xm_oth hM2 hf.2.2
  have hko := xm_ko hM.2.2.2.2.2.1
  have hkf := xm_ko hf.2.2
  refine br_t (by rw [h52]; decide) ?_
  have hk2 : nb_ko (a_frames (3 * c_d + 2)) = 1 := by rw [hkf.1, hkk]; rfl
  refine br_t hk2 ?_
  exact K _ (xf_mk (st := 2) (fun z => absurd z (by decide)) hxt.2.1 (by omega))
theorem xg_calll (I : xr_R tn tok N T (true, c_at, c_e, c_k, c_v, c_d + 1, c_s, c_H, c_R, c_cl, c_ms, c_oc, c_out) u) (hR : ∀ r, rs_l c_R r ≤ 15) (hT : T ≤ 57800) (hd : c_d + 1 ≤ 16) (hfd : fr_d (c_s c_d) = 1) (hfp : fr_p (c_s c_d) < 32) (hN : N ≤ 32) (hp : fr_p (c_s c_d) < N) (ht : 52 ≤ tn (fr_p (c_s c_d)) ∧ tn (fr_p (c_s c_d)) ≤ 56) (h52 : tn (fr_p (c_s c_d)) = 52) (hkk : fr_k (c_s c_d) = 2 ∨ fr_k (c_s c_d) = 3) (hcl0 : c_cl = 40)
    (K : ∀ u', xf_R tok N 3 0 (0) c_cl (rs_n c_R) c_ms c_oc c_out u' → post u') : wpX_goOn post u := by
  refine xr_el1 (P := fun u => wpX_goOn post u) ?_ I
  intro b Z pb f_scopes f_freeNames f_sinceCollected f_room f_code f_value f_other a_spans a_codeOp a_codeArgument a_partOne a_partTwo a_partThree a_scopeName a_scopeAround a_scopeOf a_memory a_frames hc hM
  have hf := xm_f1 hM.2.2.2.2.2.2.2 (show c_d < c_d + 1 by omega)
  obtain ⟨q, hq, hq1⟩ := xm_pq hM (by omega) hR hf.2.1
  have e0 : nI c_d * 3 = nI (3 * c_d) := by rw [nb_m3, Nat.mul_comm]
  have e1 : nI c_d * 3 + 1 = nI (3 * c_d + 1) := by rw [e0, nb_a1]
  have e2 : nI c_d * 3 + 2 = nI (3 * c_d + 2) := by rw [e0, nb_a2]
  have i0 : vp_in (nI c_d * 3) 48 := pk_in _ _ (by omega) e0 (by decide)
  have i1 : vp_in (nI c_d * 3 + 1) 48 := pk_in _ _ (by omega) e1 (by decide)
  have i2 : vp_in (nI c_d * 3 + 2) 48 := pk_in _ _ (by omega) e2 (by decide)
  have g0 : (a_frames (nI c_d * 3).toNatClampNeg).toInt32 = nI (1 * 64 + fr_p (c_s c_d)) := by rw [pk_cl _ e0 (by omega), hf.1, lN_i, hfd]
  have gk : (a_frames (nI c_d * 3).toNatClampNeg).toInt32 / 64 = nI 1 := by rw [g0, nb_d64 (by omega)]; congr 1; omega
  have gp : (a_frames (nI c_d * 3).toNatClampNeg).toInt32 - (a_frames (nI c_d * 3).toNatClampNeg).toInt32 / 64 * 64 = nI (fr_p (c_s c_d)) := by rw [g0, nb_r64 (by omega)]; congr 1; omega
  have gb : (a_frames (nI c_d * 3 + 1).toNatClampNeg).toInt32 = nI q := by rw [pk_cl _ e1 (by omega), hq1, lN_i]
  have hP : hp_pr (hp_O Z) (fr_e (c_s c_d)) (lN q) := hq1 ▸ hf.2.1
  have hcl : (nI (fr_p (c_s c_d))).toNatClampNeg = fr_p (c_s c_d) := nI_clamp (by omega)
  have hin : vp_in (nI (fr_p (c_s c_d))) 32 := vp_in_nI (by omega) (by decide)
  have hxt := xm_t hM (by omega)
  have hS : ∀ y, y < 3 * c_d → hp_rp (hp_O Z) (xm_rc c_s y) (a_frames y) := fun y hy => hM.2.2.2.2.2.2.2 y (by omega)
  have hM1 := xm_env hM hq hP
  have hM2 := xm_stk (d' := c_d) (s' := c_s) (frm' := a_frames) hM1 hS
  refine nm_r (nI_pred c_d) ⟨i0, by decide, nm_r gk ⟨i0, by decide, nm_r gp ⟨i1, nm_r gb ?_⟩⟩⟩
  have hoe : a_frames (nI c_d * 3 + 2).toNatClampNeg = a_frames (3 * c_d + 2) := by rw [pk_cl _ e2 (by omega)]
  refine br_f (by decide) (br_t rfl ⟨i2, nm_r hoe ?_⟩)
  have hcop : a_codeOp (nI (fr_p (c_s c_d))).toNatClampNeg = nI (tn (fr_p (c_s c_d)) - 48) := by
    rw [hcl, (hc _ hp).1, xw_opush (by omega), if_neg (by omega)]
  refine And.intro hin (nm_r hcop ?_)
  have hM3 := xm_oth hM2 hf.2.2
  have hko := xm_ko hM.2.2.2.2.2.1
  have hkf := xm_ko hf.2.2
  refine br_t (by rw [h52]; decide) ?_
  have hk2 : ¬ nb_ko (a_frames (3 * c_d + 2)) = 1 := by rw [hkf.1]; exact nb_ne (b := 1) (by omega) (by decide) (by omega)
  refine br_f hk2 (br_f (nI_nlt (b := 40) (by omega) (by omega)) ?_)
  exact K _ (xf_mk (st := 3) (fun z => absurd z (by decide)) hxt.2.1 (by omega))
theorem xg_callf (I : xr_R tn tok N T (true, c_at, c_e, c_k, c_v, c_d + 1, c_s, c_H, c_R, c_cl, c_ms, c_oc, c_out) u) (hR : ∀ r, rs_l c_R r ≤ 15) (hT : T ≤ 57800) (hd : c_d + 1 ≤ 16) (hfd : fr_d (c_s c_d) = 1) (hfp : fr_p (c_s c_d) < 32) (hN : N ≤ 32) (hp : fr_p (c_s c_d) < N) (ht : 52 ≤ tn (fr_p (c_s c_d)) ∧ tn (fr_p (c_s c_d)) ≤ 56) (h52 : tn (fr_p (c_s c_d)) = 52) (hkk : fr_k (c_s c_d) = 2) (hcl0 : c_cl < 40) {s0 p0 : Nat} (hv0 : fr_v (c_s c_d) = nI (64 * s0 + p0)) (hp0 : p0 < N) (hs0 : s0 < 2 ^ 20) (hnb : hn_b c_H < 2 ^ 29)
    (K : ∀ u', xr_R tn tok N (T + 3) (false, p0 + 1, hn_b c_H + 1, c_k, c_v, c_d, c_s, hn_add c_H (tn p0 - 40) c_k c_v s0, c_R, c_cl + 1, c_ms, c_oc, c_out) u' → post u') : wpX_goOn post u := by
  refine xr_el1 (P := fun u => wpX_goOn post u) ?_ I
  intro b Z pb f_scopes f_freeNames f_sinceCollected f_room f_code f_value f_other a_spans a_codeOp a_codeArgument a_partOne a_partTwo a_partThree a_scopeName a_scopeAround a_scopeOf a_memory a_frames hc hM
  have hf := xm_f1 hM.2.2.2.2.2.2.2 (show c_d < c_d + 1 by omega)
  obtain ⟨q, hq, hq1⟩ := xm_pq hM (by omega) hR hf.2.1
  have e0 : nI c_d * 3 = nI (3 * c_d) := by rw [nb_m3, Nat.mul_comm]
  have e1 : nI c_d * 3 + 1 = nI (3 * c_d + 1) := by rw [e0, nb_a1]
  have e2 : nI c_d * 3 + 2 = nI (3 * c_d + 2) := by rw [e0, nb_a2]
  have i0 : vp_in (nI c_d * 3) 48 := pk_in _ _ (by omega) e0 (by decide)
  have i1 : vp_in (nI c_d * 3 + 1) 48 := pk_in _ _ (by omega) e1 (by decide)
  have i2 : vp_in (nI c_d * 3 + 2) 48 := pk_in _ _ (by omega) e2 (by decide)
  have g0 : (a_frames (nI c_d * 3).toNatClampNeg).toInt32 = nI (1 * 64 + fr_p (c_s c_d)) := by rw [pk_cl _ e0 (by omega), hf.1, lN_i, hfd]
  have gk : (a_frames (nI c_d * 3).toNatClampNeg).toInt32 / 64 = nI 1 := by rw [g0, nb_d64 (by omega)]; congr 1; omega
  have gp : (a_frames (nI c_d * 3).toNatClampNeg).toInt32 - (a_frames (nI c_d * 3).toNatClampNeg).toInt32 / 64 * 64 = nI (fr_p (c_s c_d)) := by rw [g0, nb_r64 (by omega)]; congr 1; omega
  have gb : (a_frames (nI c_d * 3 + 1).toNatClampNeg).toInt32 = nI q := by rw [pk_cl _ e1 (by omega), hq1, lN_i]
  have hP : hp_pr (hp_O Z) (fr_e (c_s c_d)) (lN q) := hq1 ▸ hf.2.1
  have hcl : (nI (fr_p (c_s c_d))).toNatClampNeg = fr_p (c_s c_d) := nI_clamp (by omega)
  have hin : vp_in (nI (fr_p (c_s c_d))) 32 := vp_in_nI (by omega) (by decide)
  have hxt := xm_t hM (by omega)
  have hS : ∀ y, y < 3 * c_d → hp_rp (hp_O Z) (xm_rc c_s y) (a_frames y) := fun y hy => hM.2.2.2.2.2.2.2 y (by omega)
  have hM1 := xm_env hM hq hP
  have hM2 := xm_stk (d' := c_d) (s' := c_s) (frm' := a_frames) hM1 hS
  refine nm_r (nI_pred c_d) ⟨i0, by decide, nm_r gk ⟨i0, by decide, nm_r gp ⟨i1, nm_r gb ?_⟩⟩⟩
  have hoe : a_frames (nI c_d * 3 + 2).toNatClampNeg = a_frames (3 * c_d + 2) := by rw [pk_cl _ e2 (by omega)]
  refine br_f (by decide) (br_t rfl ⟨i2, nm_r hoe ?_⟩)
  have hcop : a_codeOp (nI (fr_p (c_s c_d))).toNatClampNeg = nI (tn (fr_p (c_s c_d)) - 48) := by
    rw [hcl, (hc _ hp).1, xw_opush (by omega), if_neg (by omega)]
  refine And.intro hin (nm_r hcop ?_)
  have hM3 := xm_oth hM2 hf.2.2
  have hko := xm_ko hM.2.2.2.2.2.1
  have hkf := xm_ko hf.2.2
  refine br_t (by rw [h52]; decide) ?_
  have hk1 : ¬ nb_ko (a_frames (3 * c_d + 2)) = 1 := by rw [hkf.1]; exact nb_ne (b := 1) (by omega) (by decide) (by omega)
  have hk2 : nb_ko (a_frames (3 * c_d + 2)) = 2 := by rw [hkf.1, hkk]; rfl
  obtain ⟨p, g, hO, hvg, hx⟩ : ∃ p g, hp_O Z p 2 g ∧ fr_v (c_s c_d) = nI g ∧ a_frames (3 * c_d + 2) = nb_vk 2 (nI p) := by
    rcases hf.2.2 with ⟨z, _⟩ | ⟨z, _⟩ | ⟨_, p, g, h1, h2, h3⟩
    · omega
    · omega
    · rw [hkk] at h1 h3; exact ⟨p, g, h1, h2, h3⟩
  have hOO := xm_O hM (by omega) hR hO
  have hg : g = 64 * s0 + p0 := by
    rw [hv0] at hvg
    exact ((nI_eq (by omega) (by have := hOO.2.2.1.1; omega)).mp hvg).symm
  have hs3 : xm_sz c_R 2 g = 3 := rfl
  rw [hs3] at hOO
  have m1 := hOO.2.2.2 1 (by decide)
  have m2 := hOO.2.2.2 2 (by decide)
  rw [show xm_ac c_H c_R 2 g 1 = hp_R (lN (g % 64)) from rfl, hp_rR, show g % 64 = p0 from by omega] at m1
  rw [show xm_ac c_H c_R 2 g 2 = hp_P (g / 64) from rfl, hp_rP, show g / 64 = s0 from by omega] at m2
  obtain ⟨q2, hq2, hq21⟩ := xm_pq hM (by omega) hR m2
  have hxi : (a_frames (3 * c_d + 2)).toInt32 = nI p := by rw [hx]; exact nb_lo_vk (by decide) _
  refine br_f hk1 (br_t (nI_lt (b := 40) hcl0 (by decide)) (nm_r (nI_1 _) (br_t hk2 ?_)))
  rw [hxi]
  have d1 : (nI p + 1).toNatClampNeg = p + 1 := pk_cl _ (nb_a1 _) (by omega)
  have d2 : (nI p + 2).toNatClampNeg = p + 2 := pk_cl _ (nb_a2 _) (by omega)
  refine And.intro (pk_in _ _ (by omega) (nb_a1 _) (by decide)) (nm_r (e' := nI p0) (by rw [d1, m1, lN_i]) (And.intro (pk_in _ _ (by omega) (nb_a2 _) (by decide)) ?_))
  rw [d2, hq21, lN_i]
  refine xs_bind (tn p0 - 40) (xm_env hM3 hq2 (hq21 ▸ m2)) (by omega) hR (by omega) hnb ?_
  intro b4 Z4 mem4 frm4 pb4 v4 o4 sc4 hM4
  have hgo : a_partOne (nI p0).toNatClampNeg = nI (p0 + 1) := by rw [nI_clamp (by omega)]; exact (hc _ hp0).2.1
  refine And.intro (vp_in_nI (by omega) (by decide)) ?_
  rw [hgo]
  exact K _ (xr_mk0 hc hM4)
theorem xg_bdeep (I : xr_R tn tok N T (true, c_at, c_e, c_k, c_v, c_d + 1, c_s, c_H, c_R, c_cl, c_ms, c_oc, c_out) u) (hR : ∀ r, rs_l c_R r ≤ 15) (hT : T ≤ 57800) (hd : c_d + 1 ≤ 16) (hfd : fr_d (c_s c_d) = 1) (hfp : fr_p (c_s c_d) < 32) (hN : N ≤ 32) (hp : fr_p (c_s c_d) < N) (ht : 52 ≤ tn (fr_p (c_s c_d)) ∧ tn (fr_p (c_s c_d)) ≤ 56) (h52 : tn (fr_p (c_s c_d)) = 52) (hkk : fr_k (c_s c_d) = 3) (hcl0 : c_cl < 40) {r0 : Nat} (hv0 : fr_v (c_s c_d) = nI r0) (hr0 : r0 < 8) (hdp : 16 < c_d + 1 + rs_l c_R r0)
    (K : ∀ u', xf_R tok N 4 0 (0) (c_cl + 1) (rs_n c_R) c_ms c_oc c_out u' → post u') : wpX_goOn post u := by
  refine xr_el1 (P := fun u => wpX_goOn post u) ?_ I
  intro b Z pb f_scopes f_freeNames f_sinceCollected f_room f_code f_value f_other a_spans a_codeOp a_codeArgument a_partOne a_partTwo a_partThree a_scopeName a_scopeAround a_scopeOf a_memory a_frames hc hM
  have hf := xm_f1 hM.2.2.2.2.2.2.2 (show c_d < c_d + 1 by omega)
  obtain ⟨q, hq, hq1⟩ := xm_pq hM (by omega) hR hf.2.1
  have e0 : nI c_d * 3 = nI (3 * c_d) := by rw [nb_m3, Nat.mul_comm]
  have e1 : nI c_d * 3 + 1 = nI (3 * c_d + 1) := by rw [e0, nb_a1]
  have e2 : nI c_d * 3 + 2 = nI (3 * c_d + 2) := by rw [e0, nb_a2]
  have i0 : vp_in (nI c_d * 3) 48 := pk_in _ _ (by omega) e0 (by decide)
  have i1 : vp_in (nI c_d * 3 + 1) 48 := pk_in _ _ (by omega) e1 (by decide)
  have i2 : vp_in (nI c_d * 3 + 2) 48 := pk_in _ _ (by omega) e2 (by decide)
  have g0 : (a_frames (nI c_d * 3).toNatClampNeg).toInt32 = nI (1 * 64 + fr_p (c_s c_d)) := by rw [pk_cl _ e0 (by omega), hf.1, lN_i, hfd]
  have gk : (a_frames (nI c_d * 3).toNatClampNeg).toInt32 / 64 = nI 1 := by rw [g0, nb_d64 (by omega)]; congr 1; omega
  have gp : (a_frames (nI c_d * 3).toNatClampNeg).toInt32 - (a_frames (nI c_d * 3).toNatClampNeg).toInt32 / 64 * 64 = nI (fr_p (c_s c_d)) := by rw [g0, nb_r64 (by omega)]; congr 1; omega
  have gb : (a_frames (nI c_d * 3 + 1).toNatClampNeg).toInt32 = nI q := by rw [pk_cl _ e1 (by omega), hq1, lN_i]
  have hP : hp_pr (hp_O Z) (fr_e (c_s c_d)) (lN q) := hq1 ▸ hf.2.1
  have hcl : (nI (fr_p (c_s c_d))).toNatClampNeg = fr_p (c_s c_d) := nI_clamp (by omega)
  have hin : vp_in (nI (fr_p (c_s c_d))) 32 := vp_in_nI (by omega) (by decide)
  have hxt := xm_t hM (by omega)
  have hS : ∀ y, y < 3 * c_d → hp_rp (hp_O Z) (xm_rc c_s y) (a_frames y) := fun y hy => hM.2.2.2.2.2.2.2 y (by omega)
  have hM1 := xm_env hM hq hP
  have hM2 := xm_stk (d' := c_d) (s' := c_s) (frm' := a_frames) hM1 hS
  refine nm_r (nI_pred c_d) ⟨i0, by decide, nm_r gk ⟨i0, by decide, nm_r gp ⟨i1, nm_r gb ?_⟩⟩⟩
  have hoe : a_frames (nI c_d * 3 + 2).toNatClampNeg = a_frames (3 * c_d + 2) := by rw [pk_cl _ e2 (by omega)]
  refine br_f (by decide) (br_t rfl ⟨i2, nm_r hoe ?_⟩)
  have hcop : a_codeOp (nI (fr_p (c_s c_d))).toNatClampNeg = nI (tn (fr_p (c_s c_d)) - 48) := by
    rw [hcl, (hc _ hp).1, xw_opush (by omega), if_neg (by omega)]
  refine And.intro hin (nm_r hcop ?_)
  have hM3 := xm_oth hM2 hf.2.2
  have hko := xm_ko hM.2.2.2.2.2.1
  have hkf := xm_ko hf.2.2
  refine br_t (by rw [h52]; decide) ?_
  have hk1 : ¬ nb_ko (a_frames (3 * c_d + 2)) = 1 := by rw [hkf.1]; exact nb_ne (b := 1) (by omega) (by decide) (by omega)
  have hk2 : ¬ nb_ko (a_frames (3 * c_d + 2)) = 2 := by rw [hkf.1]; exact nb_ne (b := 2) (by omega) (by decide) (by omega)
  obtain ⟨p, g, hO, hvg, hx⟩ : ∃ p g, hp_O Z p 3 g ∧ fr_v (c_s c_d) = nI g ∧ a_frames (3 * c_d + 2) = nb_vk 3 (nI p) := by
    rcases hf.2.2 with ⟨z, _⟩ | ⟨z, _⟩ | ⟨_, p, g, h1, h2, h3⟩
    · omega
    · omega
    · rw [hkk] at h1 h3; exact ⟨p, g, h1, h2, h3⟩
  have hOO := xm_O hM (by omega) hR hO
  have hg : g = r0 := by
    rw [hv0] at hvg
    exact ((nI_eq (by omega) (by have := hOO.2.2.1.1; omega)).mp hvg).symm
  subst hg
  have hR0 := hR g
  have hs3 : xm_sz c_R 3 g = 2 + 3 * rs_l c_R g := rfl
  rw [hs3] at hOO
  have m1 := hOO.2.2.2 1 (by omega)
  rw [show xm_ac c_H c_R 3 g 1 = hp_R (lN (rs_l c_R g)) from rfl, hp_rR] at m1
  have hxi : (a_frames (3 * c_d + 2)).toInt32 = nI p := by rw [hx]; exact nb_lo_vk (by decide) _
  refine br_f hk1 (br_t (nI_lt (b := 40) hcl0 (by decide)) (nm_r (nI_1 _) (br_f hk2 ?_)))
  rw [hxi]
  have d1 : (nI p + 1).toNatClampNeg = p + 1 := pk_cl _ (nb_a1 _) (by omega)
  refine And.intro (pk_in _ _ (by omega) (nb_a1 _) (by decide)) (nm_r (e' := nI (rs_l c_R g)) (by rw [d1, m1, lN_i]) ?_)
  have ed : (nI c_d + 1) + nI (rs_l c_R g) = nI (c_d + 1 + rs_l c_R g) := by rw [nb_a1, nI_add]
  refine br_f (by rw [ed]; exact nI_ge (b := c_d + 1 + rs_l c_R g) (a := 16) hdp (by omega)) ?_
  exact K _ (xf_mk (st := 4) (fun z => absurd z (by decide)) hxt.2.1 (by omega))
theorem xg_back (I : xr_R tn tok N T (true, c_at, c_e, c_k, c_v, c_d + 1, c_s, c_H, c_R, c_cl, c_ms, c_oc, c_out) u) (hR : ∀ r, rs_l c_R r ≤ 15) (hT : T ≤ 57800) (hd : c_d + 1 ≤ 16) (hfd : fr_d (c_s c_d) = 1) (hfp : fr_p (c_s c_d) < 32) (hN : N ≤ 32) (hp : fr_p (c_s c_d) < N) (ht : 52 ≤ tn (fr_p (c_s c_d)) ∧ tn (fr_p (c_s c_d)) ≤ 56) (h52 : tn (fr_p (c_s c_d)) = 52) (hkk : fr_k (c_s c_d) = 3) (hcl0 : c_cl < 40) {r0 : Nat} (hv0 : fr_v (c_s c_d) = nI r0) (hr0 : r0 < 8) (hms2 : c_ms ≤ 16) (hdp : c_d + 1 + rs_l c_R r0 ≤ 16)
    (K : ∀ u', xr_R tn tok N T (true, c_at, 0, c_k, c_v, c_d + 1 + rs_l c_R r0, ab_brk c_s c_d (rs_f c_R r0), c_H, c_R, c_cl + 1, ab_mx (c_d + 1 + rs_l c_R r0) (ab_mx (c_d + 1) c_ms), c_oc, c_out) u' → post u') : wpX_goOn post u := by
  refine xr_el1 (P := fun u => wpX_goOn post u) ?_ I
  intro b Z pb f_scopes f_freeNames f_sinceCollected f_room f_code f_value f_other a_spans a_codeOp a_codeArgument a_partOne a_partTwo a_partThree a_scopeName a_scopeAround a_scopeOf a_memory a_frames hc hM
  have hf := xm_f1 hM.2.2.2.2.2.2.2 (show c_d < c_d + 1 by omega)
  obtain ⟨q, hq, hq1⟩ := xm_pq hM (by omega) hR hf.2.1
  have e0 : nI c_d * 3 = nI (3 * c_d) := by rw [nb_m3, Nat.mul_comm]
  have e1 : nI c_d * 3 + 1 = nI (3 * c_d + 1) := by rw [e0, nb_a1]
  have e2 : nI c_d * 3 + 2 = nI (3 * c_d + 2) := by rw [e0, nb_a2]
  have i0 : vp_in (nI c_d * 3) 48 := pk_in _ _ (by omega) e0 (by decide)
  have i1 : vp_in (nI c_d * 3 + 1) 48 := pk_in _ _ (by omega) e1 (by decide)
  have i2 : vp_in (nI c_d * 3 + 2) 48 := pk_in _ _ (by omega) e2 (by decide)
  have g0 : (a_frames (nI c_d * 3).toNatClampNeg).toInt32 = nI (1 * 64 + fr_p (c_s c_d)) := by rw [pk_cl _ e0 (by omega), hf.1, lN_i, hfd]
  have gk : (a_frames (nI c_d * 3).toNatClampNeg).toInt32 / 64 = nI 1 := by rw [g0, nb_d64 (by omega)]; congr 1; omega
  have gp : (a_frames (nI c_d * 3).toNatClampNeg).toInt32 - (a_frames (nI c_d * 3).toNatClampNeg).toInt32 / 64 * 64 = nI (fr_p (c_s c_d)) := by rw [g0, nb_r64 (by omega)]; congr 1; omega
  have gb : (a_frames (nI c_d * 3 + 1).toNatClampNeg).toInt32 = nI q := by rw [pk_cl _ e1 (by omega), hq1, lN_i]
  have hP : hp_pr (hp_O Z) (fr_e (c_s c_d)) (lN q) := hq1 ▸ hf.2.1
  have hcl : (nI (fr_p (c_s c_d))).toNatClampNeg = fr_p (c_s c_d) := nI_clamp (by omega)
  have hin : vp_in (nI (fr_p (c_s c_d))) 32 := vp_in_nI (by omega) (by decide)
  have hxt := xm_t hM (by omega)
  have hS : ∀ y, y < 3 * c_d → hp_rp (hp_O Z) (xm_rc c_s y) (a_frames y) := fun y hy => hM.2.2.2.2.2.2.2 y (by omega)
  have hM1 := xm_env hM hq hP
  have hM2 := xm_stk (d' := c_d) (s' := c_s) (frm' := a_frames) hM1 hS
  refine nm_r (nI_pred c_d) ⟨i0, by decide, nm_r gk ⟨i0, by decide, nm_r gp ⟨i1, nm_r gb ?_⟩⟩⟩
  have hoe : a_frames (nI c_d * 3 + 2).toNatClampNeg = a_frames (3 * c_d + 2) := by rw [pk_cl _ e2 (by omega)]
  refine br_f (by decide) (br_t rfl ⟨i2, nm_r hoe ?_⟩)
  have hcop : a_codeOp (nI (fr_p (c_s c_d))).toNatClampNeg = nI (tn (fr_p (c_s c_d)) - 48) := by
    rw [hcl, (hc _ hp).1, xw_opush (by omega), if_neg (by omega)]
  refine And.intro hin (nm_r hcop ?_)
  have hM3 := xm_oth hM2 hf.2.2
  have hko := xm_ko hM.2.2.2.2.2.1
  have hkf := xm_ko hf.2.2
  refine br_t (by rw [h52]; decide) ?_
  have hk1 : ¬ nb_ko (a_frames (3 * c_d + 2)) = 1 := by rw [hkf.1]; exact nb_ne (b := 1) (by omega) (by decide) (by omega)
  have hk2 : ¬ nb_ko (a_frames (3 * c_d + 2)) = 2 := by rw [hkf.1]; exact nb_ne (b := 2) (by omega) (by decide) (by omega)
  obtain ⟨p, g, hO, hvg, hx⟩ : ∃ p g, hp_O Z p 3 g ∧ fr_v (c_s c_d) = nI g ∧ a_frames (3 * c_d + 2) = nb_vk 3 (nI p) := by
    rcases hf.2.2 with ⟨z, _⟩ | ⟨z, _⟩ | ⟨_, p, g, h1, h2, h3⟩
    · omega
    · omega
    · rw [hkk] at h1 h3; exact ⟨p, g, h1, h2, h3⟩
  have hOO := xm_O hM (by omega) hR hO
  have hg : g = r0 := by
    rw [hv0] at hvg
    exact ((nI_eq (by omega) (by have := hOO.2.2.1.1; omega)).mp hvg).symm
  subst hg
  have hR0 := hR g
  have hs3 : xm_sz c_R 3 g = 2 + 3 * rs_l c_R g := rfl
  rw [hs3] at hOO
  have m1 := hOO.2.2.2 1 (by omega)
  rw [show xm_ac c_H c_R 3 g 1 = hp_R (lN (rs_l c_R g)) from rfl, hp_rR] at m1
  have hxi : (a_frames (3 * c_d + 2)).toInt32 = nI p := by rw [hx]; exact nb_lo_vk (by decide) _
  refine br_f hk1 (br_t (nI_lt (b := 40) hcl0 (by decide)) (nm_r (nI_1 _) (br_f hk2 ?_)))
  rw [hxi]
  have d1 : (nI p + 1).toNatClampNeg = p + 1 := pk_cl _ (nb_a1 _) (by omega)
  refine And.intro (pk_in _ _ (by omega) (nb_a1 _) (by decide)) (nm_r (e' := nI (rs_l c_R g)) (by rw [d1, m1, lN_i]) ?_)
  have ed : (nI c_d + 1) + nI (rs_l c_R g) = nI (c_d + 1 + rs_l c_R g) := by rw [nb_a1, nI_add]
  refine br_t (by rw [ed]; exact nI_le (b := 16) hdp (by decide)) ?_
  refine xs_push (kd := 4) (n := 0) (pb := 0) (ms := c_ms) (by omega) hms2 (by decide) (by decide) ?_
  refine ⟨3 * rs_l c_R g + 1, ?_⟩
  have hmx16 : ab_mx (c_d + 1) c_ms ≤ 16 := by unfold ab_mx; split <;> omega
  have hl := xb_43 (post := post) (p := p) (n0 := rs_l c_R g) (d := c_d + 1) (ms := ab_mx (c_d + 1) c_ms) (frm := vp_updL (vp_updL (vp_updL a_frames (c_d * 3) (lN (4 * 64 + 0))) (c_d * 3 + 1) (lN 0)) (c_d * 3 + 2) 0)
    (f_count := nI N) (f_scopes := f_scopes) (f_freeNames := f_freeNames) (f_base := nI b) (f_top := nI (hp_t Z)) (f_sinceCollected := f_sinceCollected) (f_room := f_room) (f_returning := 1) (f_code := f_code) (f_bindings := 0) (f_value := f_value) (f_other := a_frames (3 * c_d + 2)) (f_lastStatus := 0) (f_lastKind := 0) (f_lastNumber := 0) (f_outCount := nI c_oc) (f_callCount := nI (c_cl + 1)) (f_shiftCount := nI (rs_n c_R)) (a_tokens := tok) (a_spans := a_spans) (a_codeOp := a_codeOp) (a_codeArgument := a_codeArgument) (a_partOne := a_partOne) (a_partTwo := a_partTwo) (a_partThree := a_partThree) (a_scopeName := a_scopeName) (a_scopeAround := a_scopeAround) (a_scopeOf := a_scopeOf) (a_memory := a_memory) (a_outputs := c_out) (by omega) (by omega) hmx16 ?_ (3 * rs_l c_R g + 1) 0 (Nat.zero_le _) (by omega)
  · rw [hp_c2_0] at hl
    exact hl
  refine K _ (xr_mk1 (pb := 0) hc (xm_env (pb' := 0) (e' := 0) (xm_stk hM3 ?_) (by decide) (Or.inl ⟨rfl, rfl⟩)))
  have hps := xm_psh (fr := (4, 0, 0, 0, 0)) (a := lN (4 * 64 + 0)) (b := lN 0) (c := 0) hS rfl (Or.inl ⟨rfl, rfl⟩) (Or.inl ⟨rfl, rfl⟩)
  intro y hy
  rcases Nat.lt_or_ge y (3 * (c_d + 1)) with hy1 | hy1
  · have h9 := hps y hy1
    have e9 : xm_rc (ab_psh c_s c_d (4, 0, 0, 0, 0)) y = xm_rc (ab_brk c_s c_d (rs_f c_R g)) y := by
      unfold xm_rc ab_brk
      rw [if_pos (show y / 3 ≤ c_d by omega)]
    rw [e9] at h9
    have e8 : hp_c2 (vp_updL (vp_updL (vp_updL a_frames (c_d * 3) (lN (4 * 64 + 0))) (c_d * 3 + 1) (lN 0)) (c_d * 3 + 2) 0) a_memory (p + 2) ((c_d + 1) * 3) (3 * rs_l c_R g) y = vp_updL (vp_updL (vp_updL a_frames (c_d * 3) (lN (4 * 64 + 0))) (c_d * 3 + 1) (lN 0)) (c_d * 3 + 2) 0 y := if_neg (by omega)
    rw [e8]
    exact h9
  · obtain ⟨z, rfl⟩ : ∃ z, y = 3 * (c_d + 1) + z := ⟨y - 3 * (c_d + 1), by omega⟩
    have m9 := hOO.2.2.2 (2 + z) (by omega)
    rw [xm_ac3] at m9
    have e9 : xm_rc (ab_brk c_s c_d (rs_f c_R g)) (3 * (c_d + 1) + z) = xm_rc (rs_f c_R g) z := by
      unfold xm_rc ab_brk
      rw [show (3 * (c_d + 1) + z) / 3 = c_d + 1 + z / 3 from by omega, show (3 * (c_d + 1) + z) % 3 = z % 3 from by omega, if_neg (by omega), show c_d + 1 + z / 3 - (c_d + 1) = z / 3 from by omega]
    have e8 : hp_c2 (vp_updL (vp_updL (vp_updL a_frames (c_d * 3) (lN (4 * 64 + 0))) (c_d * 3 + 1) (lN 0)) (c_d * 3 + 2) 0) a_memory (p + 2) ((c_d + 1) * 3) (3 * rs_l c_R g) (3 * (c_d + 1) + z) = a_memory (p + (2 + z)) := by
      unfold hp_c2
      rw [if_pos (by omega)]
      congr 1; omega
    rw [e8, e9]
    exact m9
end
end
section
/-! tokens: parts, ends, wholeness, on both sides -/
def tb_T (tn : Nat → Nat) (tok : Nat → Int32) (N : Nat) : Prop := ∀ i, i < N → tok i = nI (tn i) ∧ sg_vt (tn i)
theorem tb_lt {t : Nat} (h : sg_vt t) : 30 ≤ t ∧ t ≤ 120 := by unfold sg_vt at h; omega
theorem tb_p {post : Int32 → Prop} {a b : Nat} (K : post (nI a)) (e : a = b) : post (nI b) := e ▸ K
section
variable {f_count f_scopes f_freeNames f_base f_top f_sinceCollected f_room f_depth f_returning f_code f_bindings : Int32} {f_value f_other : Int64} {f_lastStatus f_lastKind f_lastNumber f_outCount f_callCount f_shiftCount f_mostPending : Int32} {a_tokens a_spans a_codeOp a_codeArgument a_partOne a_partTwo a_partThree a_scopeName a_scopeAround a_scopeOf : Nat → Int32} {a_memory a_frames : Nat → Int64} {a_outputs : Nat → Int32} {n_memory : Nat}
variable {g_size g_state g_sort g_result g_shown g_called g_shifted g_most g_fresh g_spare g_top g_depth g_bound g_at g_scope g_has g_valueKind g_value : Int32} {b_tokens b_paper b_places b_second b_around b_kinds b_values b_outer b_taken b_names b_nameKinds b_nameValues b_nameOuter : Nat → Int32}
variable {post : Int32 → Prop} {t : Nat}
theorem tb_parts (ht : t < 2 ^ 31) (K : post (nI (sg_pt t))) : wpY_parts post (g_size, g_state, g_sort, g_result, g_shown, g_called, g_shifted, g_most, g_fresh, g_spare, g_top, g_depth, g_bound, g_at, g_scope, g_has, g_valueKind, g_value, b_tokens, b_paper, b_places, b_second, b_around, b_kinds, b_values, b_outer, b_taken, b_names, b_nameKinds, b_nameValues, b_nameOuter) (nI t) := by
  unfold sg_pt at K
  refine pk_le 80 t (fun h => ?_) (fun h => ?_)
  · rw [if_pos h] at K; exact K
  rw [if_neg (by omega)] at K
  refine pk_le 40 t (fun h2 => ?_) (fun h2 => ?_)
  · rw [if_neg (by omega)] at K
    refine pk_le 46 t (fun h3 => ?_) (fun h3 => ?_)
    · rw [if_neg (by omega)] at K
      refine pk_lt 56 t (fun h4 => ?_) (fun h4 => ?_)
      · rw [if_neg (by omega)] at K
        refine pk_eq t 57 (fun h5 => ?_) (fun h5 => ?_)
        · rw [if_pos h5] at K; exact K
        · rw [if_neg h5] at K
          refine pk_lt 59 t (fun h6 => ?_) (fun h6 => ?_)
          · rw [if_neg (by omega)] at K
            refine pk_le 66 t (fun h7 => ?_) (fun h7 => ?_)
            · rw [if_neg (by omega)] at K; exact K
            · rw [if_pos h7] at K; exact K
          · rw [if_pos h6] at K; exact K
      · rw [if_pos h4] at K; exact K
    · rw [if_pos h3] at K; exact K
  · rw [if_pos h2] at K; exact K
theorem tb_pof (ht : t < 2 ^ 31) (K1 : sg_vt t → post (nI (sg_pt t))) (K2 : ¬ sg_vt t → post (-1)) : wpX_partsOf post (nI t) := by
  have h90 : ¬ (80 ≤ t ∧ t ≤ 120) → ¬ (30 ≤ t ∧ t ≤ 35) → ¬ (40 ≤ t ∧ t ≤ 45) → ¬ (t = 58 ∨ t = 59) → ¬ (70 ≤ t ∧ t ≤ 75) → ¬ (52 ≤ t ∧ t ≤ 56) → ¬ (60 ≤ t ∧ t ≤ 65) → wX_partsOf_90 post (nI t) := by
    intro a1 a2 a3 a4 a5 a6 a7
    refine pk_eq t 57 (fun h => ?_) (fun h => ?_)
    · exact tb_p (K1 (by unfold sg_vt; omega)) (by rw [h]; rfl)
    · exact K2 (by unfold sg_vt; omega)
  have h76 : ¬ (80 ≤ t ∧ t ≤ 120) → ¬ (30 ≤ t ∧ t ≤ 35) → ¬ (40 ≤ t ∧ t ≤ 45) → ¬ (t = 58 ∨ t = 59) → ¬ (70 ≤ t ∧ t ≤ 75) → ¬ (52 ≤ t ∧ t ≤ 56) → wX_partsOf_76 post (nI t) := by
    intro a1 a2 a3 a4 a5 a6
    refine pk_lt t 60 (fun h => h90 a1 a2 a3 a4 a5 a6 (by omega)) (fun h => ?_)
    refine pk_lt 65 t (fun h' => h90 a1 a2 a3 a4 a5 a6 (by omega)) (fun h' => ?_)
    exact tb_p (K1 (by unfold sg_vt; omega)) (sg_pt_two (by omega))
  have h64 : ¬ (80 ≤ t ∧ t ≤ 120) → ¬ (30 ≤ t ∧ t ≤ 35) → ¬ (40 ≤ t ∧ t ≤ 45) → ¬ (t = 58 ∨ t = 59) → ¬ (70 ≤ t ∧ t ≤ 75) → wX_partsOf_64 post (nI t) := by
    intro a1 a2 a3 a4 a5
    refine pk_lt t 52 (fun h => h76 a1 a2 a3 a4 a5 (by omega)) (fun h => ?_)
    refine pk_le t 56 (fun h' => ?_) (fun h' => h76 a1 a2 a3 a4 a5 (by omega))
    exact tb_p (K1 (by unfold sg_vt; omega)) (sg_pt_two (by omega))
  have h38 : ¬ (80 ≤ t ∧ t ≤ 120) → ¬ (30 ≤ t ∧ t ≤ 35) → ¬ (40 ≤ t ∧ t ≤ 45) → wX_partsOf_38 post (nI t) := by
    intro a1 a2 a3
    refine pk_eq t 58 (fun h => tb_p (K1 (by unfold sg_vt; omega)) (sg_pt_one (by omega))) (fun h => ?_)
    refine pk_eq t 59 (fun h => tb_p (K1 (by unfold sg_vt; omega)) (sg_pt_one (by omega))) (fun h2 => ?_)
    refine pk_lt t 70 (fun h3 => h64 a1 a2 a3 (by omega) (by omega)) (fun h3 => ?_)
    refine pk_lt 75 t (fun h4 => h64 a1 a2 a3 (by omega) (by omega)) (fun h4 => ?_)
    exact tb_p (K1 (by unfold sg_vt; omega)) (sg_pt_one (by omega))
  have h26 : ¬ (80 ≤ t ∧ t ≤ 120) → ¬ (30 ≤ t ∧ t ≤ 35) → wX_partsOf_26 post (nI t) := by
    intro a1 a2
    refine pk_lt t 40 (fun h => h38 a1 a2 (by omega)) (fun h => ?_)
    refine pk_le t 45 (fun h' => ?_) (fun h' => h38 a1 a2 (by omega))
    exact tb_p (K1 (by unfold sg_vt; omega)) (sg_pt_one (by omega))
  have h12 : ¬ (80 ≤ t ∧ t ≤ 120) → wX_partsOf_12 post (nI t) := by
    intro a1
    refine pk_lt t 30 (fun h => h26 a1 (by omega)) (fun h => ?_)
    refine pk_lt 35 t (fun h' => h26 a1 (by omega)) (fun h' => ?_)
    exact tb_p (K1 (by unfold sg_vt; omega)) (sg_pt_leaf (by omega))
  refine pk_lt t 80 (fun h => h12 (by omega)) (fun h => ?_)
  refine pk_le t 120 (fun h' => ?_) (fun h' => h12 (by omega))
  exact tb_p (K1 (by unfold sg_vt; omega)) (sg_pt_leaf (by omega))
theorem tb_neg {x : Int32} (h : x < 0) {b : Nat} (hb : b < 2 ^ 31) : x < nI b ∧ ¬ nI b ≤ x ∧ ¬ x = nI b ∧ ¬ nI b < x ∧ x ≤ nI b := by
  have h0 : x.toInt < 0 := by
    have := Int32.lt_iff_toInt_lt.mp h
    exact this
  have hbt := nI_toInt hb
  refine ⟨Int32.lt_iff_toInt_lt.mpr (by omega), fun z => ?_, fun z => ?_, fun z => ?_, Int32.le_iff_toInt_le.mpr (by omega)⟩
  · have := Int32.le_iff_toInt_le.mp z; omega
  · rw [z] at h0; omega
  · have := Int32.lt_iff_toInt_lt.mp z; omega
theorem tb_pofN {x : Int32} (h : x < 0) (K : post (-1)) : wpX_partsOf post x :=
  br_t (tb_neg h (b := 80) (by decide)).1 (br_t (tb_neg h (b := 30) (by decide)).1 (br_t (tb_neg h (b := 40) (by decide)).1 (br_f (tb_neg h (b := 58) (by decide)).2.2.1 (br_f (tb_neg h (b := 59) (by decide)).2.2.1 (br_t (tb_neg h (b := 70) (by decide)).1 (br_t (tb_neg h (b := 52) (by decide)).1 (br_t (tb_neg h (b := 60) (by decide)).1 (br_f (tb_neg h (b := 57) (by decide)).2.2.1 K))))))))
theorem tb_isN {x : Int32} (h : x < 0) (K : post 0) : wpY_isToken post (g_size, g_state, g_sort, g_result, g_shown, g_called, g_shifted, g_most, g_fresh, g_spare, g_top, g_depth, g_bound, g_at, g_scope, g_has, g_valueKind, g_value, b_tokens, b_paper, b_places, b_second, b_around, b_kinds, b_values, b_outer, b_taken, b_names, b_nameKinds, b_nameValues, b_nameOuter) x :=
  br_t (tb_neg h (b := 80) (by decide)).1 (br_t (tb_neg h (b := 30) (by decide)).1 (br_t (tb_neg h (b := 40) (by decide)).1 (br_t (tb_neg h (b := 52) (by decide)).1 (br_t (tb_neg h (b := 70) (by decide)).1 K))))
theorem tb_is (ht : t < 2 ^ 31) (K1 : sg_vt t → post 1) (K2 : ¬ sg_vt t → post 0) : wpY_isToken post (g_size, g_state, g_sort, g_result, g_shown, g_called, g_shifted, g_most, g_fresh, g_spare, g_top, g_depth, g_bound, g_at, g_scope, g_has, g_valueKind, g_value, b_tokens, b_paper, b_places, b_second, b_around, b_kinds, b_values, b_outer, b_taken, b_names, b_nameKinds, b_nameValues, b_nameOuter) (nI t) := by
  have h48 : ¬ (80 ≤ t ∧ t ≤ 120) → ¬ (30 ≤ t ∧ t ≤ 35) → ¬ (40 ≤ t ∧ t ≤ 45) → ¬ (52 ≤ t ∧ t ≤ 65) → wY_isToken_48 post (nI t) g_size g_state g_sort g_result g_shown g_called g_shifted g_most g_fresh g_spare g_top g_depth g_bound g_at g_scope g_has g_valueKind g_value b_tokens b_paper b_places b_second b_around b_kinds b_values b_outer b_taken b_names b_nameKinds b_nameValues b_nameOuter := by
    intro a1 a2 a3 a4
    refine pk_lt t 70 (fun h => K2 (by unfold sg_vt; omega)) (fun h => ?_)
    exact pk_lt 75 t (fun h' => K2 (by unfold sg_vt; omega)) (fun h' => K1 (by unfold sg_vt; omega))
  have h36 : ¬ (80 ≤ t ∧ t ≤ 120) → ¬ (30 ≤ t ∧ t ≤ 35) → ¬ (40 ≤ t ∧ t ≤ 45) → wY_isToken_36 post (nI t) g_size g_state g_sort g_result g_shown g_called g_shifted g_most g_fresh g_spare g_top g_depth g_bound g_at g_scope g_has g_valueKind g_value b_tokens b_paper b_places b_second b_around b_kinds b_values b_outer b_taken b_names b_nameKinds b_nameValues b_nameOuter := by
    intro a1 a2 a3
    refine pk_lt t 52 (fun h => h48 a1 a2 a3 (by omega)) (fun h => ?_)
    exact pk_le t 65 (fun h' => K1 (by unfold sg_vt; omega)) (fun h' => h48 a1 a2 a3 (by omega))
  have h24 : ¬ (80 ≤ t ∧ t ≤ 120) → ¬ (30 ≤ t ∧ t ≤ 35) → wY_isToken_24 post (nI t) g_size g_state g_sort g_result g_shown g_called g_shifted g_most g_fresh g_spare g_top g_depth g_bound g_at g_scope g_has g_valueKind g_value b_tokens b_paper b_places b_second b_around b_kinds b_values b_outer b_taken b_names b_nameKinds b_nameValues b_nameOuter := by
    intro a1 a2
    refine pk_lt t 40 (fun h => h36 a1 a2 (by omega)) (fun h => ?_)
    exact pk_le t 45 (fun h' => K1 (by unfold sg_vt; omega)) (fun h' => h36 a1 a2 (by omega))
  have h12 : ¬ (80 ≤ t ∧ t ≤ 120) → wY_isToken_12 post (nI t) g_size g_state g_sort g_result g_shown g_called g_shifted g_most g_fresh g_spare g_top g_depth g_bound g_at g_scope g_has g_valueKind g_value b_tokens b_paper b_places b_second b_around b_kinds b_values b_outer b_taken b_names b_nameKinds b_nameValues b_nameOuter := by
    intro a1
    refine pk_lt t 30 (fun h => h24 a1 (by omega)) (fun h => ?_)
    exact pk_le t 35 (fun h' => K1 (by unfold sg_vt; omega)) (fun h' => h24 a1 (by omega))
  refine pk_lt t 80 (fun h => h12 (by omega)) (fun h => ?_)
  exact pk_le t 120 (fun h' => K1 (by unfold sg_vt; omega)) (fun h' => h12 (by omega))
end
section
variable {f_count f_scopes f_freeNames f_base f_top f_sinceCollected f_room f_depth f_returning f_code f_bindings : Int32} {f_value f_other : Int64} {f_lastStatus f_lastKind f_lastNumber f_outCount f_callCount f_shiftCount f_mostPending : Int32} {a_tokens a_spans a_codeOp a_codeArgument a_partOne a_partTwo a_partThree a_scopeName a_scopeAround a_scopeOf : Nat → Int32} {a_memory a_frames : Nat → Int64} {a_outputs : Nat → Int32} {n_memory : Nat}
variable {g_size g_state g_sort g_result g_shown g_called g_shifted g_most g_fresh g_spare g_top g_depth g_bound g_at g_scope g_has g_valueKind g_value : Int32} {b_tokens b_paper b_places b_second b_around b_kinds b_values b_outer b_taken b_names b_nameKinds b_nameValues b_nameOuter : Nat → Int32}
variable {post : Int32 → Prop} {tn : Nat → Nat} {tok : Nat → Int32} {N p : Nat}
theorem tb_e4 (hN : N ≤ 32) (hk : tb_T tn tok N) (K1 : ∀ e, sg_S tn N p e → post (nI e)) (K2 : (∀ j, p < j → j ≤ N → sg_w tn p ≤ sg_w tn j) → post 100) :
    ∀ n i (a : Nat), p ≤ i → i ≤ N → N - i < n → a ≤ 1 + 2 * (i - p) → (a : Int) = 1 + sg_w tn i - sg_w tn p → (∀ j, p < j → j < i → sg_w tn p ≤ sg_w tn j) → wY_end_4 post (nI N) g_state g_sort g_result g_shown g_called g_shifted g_most g_fresh g_spare g_top g_depth g_bound g_at g_scope g_has g_valueKind g_value tok b_paper b_places b_second b_around b_kinds b_values b_outer b_taken b_names b_nameKinds b_nameValues b_nameOuter n (nI a) (nI i) := by
  intro n
  induction n with
  | zero => intro i a _ _ h; omega
  | succ n ih =>
    intro i a h1 h2 h3 h4 h5 h6
    rcases Nat.eq_zero_or_pos a with h0 | h0
    · subst h0
      have hpi : p ≠ i := by intro e; subst e; omega
      exact br_t (by decide) (br_t (by decide) (K1 i ⟨by omega, h2, by omega, h6⟩))
    · have hw : sg_w tn p ≤ sg_w tn i := by omega
      refine br_f (nI_nle h0 (by omega)) ?_
      rcases Nat.lt_or_ge i N with h7 | h7
      · obtain ⟨e1, e2⟩ := hk i h7
        have ht := tb_lt e2
        refine br_f (nI_ge h7 (by omega)) ⟨vp_in_nI (by omega) (by decide), ?_⟩
        rw [nI_clamp (by omega), e1]
        refine tb_parts (by omega) ?_
        have h8 := sg_pt3 (tn i)
        have h9 := sg_w_s tn i
        refine nm_r (e' := nI (a + sg_pt (tn i) - 1)) (by rw [nI_add]; exact pk_sub (b := 1) (by omega)) (nm_r (nI_1 i) (ih (i + 1) _ (by omega) h7 (by omega) (by omega) (by omega) ?_))
        intro j h10 h11
        rcases Nat.lt_or_ge j i with h12 | h12
        · exact h6 j h10 h12
        · have : j = i := by omega
          rw [this]; exact hw
      · have hiN : i = N := by omega
        refine br_t (nI_le h7 (by omega)) (br_f (nI_nle h0 (by omega)) (K2 ?_))
        intro j h10 h11
        rcases Nat.lt_or_ge j i with h12 | h12
        · exact h6 j h10 h12
        · have : j = i := by omega
          rw [this]; exact hw
theorem tb_end (hc : sg_cp tn N) (hk : tb_T tn tok N) (hp : p < N) (K : post (nI (sg_e tn p))) : wpY_end post (nI N, g_state, g_sort, g_result, g_shown, g_called, g_shifted, g_most, g_fresh, g_spare, g_top, g_depth, g_bound, g_at, g_scope, g_has, g_valueKind, g_value, tok, b_paper, b_places, b_second, b_around, b_kinds, b_values, b_outer, b_taken, b_names, b_nameKinds, b_nameValues, b_nameOuter) (nI p) := by
  refine ⟨N + 1, tb_e4 (p := p) hc.1.1 hk (fun e he => ?_) (fun h => ?_) (N + 1) p 1 (Nat.le_refl _) (by omega) (by omega) (by omega) (by omega) (fun j h1 h2 => by omega)⟩
  · rw [← sg_e_of hc he]; exact K
  · have h1 := h N hp (Nat.le_refl _)
    have h2 := hc.1.2.2 p hp
    have h3 := hc.2
    omega
theorem tb_compY (ho : sg_ok tn N) (hk : tb_T tn tok N) (K1 : sg_w tn N = -1 → post 1) (K2 : ¬ sg_w tn N = -1 → post 0) : wpY_complete post (nI N, g_state, g_sort, g_result, g_shown, g_called, g_shifted, g_most, g_fresh, g_spare, g_top, g_depth, g_bound, g_at, g_scope, g_has, g_valueKind, g_value, tok, b_paper, b_places, b_second, b_around, b_kinds, b_values, b_outer, b_taken, b_names, b_nameKinds, b_nameValues, b_nameOuter) := by
  unfold wpY_complete
  refine ⟨N + 1, tb_e4 (p := 0) ho.1 hk (fun e he => ?_) (fun h => ?_) (N + 1) 0 1 (Nat.le_refl _) (by omega) (by omega) (by omega) (by show (1 : Int) = 1 + 0 - 0; omega) (fun j h1 h2 => by omega)⟩
  · have h0 : sg_w tn 0 = 0 := rfl
    have h1 := he.2.2.1
    have h2 : e = N := by
      rcases Nat.lt_or_ge e N with h3 | h3
      · have := ho.2.2 e h3; omega
      · have := he.2.1; omega
    subst h2
    exact br_t rfl (K1 (by omega))
  · have h100 : ¬ (100 : Int32) = nI N := nb_ne (a := 100) (by decide) (by have := ho.1; omega) (by have := ho.1; omega)
    refine br_f h100 (K2 ?_)
    intro z
    rcases Nat.eq_zero_or_pos N with h3 | h3
    · rw [h3] at z; exact absurd (show (0 : Int) = -1 from z) (by decide)
    · have h4 := h N h3 (Nat.le_refl _)
      have h0 : sg_w tn 0 = 0 := rfl
      omega
theorem tb_c4 (ho : sg_ok tn N) (hk : tb_T tn tok N) (K1 : sg_w tn N = -1 → post 1) (K2 : ¬ sg_w tn N = -1 → post 0) :
    ∀ n i (a : Nat), i ≤ N → N - i < n → a ≤ 1 + 2 * i → (a : Int) = 1 + sg_w tn i → wX_complete_4 post (nI N) f_scopes f_freeNames f_base f_top f_sinceCollected f_room f_depth f_returning f_code f_bindings f_value f_other f_lastStatus f_lastKind f_lastNumber f_outCount f_callCount f_shiftCount f_mostPending tok a_spans a_codeOp a_codeArgument a_partOne a_partTwo a_partThree a_scopeName a_scopeAround a_scopeOf a_memory a_frames a_outputs n_memory n (nI a) (nI i) := by
  intro n
  have hN := ho.1
  induction n with
  | zero => intro i a _ h; omega
  | succ n ih =>
    intro i a h2 h3 h4 h5
    rcases Nat.lt_or_ge i N with h7 | h7
    · obtain ⟨e1, e2⟩ := hk i h7
      have ht := tb_lt e2
      have hw := ho.2.2 i h7
      refine br_f (nI_ge h7 (by omega)) ⟨vp_in_nI (by omega) (by decide), ?_⟩
      rw [nI_clamp (by omega), e1]
      refine tb_pof (by omega) (fun _ => ?_) (fun z => absurd e2 z)
      have h8 := sg_pt3 (tn i)
      have h9 := sg_w_s tn i
      refine nm_r (e' := nI (a + sg_pt (tn i) - 1)) ?_ (nm_r (nI_1 i) (ih (i + 1) _ h7 (by omega) (by omega) (by omega)))
      have e3 : nI a + (nI (sg_pt (tn i)) - 1) = (nI a + nI (sg_pt (tn i))) - 1 := by rw [Int32.sub_eq_add_neg, Int32.sub_eq_add_neg, Int32.add_assoc]
      rw [e3, nI_add]
      exact pk_sub (b := 1) (by omega)
    · have hiN : i = N := by omega
      subst hiN
      refine br_t (nI_le h7 (by omega)) ?_
      rcases Nat.eq_zero_or_pos a with h0 | h0
      · subst h0; exact br_t rfl (K1 (by omega))
      · exact br_f (nI_ne0 h0 (by omega)) (K2 (by omega))
theorem tb_compX (ho : sg_ok tn N) (hk : tb_T tn tok N) (K1 : sg_w tn N = -1 → post 1) (K2 : ¬ sg_w tn N = -1 → post 0) : wpX_complete post (nI N, f_scopes, f_freeNames, f_base, f_top, f_sinceCollected, f_room, f_depth, f_returning, f_code, f_bindings, f_value, f_other, f_lastStatus, f_lastKind, f_lastNumber, f_outCount, f_callCount, f_shiftCount, f_mostPending, tok, a_spans, a_codeOp, a_codeArgument, a_partOne, a_partTwo, a_partThree, a_scopeName, a_scopeAround, a_scopeOf, a_memory, a_frames, a_outputs, n_memory) :=
  ⟨N + 1, tb_c4 ho hk K1 K2 (N + 1) 0 1 (by omega) (by omega) (by omega) (by show (1 : Int) = 1 + 0; omega)⟩
end
end
section
/-! the reference's nodes: families (0 the stack, r + 1 a rest, 100 the spare ones), each a chain -/
def yl_k (nd : Nat → Nat) (f : Nat) : Nat := if f = 0 then 0 else nd (f - 1)
theorem yl_k0 (nd : Nat → Nat) : yl_k nd 0 = 0 := rfl
theorem yl_ks (nd : Nat → Nat) (f : Nat) : yl_k nd (f + 1) = nd f := rfl
theorem yl_ke {nd nd' : Nat → Nat} {f : Nat} (h : ∀ i, i < f → nd' i = nd i) : yl_k nd' f = yl_k nd f := by
  cases f with
  | zero => rfl
  | succ f => exact h f (Nat.lt_succ_self _)
def yl_L (len : Nat → Nat) (nod : Nat → Nat → Nat) (ow : Nat → Nat × Nat) (fr : Nat) (out : Nat → Int32) : Prop := ∀ q f, f < len q → 1 ≤ nod q f ∧ nod q f < fr ∧ ow (nod q f) = (q, f) ∧ out (nod q f) = nI (yl_k (nod q) f)
def yl_B (len : Nat → Nat) (nod : Nat → Nat → Nat) (ow : Nat → Nat × Nat) (fr : Nat) (out : Nat → Int32) (h : Nat) : Prop := yl_L len nod ow fr out ∧ fr = 1 + h + len 0 + len 100 + pm_s (fun r => len (r + 1)) 8 ∧ len 50 = 0
/-- n is a node that nothing holds -/
def yl_O (n : Nat) (len : Nat → Nat) (nod : Nat → Nat → Nat) (fr : Nat) : Prop := 1 ≤ n ∧ n < fr ∧ ∀ q f, f < len q → nod q f ≠ n
def yl_set (len : Nat → Nat) (q0 a : Nat) : Nat → Nat := fun q => if q = q0 then a else len q
def yl_nod (nod : Nat → Nat → Nat) (q0 a n : Nat) : Nat → Nat → Nat := fun q f => if q = q0 ∧ f = a then n else nod q f
def yl_ow (ow : Nat → Nat × Nat) (n : Nat) (z : Nat × Nat) : Nat → Nat × Nat := fun x => if x = n then z else ow x
section
variable {len : Nat → Nat} {nod : Nat → Nat → Nat} {ow : Nat → Nat × Nat} {fr h q0 a n q f : Nat} {out : Nat → Int32}
theorem yl_set_s : yl_set len q0 a q0 = a := if_pos rfl
theorem yl_set_n (hq : q ≠ q0) : yl_set len q0 a q = len q := if_neg hq
theorem yl_nod_s : yl_nod nod q0 a n q0 a = n := if_pos ⟨rfl, rfl⟩
theorem yl_nod_n (hq : ¬ (q = q0 ∧ f = a)) : yl_nod nod q0 a n q f = nod q f := if_neg hq
theorem yl_sum (hq : q0 = 0 ∨ q0 = 100) : pm_s (fun r => yl_set len q0 a (r + 1)) 8 = pm_s (fun r => len (r + 1)) 8 :=
  pm_s_eq 8 (fun i hi => yl_set_n (by omega))
theorem yl_inj (L : yl_L len nod ow fr out) {q' f' : Nat} (h1 : f < len q) (h2 : f' < len q') (e : nod q f = nod q' f') : q = q' ∧ f = f' := by
  have a1 := (L q f h1).2.2.1
  have a2 := (L q' f' h2).2.2.1
  rw [e, a2] at a1
  exact ⟨(congrArg Prod.fst a1).symm, (congrArg Prod.snd a1).symm⟩
/-- the last of the stack or of the spare ones is taken -/
theorem yl_take (B : yl_B len nod ow fr out h) (hq : q0 = 0 ∨ q0 = 100) (ha : len q0 = a + 1) : yl_B (yl_set len q0 a) nod ow fr out (h + 1) ∧ yl_O (nod q0 a) (yl_set len q0 a) nod fr := by
  have hl : ∀ q, yl_set len q0 a q ≤ len q := by
    intro q
    by_cases e : q = q0
    · rw [e, yl_set_s]; omega
    · rw [yl_set_n e]; exact Nat.le_refl _
  refine ⟨⟨fun q f hf => B.1 q f (Nat.lt_of_lt_of_le hf (hl q)), ?_⟩, ?_⟩
  · rw [yl_sum hq]
    have h2 := B.2
    rcases hq with rfl | rfl
    · rw [yl_set_s, yl_set_n (by decide), yl_set_n (by decide)]; omega
    · rw [yl_set_s, yl_set_n (by decide), yl_set_n (by decide)]; omega
  · have h1 := B.1 q0 a (by omega)
    refine ⟨h1.1, h1.2.1, fun q f hf e => ?_⟩
    have h3 := yl_inj B.1 (Nat.lt_of_lt_of_le hf (hl q)) (show a < len q0 by omega) e
    obtain ⟨rfl, rfl⟩ := h3
    rw [yl_set_s] at hf
    omega
theorem yl_fresh (B : yl_B len nod ow fr out h) : yl_B len nod ow (fr + 1) out (h + 1) ∧ yl_O fr len nod (fr + 1) := by
  have h2 := B.2
  refine ⟨⟨fun q f hf => ?_, by omega, h2.2⟩, ⟨by omega, by omega, fun q f hf e => ?_⟩⟩
  · have h1 := B.1 q f hf
    exact ⟨h1.1, by omega, h1.2.2⟩
  · have h1 := B.1 q f hf
    omega
theorem yl_put (B : yl_B len nod ow fr out (h + 1)) (O : yl_O n len nod fr) (hq : q0 = 0 ∨ q0 = 100) (ha : len q0 = a) :
    yl_B (yl_set len q0 (a + 1)) (yl_nod nod q0 a n) (yl_ow ow n (q0, a)) fr (upd out n (nI (yl_k (nod q0) a))) h := by
  refine ⟨fun q f hf => ?_, ?_⟩
  · have hk : ∀ f, (q = q0 → f ≤ a) → yl_k (yl_nod nod q0 a n q) f = yl_k (nod q) f := fun f hf => yl_ke (fun i hi => yl_nod_n (by intro z; have := hf z.1; omega))
    by_cases e : q = q0 ∧ f = a
    · obtain ⟨rfl, rfl⟩ := e
      rw [yl_nod_s]
      refine ⟨O.1, O.2.1, if_pos rfl, ?_⟩
      rw [pk_us, hk f (fun _ => Nat.le_refl _)]
    · have hf2 : f < len q := by
        by_cases e2 : q = q0
        · subst e2
          rw [yl_set_s] at hf
          have : f ≠ a := fun z => e ⟨rfl, z⟩
          omega
        · rw [yl_set_n e2] at hf; exact hf
      rw [yl_nod_n e]
      have h1 := B.1 q f hf2
      have h3 := O.2.2 q f hf2
      refine ⟨h1.1, h1.2.1, (if_neg h3).trans h1.2.2.1, ?_⟩
      rw [pk_un h3, hk f (fun z => by subst z; omega)]
      exact h1.2.2.2
  · rw [yl_sum hq]
    have h2 := B.2
    rcases hq with rfl | rfl
    · rw [yl_set_s, yl_set_n (by decide), yl_set_n (by decide)]; omega
    · rw [yl_set_s, yl_set_n (by decide), yl_set_n (by decide)]; omega
end
/-- node n holds the piece f -/
def yl_N (f : ab_F) (n : Nat) (pl sec aro kin vals : Nat → Int32) : Prop :=
  (fr_d f = 4 → pl n = -1) ∧ (fr_d f ≠ 4 → pl n = nI (fr_p f) ∧ aro n = nI (fr_e f) ∧ (fr_d f = 1 → sec n = 1 ∧ kin n = nI (fr_k f) ∧ vals n = fr_v f) ∧ (fr_d f ≠ 1 → sec n = 0))
def yl_C (d : Nat) (s : Nat → ab_F) (R : ab_R) (nod : Nat → Nat → Nat) (pl sec aro kin vals : Nat → Int32) : Prop :=
  (∀ f, f < d → yl_N (s f) (nod 0 f) pl sec aro kin vals) ∧ (∀ r, r < rs_n R → ∀ j, j < rs_l R r → yl_N (rs_f R r j) (nod (r + 1) j) pl sec aro kin vals)
def yl_P (d : Nat) (s : Nat → ab_F) (R : ab_R) (len : Nat → Nat) (nod : Nat → Nat → Nat) (ow : Nat → Nat × Nat) (fr : Nat) (pl sec aro kin vals out tak : Nat → Int32) : Prop :=
  yl_B len nod ow fr out 0 ∧ yl_C d s R nod pl sec aro kin vals ∧ len 0 = d ∧ (∀ r, r < rs_n R → len (r + 1) = rs_l R r ∧ tak r = nI (yl_k (nod (r + 1)) (rs_l R r))) ∧ (∀ r, rs_n R ≤ r → r < 8 → len (r + 1) = 0) ∧ fr ≤ 160
section
variable {len : Nat → Nat} {nod : Nat → Nat → Nat} {ow : Nat → Nat × Nat} {fr h q0 a n q f d : Nat} {out pl sec aro kin vals tak pl' sec' aro' kin' vals' : Nat → Int32} {s : Nat → ab_F} {R : ab_R}
theorem yl_N_o {g : ab_F} {m : Nat} (hn : yl_N g m pl sec aro kin vals) (h1 : pl' m = pl m) (h2 : sec' m = sec m) (h3 : aro' m = aro m) (h4 : kin' m = kin m) (h5 : vals' m = vals m) : yl_N g m pl' sec' aro' kin' vals' := by
  unfold yl_N
  rw [h1, h2, h3, h4, h5]
  exact hn
/-- few nodes are in use -/
theorem yl_few (P : yl_P d s R len nod ow fr pl sec aro kin vals out tak) (hd : d ≤ 16) (hn : rs_n R ≤ 8) (hR : ∀ r, rs_l R r ≤ 15) : fr = 1 + d + len 100 + pm_s (fun r => len (r + 1)) 8 ∧ pm_s (fun r => len (r + 1)) 8 ≤ 120 := by
  obtain ⟨B, C, h0, h1, h2, _⟩ := P
  have h3 := B.2
  have h4 : pm_s (fun r => len (r + 1)) 8 ≤ 8 * 15 := pm_s_le 8 (fun i hi => by
    rcases Nat.lt_or_ge i (rs_n R) with h5 | h5
    · have := (h1 i h5).1; have := hR i; show len (i + 1) ≤ 15; omega
    · have := h2 i h5 hi; show len (i + 1) ≤ 15; omega)
  omega
/-- contents away from n stay -/
theorem yl_C_o (C : yl_C d s R nod pl sec aro kin vals) (P4 : ∀ r, r < rs_n R → len (r + 1) = rs_l R r) (h0 : d ≤ len 0) (O : ∀ q f, f < len q → nod q f ≠ n)
    (hh : ∀ m, m ≠ n → pl' m = pl m ∧ sec' m = sec m ∧ aro' m = aro m ∧ kin' m = kin m ∧ vals' m = vals m) : yl_C d s R nod pl' sec' aro' kin' vals' := by
  refine ⟨fun f hf => ?_, fun r hr j hj => ?_⟩
  · obtain ⟨a1, a2, a3, a4, a5⟩ := hh _ (O 0 f (by omega))
    exact yl_N_o (C.1 f hf) a1 a2 a3 a4 a5
  · obtain ⟨a1, a2, a3, a4, a5⟩ := hh _ (O (r + 1) j (by rw [P4 r hr]; exact hj))
    exact yl_N_o (C.2 r hr j hj) a1 a2 a3 a4 a5
end
end
section
/-! the reference's small methods: node, push, pop, bind, find -/
def yn_M (H : ab_H) (nm nk nv no : Nat → Int32) : Prop := ∀ i, 1 ≤ i → i ≤ hn_b H → nm i = nI (hn_x H i) ∧ nk i = nI (hn_k H i) ∧ nv i = hn_v H i ∧ no i = nI (hn_o H i)
section
variable {g_size g_state g_sort g_result g_shown g_called g_shifted g_most g_fresh g_spare g_top g_depth g_bound g_at g_scope g_has g_valueKind g_value : Int32} {b_tokens b_paper b_places b_second b_around b_kinds b_values b_outer b_taken b_names b_nameKinds b_nameValues b_nameOuter : Nat → Int32}
variable {len : Nat → Nat} {nod : Nat → Nat → Nat} {ow : Nat → Nat × Nat} {fr h q0 a n q f d ms x k o e : Nat} {s : Nat → ab_F} {R : ab_R} {H : ab_H} {v : Int32}
theorem yo_37 {post : Int32 → SY → Prop} {p0 p1 : Int32} (hn : n < 200) (K : post (nI n) (g_size, g_state, g_sort, g_result, g_shown, g_called, g_shifted, g_most, g_fresh, g_spare, g_top, g_depth, g_bound, g_at, g_scope, g_has, g_valueKind, g_value, b_tokens, b_paper, upd b_places n p0, upd b_second n 0, upd b_around n p1, b_kinds, b_values, b_outer, b_taken, b_names, b_nameKinds, b_nameValues, b_nameOuter)) : wY_node_37 post p0 p1 (nI n) g_size g_state g_sort g_result g_shown g_called g_shifted g_most g_fresh g_spare g_top g_depth g_bound g_at g_scope g_has g_valueKind g_value b_tokens b_paper b_places b_second b_around b_kinds b_values b_outer b_taken b_names b_nameKinds b_nameValues b_nameOuter := by
  have i1 : vp_in (nI n) 200 := vp_in_nI hn (by decide)
  have c1 : (nI n).toNatClampNeg = n := nI_clamp (by omega)
  exact ⟨i1, nm_r (e' := upd b_places n p0) (by rw [c1]) ⟨i1, nm_r (e' := upd b_second n 0) (by rw [c1, nb_bo0]) ⟨i1, nm_r (e' := upd b_around n p1) (by rw [c1]) K⟩⟩⟩
theorem yo_node {post : Int32 → SY → Prop} {p0 p1 : Int32} (B : yl_B len nod ow fr b_outer h) (hfr : fr ≤ 160) (hroom : len 100 = 0 → fr < 160)
    (K : ∀ (n : Nat) (len2 : Nat → Nat) (fr2 : Nat), yl_B len2 nod ow fr2 b_outer (h + 1) → yl_O n len2 nod fr2 → fr2 ≤ 160 → fr ≤ fr2 → (∀ q, q ≠ 100 → len2 q = len q) → (∀ x, x < fr → (∀ q f, f < len q → nod q f ≠ x) → x ≠ n) → post (nI n) (g_size, g_state, g_sort, g_result, g_shown, g_called, g_shifted, g_most, nI fr2, nI (yl_k (nod 100) (len2 100)), g_top, g_depth, g_bound, g_at, g_scope, g_has, g_valueKind, g_value, b_tokens, b_paper, upd b_places n p0, upd b_second n 0, upd b_around n p1, b_kinds, b_values, b_outer, b_taken, b_names, b_nameKinds, b_nameValues, b_nameOuter)) :
    wpY_node post (g_size, g_state, g_sort, g_result, g_shown, g_called, g_shifted, g_most, nI fr, nI (yl_k (nod 100) (len 100)), g_top, g_depth, g_bound, g_at, g_scope, g_has, g_valueKind, g_value, b_tokens, b_paper, b_places, b_second, b_around, b_kinds, b_values, b_outer, b_taken, b_names, b_nameKinds, b_nameValues, b_nameOuter) p0 p1 := by
  rcases Nat.eq_zero_or_pos (len 100) with h0 | h0
  · have hr := hroom h0
    have e0 : nI (yl_k (nod 100) (len 100)) = 0 := by rw [h0]; rfl
    have hf := yl_fresh B
    refine br_t e0 (nm_r (nI_1 fr) (yo_37 (by omega) ?_))
    exact K fr len (fr + 1) hf.1 hf.2 (by omega) (by omega) (fun q _ => rfl) (fun x hx _ => by omega)
  · obtain ⟨a, ha⟩ : ∃ a, len 100 = a + 1 := ⟨len 100 - 1, by omega⟩
    have ht := yl_take B (Or.inr rfl) ha
    have hB := B.1 100 a (by omega)
    have e0 : yl_k (nod 100) (len 100) = nod 100 a := by rw [ha, yl_ks]
    have c1 : (nI (nod 100 a)).toNatClampNeg = nod 100 a := nI_clamp (by omega)
    rw [e0]
    refine br_f (nI_ne0 (by omega) (by omega)) ⟨vp_in_nI (by omega) (by decide), nm_r (e' := nI (yl_k (nod 100) (yl_set len 100 a 100))) ?_ (yo_37 (by omega) ?_)⟩
    · rw [c1, hB.2.2.2, yl_set_s]
    · exact K (nod 100 a) (yl_set len 100 a) fr ht.1 ht.2 hfr (Nat.le_refl _) (fun q hq => yl_set_n hq) (fun x _ hx => fun z => hx 100 a (by omega) z.symm)
theorem yo_push {post : SY → Prop} {p0 : Int32} {g : ab_F} (P : yl_P d s R len nod ow fr b_places b_second b_around b_kinds b_values b_outer b_taken) (hd : d < 16) (hms : ms ≤ 16) (hn : rs_n R ≤ 8) (hR : ∀ r, rs_l R r ≤ 15)
    (hg : (fr_d g = 4 → p0 = -1) ∧ (fr_d g ≠ 4 → p0 = nI (fr_p g) ∧ g_scope = nI (fr_e g) ∧ fr_d g ≠ 1))
    (K : ∀ (len2 : Nat → Nat) (nod2 : Nat → Nat → Nat) (ow2 : Nat → Nat × Nat) (fr2 : Nat) (pl2 sec2 aro2 out2 : Nat → Int32), yl_P (d + 1) (ab_psh s d g) R len2 nod2 ow2 fr2 pl2 sec2 aro2 b_kinds b_values out2 b_taken →
      post (g_size, g_state, g_sort, g_result, g_shown, g_called, g_shifted, nI (ab_mx (d + 1) ms), nI fr2, nI (yl_k (nod2 100) (len2 100)), nI (yl_k (nod2 0) (d + 1)), nI (d + 1), g_bound, g_at, g_scope, g_has, g_valueKind, g_value, b_tokens, b_paper, pl2, sec2, aro2, b_kinds, b_values, out2, b_taken, b_names, b_nameKinds, b_nameValues, b_nameOuter)) :
    wpY_push post (g_size, g_state, g_sort, g_result, g_shown, g_called, g_shifted, nI ms, nI fr, nI (yl_k (nod 100) (len 100)), nI (yl_k (nod 0) d), nI d, g_bound, g_at, g_scope, g_has, g_valueKind, g_value, b_tokens, b_paper, b_places, b_second, b_around, b_kinds, b_values, b_outer, b_taken, b_names, b_nameKinds, b_nameValues, b_nameOuter) p0 := by
  have hfew := yl_few P (by omega) hn hR
  obtain ⟨B, C, h0, h1, h2, h3⟩ := P
  refine br_t (nI_lt (b := 16) hd (by decide)) ?_
  refine yo_node B h3 (by omega) ?_
  intro n len2 fr2 B2 O2 hfr2 hfr3 hl2 _
  have c1 : (nI n).toNatClampNeg = n := nI_clamp (by have := O2.2.1; omega)
  have hl0 : len2 0 = d := (hl2 0 (by decide)).trans h0
  have B3 := yl_put B2 O2 (Or.inl rfl) hl0
  have C2 : yl_C d s R nod (upd b_places n p0) (upd b_second n 0) (upd b_around n g_scope) b_kinds b_values :=
    yl_C_o C (fun r hr => (hl2 (r + 1) (by omega)).trans (h1 r hr).1) (by omega) O2.2.2 (fun m hm => ⟨pk_un hm, pk_un hm, pk_un hm, rfl, rfl⟩)
  have P2 : yl_P (d + 1) (ab_psh s d g) R (yl_set len2 0 (d + 1)) (yl_nod nod 0 d n) (yl_ow ow n (0, d)) fr2 (upd b_places n p0) (upd b_second n 0) (upd b_around n g_scope) b_kinds b_values (upd b_outer n (nI (yl_k (nod 0) d))) b_taken := by
    refine ⟨B3, ⟨fun f hf => ?_, fun r hr j hj => ?_⟩, yl_set_s, fun r hr => ?_, fun r hr hr2 => ?_, hfr2⟩
    · rcases Nat.lt_or_ge f d with hf2 | hf2
      · have e1 : ab_psh s d g f = s f := if_neg (by omega)
        rw [e1, yl_nod_n (by omega)]
        exact C2.1 f hf2
      · have : f = d := by omega
        subst this
        have e1 : ab_psh s f g f = g := if_pos rfl
        rw [e1, yl_nod_s]
        refine ⟨fun z => by rw [pk_us]; exact hg.1 z, fun z => ?_⟩
        obtain ⟨b1, b2, b3⟩ := hg.2 z
        exact ⟨by rw [pk_us]; exact b1, by rw [pk_us]; exact b2, fun z2 => absurd z2 b3, fun _ => by rw [pk_us]⟩
    · rw [yl_nod_n (by omega)]
      exact C2.2 r hr j hj
    · have hh : ∀ i, yl_nod nod 0 d n (r + 1) i = nod (r + 1) i := fun i => yl_nod_n (by omega)
      rw [yl_set_n (by omega), hl2 (r + 1) (by omega), yl_ke (fun i _ => hh i)]
      exact h1 r hr
    · rw [yl_set_n (by omega), hl2 (r + 1) (by omega)]
      exact h2 r hr hr2
  have K2 := K _ _ _ fr2 _ _ _ _ P2
  rw [yl_ks, yl_nod_s, yl_set_n (by decide), show (yl_nod nod 0 d n) 100 = nod 100 from by funext i; exact yl_nod_n (by omega)] at K2
  refine And.intro (vp_in_nI (by have := O2.2.1; omega) (by decide)) (nm_r (e' := upd b_outer n (nI (yl_k (nod 0) d))) (by rw [c1]) (nm_r (nI_1 d) ?_))
  unfold ab_mx at K2
  by_cases hm : d + 1 ≤ ms
  · rw [if_pos hm] at K2
    exact br_t (nI_le hm (by omega)) K2
  · rw [if_neg hm] at K2
    exact br_f (nI_ge (show ms < d + 1 by omega) (by omega)) K2
theorem yo_pop {post : SY → Prop} (P : yl_P (d + 1) s R len nod ow fr b_places b_second b_around b_kinds b_values b_outer b_taken) (hd : d < 16) (hn : rs_n R ≤ 8)
    (K : ∀ (len2 : Nat → Nat) (nod2 : Nat → Nat → Nat) (ow2 : Nat → Nat × Nat) (out2 : Nat → Int32), yl_P d s R len2 nod2 ow2 fr b_places b_second b_around b_kinds b_values out2 b_taken →
      post (g_size, g_state, g_sort, g_result, g_shown, g_called, g_shifted, g_most, nI fr, nI (yl_k (nod2 100) (len2 100)), nI (yl_k (nod2 0) d), nI d, g_bound, g_at, g_scope, g_has, g_valueKind, g_value, b_tokens, b_paper, b_places, b_second, b_around, b_kinds, b_values, out2, b_taken, b_names, b_nameKinds, b_nameValues, b_nameOuter)) :
    wpY_pop post (g_size, g_state, g_sort, g_result, g_shown, g_called, g_shifted, g_most, nI fr, nI (yl_k (nod 100) (len 100)), nI (yl_k (nod 0) (d + 1)), nI (d + 1), g_bound, g_at, g_scope, g_has, g_valueKind, g_value, b_tokens, b_paper, b_places, b_second, b_around, b_kinds, b_values, b_outer, b_taken, b_names, b_nameKinds, b_nameValues, b_nameOuter) := by
  obtain ⟨B, C, h0, h1, h2, h3⟩ := P
  have hB := B.1 0 d (by omega)
  have ht := yl_take B (Or.inl rfl) h0
  have h100 : (yl_set len 0 d) 100 = len 100 := yl_set_n (by decide)
  have B3 := yl_put ht.1 ht.2 (Or.inr rfl) h100
  have c1 : (nI (nod 0 d)).toNatClampNeg = nod 0 d := nI_clamp (by omega)
  have i1 : vp_in (nI (nod 0 d)) 200 := vp_in_nI (by omega) (by decide)
  have P2 : yl_P d s R (yl_set (yl_set len 0 d) 100 (len 100 + 1)) (yl_nod nod 100 (len 100) (nod 0 d)) (yl_ow ow (nod 0 d) (100, len 100)) fr b_places b_second b_around b_kinds b_values (upd b_outer (nod 0 d) (nI (yl_k (nod 100) (len 100)))) b_taken := by
    refine ⟨B3, ⟨fun f hf => ?_, fun r hr j hj => ?_⟩, ?_, fun r hr => ?_, fun r hr hr2 => ?_, h3⟩
    · rw [yl_nod_n (by omega)]; exact C.1 f (by omega)
    · rw [yl_nod_n (by omega)]; exact C.2 r hr j hj
    · rw [yl_set_n (by decide), yl_set_s]
    · have hh : ∀ i, yl_nod nod 100 (len 100) (nod 0 d) (r + 1) i = nod (r + 1) i := fun i => yl_nod_n (by omega)
      rw [yl_set_n (by omega), yl_set_n (by omega), yl_ke (fun i _ => hh i)]
      exact h1 r hr
    · rw [yl_set_n (by omega), yl_set_n (by omega)]
      exact h2 r hr hr2
  have K2 := K _ _ _ _ P2
  rw [yl_set_s, yl_ks, yl_nod_s, show (yl_nod nod 100 (len 100) (nod 0 d)) 0 = nod 0 from by funext i; exact yl_nod_n (by omega)] at K2
  rw [yl_ks]
  exact ⟨i1, nm_r (e' := nI (yl_k (nod 0) d)) (by rw [c1, hB.2.2.2]) (nm_r (nI_pred d) ⟨i1, nm_r (e' := upd b_outer (nod 0 d) (nI (yl_k (nod 100) (len 100)))) (by rw [c1]) K2⟩)⟩
theorem yo_bind {post : SY → Prop} (M : yn_M H b_names b_nameKinds b_nameValues b_nameOuter) (hb : hn_b H + 1 < 12000)
    (K : ∀ (nm2 nk2 nv2 no2 : Nat → Int32), yn_M (hn_add H x k v o) nm2 nk2 nv2 no2 → post (g_size, g_state, g_sort, g_result, g_shown, g_called, g_shifted, g_most, g_fresh, g_spare, g_top, g_depth, nI (hn_b H + 1), g_at, nI (hn_b H + 1), g_has, g_valueKind, g_value, b_tokens, b_paper, b_places, b_second, b_around, b_kinds, b_values, b_outer, b_taken, nm2, nk2, nv2, no2)) :
    wpY_bind post (g_size, g_state, g_sort, g_result, g_shown, g_called, g_shifted, g_most, g_fresh, g_spare, g_top, g_depth, nI (hn_b H), g_at, g_scope, g_has, g_valueKind, g_value, b_tokens, b_paper, b_places, b_second, b_around, b_kinds, b_values, b_outer, b_taken, b_names, b_nameKinds, b_nameValues, b_nameOuter) (nI x) (nI o) (nI k) v := by
  have i1 : vp_in (nI (hn_b H + 1)) 12000 := vp_in_nI hb (by decide)
  have c1 : (nI (hn_b H + 1)).toNatClampNeg = hn_b H + 1 := nI_clamp (by omega)
  refine nm_r (nI_1 _) ⟨i1, nm_r (e' := upd b_names (hn_b H + 1) (nI x)) (by rw [c1]) ⟨i1, nm_r (e' := upd b_nameKinds (hn_b H + 1) (nI k)) (by rw [c1]) ⟨i1, nm_r (e' := upd b_nameValues (hn_b H + 1) v) (by rw [c1]) ⟨i1, nm_r (e' := upd b_nameOuter (hn_b H + 1) (nI o)) (by rw [c1]) (K _ _ _ _ ?_)⟩⟩⟩⟩
  intro i hi1 hi2
  rw [hn_add_b] at hi2
  rcases Nat.lt_or_ge i (hn_b H + 1) with hi3 | hi3
  · have hi4 : i ≤ hn_b H := by omega
    rw [pk_un (by omega), pk_un (by omega), pk_un (by omega), pk_un (by omega), hn_add_x hi4, hn_add_k hi4, hn_add_v hi4, hn_add_o hi4]
    exact M i hi1 hi4
  · have : i = hn_b H + 1 := by omega
    subst this
    rw [pk_us, pk_us, pk_us, pk_us, hn_add_x', hn_add_k', hn_add_v', hn_add_o']
    exact ⟨rfl, rfl, rfl, rfl⟩
theorem yo_find5 {post : SY → Prop} (M : yn_M H b_names b_nameKinds b_nameValues b_nameOuter) (hb : hn_b H < 12000) (hx : x < 2 ^ 31)
    (K1 : ∀ e0, post (g_size, g_state, g_sort, g_result, g_shown, g_called, g_shifted, g_most, g_fresh, g_spare, g_top, g_depth, g_bound, g_at, g_scope, 1, nI (hn_k H e0), hn_v H e0, b_tokens, b_paper, b_places, b_second, b_around, b_kinds, b_values, b_outer, b_taken, b_names, b_nameKinds, b_nameValues, b_nameOuter) ∨ True) (e1 : Nat) (l1 : List Nat)
    (KY : x ∈ l1 → post (g_size, g_state, g_sort, g_result, g_shown, g_called, g_shifted, g_most, g_fresh, g_spare, g_top, g_depth, g_bound, g_at, g_scope, 1, nI (hn_k H (ab_u H (sg_i x l1) e1)), hn_v H (ab_u H (sg_i x l1) e1), b_tokens, b_paper, b_places, b_second, b_around, b_kinds, b_values, b_outer, b_taken, b_names, b_nameKinds, b_nameValues, b_nameOuter)) (KN : ¬ x ∈ l1 → post (g_size, 2, g_sort, g_result, g_shown, g_called, g_shifted, g_most, g_fresh, g_spare, g_top, g_depth, g_bound, g_at, g_scope, g_has, g_valueKind, g_value, b_tokens, b_paper, b_places, b_second, b_around, b_kinds, b_values, b_outer, b_taken, b_names, b_nameKinds, b_nameValues, b_nameOuter)) :
    ∀ (l : List Nat) n e, l.length < n → ab_E H l e → (∀ y, y ∈ l → y < 2 ^ 31) → (x ∈ l1 ↔ x ∈ l) → ab_u H (sg_i x l1) e1 = ab_u H (sg_i x l) e → wY_find_5 post (nI x) g_size g_state g_sort g_result g_shown g_called g_shifted g_most g_fresh g_spare g_top g_depth g_bound g_at g_scope g_has g_valueKind g_value b_tokens b_paper b_places b_second b_around b_kinds b_values b_outer b_taken b_names b_nameKinds b_nameValues b_nameOuter n (nI e) := by
  intro l
  induction l with
  | nil =>
    intro n e hn hE _ hi _
    obtain ⟨m, rfl⟩ : ∃ m, n = m + 1 := ⟨n - 1, by have : ([] : List Nat).length = 0 := rfl; omega⟩
    have h0 : e = 0 := hE
    subst h0
    exact br_t rfl (br_t rfl (KN (fun z => absurd (hi.mp z) (by intro w; cases w))))
  | cons y l ih =>
    intro n e hn hE hl hi hu
    obtain ⟨m, rfl⟩ : ∃ m, n = m + 1 := ⟨n - 1, by rw [List.length_cons] at hn; omega⟩
    obtain ⟨g1, g2, g3, g4⟩ := hE
    obtain ⟨m1, m2, m3, m4⟩ := M e g1 g2
    have c1 : (nI e).toNatClampNeg = e := nI_clamp (by omega)
    have i1 : vp_in (nI e) 12000 := vp_in_nI (by omega) (by decide)
    have hy := hl y (List.mem_cons_self ..)
    have hnm : b_names (nI e).toNatClampNeg = nI y := by rw [c1, m1, g3]
    refine br_f (nI_ne0 (by omega) (by omega)) ⟨i1, ?_⟩
    by_cases hyx : y = x
    · have hin : x ∈ l1 := hi.mpr (by rw [hyx]; exact List.mem_cons_self ..)
      have hfin := KY hin
      have h0 : sg_i x (y :: l) = 0 := if_pos hyx
      rw [hu, h0] at hfin
      have hfin2 : post (g_size, g_state, g_sort, g_result, g_shown, g_called, g_shifted, g_most, g_fresh, g_spare, g_top, g_depth, g_bound, g_at, g_scope, 1, nI (hn_k H e), hn_v H e, b_tokens, b_paper, b_places, b_second, b_around, b_kinds, b_values, b_outer, b_taken, b_names, b_nameKinds, b_nameValues, b_nameOuter) := hfin
      refine br_t (by rw [hnm, hyx]) (br_f (nI_ne0 (by omega) (by omega)) ⟨i1, i1, ?_⟩)
      rw [c1, m2, m3]
      exact hfin2
    · refine br_f (by rw [hnm]; exact nb_ne hy hx hyx) ⟨i1, nm_r (e' := nI (hn_o H e)) (by rw [c1, m4]) (ih m (hn_o H e) (by rw [List.length_cons] at hn; omega) g4 (fun z hz => hl z (List.mem_cons_of_mem _ hz)) ?_ ?_)⟩
      · rw [hi, List.mem_cons]
        exact ⟨fun z => z.resolve_left (fun w => hyx w.symm), Or.inr⟩
      · rw [hu]
        have h0 : sg_i x (y :: l) = sg_i x l + 1 := if_neg hyx
        rw [h0]
        rfl
theorem yo_find {post : SY → Prop} {l : List Nat} (M : yn_M H b_names b_nameKinds b_nameValues b_nameOuter) (hb : hn_b H < 12000) (hx : x < 2 ^ 31) (hE : ab_E H l e) (hl : ∀ y, y ∈ l → y < 2 ^ 31)
    (KY : x ∈ l → post (g_size, g_state, g_sort, g_result, g_shown, g_called, g_shifted, g_most, g_fresh, g_spare, g_top, g_depth, g_bound, g_at, nI e, 1, nI (hn_k H (ab_u H (sg_i x l) e)), hn_v H (ab_u H (sg_i x l) e), b_tokens, b_paper, b_places, b_second, b_around, b_kinds, b_values, b_outer, b_taken, b_names, b_nameKinds, b_nameValues, b_nameOuter)) (KN : ¬ x ∈ l → post (g_size, 2, g_sort, g_result, g_shown, g_called, g_shifted, g_most, g_fresh, g_spare, g_top, g_depth, g_bound, g_at, nI e, g_has, g_valueKind, g_value, b_tokens, b_paper, b_places, b_second, b_around, b_kinds, b_values, b_outer, b_taken, b_names, b_nameKinds, b_nameValues, b_nameOuter)) :
    wpY_find post (g_size, g_state, g_sort, g_result, g_shown, g_called, g_shifted, g_most, g_fresh, g_spare, g_top, g_depth, g_bound, g_at, nI e, g_has, g_valueKind, g_value, b_tokens, b_paper, b_places, b_second, b_around, b_kinds, b_values, b_outer, b_taken, b_names, b_nameKinds, b_nameValues, b_nameOuter) (nI x) :=
  ⟨l.length + 1, yo_find5 M hb hx (fun _ => Or.inr trivial) e l KY KN l (l.length + 1) e (Nat.lt_succ_self _) hE hl Iff.rfl rfl⟩
end
end
section
/-! the reference in the midst of a run, and at its end; enter, case by case -/
-- base E g_size=nI N; g_state=0; g_shown=nI c_oc; g_called=nI c_cl; g_shifted=nI (rs_n c_R); g_most=nI c_ms; g_fresh=nI fr; g_spare=nI (yl_k (nod 100) (len 100)); g_top=nI (yl_k (nod 0) c_d); g_depth=nI c_d; g_bound=nI (hn_b c_H); g_at=nI c_at; g_scope=nI c_e; g_has=0; b_tokens=tok; b_paper=c_out
-- base V g_size=nI N; g_state=0; g_shown=nI c_oc; g_called=nI c_cl; g_shifted=nI (rs_n c_R); g_most=nI c_ms; g_fresh=nI fr; g_spare=nI (yl_k (nod 100) (len 100)); g_top=nI (yl_k (nod 0) c_d); g_depth=nI c_d; g_bound=nI (hn_b c_H); g_has=1; g_valueKind=nI c_k; g_value=c_v; b_tokens=tok; b_paper=c_out
def yr_R (tok : Nat → Int32) (N : Nat) (c : ab_C) (w : SY) : Prop := match c, w with
  | (c_has, c_at, c_e, c_k, c_v, c_d, c_s, c_H, c_R, c_cl, c_ms, c_oc, c_out), (g_size, g_state, g_sort, g_result, g_shown, g_called, g_shifted, g_most, g_fresh, g_spare, g_top, g_depth, g_bound, g_at, g_scope, g_has, g_valueKind, g_value, b_tokens, b_paper, b_places, b_second, b_around, b_kinds, b_values, b_outer, b_taken, b_names, b_nameKinds, b_nameValues, b_nameOuter) => g_size = nI N ∧ g_state = 0 ∧ g_shown = nI c_oc ∧ g_called = nI c_cl ∧ g_shifted = nI (rs_n c_R) ∧ g_most = nI c_ms ∧ g_depth = nI c_d ∧ g_bound = nI (hn_b c_H) ∧ g_has = (if c_has = true then 1 else 0) ∧ (c_has = false → g_at = nI c_at ∧ g_scope = nI c_e) ∧ (c_has = true → g_valueKind = nI c_k ∧ g_value = c_v) ∧ b_tokens = tok ∧ b_paper = c_out ∧
    yn_M c_H b_names b_nameKinds b_nameValues b_nameOuter ∧ ∃ (len : Nat → Nat) (nod : Nat → Nat → Nat) (ow : Nat → Nat × Nat) (fr : Nat), g_fresh = nI fr ∧ g_spare = nI (yl_k (nod 100) (len 100)) ∧ g_top = nI (yl_k (nod 0) c_d) ∧ yl_P c_d c_s c_R len nod ow fr b_places b_second b_around b_kinds b_values b_outer b_taken
def yf_R (tok : Nat → Int32) (N st k : Nat) (v : Int32) (cl sh ms oc : Nat) (out : Nat → Int32) (w : SY) : Prop := match w with
  | (g_size, g_state, g_sort, g_result, g_shown, g_called, g_shifted, g_most, g_fresh, g_spare, g_top, g_depth, g_bound, g_at, g_scope, g_has, g_valueKind, g_value, b_tokens, b_paper, b_places, b_second, b_around, b_kinds, b_values, b_outer, b_taken, b_names, b_nameKinds, b_nameValues, b_nameOuter) => g_size = nI N ∧ g_state = nI st ∧ g_shown = nI oc ∧ g_called = nI cl ∧ g_shifted = nI sh ∧ g_most = nI ms ∧ b_tokens = tok ∧ b_paper = out ∧ (st = 1 → g_valueKind = nI k ∧ g_value = v)
section
variable {g_size g_state g_sort g_result g_shown g_called g_shifted g_most g_fresh g_spare g_top g_depth g_bound g_at g_scope g_has g_valueKind g_value : Int32} {b_tokens b_paper b_places b_second b_around b_kinds b_values b_outer b_taken b_names b_nameKinds b_nameValues b_nameOuter : Nat → Int32}
variable {c_has : Bool} {c_at c_e c_k : Nat} {c_v : Int32} {c_d : Nat} {c_s : Nat → ab_F} {c_H : ab_H} {c_R : ab_R} {c_cl c_ms c_oc : Nat} {c_out : Nat → Int32}
variable {tok : Nat → Int32} {N fr : Nat} {len : Nat → Nat} {nod : Nat → Nat → Nat} {ow : Nat → Nat × Nat}
theorem yr_mk0 (hm : yn_M c_H b_names b_nameKinds b_nameValues b_nameOuter) (hp : yl_P c_d c_s c_R len nod ow fr b_places b_second b_around b_kinds b_values b_outer b_taken) : yr_R tok N (false, c_at, c_e, c_k, c_v, c_d, c_s, c_H, c_R, c_cl, c_ms, c_oc, c_out) (nI N, 0, g_sort, g_result, nI c_oc, nI c_cl, nI (rs_n c_R), nI c_ms, nI fr, nI (yl_k (nod 100) (len 100)), nI (yl_k (nod 0) c_d), nI c_d, nI (hn_b c_H), nI c_at, nI c_e, 0, g_valueKind, g_value, tok, c_out, b_places, b_second, b_around, b_kinds, b_values, b_outer, b_taken, b_names, b_nameKinds, b_nameValues, b_nameOuter) :=
  ⟨rfl, rfl, rfl, rfl, rfl, rfl, rfl, rfl, rfl, fun _ => ⟨rfl, rfl⟩, fun z => absurd z (by decide), rfl, rfl, hm, len, nod, ow, fr, rfl, rfl, rfl, hp⟩
theorem yr_mk1 (hm : yn_M c_H b_names b_nameKinds b_nameValues b_nameOuter) (hp : yl_P c_d c_s c_R len nod ow fr b_places b_second b_around b_kinds b_values b_outer b_taken) : yr_R tok N (true, c_at, c_e, c_k, c_v, c_d, c_s, c_H, c_R, c_cl, c_ms, c_oc, c_out) (nI N, 0, g_sort, g_result, nI c_oc, nI c_cl, nI (rs_n c_R), nI c_ms, nI fr, nI (yl_k (nod 100) (len 100)), nI (yl_k (nod 0) c_d), nI c_d, nI (hn_b c_H), g_at, g_scope, 1, nI c_k, c_v, tok, c_out, b_places, b_second, b_around, b_kinds, b_values, b_outer, b_taken, b_names, b_nameKinds, b_nameValues, b_nameOuter) :=
  ⟨rfl, rfl, rfl, rfl, rfl, rfl, rfl, rfl, rfl, fun z => absurd z (by decide), fun _ => ⟨rfl, rfl⟩, rfl, rfl, hm, len, nod, ow, fr, rfl, rfl, rfl, hp⟩
theorem yf_mk {st k cl sh ms oc : Nat} {v : Int32} {out : Nat → Int32} (hv : st = 1 → g_valueKind = nI k ∧ g_value = v) :
    yf_R tok N st k v cl sh ms oc out (nI N, nI st, g_sort, g_result, nI oc, nI cl, nI sh, nI ms, g_fresh, g_spare, g_top, g_depth, g_bound, g_at, g_scope, g_has, g_valueKind, g_value, tok, out, b_places, b_second, b_around, b_kinds, b_values, b_outer, b_taken, b_names, b_nameKinds, b_nameValues, b_nameOuter) := ⟨rfl, rfl, rfl, rfl, rfl, rfl, rfl, rfl, hv⟩
end
section
variable {c_has : Bool} {c_at c_e c_k : Nat} {c_v : Int32} {c_d : Nat} {c_s : Nat → ab_F} {c_H : ab_H} {c_R : ab_R} {c_cl c_ms c_oc : Nat} {c_out : Nat → Int32}
variable {tok : Nat → Int32} {N : Nat} {w : SY} {P : SY → Prop}
theorem yr_el0 (h : ∀ (len : Nat → Nat) (nod : Nat → Nat → Nat) (ow : Nat → Nat × Nat) (fr : Nat) (g_sort g_result g_valueKind g_value : Int32) (b_places b_second b_around b_kinds b_values b_outer b_taken b_names b_nameKinds b_nameValues b_nameOuter : Nat → Int32),
      yn_M c_H b_names b_nameKinds b_nameValues b_nameOuter → yl_P c_d c_s c_R len nod ow fr b_places b_second b_around b_kinds b_values b_outer b_taken → P (nI N, 0, g_sort, g_result, nI c_oc, nI c_cl, nI (rs_n c_R), nI c_ms, nI fr, nI (yl_k (nod 100) (len 100)), nI (yl_k (nod 0) c_d), nI c_d, nI (hn_b c_H), nI c_at, nI c_e, 0, g_valueKind, g_value, tok, c_out, b_places, b_second, b_around, b_kinds, b_values, b_outer, b_taken, b_names, b_nameKinds, b_nameValues, b_nameOuter)) (I : yr_R tok N (false, c_at, c_e, c_k, c_v, c_d, c_s, c_H, c_R, c_cl, c_ms, c_oc, c_out) w) : P w := by
  obtain ⟨g_size, g_state, g_sort, g_result, g_shown, g_called, g_shifted, g_most, g_fresh, g_spare, g_top, g_depth, g_bound, g_at, g_scope, g_has, g_valueKind, g_value, b_tokens, b_paper, b_places, b_second, b_around, b_kinds, b_values, b_outer, b_taken, b_names, b_nameKinds, b_nameValues, b_nameOuter⟩ := w
  obtain ⟨e1, e2, e3, e4, e5, e6, e7, e8, e9, e10, e11, e12, e13, hm, len, nod, ow, fr, e14, e15, e16, hp⟩ := I
  obtain ⟨e17, e18⟩ := e10 rfl
  have e9' : g_has = 0 := e9
  subst e1 e2 e3 e4 e5 e6 e7 e8 e9' e12 e13 e14 e15 e16 e17 e18
  exact h len nod ow fr _ _ _ _ _ _ _ _ _ _ _ _ _ _ _ hm hp
theorem yr_el1 (h : ∀ (len : Nat → Nat) (nod : Nat → Nat → Nat) (ow : Nat → Nat × Nat) (fr : Nat) (g_sort g_result g_at g_scope : Int32) (b_places b_second b_around b_kinds b_values b_outer b_taken b_names b_nameKinds b_nameValues b_nameOuter : Nat → Int32),
      yn_M c_H b_names b_nameKinds b_nameValues b_nameOuter → yl_P c_d c_s c_R len nod ow fr b_places b_second b_around b_kinds b_values b_outer b_taken → P (nI N, 0, g_sort, g_result, nI c_oc, nI c_cl, nI (rs_n c_R), nI c_ms, nI fr, nI (yl_k (nod 100) (len 100)), nI (yl_k (nod 0) c_d), nI c_d, nI (hn_b c_H), g_at, g_scope, 1, nI c_k, c_v, tok, c_out, b_places, b_second, b_around, b_kinds, b_values, b_outer, b_taken, b_names, b_nameKinds, b_nameValues, b_nameOuter)) (I : yr_R tok N (true, c_at, c_e, c_k, c_v, c_d, c_s, c_H, c_R, c_cl, c_ms, c_oc, c_out) w) : P w := by
  obtain ⟨g_size, g_state, g_sort, g_result, g_shown, g_called, g_shifted, g_most, g_fresh, g_spare, g_top, g_depth, g_bound, g_at, g_scope, g_has, g_valueKind, g_value, b_tokens, b_paper, b_places, b_second, b_around, b_kinds, b_values, b_outer, b_taken, b_names, b_nameKinds, b_nameValues, b_nameOuter⟩ := w
  obtain ⟨e1, e2, e3, e4, e5, e6, e7, e8, e9, e10, e11, e12, e13, hm, len, nod, ow, fr, e14, e15, e16, hp⟩ := I
  obtain ⟨e17, e18⟩ := e11 rfl
  have e9' : g_has = 1 := e9
  subst e1 e2 e3 e4 e5 e6 e7 e8 e9' e12 e13 e14 e15 e16 e17 e18
  exact h len nod ow fr _ _ _ _ _ _ _ _ _ _ _ _ _ _ _ hm hp
end
section
variable {c_has : Bool} {c_at c_e c_k : Nat} {c_v : Int32} {c_d : Nat} {c_s : Nat → ab_F} {c_H : ab_H} {c_R : ab_R} {c_cl c_ms c_oc : Nat} {c_out : Nat → Int32}
variable {tn : Nat → Nat} {tok : Nat → Int32} {N : Nat} {w : SY} {post : SY → Prop}
theorem yw_num (I : yr_R tok N (false, c_at, c_e, c_k, c_v, c_d, c_s, c_H, c_R, c_cl, c_ms, c_oc, c_out) w) (hk : tb_T tn tok N) (hat : c_at < N) (hN : N ≤ 32) (ht : 80 ≤ tn c_at)
    (K : ∀ w', yr_R tok N (true, c_at, c_e, 1, nI (tn c_at) - 100, c_d, c_s, c_H, c_R, c_cl, c_ms, c_oc, c_out) w' → post w') : wpY_enter post w := by
  refine yr_el0 (P := fun w => wpY_enter post w) ?_ I
  intro len nod ow fr g_sort g_result g_valueKind g_value b_places b_second b_around b_kinds b_values b_outer b_taken b_names b_nameKinds b_nameValues b_nameOuter hm hp
  have htl := tb_lt (hk c_at hat).2
  have htk : tok (nI c_at).toNatClampNeg = nI (tn c_at) := by rw [nI_clamp (by omega)]; exact (hk c_at hat).1
  refine ⟨vp_in_nI (by omega) (by decide), nm_r htk (br_f (nI_nlt (b := 80) ht (by omega)) ?_)⟩
  exact K _ (yr_mk1 hm hp)
theorem yw_look (I : yr_R tok N (false, c_at, c_e, c_k, c_v, c_d, c_s, c_H, c_R, c_cl, c_ms, c_oc, c_out) w) (hk : tb_T tn tok N) (hat : c_at < N) (hN : N ≤ 32) (hb : hn_b c_H < 12000) (ht : tn c_at < 40) (hx : tn c_at - 30 ∈ sg_s tn c_at) (hE : ab_E c_H (sg_s tn c_at) c_e) (hl : ∀ y, y ∈ sg_s tn c_at → y < 2 ^ 31)
    (K : ∀ w', yr_R tok N (true, c_at, c_e, hn_k c_H (ab_u c_H (sg_i (tn c_at - 30) (sg_s tn c_at)) c_e), hn_v c_H (ab_u c_H (sg_i (tn c_at - 30) (sg_s tn c_at)) c_e), c_d, c_s, c_H, c_R, c_cl, c_ms, c_oc, c_out) w' → post w') : wpY_enter post w := by
  refine yr_el0 (P := fun w => wpY_enter post w) ?_ I
  intro len nod ow fr g_sort g_result g_valueKind g_value b_places b_second b_around b_kinds b_values b_outer b_taken b_names b_nameKinds b_nameValues b_nameOuter hm hp
  have htl := tb_lt (hk c_at hat).2
  have htk : tok (nI c_at).toNatClampNeg = nI (tn c_at) := by rw [nI_clamp (by omega)]; exact (hk c_at hat).1
  refine ⟨vp_in_nI (by omega) (by decide), nm_r htk (br_t (nI_lt (b := 80) (by omega) (by decide)) (br_f (nI_ge (b := 40) (by omega) (by decide)) ?_))⟩
  have e30 : nI (tn c_at) - 30 = nI (tn c_at - 30) := pk_sub (b := 30) (by omega)
  rw [e30]
  exact yo_find hm hb (by omega) hE hl (fun _ => K _ (yr_mk1 hm hp)) (fun z => absurd hx z)
theorem yw_none (I : yr_R tok N (false, c_at, c_e, c_k, c_v, c_d, c_s, c_H, c_R, c_cl, c_ms, c_oc, c_out) w) (hk : tb_T tn tok N) (hat : c_at < N) (hN : N ≤ 32) (hb : hn_b c_H < 12000) (ht : tn c_at < 40) (hx : ¬ tn c_at - 30 ∈ sg_s tn c_at) (hE : ab_E c_H (sg_s tn c_at) c_e) (hl : ∀ y, y ∈ sg_s tn c_at → y < 2 ^ 31)
    (K : ∀ w', yf_R tok N 2 0 0 c_cl (rs_n c_R) c_ms c_oc c_out w' → post w') : wpY_enter post w := by
  refine yr_el0 (P := fun w => wpY_enter post w) ?_ I
  intro len nod ow fr g_sort g_result g_valueKind g_value b_places b_second b_around b_kinds b_values b_outer b_taken b_names b_nameKinds b_nameValues b_nameOuter hm hp
  have htl := tb_lt (hk c_at hat).2
  have htk : tok (nI c_at).toNatClampNeg = nI (tn c_at) := by rw [nI_clamp (by omega)]; exact (hk c_at hat).1
  refine ⟨vp_in_nI (by omega) (by decide), nm_r htk (br_t (nI_lt (b := 80) (by omega) (by decide)) (br_f (nI_ge (b := 40) (by omega) (by decide)) ?_))⟩
  have e30 : nI (tn c_at) - 30 = nI (tn c_at - 30) := pk_sub (b := 30) (by omega)
  rw [e30]
  exact yo_find hm hb (by omega) hE hl (fun z => absurd z hx) (fun _ => K _ (yf_mk (st := 2) (fun z => absurd z (by decide))))
theorem yw_fun (I : yr_R tok N (false, c_at, c_e, c_k, c_v, c_d, c_s, c_H, c_R, c_cl, c_ms, c_oc, c_out) w) (hk : tb_T tn tok N) (hat : c_at < N) (hN : N ≤ 32) (ht : 40 ≤ tn c_at ∧ tn c_at < 46)
    (K : ∀ w', yr_R tok N (true, c_at, c_e, 2, nI (64 * c_e + c_at), c_d, c_s, c_H, c_R, c_cl, c_ms, c_oc, c_out) w' → post w') : wpY_enter post w := by
  refine yr_el0 (P := fun w => wpY_enter post w) ?_ I
  intro len nod ow fr g_sort g_result g_valueKind g_value b_places b_second b_around b_kinds b_values b_outer b_taken b_names b_nameKinds b_nameValues b_nameOuter hm hp
  have htl := tb_lt (hk c_at hat).2
  have htk : tok (nI c_at).toNatClampNeg = nI (tn c_at) := by rw [nI_clamp (by omega)]; exact (hk c_at hat).1
  refine ⟨vp_in_nI (by omega) (by decide), nm_r htk (br_t (nI_lt (b := 80) (by omega) (by decide)) (br_t (nI_le (a := 40) ht.1 (by omega)) (br_f (nI_ge (b := 46) ht.2 (by decide)) ?_)))⟩
  have e64 : (64 * nI c_e) + nI c_at = nI (64 * c_e + c_at) := by rw [show (64 : Int32) = nI 64 from rfl, pk_mul, nI_add]
  rw [e64]
  exact K _ (yr_mk1 hm hp)
theorem yw_push (I : yr_R tok N (false, c_at, c_e, c_k, c_v, c_d, c_s, c_H, c_R, c_cl, c_ms, c_oc, c_out) w) (hk : tb_T tn tok N) (hat : c_at < N) (hN : N ≤ 32) (hd : c_d < 16) (hms : c_ms ≤ 16) (hn : rs_n c_R ≤ 8) (hR : ∀ r, rs_l c_R r ≤ 15) (ht : 52 ≤ tn c_at ∧ tn c_at < 66)
    (K : ∀ w', yr_R tok N (false, c_at + 1, c_e, c_k, c_v, c_d + 1, ab_psh c_s c_d (ab_kd (tn c_at), c_at, c_e, 0, 0), c_H, c_R, c_cl, ab_mx (c_d + 1) c_ms, c_oc, c_out) w' → post w') : wpY_enter post w := by
  refine yr_el0 (P := fun w => wpY_enter post w) ?_ I
  intro len nod ow fr g_sort g_result g_valueKind g_value b_places b_second b_around b_kinds b_values b_outer b_taken b_names b_nameKinds b_nameValues b_nameOuter hm hp
  have htk : tok (nI c_at).toNatClampNeg = nI (tn c_at) := by rw [nI_clamp (by omega)]; exact (hk c_at hat).1
  refine ⟨vp_in_nI (by omega) (by decide), nm_r htk (br_t (nI_lt (b := 80) (by omega) (by decide)) (br_t (nI_le (a := 40) (by omega) (by omega)) (br_t (nI_le (a := 46) (by omega) (by omega)) (br_t (nI_lt (b := 70) (by omega) (by decide)) ?_))))⟩
  have hgen : ∀ p0 : Int32, ((ab_kd (tn c_at) = 4 → p0 = -1) ∧ (ab_kd (tn c_at) ≠ 4 → p0 = nI c_at)) → wY_enter_103 post p0 (nI N) 0 g_sort g_result (nI c_oc) (nI c_cl) (nI (rs_n c_R)) (nI c_ms) (nI fr) (nI (yl_k (nod 100) (len 100))) (nI (yl_k (nod 0) c_d)) (nI c_d) (nI (hn_b c_H)) (nI c_at) (nI c_e) 0 g_valueKind g_value tok c_out b_places b_second b_around b_kinds b_values b_outer b_taken b_names b_nameKinds b_nameValues b_nameOuter := by
    intro p0 h0
    unfold wY_enter_103
    refine yo_push (g := (ab_kd (tn c_at), c_at, c_e, 0, 0)) hp hd hms hn hR ⟨h0.1, fun z => ⟨h0.2 z, rfl, ?_⟩⟩ ?_
    · show ab_kd (tn c_at) ≠ 1
      unfold ab_kd
      repeat' split
      all_goals decide
    · intro len2 nod2 ow2 fr2 pl2 sec2 aro2 out2 P2
      show wpY_go _ _ (nI c_at + 1)
      rw [nI_1]
      exact K _ (yr_mk0 hm P2)
  refine pk_eq (tn c_at) 59 (fun h => hgen _ ⟨fun _ => rfl, fun z => absurd (by rw [h]; rfl) z⟩) (fun h => hgen _ ⟨fun z => ?_, fun _ => rfl⟩)
  exfalso
  unfold ab_kd at z
  revert z
  repeat' split
  all_goals intro z
  all_goals omega
theorem yw_deep (I : yr_R tok N (false, c_at, c_e, c_k, c_v, c_d, c_s, c_H, c_R, c_cl, c_ms, c_oc, c_out) w) (hk : tb_T tn tok N) (hat : c_at < N) (hN : N ≤ 32) (hd : c_d = 16) (ht : 52 ≤ tn c_at ∧ tn c_at < 66)
    (K : ∀ w', yf_R tok N 4 0 0 c_cl (rs_n c_R) c_ms c_oc c_out w' → post w') : wpY_enter post w := by
  refine yr_el0 (P := fun w => wpY_enter post w) ?_ I
  intro len nod ow fr g_sort g_result g_valueKind g_value b_places b_second b_around b_kinds b_values b_outer b_taken b_names b_nameKinds b_nameValues b_nameOuter hm hp
  have htk : tok (nI c_at).toNatClampNeg = nI (tn c_at) := by rw [nI_clamp (by omega)]; exact (hk c_at hat).1
  refine ⟨vp_in_nI (by omega) (by decide), nm_r htk (br_t (nI_lt (b := 80) (by omega) (by decide)) (br_t (nI_le (a := 40) (by omega) (by omega)) (br_t (nI_le (a := 46) (by omega) (by omega)) (br_t (nI_lt (b := 70) (by omega) (by decide)) ?_))))⟩
  have hgen : ∀ p0 : Int32, wY_enter_103 post p0 (nI N) 0 g_sort g_result (nI c_oc) (nI c_cl) (nI (rs_n c_R)) (nI c_ms) (nI fr) (nI (yl_k (nod 100) (len 100))) (nI (yl_k (nod 0) c_d)) (nI c_d) (nI (hn_b c_H)) (nI c_at) (nI c_e) 0 g_valueKind g_value tok c_out b_places b_second b_around b_kinds b_values b_outer b_taken b_names b_nameKinds b_nameValues b_nameOuter := by
    intro p0
    unfold wY_enter_103
    refine br_f (nI_nlt (b := 16) (by omega) (by omega)) ?_
    exact K _ (yf_mk (st := 4) (fun z => absurd z (by decide)))
  exact br_c (fun _ => hgen _) (fun _ => hgen _)
theorem yw_slong (I : yr_R tok N (false, c_at, c_e, c_k, c_v, c_d, c_s, c_H, c_R, c_cl, c_ms, c_oc, c_out) w) (hk : tb_T tn tok N) (hat : c_at < N) (hN : N ≤ 32) (hsh : rs_n c_R = 8) (ht : 70 ≤ tn c_at ∧ tn c_at < 76)
    (K : ∀ w', yf_R tok N 3 0 0 c_cl (rs_n c_R) c_ms c_oc c_out w' → post w') : wpY_enter post w := by
  refine yr_el0 (P := fun w => wpY_enter post w) ?_ I
  intro len nod ow fr g_sort g_result g_valueKind g_value b_places b_second b_around b_kinds b_values b_outer b_taken b_names b_nameKinds b_nameValues b_nameOuter hm hp
  have htk : tok (nI c_at).toNatClampNeg = nI (tn c_at) := by rw [nI_clamp (by omega)]; exact (hk c_at hat).1
  refine ⟨vp_in_nI (by omega) (by decide), nm_r htk (br_t (nI_lt (b := 80) (by omega) (by decide)) (br_t (nI_le (a := 40) (by omega) (by omega)) (br_t (nI_le (a := 46) (by omega) (by omega)) (br_f (nI_nlt (b := 70) (by omega) (by omega)) ?_))))⟩
  have h8 : nI (rs_n c_R) = 8 := by rw [hsh]; rfl
  refine br_t h8 ?_
  exact K _ (yf_mk (st := 3) (fun z => absurd z (by decide)))
end
end
section
/-! the reference's shift -/
-- base E g_size=nI N; g_state=0; g_shown=nI c_oc; g_called=nI c_cl; g_shifted=nI (rs_n c_R); g_most=nI c_ms; g_fresh=nI fr; g_spare=nI (yl_k (nod 100) (len 100)); g_top=nI (yl_k (nod 0) c_d); g_depth=nI c_d; g_bound=nI (hn_b c_H); g_at=nI c_at; g_scope=nI c_e; g_has=0; b_tokens=tok; b_paper=c_out
theorem pm_s_up {g : Nat → Nat} {i v : Nat} (h0 : g i = 0) : ∀ n, pm_s (fun r => if r = i then v else g r) n = pm_s g n + (if i < n then v else 0) := by
  intro n
  induction n with
  | zero => rfl
  | succ n ih =>
    show pm_s (fun r => if r = i then v else g r) n + (if n = i then v else g n) = pm_s g n + g n + _
    rw [ih]
    by_cases h1 : n = i
    · subst h1
      rw [if_pos rfl, if_neg (Nat.lt_irrefl _), if_pos (Nat.lt_succ_self _), h0]
    · rw [if_neg h1]
      by_cases h2 : i < n
      · rw [if_pos h2, if_pos (show i < n + 1 by omega)]; omega
      · rw [if_neg h2, if_neg (show ¬ i < n + 1 by omega)]; omega
section
variable {len : Nat → Nat} {nod : Nat → Nat → Nat} {ow : Nat → Nat × Nat} {fr d m sh : Nat} {out pl sec aro kin vals tak : Nat → Int32} {s : Nat → ab_F} {R : ab_R}
def yh_len (len : Nat → Nat) (m sh tk : Nat) : Nat → Nat := fun q => if q = sh + 1 then tk else if q = 0 then m + 1 else len q
def yh_nod (nod : Nat → Nat → Nat) (m sh : Nat) : Nat → Nat → Nat := fun q f => if q = sh + 1 then nod 0 (m + 1 + f) else nod q f
def yh_ow (ow : Nat → Nat × Nat) (m sh : Nat) : Nat → Nat × Nat := fun x => if (ow x).1 = 0 ∧ m < (ow x).2 then (sh + 1, (ow x).2 - (m + 1)) else ow x
theorem yh_P {tk : Nat} {out' : Nat → Int32} (P : yl_P d s R len nod ow fr pl sec aro kin vals out tak) (hm : m + 1 + tk = d) (hn : rs_n R < 8)
    (ho : (tk = 0 ∧ out' = out) ∨ (0 < tk ∧ out' = upd out (nod 0 (m + 1)) 0)) :
    yl_P (m + 1) s (rs_add R tk (fun j => s (m + 1 + j))) (yh_len len m (rs_n R) tk) (yh_nod nod m (rs_n R)) (yh_ow ow m (rs_n R)) fr pl sec aro kin vals out' (upd tak (rs_n R) (nI (if tk = 0 then 0 else nod 0 (d - 1)))) := by
  obtain ⟨⟨L, hf⟩, C, h0, h1, h2, h3⟩ := P
  have hsh0 : len (rs_n R + 1) = 0 := h2 (rs_n R) (Nat.le_refl _) hn
  have hou : ∀ q f, f < len q → (q = 0 → f ≠ m + 1) → out' (nod q f) = out (nod q f) := by
    intro q f hqf hne
    rcases ho with ⟨_, rfl⟩ | ⟨htk, rfl⟩
    · rfl
    · rw [pk_un]
      intro e
      have := yl_inj L hqf (show m + 1 < len 0 by omega) e
      exact hne this.1 this.2
  refine ⟨⟨fun q f hqf => ?_, ?_⟩, ⟨fun f hf2 => ?_, fun r hr j hj => ?_⟩, ?_, fun r hr => ?_, fun r hr hr2 => ?_, h3⟩
  · by_cases hq : q = rs_n R + 1
    · subst hq
      have e1 : yh_len len m (rs_n R) tk (rs_n R + 1) = tk := if_pos rfl
      rw [e1] at hqf
      have e2 : ∀ f, yh_nod nod m (rs_n R) (rs_n R + 1) f = nod 0 (m + 1 + f) := fun f => if_pos rfl
      have hL := L 0 (m + 1 + f) (by omega)
      rw [e2]
      refine ⟨hL.1, hL.2.1, ?_, ?_⟩
      · unfold yh_ow
        rw [hL.2.2.1, if_pos ⟨rfl, by show m < m + 1 + f; omega⟩]
        show (rs_n R + 1, m + 1 + f - (m + 1)) = (rs_n R + 1, f)
        rw [show m + 1 + f - (m + 1) = f from by omega]
      · cases f with
        | zero =>
          rcases ho with ⟨htk, _⟩ | ⟨htk, rfl⟩
          · omega
          · rw [Nat.add_zero, pk_us]; rfl
        | succ f =>
          rw [hou 0 (m + 1 + (f + 1)) (by omega) (by omega), hL.2.2.2, yl_ks, e2]
          rfl
    · have e2 : yh_nod nod m (rs_n R) q = nod q := by funext f; exact if_neg hq
      have hqf2 : f < len q ∧ (q = 0 → f ≤ m) := by
        by_cases hq0 : q = 0
        · subst hq0
          have e1 : yh_len len m (rs_n R) tk 0 = m + 1 := by unfold yh_len; rw [if_neg (by omega), if_pos rfl]
          rw [e1] at hqf
          exact ⟨by omega, fun _ => by omega⟩
        · have e1 : yh_len len m (rs_n R) tk q = len q := by unfold yh_len; rw [if_neg hq, if_neg hq0]
          rw [e1] at hqf
          exact ⟨hqf, fun z => absurd z hq0⟩
      have hL := L q f hqf2.1
      rw [e2]
      refine ⟨hL.1, hL.2.1, ?_, ?_⟩
      · unfold yh_ow
        rw [hL.2.2.1, if_neg]
        rintro ⟨z1, z2⟩
        have z1' : q = 0 := z1
        have z2' : m < f := z2
        have := hqf2.2 z1'
        omega
      · rw [hou q f hqf2.1 (fun z => by have := hqf2.2 z; omega)]
        exact hL.2.2.2
  · have e0 : yh_len len m (rs_n R) tk 0 = m + 1 := by unfold yh_len; rw [if_neg (by omega), if_pos rfl]
    have e100 : yh_len len m (rs_n R) tk 100 = len 100 := by unfold yh_len; rw [if_neg (by omega), if_neg (by decide)]
    have es : pm_s (fun r => yh_len len m (rs_n R) tk (r + 1)) 8 = pm_s (fun r => if r = rs_n R then tk else len (r + 1)) 8 := by
      apply pm_s_eq
      intro i hi
      show yh_len len m (rs_n R) tk (i + 1) = if i = rs_n R then tk else len (i + 1)
      unfold yh_len
      by_cases hi2 : i = rs_n R
      · rw [if_pos (by omega), if_pos hi2]
      · rw [if_neg (by omega), if_neg (by omega), if_neg hi2]
    have e50 : yh_len len m (rs_n R) tk 50 = len 50 := by unfold yh_len; rw [if_neg (by omega), if_neg (by decide)]
    rw [e0, e100, e50, es, pm_s_up (g := fun r => len (r + 1)) hsh0, if_pos hn]
    omega
  · have e2 : yh_nod nod m (rs_n R) 0 f = nod 0 f := if_neg (by omega)
    rw [e2]; exact C.1 f (by omega)
  · by_cases hr2 : r = rs_n R
    · subst hr2
      have e2 : yh_nod nod m (rs_n R) (rs_n R + 1) j = nod 0 (m + 1 + j) := if_pos rfl
      rw [rs_add_l'] at hj
      rw [e2, rs_add_f']
      exact C.1 (m + 1 + j) (by omega)
    · rw [rs_add_n] at hr
      have e2 : yh_nod nod m (rs_n R) (r + 1) j = nod (r + 1) j := if_neg (by omega)
      rw [rs_add_l hr2] at hj
      rw [e2, rs_add_f hr2]
      exact C.2 r (by omega) j hj
  · unfold yh_len; rw [if_neg (by omega), if_pos rfl]
  · by_cases hr2 : r = rs_n R
    · subst hr2
      have e1 : yh_len len m (rs_n R) tk (rs_n R + 1) = tk := if_pos rfl
      rw [e1, rs_add_l', pk_us]
      refine ⟨rfl, ?_⟩
      cases tk with
      | zero => rfl
      | succ t =>
        rw [yl_ks, if_neg (by omega)]
        have e2 : yh_nod nod m (rs_n R) (rs_n R + 1) t = nod 0 (m + 1 + t) := if_pos rfl
        rw [e2, show d - 1 = m + 1 + t from by omega]
    · rw [rs_add_n] at hr
      have e1 : yh_len len m (rs_n R) tk (r + 1) = len (r + 1) := by unfold yh_len; rw [if_neg (by omega), if_neg (by omega)]
      have e2 : yh_nod nod m (rs_n R) (r + 1) = nod (r + 1) := by funext f; exact if_neg (by omega)
      rw [e1, e2, rs_add_l hr2, pk_un hr2]
      exact h1 r (by omega)
  · rw [rs_add_n] at hr
    have e1 : yh_len len m (rs_n R) tk (r + 1) = len (r + 1) := by unfold yh_len; rw [if_neg (by omega), if_neg (by omega)]
    rw [e1]
    exact h2 r (by omega) hr2
end
section
variable {g_size g_state g_sort g_result g_shown g_called g_shifted g_most g_fresh g_spare g_top g_depth g_bound g_at g_scope g_has g_valueKind g_value : Int32} {b_tokens b_paper b_places b_second b_around b_kinds b_values b_outer b_taken b_names b_nameKinds b_nameValues b_nameOuter : Nat → Int32}
variable {len : Nat → Nat} {nod : Nat → Nat → Nat} {ow : Nat → Nat × Nat} {fr d m : Nat} {s : Nat → ab_F} {R : ab_R} {post : SY → Prop} {x1 : Int32}
/-- the way down to the mark -/
theorem yh_22 (P : yl_P d s R len nod ow fr b_places b_second b_around b_kinds b_values b_outer b_taken) (hd : d ≤ 16) (hm : m < d) (hm4 : fr_d (s m) = 4) (hmf : ∀ f, m < f → f < d → fr_d (s f) ≠ 4) (hp : ∀ f, f < d → fr_p (s f) < 64)
    (K : ((nI (if m + 1 = d then 0 else nod 0 (m + 1)) = 0 → wY_shift_74 post x1 (nI (if m + 1 = d then 0 else nod 0 (m + 1))) (nI (nod 0 m)) 0 g_shifted g_size g_state g_sort g_result g_shown g_called g_shifted g_most g_fresh g_spare g_top (nI (m + 1)) g_bound g_at g_scope g_has g_valueKind g_value b_tokens b_paper b_places b_second b_around b_kinds b_values b_outer b_taken b_names b_nameKinds b_nameValues b_nameOuter) ∧ (¬ nI (if m + 1 = d then 0 else nod 0 (m + 1)) = 0 → wY_shift_74 post x1 (nI (if m + 1 = d then 0 else nod 0 (m + 1))) (nI (nod 0 m)) g_top g_shifted g_size g_state g_sort g_result g_shown g_called g_shifted g_most g_fresh g_spare g_top (nI (m + 1)) g_bound g_at g_scope g_has g_valueKind g_value b_tokens b_paper b_places b_second b_around b_kinds b_values b_outer b_taken b_names b_nameKinds b_nameValues b_nameOuter))) :
    ∀ n i, m ≤ i → i < d → i - m < n → wY_shift_22 post x1 g_size g_state g_sort g_result g_shown g_called g_shifted g_most g_fresh g_spare g_top g_bound g_at g_scope g_has g_valueKind g_value b_tokens b_paper b_places b_second b_around b_kinds b_values b_outer b_taken b_names b_nameKinds b_nameValues b_nameOuter n (nI (if i + 1 = d then 0 else nod 0 (i + 1))) (nI (nod 0 i)) (nI (i + 1)) := by
  obtain ⟨⟨L, hfr⟩, C, h0, h1, h2, h3⟩ := P
  intro n
  induction n with
  | zero => intro i _ _ h; omega
  | succ n ih =>
    intro i hi1 hi2 hi3
    have hL := L 0 i (by omega)
    have c1 : (nI (nod 0 i)).toNatClampNeg = nod 0 i := nI_clamp (by omega)
    have i1 : vp_in (nI (nod 0 i)) 200 := vp_in_nI (by omega) (by decide)
    have hC := C.1 i hi2
    rcases Nat.eq_or_lt_of_le hi1 with h4 | h4
    · subst h4
      have h5 : b_places (nI (nod 0 m)).toNatClampNeg = -1 := by rw [c1]; exact hC.1 hm4
      exact ⟨i1, br_t h5 K⟩
    · have h5 : ¬ b_places (nI (nod 0 i)).toNatClampNeg = -1 := by
        rw [c1, (hC.2 (hmf i h4 hi2)).1]
        have := hp i hi2
        exact nb_ne1 (by omega)
      obtain ⟨i', rfl⟩ : ∃ i', i = i' + 1 := ⟨i - 1, by omega⟩
      have e1 : b_outer (nI (nod 0 (i' + 1))).toNatClampNeg = nI (nod 0 i') := by rw [c1, hL.2.2.2, yl_ks]
      have ih2 := ih i' (by omega) (by omega) (by omega)
      rw [if_neg (show ¬ i' + 1 = d by omega)] at ih2
      exact ⟨i1, br_f h5 ⟨i1, nm_r e1 (nm_r (nI_pred (i' + 1)) ih2)⟩⟩
end
section
variable {c_has : Bool} {c_at c_e c_k : Nat} {c_v : Int32} {c_d : Nat} {c_s : Nat → ab_F} {c_H : ab_H} {c_R : ab_R} {c_cl c_ms c_oc : Nat} {c_out : Nat → Int32}
variable {tn : Nat → Nat} {tok : Nat → Int32} {N : Nat} {w : SY} {post : SY → Prop}
theorem yw_shift (I : yr_R tok N (false, c_at, c_e, c_k, c_v, c_d, c_s, c_H, c_R, c_cl, c_ms, c_oc, c_out) w) (hk : tb_T tn tok N) (hat : c_at < N) (hN : N ≤ 32) (hsh : rs_n c_R < 8) (hd : c_d ≤ 16) (hb : hn_b c_H + 1 < 12000) (ht : 70 ≤ tn c_at ∧ tn c_at < 76)
    {m : Nat} (hm : m < c_d) (hm4 : fr_d (c_s m) = 4) (hmf : ∀ f, m < f → f < c_d → fr_d (c_s f) ≠ 4) (hpp : ∀ f, f < c_d → fr_p (c_s f) < 64)
    (K : ∀ w', yr_R tok N (false, c_at + 1, hn_b c_H + 1, 3, nI (rs_n c_R), m + 1, c_s, hn_add c_H (tn c_at - 70) 3 (nI (rs_n c_R)) c_e, rs_add c_R (c_d - 1 - m) (fun j => c_s (m + 1 + j)), c_cl, c_ms, c_oc, c_out) w' → post w') : wpY_enter post w := by
  refine yr_el0 (P := fun w => wpY_enter post w) ?_ I
  intro len nod ow fr g_sort g_result g_valueKind g_value b_places b_second b_around b_kinds b_values b_outer b_taken b_names b_nameKinds b_nameValues b_nameOuter hM hp
  have htk : tok (nI c_at).toNatClampNeg = nI (tn c_at) := by rw [nI_clamp (by omega)]; exact (hk c_at hat).1
  refine ⟨vp_in_nI (by omega) (by decide), nm_r htk (br_t (nI_lt (b := 80) (by omega) (by decide)) (br_t (nI_le (a := 40) (by omega) (by omega)) (br_t (nI_le (a := 46) (by omega) (by omega)) (br_f (nI_nlt (b := 70) (by omega) (by omega)) ?_))))⟩
  have e70 : nI (tn c_at) - 70 = nI (tn c_at - 70) := pk_sub (b := 70) (by omega)
  rw [e70]
  have h8 : ¬ nI (rs_n c_R) = 8 := nb_ne (b := 8) (by omega) (by decide) (by omega)
  obtain ⟨d', hd'⟩ : ∃ d', c_d = d' + 1 := ⟨c_d - 1, by omega⟩
  have hp2 := hp
  obtain ⟨⟨L, hfr⟩, C, h0, h1, h2, h3⟩ := hp2
  have hLm := L 0 m (by omega)
  have i8 : vp_in (nI (rs_n c_R)) 8 := vp_in_nI hsh (by decide)
  have c8 : (nI (rs_n c_R)).toNatClampNeg = rs_n c_R := nI_clamp (by omega)
  have hfin : ∀ out' tak' : Nat → Int32, yl_P (m + 1) c_s (rs_add c_R (c_d - 1 - m) (fun j => c_s (m + 1 + j))) (yh_len len m (rs_n c_R) (c_d - 1 - m)) (yh_nod nod m (rs_n c_R)) (yh_ow ow m (rs_n c_R)) fr b_places b_second b_around b_kinds b_values out' tak' →
      wY_shift_86 post (nI (tn c_at - 70)) (nI (nod 0 m)) (nI N) 0 g_sort g_result (nI c_oc) (nI c_cl) (nI (rs_n c_R)) (nI c_ms) (nI fr) (nI (yl_k (nod 100) (len 100))) (nI (yl_k (nod 0) c_d)) (nI (m + 1)) (nI (hn_b c_H)) (nI c_at) (nI c_e) 0 g_valueKind g_value tok c_out b_places b_second b_around b_kinds b_values out' tak' b_names b_nameKinds b_nameValues b_nameOuter := by
    intro out' tak' P2
    unfold wY_shift_86
    refine yo_bind (k := 3) (v := nI (rs_n c_R)) hM hb ?_
    intro nm2 nk2 nv2 no2 M2
    refine nm_r (nI_1 (rs_n c_R)) ?_
    show wpY_go _ _ (nI c_at + 1)
    rw [nI_1]
    have e0 : yh_nod nod m (rs_n c_R) 0 = nod 0 := by funext f; exact if_neg (by omega)
    have e100 : yh_nod nod m (rs_n c_R) 100 = nod 100 := by funext f; exact if_neg (by omega)
    have el : yh_len len m (rs_n c_R) (c_d - 1 - m) 100 = len 100 := by unfold yh_len; rw [if_neg (by omega), if_neg (by decide)]
    have K2 := fun w' h => K w' h
    have hmk := yr_mk0 (tok := tok) (N := N) (g_sort := g_sort) (g_result := g_result) (g_valueKind := g_valueKind) (g_value := g_value) (c_at := c_at + 1) (c_e := hn_b c_H + 1) (c_k := 3) (c_v := nI (rs_n c_R)) (c_cl := c_cl) (c_ms := c_ms) (c_oc := c_oc) (c_out := c_out) M2 P2
    rw [e0, e100, el, yl_ks] at hmk
    exact K _ hmk
  refine br_f h8 ⟨17, ?_⟩
  have hl := yh_22 (post := post) (x1 := nI (tn c_at - 70)) (g_size := nI N) (g_state := 0) (g_sort := g_sort) (g_result := g_result) (g_shown := nI c_oc) (g_called := nI c_cl) (g_shifted := nI (rs_n c_R)) (g_most := nI c_ms) (g_fresh := nI fr) (g_spare := nI (yl_k (nod 100) (len 100))) (g_top := nI (yl_k (nod 0) c_d)) (g_bound := nI (hn_b c_H)) (g_at := nI c_at) (g_scope := nI c_e) (g_has := 0) (g_valueKind := g_valueKind) (g_value := g_value) (b_tokens := tok) (b_paper := c_out) (b_names := b_names) (b_nameKinds := b_nameKinds) (b_nameValues := b_nameValues) (b_nameOuter := b_nameOuter) hp hd hm hm4 hmf hpp ?_ 17 d' (by omega) (by omega) (by omega)
  · rw [if_pos hd'.symm, ← hd'] at hl
    have e9 : nI (yl_k (nod 0) c_d) = nI (nod 0 d') := by rw [hd', yl_ks]
    rw [e9] at hl ⊢
    exact hl
  · by_cases hmd : m + 1 = c_d
    · rw [if_pos hmd]
      refine br_t rfl ?_
      refine ⟨i8, nm_r (e' := upd b_taken (rs_n c_R) 0) (by rw [c8]) (br_t rfl (hfin _ _ ?_))⟩
      have hP := yh_P (m := m) (tk := c_d - 1 - m) (out' := b_outer) hp (by omega) hsh (Or.inl ⟨by omega, rfl⟩)
      rw [if_pos (show c_d - 1 - m = 0 by omega)] at hP
      exact hP
    · rw [if_neg hmd]
      have hL1 := L 0 (m + 1) (by omega)
      have hne : ¬ nI (nod 0 (m + 1)) = 0 := nI_ne0 (by omega) (by omega)
      refine br_f hne ?_
      refine ⟨i8, nm_r (e' := upd b_taken (rs_n c_R) (nI (yl_k (nod 0) c_d))) (by rw [c8]) (br_f hne ⟨vp_in_nI (by omega) (by decide), nm_r (e' := upd b_outer (nod 0 (m + 1)) 0) (by rw [nI_clamp (by omega)]) (hfin _ _ ?_)⟩)⟩
      have hP := yh_P (m := m) (tk := c_d - 1 - m) (out' := upd b_outer (nod 0 (m + 1)) 0) hp (by omega) hsh (Or.inr ⟨by omega, rfl⟩)
      rw [if_neg (show ¬ c_d - 1 - m = 0 by omega)] at hP
      rw [hd', yl_ks]
      rw [hd', show d' + 1 - 1 = d' from rfl] at hP
      exact hP
end
end
section
/-! the reference's callTaken: the copy of a rest, node by node -/
section
variable {len : Nat → Nat} {nod : Nat → Nat → Nat} {ow : Nat → Nat × Nat} {fr D n0 i r : Nat} {out pl sec aro kin vals tak : Nat → Int32} {s : Nat → ab_F} {R : ab_R} {cp : Nat → Nat}
/-- i nodes of the rest r are copied, the innermost first; the stack is D + 1 deep -/
def yt_I (D n0 i r : Nat) (s : Nat → ab_F) (R : ab_R) (len : Nat → Nat) (nod : Nat → Nat → Nat) (ow : Nat → Nat × Nat) (fr : Nat) (cp : Nat → Nat) (pl sec aro kin vals out tak : Nat → Int32) : Prop :=
  yl_B len nod ow fr out i ∧ yl_C (D + 1) s R nod pl sec aro kin vals ∧ len 0 = D + 1 ∧ (∀ r, r < rs_n R → len (r + 1) = rs_l R r ∧ tak r = nI (yl_k (nod (r + 1)) (rs_l R r))) ∧ (∀ r, rs_n R ≤ r → r < 8 → len (r + 1) = 0) ∧ fr ≤ 160 ∧
  ∀ g, g < i → 1 ≤ cp g ∧ cp g < fr ∧ ow (cp g) = (50, g) ∧ out (cp g) = nI (if g + 1 = i then nod 0 D else cp (g + 1)) ∧ yl_N (rs_f R r (n0 - 1 - g)) (cp g) pl sec aro kin vals
theorem yt_0 (P : yl_P (D + 1) s R len nod ow fr pl sec aro kin vals out tak) : yt_I D n0 0 r s R len nod ow fr cp pl sec aro kin vals out tak :=
  ⟨P.1, P.2.1, P.2.2.1, P.2.2.2.1, P.2.2.2.2.1, P.2.2.2.2.2, fun g hg => absurd hg (Nat.not_lt_zero _)⟩
theorem yt_ne (I : yt_I D n0 i r s R len nod ow fr cp pl sec aro kin vals out tak) {g q f : Nat} (hg : g < i) (hf : f < len q) : nod q f ≠ cp g := by
  intro e
  have h1 := (I.1.1 q f hf).2.2.1
  rw [e, (I.2.2.2.2.2.2 g hg).2.2.1] at h1
  have h2 : 50 = q := congrArg Prod.fst h1
  subst h2
  have h3 := I.1.2.2
  omega
theorem yt_nn (I : yt_I D n0 i r s R len nod ow fr cp pl sec aro kin vals out tak) {g g' : Nat} (hg : g < i) (hg' : g' < i) (e : cp g = cp g') : g = g' := by
  have h1 := (I.2.2.2.2.2.2 g hg).2.2.1
  rw [e, (I.2.2.2.2.2.2 g' hg').2.2.1] at h1
  exact (congrArg Prod.snd h1).symm
/-- all are copied: they are the stack's upper part -/
theorem yt_end (I : yt_I D n0 n0 r (ab_psh s D (4, 0, 0, 0, 0)) R len nod ow fr cp pl sec aro kin vals out tak) (hn : rs_n R ≤ 8) :
    yl_P (D + 1 + n0) (ab_brk s D (rs_f R r)) R (yl_set len 0 (D + 1 + n0)) (fun q f => if q = 0 ∧ D + 1 ≤ f then cp (D + n0 - f) else nod q f) (fun x => if (ow x).1 = 50 then (0, D + n0 - (ow x).2) else ow x) fr pl sec aro kin vals out tak := by
  have hI := I
  obtain ⟨⟨L, hf, h50⟩, C, h0, h1, h2, h3, hc⟩ := I
  refine ⟨⟨fun q f hqf => ?_, ?_, ?_⟩, ⟨fun f hf2 => ?_, fun r' hr j hj => ?_⟩, yl_set_s, fun r' hr => ?_, fun r' hr hr2 => ?_, h3⟩
  · by_cases hq : q = 0 ∧ D + 1 ≤ f
    · obtain ⟨rfl, hf2⟩ := hq
      rw [yl_set_s] at hqf
      obtain ⟨a1, a2, a3, a4, a5⟩ := hc (D + n0 - f) (by omega)
      have e1 : (if (0 : Nat) = 0 ∧ D + 1 ≤ f then cp (D + n0 - f) else nod 0 f) = cp (D + n0 - f) := if_pos ⟨rfl, hf2⟩
      dsimp only
      rw [e1, a3]
      refine ⟨a1, a2, ?_, ?_⟩
      · rw [if_pos rfl]
        show (0, D + n0 - (D + n0 - f)) = (0, f)
        rw [show D + n0 - (D + n0 - f) = f from by omega]
      · rw [a4]
        obtain ⟨f', rfl⟩ : ∃ f', f = f' + 1 := ⟨f - 1, by omega⟩
        rw [yl_ks]
        rcases Nat.lt_or_ge f' (D + 1) with h5 | h5
        · have h6 : f' = D := by omega
          subst h6
          rw [if_pos (by omega), if_neg (by omega)]
        · rw [if_neg (by omega), if_pos ⟨rfl, h5⟩, show D + n0 - (f' + 1) + 1 = D + n0 - f' from by omega]
    · have hqf2 : f < len q ∧ (q = 0 → f < D + 1) := by
        by_cases hq0 : q = 0
        · subst hq0
          rw [yl_set_s] at hqf
          have : ¬ D + 1 ≤ f := fun z => hq ⟨rfl, z⟩
          exact ⟨by omega, fun _ => by omega⟩
        · rw [yl_set_n hq0] at hqf
          exact ⟨hqf, fun z => absurd z hq0⟩
      have hL := L q f hqf2.1
      have e1 : (if q = 0 ∧ D + 1 ≤ f then cp (D + n0 - f) else nod q f) = nod q f := if_neg hq
      dsimp only
      rw [e1, hL.2.2.1]
      have hq50 : ¬ (q, f).1 = 50 := by
        intro z
        have z' : q = 50 := z
        have := hqf2.1
        rw [z'] at this
        omega
      refine ⟨hL.1, hL.2.1, if_neg hq50, ?_⟩
      rw [hL.2.2.2]
      congr 1
      symm
      apply yl_ke
      intro i hi
      exact if_neg (fun z => by have := hqf2.2 z.1; omega)
  · rw [yl_set_s, yl_set_n (by decide), yl_sum (Or.inl rfl)]
    omega
  · rw [yl_set_n (by decide)]; exact h50
  · rcases Nat.lt_or_ge f (D + 1) with h5 | h5
    · dsimp only
      rw [if_neg (by omega)]
      have e1 : ab_brk s D (rs_f R r) f = ab_psh s D (4, 0, 0, 0, 0) f := if_pos (by omega)
      rw [e1]
      exact C.1 f h5
    · dsimp only
      rw [if_pos ⟨rfl, h5⟩]
      have e1 : ab_brk s D (rs_f R r) f = rs_f R r (f - (D + 1)) := if_neg (by omega)
      rw [e1]
      have h6 := (hc (D + n0 - f) (by omega)).2.2.2.2
      rw [show n0 - 1 - (D + n0 - f) = f - (D + 1) from by omega] at h6
      exact h6
  · dsimp only
    rw [if_neg (by omega)]
    exact C.2 r' hr j hj
  · rw [yl_set_n (by omega)]
    have e1 : (fun f => if r' + 1 = 0 ∧ D + 1 ≤ f then cp (D + n0 - f) else nod (r' + 1) f) = nod (r' + 1) := by funext f; exact if_neg (by omega)
    dsimp only
    rw [e1]
    exact h1 r' hr
  · rw [yl_set_n (by omega)]
    exact h2 r' hr hr2
/-- one more is copied -/
theorem yt_step {n m fr2 : Nat} {len2 : Nat → Nat} {pl' sec' aro' kin' vals' out' : Nat → Int32} (I : yt_I D n0 i r s R len nod ow fr cp pl sec aro kin vals out tak) (hi : i < n0) (hr : r < rs_n R) (hrl : rs_l R r = n0)
    (B2 : yl_B len2 nod ow fr2 out (i + 1)) (O2 : yl_O n len2 nod fr2) (hfr2 : fr2 ≤ 160) (hfr : fr ≤ fr2) (hl2 : ∀ q, q ≠ 100 → len2 q = len q) (hnew : ∀ x, x < fr → (∀ q f, f < len q → nod q f ≠ x) → x ≠ n) (hn8 : rs_n R ≤ 8)
    (hpl : pl' = upd pl n (pl m)) (hsec : sec' = upd sec n (sec m)) (haro : aro' = upd aro n (aro m)) (hkin : kin' = upd kin n (kin m)) (hval : vals' = upd vals n (vals m)) (hm : m = nod (r + 1) (n0 - 1 - i))
    (hout : out' = if i = 0 then upd out n (nI (nod 0 D)) else upd (upd out n (nI (nod 0 D))) (cp (i - 1)) (nI n)) :
    yt_I D n0 (i + 1) r s R len2 nod (yl_ow ow n (50, i)) fr2 (fun g => if g = i then n else cp g) pl' sec' aro' kin' vals' out' tak := by
  have hcn : ∀ g, g < i → cp g ≠ n := fun g hg => hnew (cp g) (I.2.2.2.2.2.2 g hg).2.1 (fun q f hf => yt_ne I hg hf)
  have hI := I
  obtain ⟨B, C, h0, h1, h2, h3, hc⟩ := I
  have hle : ∀ q f, f < len2 q → nod q f ≠ n := O2.2.2
  have hmn : m ≠ n := by rw [hm]; exact hle _ _ (by rw [hl2 (r + 1) (by omega), (h1 r hr).1]; omega)
  have houtF : ∀ x, x ≠ n → (0 < i → x ≠ cp (i - 1)) → out' x = out x := by
    intro x hx hx2
    rw [hout]
    by_cases hi0 : i = 0
    · rw [if_pos hi0, pk_un hx]
    · rw [if_neg hi0, pk_un (hx2 (by omega)), pk_un hx]
  have hkeep : ∀ x, x ≠ n → pl' x = pl x ∧ sec' x = sec x ∧ aro' x = aro x ∧ kin' x = kin x ∧ vals' x = vals x := by
    intro x hx
    rw [hpl, hsec, haro, hkin, hval]
    exact ⟨pk_un hx, pk_un hx, pk_un hx, pk_un hx, pk_un hx⟩
  have hlen : ∀ q f, f < len2 q → f < len q ∨ q = 100 := by
    intro q f hf
    by_cases hq : q = 100
    · exact Or.inr hq
    · rw [hl2 q hq] at hf; exact Or.inl hf
  have hcp2 : ∀ g, g < i → ∀ q f, f < len2 q → nod q f ≠ cp g := by
    intro g hg q f hf e
    have h5 := (B2.1 q f hf).2.2.1
    rw [e, (hc g hg).2.2.1] at h5
    have h6 : 50 = q := congrArg Prod.fst h5
    subst h6
    have := B2.2.2
    omega
  refine ⟨⟨fun q f hf => ?_, B2.2.1, B2.2.2⟩, ?_, (hl2 0 (by decide)).trans h0, fun r' hr' => ?_, fun r' hr' hr8 => ?_, hfr2, fun g hg => ?_⟩
  · have hL := B2.1 q f hf
    have hx := hle q f hf
    refine ⟨hL.1, hL.2.1, (if_neg hx).trans hL.2.2.1, ?_⟩
    rw [houtF _ hx (fun hi0 => hcp2 (i - 1) (by omega) q f hf)]
    exact hL.2.2.2
  · exact yl_C_o C (fun r' hr' => (hl2 (r' + 1) (by omega)).trans (h1 r' hr').1) (by rw [hl2 0 (by decide), h0]; exact Nat.le_refl _) hle hkeep
  · rw [hl2 (r' + 1) (by omega)]; exact h1 r' hr'
  · rw [hl2 (r' + 1) (by omega)]; exact h2 r' hr' hr8
  · dsimp only
    by_cases hgi : g = i
    · subst hgi
      rw [if_pos rfl, if_pos rfl]
      refine ⟨O2.1, O2.2.1, if_pos rfl, ?_, ?_⟩
      · rw [hout]
        by_cases hi0 : g = 0
        · rw [if_pos hi0, pk_us]
        · rw [if_neg hi0, pk_un (fun z => hcn (g - 1) (by omega) z.symm), pk_us]
      · have hN := C.2 r hr (n0 - 1 - g) (by omega)
        rw [← hm] at hN
        rw [hpl, hsec, haro, hkin, hval]
        unfold yl_N
        rw [pk_us, pk_us, pk_us, pk_us, pk_us]
        exact hN
    · have hg2 : g < i := by omega
      obtain ⟨a1, a2, a3, a4, a5⟩ := hc g hg2
      rw [if_neg hgi]
      refine ⟨a1, by omega, (if_neg (hcn g hg2)).trans a3, ?_, ?_⟩
      · rw [if_neg (by omega)]
        by_cases hgl : g + 1 = i
        · rw [if_pos hgl, hout, if_neg (by omega), show i - 1 = g from by omega, pk_us]
        · rw [if_neg hgl]
          rw [houtF _ (hcn g hg2) (fun _ e => by have := yt_nn hI hg2 (show i - 1 < i by omega) e; omega), a4, if_neg hgl]
      · obtain ⟨b1, b2, b3, b4, b5⟩ := hkeep (cp g) (hcn g hg2)
        exact yl_N_o a5 b1 b2 b3 b4 b5
end
section
variable {g_size g_state g_sort g_result g_shown g_called g_shifted g_most g_fresh g_spare g_top g_depth g_bound g_at g_scope g_has g_valueKind g_value : Int32} {b_tokens b_paper b_places b_second b_around b_kinds b_values b_outer b_taken b_names b_nameKinds b_nameValues b_nameOuter : Nat → Int32}
variable {len : Nat → Nat} {nod : Nat → Nat → Nat} {ow : Nat → Nat × Nat} {fr D n0 r ms : Nat} {s : Nat → ab_F} {R : ab_R} {post : SY → Prop}
theorem yt_66 (hD : D + 1 + n0 ≤ 16) (hr : r < rs_n R) (hrl : rs_l R r = n0) (hn8 : rs_n R ≤ 8) (hR : ∀ r, rs_l R r ≤ 15) (hms : ms ≤ 16) (h4 : ∀ j, j < n0 → fr_d (rs_f R r j) ≠ 4)
    (K : ∀ (len2 : Nat → Nat) (nod2 : Nat → Nat → Nat) (ow2 : Nat → Nat × Nat) (fr2 : Nat) (pl2 sec2 aro2 kin2 vals2 out2 : Nat → Int32), yl_P (D + 1 + n0) (ab_brk s D (rs_f R r)) R len2 nod2 ow2 fr2 pl2 sec2 aro2 kin2 vals2 out2 b_taken →
      post (g_size, g_state, g_sort, g_result, g_shown, g_called, g_shifted, nI (ab_mx (D + 1 + n0) ms), nI fr2, nI (yl_k (nod2 100) (len2 100)), nI (yl_k (nod2 0) (D + 1 + n0)), nI (D + 1 + n0), g_bound, g_at, g_scope, g_has, g_valueKind, g_value, b_tokens, b_paper, pl2, sec2, aro2, kin2, vals2, out2, b_taken, b_names, b_nameKinds, b_nameValues, b_nameOuter)) :
    ∀ n i (len : Nat → Nat) (ow : Nat → Nat × Nat) (fr : Nat) (cp : Nat → Nat) (pl sec aro kin vals out : Nat → Int32), i ≤ n0 → n0 - i < n → yt_I D n0 i r (ab_psh s D (4, 0, 0, 0, 0)) R len nod ow fr cp pl sec aro kin vals out b_taken →
      wY_callTaken_66 post (nI n0) (nI (nod 0 D)) n (nI (if i = 0 then 0 else cp (i - 1))) (nI (yl_k (nod (r + 1)) (n0 - i))) g_size g_state g_sort g_result g_shown g_called g_shifted (nI ms) (nI fr) (nI (yl_k (nod 100) (len 100))) (nI (if i = 0 then nod 0 D else cp 0)) (nI (D + 1)) g_bound g_at g_scope g_has g_valueKind g_value b_tokens b_paper pl sec aro kin vals out b_taken b_names b_nameKinds b_nameValues b_nameOuter := by
  intro n
  induction n with
  | zero => intro i len ow fr cp pl sec aro kin vals out _ h; omega
  | succ n ih =>
    intro i len ow fr cp pl sec aro kin vals out hi hn I
    have hI := I
    obtain ⟨B, C, h0, h1, h2, h3, hc⟩ := I
    rcases Nat.lt_or_ge i n0 with h5 | h5
    · have hlr : len (r + 1) = n0 := (h1 r hr).1.trans hrl
      obtain ⟨j, hj⟩ : ∃ j, n0 - i = j + 1 := ⟨n0 - i - 1, by omega⟩
      have ej : j = n0 - 1 - i := by omega
      rw [hj, yl_ks]
      have hL := B.1 (r + 1) j (by omega)
      have hN := C.2 r hr j (by omega)
      have hN2 := hN.2 (h4 j (by omega))
      have c5 : (nI (nod (r + 1) j)).toNatClampNeg = nod (r + 1) j := nI_clamp (by omega)
      have i5 : vp_in (nI (nod (r + 1) j)) 200 := vp_in_nI (by omega) (by decide)
      have hsum : pm_s (fun r => len (r + 1)) 8 ≤ 8 * 15 := pm_s_le 8 (fun i hi => by
        rcases Nat.lt_or_ge i (rs_n R) with h6 | h6
        · have := (h1 i h6).1; have := hR i; show len (i + 1) ≤ 15; omega
        · have := h2 i h6 hi; show len (i + 1) ≤ 15; omega)
      have hroom : len 100 = 0 → fr < 160 := by
        intro z
        have := B.2.1
        omega
      refine br_f (nI_ne0 (by omega) (by omega)) ⟨i5, i5, ?_⟩
      rw [c5]
      refine yo_node B h3 hroom ?_
      intro m len2 fr2 B2 O2 hfr2 hfr3 hl2 hnew
      have cm : (nI m).toNatClampNeg = m := nI_clamp (by have := O2.2.1; omega)
      have im : vp_in (nI m) 200 := vp_in_nI (by have := O2.2.1; omega) (by decide)
      have hjm : nod (r + 1) j ≠ m := O2.2.2 _ _ (by rw [hl2 (r + 1) (by omega)]; omega)
      have hsec : vp_nar .boolean (sec (nod (r + 1) j)) = sec (nod (r + 1) j) := by
        by_cases hd1 : fr_d (rs_f R r j) = 1
        · rw [(hN2.2.2.1 hd1).1]; exact nb_bo1
        · rw [hN2.2.2.2 hd1]; exact nb_bo0
      have hstep := fun out' ho => yt_step (n := m) (m := nod (r + 1) j) (fr2 := fr2) (len2 := len2) (out' := out') hI h5 hr hrl B2 O2 hfr2 hfr3 hl2 hnew hn8 rfl rfl rfl rfl rfl (by rw [ej]) ho
      refine ⟨i5, im, nm_r (e' := upd sec m (sec (nod (r + 1) j))) ?_ ⟨i5, im, nm_r (e' := upd kin m (kin (nod (r + 1) j))) ?_ ⟨i5, im, nm_r (e' := upd vals m (vals (nod (r + 1) j))) ?_ ⟨im, nm_r (e' := upd out m (nI (nod 0 D))) ?_ ?_⟩⟩⟩⟩
      · rw [cm, pk_un hjm, hsec]
        funext x
        by_cases hx : x = m
        · rw [hx, pk_us, pk_us]
        · rw [pk_un hx, pk_un hx, pk_un hx]
      · rw [cm]
      · rw [cm]
      · rw [cm]
      · have hjj : n0 - (i + 1) = j := by omega
        rcases Nat.eq_zero_or_pos i with hi0 | hi0
        · have ih2 := ih (i + 1) len2 _ fr2 _ _ _ _ _ _ _ h5 (by omega) (hstep (upd out m (nI (nod 0 D))) (by rw [if_pos hi0]))
          rw [if_neg (Nat.succ_ne_zero i), if_neg (Nat.succ_ne_zero i), Nat.add_sub_cancel, if_pos rfl, if_pos hi0.symm, hjj] at ih2
          have e0 : nI (if i = 0 then 0 else cp (i - 1)) = 0 := by rw [if_pos hi0]; rfl
          refine br_t e0 ⟨i5, nm_r (e' := nI (yl_k (nod (r + 1)) j)) ?_ ih2⟩
          try rw [c5]
          rw [pk_un hjm, hL.2.2.2]
        · have hcl := hc (i - 1) (by omega)
          have ih2 := ih (i + 1) len2 _ fr2 _ _ _ _ _ _ _ h5 (by omega) (hstep (upd (upd out m (nI (nod 0 D))) (cp (i - 1)) (nI m)) (by rw [if_neg (by omega)]))
          rw [if_neg (Nat.succ_ne_zero i), if_neg (Nat.succ_ne_zero i), Nat.add_sub_cancel, if_pos rfl, if_neg (show ¬ 0 = i by omega), hjj] at ih2
          have e0 : ¬ nI (if i = 0 then 0 else cp (i - 1)) = 0 := by rw [if_neg (by omega)]; exact nI_ne0 (by omega) (by omega)
          have cl : (nI (if i = 0 then 0 else cp (i - 1))).toNatClampNeg = cp (i - 1) := by rw [if_neg (by omega)]; exact nI_clamp (by omega)
          have il : vp_in (nI (if i = 0 then 0 else cp (i - 1))) 200 := by rw [if_neg (by omega)]; exact vp_in_nI (by omega) (by decide)
          have et : (if i = 0 then nod 0 D else cp 0) = cp 0 := if_neg (by omega)
          rw [et]
          refine br_f e0 ⟨il, nm_r (e' := upd (upd out m (nI (nod 0 D))) (cp (i - 1)) (nI m)) (by rw [cl]) ⟨i5, nm_r (e' := nI (yl_k (nod (r + 1)) j)) ?_ ih2⟩⟩
          try rw [c5]
          rw [pk_un (yt_ne hI (show i - 1 < i by omega) (show j < len (r + 1) by omega)), pk_un hjm, hL.2.2.2]
    · have hin : i = n0 := by omega
      subst hin
      have P := yt_end (s := s) hI hn8
      have K2 := K _ _ _ _ _ _ _ _ _ _ P
      rw [yl_set_n (by decide)] at K2
      have e100 : (fun f => if (100 : Nat) = 0 ∧ D + 1 ≤ f then cp (D + i - f) else nod 100 f) = nod 100 := by funext f; exact if_neg (by omega)
      have et : yl_k (fun f => if (0 : Nat) = 0 ∧ D + 1 ≤ f then cp (D + i - f) else nod 0 f) (D + 1 + i) = if i = 0 then nod 0 D else cp 0 := by
        cases i with
        | zero => show (if (0 : Nat) = 0 ∧ D + 1 ≤ D then cp (D + 0 - D) else nod 0 D) = _; rw [if_neg (by omega), if_pos rfl]
        | succ i' =>
          show (if (0 : Nat) = 0 ∧ D + 1 ≤ D + 1 + i' then cp (D + (i' + 1) - (D + 1 + i')) else nod 0 (D + 1 + i')) = _
          rw [if_pos ⟨rfl, by omega⟩, if_neg (by omega), show D + (i' + 1) - (D + 1 + i') = 0 from by omega]
      rw [e100, et] at K2
      have e0 : nI (yl_k (nod (r + 1)) (i - i)) = 0 := by rw [Nat.sub_self]; rfl
      refine br_t e0 (nm_r (nI_add (D + 1) i) ?_)
      unfold ab_mx at K2
      by_cases hm : D + 1 + i ≤ ms
      · rw [if_pos hm] at K2
        exact br_t (nI_le hm (by omega)) K2
      · rw [if_neg hm] at K2
        exact br_f (nI_ge (show ms < D + 1 + i by omega) (by omega)) K2
theorem yt_9 (B : yl_B len nod ow fr b_outer 0) (hfr : fr ≤ 160) (hl : len (r + 1) = n0) (hn0 : n0 ≤ 15) (K : ∀ n, wY_callTaken_9 post (nI r) g_size g_state g_sort g_result g_shown g_called g_shifted g_most g_fresh g_spare g_top g_depth g_bound g_at g_scope g_has g_valueKind g_value b_tokens b_paper b_places b_second b_around b_kinds b_values b_outer b_taken b_names b_nameKinds b_nameValues b_nameOuter (n + 1) (nI n0) 0) :
    ∀ n i, i ≤ n0 → n0 - i < n → wY_callTaken_9 post (nI r) g_size g_state g_sort g_result g_shown g_called g_shifted g_most g_fresh g_spare g_top g_depth g_bound g_at g_scope g_has g_valueKind g_value b_tokens b_paper b_places b_second b_around b_kinds b_values b_outer b_taken b_names b_nameKinds b_nameValues b_nameOuter n (nI i) (nI (yl_k (nod (r + 1)) (n0 - i))) := by
  intro n
  induction n with
  | zero => intro i _ h; omega
  | succ n ih =>
    intro i hi hn
    rcases Nat.lt_or_ge i n0 with h5 | h5
    · obtain ⟨j, hj⟩ : ∃ j, n0 - i = j + 1 := ⟨n0 - i - 1, by omega⟩
      have hL := B.1 (r + 1) j (by omega)
      have ih2 := ih (i + 1) h5 (by omega)
      rw [show n0 - (i + 1) = j from by omega] at ih2
      rw [hj, yl_ks]
      refine br_f (nI_ne0 (by omega) (by omega)) (nm_r (nI_1 i) ⟨vp_in_nI (by omega) (by decide), nm_r (e' := nI (yl_k (nod (r + 1)) j)) ?_ ih2⟩)
      rw [nI_clamp (by omega), hL.2.2.2]
    · have hin : i = n0 := by omega
      subst hin
      rw [Nat.sub_self]
      exact K n
theorem yt_taken (P : yl_P D s R len nod ow fr b_places b_second b_around b_kinds b_values b_outer b_taken) (hD1 : D ≤ 15) (hr : r < rs_n R) (hn8 : rs_n R ≤ 8) (hR : ∀ r, rs_l R r ≤ 15) (hms : ms ≤ 16) (h4 : ∀ j, j < rs_l R r → fr_d (rs_f R r j) ≠ 4)
    (K : D + 1 + rs_l R r ≤ 16 → ∀ (len2 : Nat → Nat) (nod2 : Nat → Nat → Nat) (ow2 : Nat → Nat × Nat) (fr2 : Nat) (pl2 sec2 aro2 kin2 vals2 out2 : Nat → Int32), yl_P (D + 1 + rs_l R r) (ab_brk s D (rs_f R r)) R len2 nod2 ow2 fr2 pl2 sec2 aro2 kin2 vals2 out2 b_taken →
      post (g_size, g_state, g_sort, g_result, g_shown, g_called, g_shifted, nI (ab_mx (D + 1 + rs_l R r) (ab_mx (D + 1) ms)), nI fr2, nI (yl_k (nod2 100) (len2 100)), nI (yl_k (nod2 0) (D + 1 + rs_l R r)), nI (D + 1 + rs_l R r), g_bound, g_at, g_scope, g_has, g_valueKind, g_value, b_tokens, b_paper, pl2, sec2, aro2, kin2, vals2, out2, b_taken, b_names, b_nameKinds, b_nameValues, b_nameOuter))
    (K4 : 16 < D + 1 + rs_l R r → post (g_size, 4, g_sort, g_result, g_shown, g_called, g_shifted, nI ms, nI fr, nI (yl_k (nod 100) (len 100)), nI (yl_k (nod 0) D), nI D, g_bound, g_at, g_scope, g_has, g_valueKind, g_value, b_tokens, b_paper, b_places, b_second, b_around, b_kinds, b_values, b_outer, b_taken, b_names, b_nameKinds, b_nameValues, b_nameOuter)) :
    wpY_callTaken post (g_size, g_state, g_sort, g_result, g_shown, g_called, g_shifted, nI ms, nI fr, nI (yl_k (nod 100) (len 100)), nI (yl_k (nod 0) D), nI D, g_bound, g_at, g_scope, g_has, g_valueKind, g_value, b_tokens, b_paper, b_places, b_second, b_around, b_kinds, b_values, b_outer, b_taken, b_names, b_nameKinds, b_nameValues, b_nameOuter) (nI r) := by
  have hRr := hR r
  have htk := P.2.2.2.1 r hr
  have c8 : (nI r).toNatClampNeg = r := nI_clamp (by omega)
  have i8 : vp_in (nI r) 8 := vp_in_nI (by omega) (by decide)
  refine ⟨i8, nm_r (e' := nI (yl_k (nod (r + 1)) (rs_l R r))) (by rw [c8]; exact htk.2) ⟨rs_l R r + 1, ?_⟩⟩
  refine yt_9 P.1 P.2.2.2.2.2 htk.1 hRr ?_ (rs_l R r + 1) 0 (Nat.zero_le _) (by omega)
  intro n
  have ed : (nI D + 1) + nI (rs_l R r) = nI (D + 1 + rs_l R r) := by rw [nb_a1, nI_add]
  refine br_t rfl ?_
  rcases Nat.lt_or_ge 16 (D + 1 + rs_l R r) with h16 | h16
  · refine br_f (by rw [ed]; exact nI_ge (a := 16) h16 (by omega)) (K4 h16)
  · refine br_t (by rw [ed]; exact nI_le (b := 16) h16 (by decide)) ?_
    refine yo_push (g := (4, 0, 0, 0, 0)) P (by omega) hms hn8 hR ⟨fun _ => rfl, fun z => absurd rfl z⟩ ?_
    intro len2 nod2 ow2 fr2 pl2 sec2 aro2 out2 P2
    have htk2 := P2.2.2.2.1 r hr
    refine And.intro i8 (nm_r (e' := nI (yl_k (nod2 (r + 1)) (rs_l R r))) (by rw [c8]; exact htk2.2) ⟨rs_l R r + 1, ?_⟩)
    have hmx : ab_mx (D + 1) ms ≤ 16 := by unfold ab_mx; split <;> omega
    have hl := yt_66 (n0 := rs_l R r) (ms := ab_mx (D + 1) ms) (s := s) (nod := nod2) (post := post) (b_taken := b_taken) (g_size := g_size) (g_state := g_state) (g_sort := g_sort) (g_result := g_result) (g_shown := g_shown) (g_called := g_called) (g_shifted := g_shifted) (g_bound := g_bound) (g_at := g_at) (g_scope := g_scope) (g_has := g_has) (g_valueKind := g_valueKind) (g_value := g_value) (b_tokens := b_tokens) (b_paper := b_paper) (b_names := b_names) (b_nameKinds := b_nameKinds) (b_nameValues := b_nameValues) (b_nameOuter := b_nameOuter) h16 hr rfl hn8 hR hmx h4 (K h16) (rs_l R r + 1) 0 len2 ow2 fr2 (fun _ => 0) pl2 sec2 aro2 b_kinds b_values out2 (Nat.zero_le _) (by omega) (yt_0 P2)
    exact hl
end
end
section
/-! hand, case by case (written by mk21.py) -/
section
variable {len : Nat → Nat} {nod : Nat → Nat → Nat} {ow : Nat → Nat × Nat} {fr d : Nat} {pl sec aro kin vals out tak sec' kin' vals' : Nat → Int32} {s : Nat → ab_F} {R : ab_R} {k : Nat} {v : Int32}
/-- the first part's value is kept in the node -/
theorem yl_set1 (P : yl_P (d + 1) s R len nod ow fr pl sec aro kin vals out tak) (hn8 : rs_n R ≤ 8) (h4 : fr_d (s d) ≠ 4) (hs : sec' = upd sec (nod 0 d) 1) (hkn : kin' = upd kin (nod 0 d) (nI k)) (hv : vals' = upd vals (nod 0 d) v) :
    yl_P (d + 1) (ab_psh s d (1, fr_p (s d), fr_e (s d), k, v)) R len nod ow fr pl sec' aro kin' vals' out tak := by
  obtain ⟨B, C, h0, h1, h2, h3⟩ := P
  have hkeep : ∀ x, x ≠ nod 0 d → pl x = pl x ∧ sec' x = sec x ∧ aro x = aro x ∧ kin' x = kin x ∧ vals' x = vals x := by
    intro x hx
    rw [hs, hkn, hv]
    exact ⟨rfl, pk_un hx, rfl, pk_un hx, pk_un hx⟩
  refine ⟨B, ⟨fun f hf => ?_, fun r hr j hj => ?_⟩, h0, h1, h2, h3⟩
  · by_cases hfd : f = d
    · subst hfd
      have e1 : ab_psh s f (1, fr_p (s f), fr_e (s f), k, v) f = (1, fr_p (s f), fr_e (s f), k, v) := if_pos rfl
      have hN := (C.1 f hf).2 h4
      rw [e1]
      refine ⟨fun z => absurd (show (1 : Nat) = 4 from z) (by decide), fun _ => ⟨hN.1, hN.2.1, fun _ => ⟨by rw [hs, pk_us], by rw [hkn, pk_us]; rfl, by rw [hv, pk_us]; rfl⟩, fun z => absurd (show (1 : Nat) = 1 from rfl) z⟩⟩
    · have e1 : ab_psh s d (1, fr_p (s d), fr_e (s d), k, v) f = s f := if_neg hfd
      rw [e1]
      obtain ⟨b1, b2, b3, b4, b5⟩ := hkeep (nod 0 f) (fun e => hfd (yl_inj B.1 (show f < len 0 by omega) (show d < len 0 by omega) e).2)
      exact yl_N_o (C.1 f hf) b1 b2 b3 b4 b5
  · obtain ⟨b1, b2, b3, b4, b5⟩ := hkeep (nod (r + 1) j) (fun e => absurd (yl_inj B.1 (show j < len (r + 1) by rw [(h1 r hr).1]; exact hj) (show d < len 0 by omega) e).1 (by omega))
    exact yl_N_o (C.2 r hr j hj) b1 b2 b3 b4 b5
end
section
variable {c_has : Bool} {c_at c_e c_k : Nat} {c_v : Int32} {c_d : Nat} {c_s : Nat → ab_F} {c_H : ab_H} {c_R : ab_R} {c_cl c_ms c_oc : Nat} {c_out : Nat → Int32}
variable {tn : Nat → Nat} {tok : Nat → Int32} {N : Nat} {w : SY} {post : SY → Prop}
theorem yg_top (I : yr_R tok N (true, c_at, c_e, c_k, c_v, 0, c_s, c_H, c_R, c_cl, c_ms, c_oc, c_out) w) (K : ∀ w', yf_R tok N 1 c_k c_v c_cl (rs_n c_R) c_ms c_oc c_out w' → post w') : wpY_hand post w := by
  refine yr_el1 (P := fun w => wpY_hand post w) ?_ I
  intro len nod ow fr g_sort g_result g_at g_scope b_places b_second b_around b_kinds b_values b_outer b_taken b_names b_nameKinds b_nameValues b_nameOuter hm hp
  refine br_t rfl (br_f (by decide) (br_t rfl ?_))
  exact K _ (yf_mk (st := 1) (fun _ => ⟨rfl, rfl⟩))
theorem yg_first (I : yr_R tok N (true, c_at, c_e, c_k, c_v, c_d + 1, c_s, c_H, c_R, c_cl, c_ms, c_oc, c_out) w) (hk : tb_T tn tok N) (hN : N ≤ 32) (hd : c_d + 1 ≤ 16) (hn8 : rs_n c_R ≤ 8) (hfd : fr_d (c_s c_d) = 0) (hpN : fr_p (c_s c_d) < N) (hc : sg_cp tn N) (ht : 52 ≤ tn (fr_p (c_s c_d)) ∧ tn (fr_p (c_s c_d)) ≤ 56)
    (K : ∀ w', yr_R tok N (false, sg_e tn (fr_p (c_s c_d) + 1), fr_e (c_s c_d), c_k, c_v, c_d + 1, ab_psh c_s c_d (1, fr_p (c_s c_d), fr_e (c_s c_d), c_k, c_v), c_H, c_R, c_cl, c_ms, c_oc, c_out) w' → post w') : wpY_hand post w := by
  refine yr_el1 (P := fun w => wpY_hand post w) ?_ I
  intro len nod ow fr g_sort g_result g_at g_scope b_places b_second b_around b_kinds b_values b_outer b_taken b_names b_nameKinds b_nameValues b_nameOuter hm hp
  have hp2 := hp
  obtain ⟨⟨L, hfr⟩, C, h0, h1, h2, h3⟩ := hp2
  have hL := L 0 c_d (by omega)
  have hC := C.1 c_d (by omega)
  have c1 : (nI (yl_k (nod 0) (c_d + 1))).toNatClampNeg = nod 0 c_d := nI_clamp (show nod 0 c_d < 2 ^ 31 by omega)
  have i1 : vp_in (nI (yl_k (nod 0) (c_d + 1))) 200 := vp_in_nI (show nod 0 c_d < 200 by omega) (by decide)
  have htop : ¬ nI (yl_k (nod 0) (c_d + 1)) = 0 := nI_ne0 (show 0 < nod 0 c_d by omega) (show nod 0 c_d < 2 ^ 31 by omega)
  have hC2 := hC.2 (by omega)
  have hpl : b_places (nI (yl_k (nod 0) (c_d + 1))).toNatClampNeg = nI (fr_p (c_s c_d)) := by rw [c1]; exact hC2.1
  have har : b_around (nI (yl_k (nod 0) (c_d + 1))).toNatClampNeg = nI (fr_e (c_s c_d)) := by rw [c1]; exact hC2.2.1
  have htl := tb_lt (hk _ hpN).2
  have htk : tok (nI (fr_p (c_s c_d))).toNatClampNeg = nI (tn (fr_p (c_s c_d))) := by rw [nI_clamp (by omega)]; exact (hk _ hpN).1
  have hin : vp_in (nI (fr_p (c_s c_d))) 32 := vp_in_nI (by omega) (by decide)
  refine br_f htop ⟨i1, ?_⟩
  rw [hpl]
  refine br_t (nI_pos' (by omega)) ⟨hin, ?_⟩
  rw [htk]
  refine br_f htop ?_
  have hsec : b_second (nI (yl_k (nod 0) (c_d + 1))).toNatClampNeg = 0 := by rw [c1]; exact hC2.2.2.2 (by omega)
  refine br_f (nI_nlt (b := tn (fr_p (c_s c_d))) (a := 56) ht.2 (by decide)) ?_
  refine ⟨i1, br_t hsec ⟨i1, nm_r (e' := upd b_second (nod 0 c_d) 1) (by rw [c1, nb_bo1]) ⟨i1, nm_r (e' := upd b_kinds (nod 0 c_d) (nI c_k)) (by rw [c1]) ⟨i1, nm_r (e' := upd b_values (nod 0 c_d) c_v) (by rw [c1]) ⟨i1, nm_r har ?_⟩⟩⟩⟩⟩
  have hpt := sg_pt_two (t := tn (fr_p (c_s c_d))) (by omega)
  rw [nI_1]
  refine tb_end hc hk (sg_p1 hc hpN (by omega)) ?_
  exact K _ (yr_mk0 hm (yl_set1 hp hn8 (by omega) rfl rfl rfl))
theorem yg_cw (I : yr_R tok N (true, c_at, c_e, c_k, c_v, c_d + 1, c_s, c_H, c_R, c_cl, c_ms, c_oc, c_out) w) (hk : tb_T tn tok N) (hN : N ≤ 32) (hd : c_d + 1 ≤ 16) (hn8 : rs_n c_R ≤ 8) (hfd : fr_d (c_s c_d) = 2) (hpN : fr_p (c_s c_d) < N) (ht : tn (fr_p (c_s c_d)) = 57) (hkk : ¬ c_k = 1) (hk3 : c_k ≤ 3)
    (K : ∀ w', yf_R tok N 2 0 (0) c_cl (rs_n c_R) c_ms c_oc c_out w' → post w') : wpY_hand post w := by
  refine yr_el1 (P := fun w => wpY_hand post w) ?_ I
  intro len nod ow fr g_sort g_result g_at g_scope b_places b_second b_around b_kinds b_values b_outer b_taken b_names b_nameKinds b_nameValues b_nameOuter hm hp
  have hp2 := hp
  obtain ⟨⟨L, hfr⟩, C, h0, h1, h2, h3⟩ := hp2
  have hL := L 0 c_d (by omega)
  have hC := C.1 c_d (by omega)
  have c1 : (nI (yl_k (nod 0) (c_d + 1))).toNatClampNeg = nod 0 c_d := nI_clamp (show nod 0 c_d < 2 ^ 31 by omega)
  have i1 : vp_in (nI (yl_k (nod 0) (c_d + 1))) 200 := vp_in_nI (show nod 0 c_d < 200 by omega) (by decide)
  have htop : ¬ nI (yl_k (nod 0) (c_d + 1)) = 0 := nI_ne0 (show 0 < nod 0 c_d by omega) (show nod 0 c_d < 2 ^ 31 by omega)
  have hC2 := hC.2 (by omega)
  have hpl : b_places (nI (yl_k (nod 0) (c_d + 1))).toNatClampNeg = nI (fr_p (c_s c_d)) := by rw [c1]; exact hC2.1
  have har : b_around (nI (yl_k (nod 0) (c_d + 1))).toNatClampNeg = nI (fr_e (c_s c_d)) := by rw [c1]; exact hC2.2.1
  have htl := tb_lt (hk _ hpN).2
  have htk : tok (nI (fr_p (c_s c_d))).toNatClampNeg = nI (tn (fr_p (c_s c_d))) := by rw [nI_clamp (by omega)]; exact (hk _ hpN).1
  have hin : vp_in (nI (fr_p (c_s c_d))) 32 := vp_in_nI (by omega) (by decide)
  refine br_f htop ⟨i1, ?_⟩
  rw [hpl]
  refine br_t (nI_pos' (by omega)) ⟨hin, ?_⟩
  rw [htk]
  refine br_f htop ?_
  rw [ht]
  refine br_t (by decide) (br_f (by decide) (br_t (by decide) (br_f (nb_ne (b := 1) (by omega) (by decide) hkk) ?_)))
  exact K _ (yf_mk (st := 2) (fun z => absurd z (by decide)))
theorem yg_yes (I : yr_R tok N (true, c_at, c_e, c_k, c_v, c_d + 1, c_s, c_H, c_R, c_cl, c_ms, c_oc, c_out) w) (hk : tb_T tn tok N) (hN : N ≤ 32) (hd : c_d + 1 ≤ 16) (hn8 : rs_n c_R ≤ 8) (hfd : fr_d (c_s c_d) = 2) (hpN : fr_p (c_s c_d) < N) (hc : sg_cp tn N) (ht : tn (fr_p (c_s c_d)) = 57) (hkk : c_k = 1) (hv : ¬ c_v = 0)
    (K : ∀ w', yr_R tok N (false, sg_e tn (fr_p (c_s c_d) + 1), fr_e (c_s c_d), c_k, c_v, c_d, c_s, c_H, c_R, c_cl, c_ms, c_oc, c_out) w' → post w') : wpY_hand post w := by
  refine yr_el1 (P := fun w => wpY_hand post w) ?_ I
  intro len nod ow fr g_sort g_result g_at g_scope b_places b_second b_around b_kinds b_values b_outer b_taken b_names b_nameKinds b_nameValues b_nameOuter hm hp
  have hp2 := hp
  obtain ⟨⟨L, hfr⟩, C, h0, h1, h2, h3⟩ := hp2
  have hL := L 0 c_d (by omega)
  have hC := C.1 c_d (by omega)
  have c1 : (nI (yl_k (nod 0) (c_d + 1))).toNatClampNeg = nod 0 c_d := nI_clamp (show nod 0 c_d < 2 ^ 31 by omega)
  have i1 : vp_in (nI (yl_k (nod 0) (c_d + 1))) 200 := vp_in_nI (show nod 0 c_d < 200 by omega) (by decide)
  have htop : ¬ nI (yl_k (nod 0) (c_d + 1)) = 0 := nI_ne0 (show 0 < nod 0 c_d by omega) (show nod 0 c_d < 2 ^ 31 by omega)
  have hC2 := hC.2 (by omega)
  have hpl : b_places (nI (yl_k (nod 0) (c_d + 1))).toNatClampNeg = nI (fr_p (c_s c_d)) := by rw [c1]; exact hC2.1
  have har : b_around (nI (yl_k (nod 0) (c_d + 1))).toNatClampNeg = nI (fr_e (c_s c_d)) := by rw [c1]; exact hC2.2.1
  have htl := tb_lt (hk _ hpN).2
  have htk : tok (nI (fr_p (c_s c_d))).toNatClampNeg = nI (tn (fr_p (c_s c_d))) := by rw [nI_clamp (by omega)]; exact (hk _ hpN).1
  have hin : vp_in (nI (fr_p (c_s c_d))) 32 := vp_in_nI (by omega) (by decide)
  refine br_f htop ⟨i1, ?_⟩
  rw [hpl]
  refine br_t (nI_pos' (by omega)) ⟨hin, ?_⟩
  rw [htk]
  refine br_f htop ?_
  have hpt : sg_pt (tn (fr_p (c_s c_d))) = 3 := by rw [ht]; exact sg_pt_three
  rw [ht]
  have hk1 : nI c_k = 1 := by rw [hkk]; rfl
  refine br_t (by decide) (br_f (by decide) (br_t (by decide) (br_t hk1 (br_t (by decide) ?_))))
  rw [nI_1]
  refine tb_end hc hk (sg_p1 hc hpN (by omega)) ?_
  refine And.intro i1 (nm_r har ?_)
  refine yo_pop hp (by omega) hn8 ?_
  intro len2 nod2 ow2 out2 P2
  refine br_f hv ?_
  exact K _ (yr_mk0 hm P2)
theorem yg_no (I : yr_R tok N (true, c_at, c_e, c_k, c_v, c_d + 1, c_s, c_H, c_R, c_cl, c_ms, c_oc, c_out) w) (hk : tb_T tn tok N) (hN : N ≤ 32) (hd : c_d + 1 ≤ 16) (hn8 : rs_n c_R ≤ 8) (hfd : fr_d (c_s c_d) = 2) (hpN : fr_p (c_s c_d) < N) (hc : sg_cp tn N) (ht : tn (fr_p (c_s c_d)) = 57) (hkk : c_k = 1) (hv : c_v = 0)
    (K : ∀ w', yr_R tok N (false, sg_e tn (sg_e tn (fr_p (c_s c_d) + 1)), fr_e (c_s c_d), c_k, c_v, c_d, c_s, c_H, c_R, c_cl, c_ms, c_oc, c_out) w' → post w') : wpY_hand post w := by
  refine yr_el1 (P := fun w => wpY_hand post w) ?_ I
  intro len nod ow fr g_sort g_result g_at g_scope b_places b_second b_around b_kinds b_values b_outer b_taken b_names b_nameKinds b_nameValues b_nameOuter hm hp
  have hp2 := hp
  obtain ⟨⟨L, hfr⟩, C, h0, h1, h2, h3⟩ := hp2
  have hL := L 0 c_d (by omega)
  have hC := C.1 c_d (by omega)
  have c1 : (nI (yl_k (nod 0) (c_d + 1))).toNatClampNeg = nod 0 c_d := nI_clamp (show nod 0 c_d < 2 ^ 31 by omega)
  have i1 : vp_in (nI (yl_k (nod 0) (c_d + 1))) 200 := vp_in_nI (show nod 0 c_d < 200 by omega) (by decide)
  have htop : ¬ nI (yl_k (nod 0) (c_d + 1)) = 0 := nI_ne0 (show 0 < nod 0 c_d by omega) (show nod 0 c_d < 2 ^ 31 by omega)
  have hC2 := hC.2 (by omega)
  have hpl : b_places (nI (yl_k (nod 0) (c_d + 1))).toNatClampNeg = nI (fr_p (c_s c_d)) := by rw [c1]; exact hC2.1
  have har : b_around (nI (yl_k (nod 0) (c_d + 1))).toNatClampNeg = nI (fr_e (c_s c_d)) := by rw [c1]; exact hC2.2.1
  have htl := tb_lt (hk _ hpN).2
  have htk : tok (nI (fr_p (c_s c_d))).toNatClampNeg = nI (tn (fr_p (c_s c_d))) := by rw [nI_clamp (by omega)]; exact (hk _ hpN).1
  have hin : vp_in (nI (fr_p (c_s c_d))) 32 := vp_in_nI (by omega) (by decide)
  refine br_f htop ⟨i1, ?_⟩
  rw [hpl]
  refine br_t (nI_pos' (by omega)) ⟨hin, ?_⟩
  rw [htk]
  refine br_f htop ?_
  have hpt : sg_pt (tn (fr_p (c_s c_d))) = 3 := by rw [ht]; exact sg_pt_three
  rw [ht]
  have hk1 : nI c_k = 1 := by rw [hkk]; rfl
  refine br_t (by decide) (br_f (by decide) (br_t (by decide) (br_t hk1 (br_t (by decide) ?_))))
  rw [nI_1]
  refine tb_end hc hk (sg_p1 hc hpN (by omega)) ?_
  refine And.intro i1 (nm_r har ?_)
  refine yo_pop hp (by omega) hn8 ?_
  intro len2 nod2 ow2 out2 P2
  refine br_t hv ?_
  refine tb_end hc hk (sg_p2 hc hpN (by omega)) ?_
  exact K _ (yr_mk0 hm P2)
theorem yg_pw (I : yr_R tok N (true, c_at, c_e, c_k, c_v, c_d + 1, c_s, c_H, c_R, c_cl, c_ms, c_oc, c_out) w) (hk : tb_T tn tok N) (hN : N ≤ 32) (hd : c_d + 1 ≤ 16) (hn8 : rs_n c_R ≤ 8) (hfd : fr_d (c_s c_d) = 3) (hpN : fr_p (c_s c_d) < N) (ht : tn (fr_p (c_s c_d)) = 58) (hkk : ¬ c_k = 1) (hk3 : c_k ≤ 3)
    (K : ∀ w', yf_R tok N 2 0 (0) c_cl (rs_n c_R) c_ms c_oc c_out w' → post w') : wpY_hand post w := by
  refine yr_el1 (P := fun w => wpY_hand post w) ?_ I
  intro len nod ow fr g_sort g_result g_at g_scope b_places b_second b_around b_kinds b_values b_outer b_taken b_names b_nameKinds b_nameValues b_nameOuter hm hp
  have hp2 := hp
  obtain ⟨⟨L, hfr⟩, C, h0, h1, h2, h3⟩ := hp2
  have hL := L 0 c_d (by omega)
  have hC := C.1 c_d (by omega)
  have c1 : (nI (yl_k (nod 0) (c_d + 1))).toNatClampNeg = nod 0 c_d := nI_clamp (show nod 0 c_d < 2 ^ 31 by omega)
  have i1 : vp_in (nI (yl_k (nod 0) (c_d + 1))) 200 := vp_in_nI (show nod 0 c_d < 200 by omega) (by decide)
  have htop : ¬ nI (yl_k (nod 0) (c_d + 1)) = 0 := nI_ne0 (show 0 < nod 0 c_d by omega) (show nod 0 c_d < 2 ^ 31 by omega)
  have hC2 := hC.2 (by omega)
  have hpl : b_places (nI (yl_k (nod 0) (c_d + 1))).toNatClampNeg = nI (fr_p (c_s c_d)) := by rw [c1]; exact hC2.1
  have har : b_around (nI (yl_k (nod 0) (c_d + 1))).toNatClampNeg = nI (fr_e (c_s c_d)) := by rw [c1]; exact hC2.2.1
  have htl := tb_lt (hk _ hpN).2
  have htk : tok (nI (fr_p (c_s c_d))).toNatClampNeg = nI (tn (fr_p (c_s c_d))) := by rw [nI_clamp (by omega)]; exact (hk _ hpN).1
  have hin : vp_in (nI (fr_p (c_s c_d))) 32 := vp_in_nI (by omega) (by decide)
  refine br_f htop ⟨i1, ?_⟩
  rw [hpl]
  refine br_t (nI_pos' (by omega)) ⟨hin, ?_⟩
  rw [htk]
  refine br_f htop ?_
  rw [ht]
  refine br_t (by decide) (br_f (by decide) (br_t (by decide) (br_f (nb_ne (b := 1) (by omega) (by decide) hkk) ?_)))
  exact K _ (yf_mk (st := 2) (fun z => absurd z (by decide)))
theorem yg_pfull (I : yr_R tok N (true, c_at, c_e, c_k, c_v, c_d + 1, c_s, c_H, c_R, c_cl, c_ms, c_oc, c_out) w) (hk : tb_T tn tok N) (hN : N ≤ 32) (hd : c_d + 1 ≤ 16) (hn8 : rs_n c_R ≤ 8) (hfd : fr_d (c_s c_d) = 3) (hpN : fr_p (c_s c_d) < N) (ht : tn (fr_p (c_s c_d)) = 58) (hkk : c_k = 1) (ho : c_oc = 16)
    (K : ∀ w', yf_R tok N 5 0 (0) c_cl (rs_n c_R) c_ms c_oc c_out w' → post w') : wpY_hand post w := by
  refine yr_el1 (P := fun w => wpY_hand post w) ?_ I
  intro len nod ow fr g_sort g_result g_at g_scope b_places b_second b_around b_kinds b_values b_outer b_taken b_names b_nameKinds b_nameValues b_nameOuter hm hp
  have hp2 := hp
  obtain ⟨⟨L, hfr⟩, C, h0, h1, h2, h3⟩ := hp2
  have hL := L 0 c_d (by omega)
  have hC := C.1 c_d (by omega)
  have c1 : (nI (yl_k (nod 0) (c_d + 1))).toNatClampNeg = nod 0 c_d := nI_clamp (show nod 0 c_d < 2 ^ 31 by omega)
  have i1 : vp_in (nI (yl_k (nod 0) (c_d + 1))) 200 := vp_in_nI (show nod 0 c_d < 200 by omega) (by decide)
  have htop : ¬ nI (yl_k (nod 0) (c_d + 1)) = 0 := nI_ne0 (show 0 < nod 0 c_d by omega) (show nod 0 c_d < 2 ^ 31 by omega)
  have hC2 := hC.2 (by omega)
  have hpl : b_places (nI (yl_k (nod 0) (c_d + 1))).toNatClampNeg = nI (fr_p (c_s c_d)) := by rw [c1]; exact hC2.1
  have har : b_around (nI (yl_k (nod 0) (c_d + 1))).toNatClampNeg = nI (fr_e (c_s c_d)) := by rw [c1]; exact hC2.2.1
  have htl := tb_lt (hk _ hpN).2
  have htk : tok (nI (fr_p (c_s c_d))).toNatClampNeg = nI (tn (fr_p (c_s c_d))) := by rw [nI_clamp (by omega)]; exact (hk _ hpN).1
  have hin : vp_in (nI (fr_p (c_s c_d))) 32 := vp_in_nI (by omega) (by decide)
  refine br_f htop ⟨i1, ?_⟩
  rw [hpl]
  refine br_t (nI_pos' (by omega)) ⟨hin, ?_⟩
  rw [htk]
  refine br_f htop ?_
  rw [ht]
  have hk1 : nI c_k = 1 := by rw [hkk]; rfl
  have ho1 : nI c_oc = 16 := by rw [ho]; rfl
  refine br_t (by decide) (br_f (by decide) (br_t (by decide) (br_t hk1 (br_f (by decide) (br_t ho1 ?_)))))
  exact K _ (yf_mk (st := 5) (fun z => absurd z (by decide)))
theorem yg_print (I : yr_R tok N (true, c_at, c_e, c_k, c_v, c_d + 1, c_s, c_H, c_R, c_cl, c_ms, c_oc, c_out) w) (hk : tb_T tn tok N) (hN : N ≤ 32) (hd : c_d + 1 ≤ 16) (hn8 : rs_n c_R ≤ 8) (hfd : fr_d (c_s c_d) = 3) (hpN : fr_p (c_s c_d) < N) (ht : tn (fr_p (c_s c_d)) = 58) (hkk : c_k = 1) (ho : c_oc < 16)
    (K : ∀ w', yr_R tok N (true, c_at, fr_e (c_s c_d), c_k, c_v, c_d, c_s, c_H, c_R, c_cl, c_ms, c_oc + 1, upd c_out c_oc c_v) w' → post w') : wpY_hand post w := by
  refine yr_el1 (P := fun w => wpY_hand post w) ?_ I
  intro len nod ow fr g_sort g_result g_at g_scope b_places b_second b_around b_kinds b_values b_outer b_taken b_names b_nameKinds b_nameValues b_nameOuter hm hp
  have hp2 := hp
  obtain ⟨⟨L, hfr⟩, C, h0, h1, h2, h3⟩ := hp2
  have hL := L 0 c_d (by omega)
  have hC := C.1 c_d (by omega)
  have c1 : (nI (yl_k (nod 0) (c_d + 1))).toNatClampNeg = nod 0 c_d := nI_clamp (show nod 0 c_d < 2 ^ 31 by omega)
  have i1 : vp_in (nI (yl_k (nod 0) (c_d + 1))) 200 := vp_in_nI (show nod 0 c_d < 200 by omega) (by decide)
  have htop : ¬ nI (yl_k (nod 0) (c_d + 1)) = 0 := nI_ne0 (show 0 < nod 0 c_d by omega) (show nod 0 c_d < 2 ^ 31 by omega)
  have hC2 := hC.2 (by omega)
  have hpl : b_places (nI (yl_k (nod 0) (c_d + 1))).toNatClampNeg = nI (fr_p (c_s c_d)) := by rw [c1]; exact hC2.1
  have har : b_around (nI (yl_k (nod 0) (c_d + 1))).toNatClampNeg = nI (fr_e (c_s c_d)) := by rw [c1]; exact hC2.2.1
  have htl := tb_lt (hk _ hpN).2
  have htk : tok (nI (fr_p (c_s c_d))).toNatClampNeg = nI (tn (fr_p (c_s c_d))) := by rw [nI_clamp (by omega)]; exact (hk _ hpN).1
  have hin : vp_in (nI (fr_p (c_s c_d))) 32 := vp_in_nI (by omega) (by decide)
  refine br_f htop ⟨i1, ?_⟩
  rw [hpl]
  refine br_t (nI_pos' (by omega)) ⟨hin, ?_⟩
  rw [htk]
  refine br_f htop ?_
  rw [ht]
  have hk1 : nI c_k = 1 := by rw [hkk]; rfl
  refine br_t (by decide) (br_f (by decide) (br_t (by decide) (br_t hk1 (br_f (by decide) (br_f (nb_ne (b := 16) (by omega) (by decide) (by omega)) ⟨vp_in_nI ho (by decide), nm_r (e' := upd c_out c_oc c_v) (by rw [nI_clamp (by omega)]) (nm_r (nI_1 c_oc) ?_)⟩)))))
  refine yo_pop hp (by omega) hn8 ?_
  intro len2 nod2 ow2 out2 P2
  exact K _ (yr_mk1 hm P2)
theorem yg_mark (I : yr_R tok N (true, c_at, c_e, c_k, c_v, c_d + 1, c_s, c_H, c_R, c_cl, c_ms, c_oc, c_out) w) (hk : tb_T tn tok N) (hN : N ≤ 32) (hd : c_d + 1 ≤ 16) (hn8 : rs_n c_R ≤ 8) (hfd : fr_d (c_s c_d) = 4) 
    (K : ∀ w', yr_R tok N (true, c_at, fr_e (c_s c_d), c_k, c_v, c_d, c_s, c_H, c_R, c_cl, c_ms, c_oc, c_out) w' → post w') : wpY_hand post w := by
  refine yr_el1 (P := fun w => wpY_hand post w) ?_ I
  intro len nod ow fr g_sort g_result g_at g_scope b_places b_second b_around b_kinds b_values b_outer b_taken b_names b_nameKinds b_nameValues b_nameOuter hm hp
  have hp2 := hp
  obtain ⟨⟨L, hfr⟩, C, h0, h1, h2, h3⟩ := hp2
  have hL := L 0 c_d (by omega)
  have hC := C.1 c_d (by omega)
  have c1 : (nI (yl_k (nod 0) (c_d + 1))).toNatClampNeg = nod 0 c_d := nI_clamp (show nod 0 c_d < 2 ^ 31 by omega)
  have i1 : vp_in (nI (yl_k (nod 0) (c_d + 1))) 200 := vp_in_nI (show nod 0 c_d < 200 by omega) (by decide)
  have htop : ¬ nI (yl_k (nod 0) (c_d + 1)) = 0 := nI_ne0 (show 0 < nod 0 c_d by omega) (show nod 0 c_d < 2 ^ 31 by omega)
  have hpl : b_places (nI (yl_k (nod 0) (c_d + 1))).toNatClampNeg = -1 := by rw [c1]; exact hC.1 hfd
  refine br_f htop ⟨i1, ?_⟩
  rw [hpl]
  refine br_f (by decide) (br_f htop (br_t (by decide) (br_t rfl ?_)))
  refine yo_pop hp (by omega) hn8 ?_
  intro len2 nod2 ow2 out2 P2
  exact K _ (yr_mk1 hm P2)
theorem yg_named (I : yr_R tok N (true, c_at, c_e, c_k, c_v, c_d + 1, c_s, c_H, c_R, c_cl, c_ms, c_oc, c_out) w) (hk : tb_T tn tok N) (hN : N ≤ 32) (hd : c_d + 1 ≤ 16) (hn8 : rs_n c_R ≤ 8) (hfd : fr_d (c_s c_d) = 5) (hpN : fr_p (c_s c_d) < N) (hc : sg_cp tn N) (ht : 60 ≤ tn (fr_p (c_s c_d)) ∧ tn (fr_p (c_s c_d)) < 66) (hb : hn_b c_H + 1 < 12000)
    (K : ∀ w', yr_R tok N (false, sg_e tn (fr_p (c_s c_d) + 1), hn_b c_H + 1, c_k, c_v, c_d, c_s, hn_add c_H (tn (fr_p (c_s c_d)) - 60) c_k c_v (fr_e (c_s c_d)), c_R, c_cl, c_ms, c_oc, c_out) w' → post w') : wpY_hand post w := by
  refine yr_el1 (P := fun w => wpY_hand post w) ?_ I
  intro len nod ow fr g_sort g_result g_at g_scope b_places b_second b_around b_kinds b_values b_outer b_taken b_names b_nameKinds b_nameValues b_nameOuter hm hp
  have hp2 := hp
  obtain ⟨⟨L, hfr⟩, C, h0, h1, h2, h3⟩ := hp2
  have hL := L 0 c_d (by omega)
  have hC := C.1 c_d (by omega)
  have c1 : (nI (yl_k (nod 0) (c_d + 1))).toNatClampNeg = nod 0 c_d := nI_clamp (show nod 0 c_d < 2 ^ 31 by omega)
  have i1 : vp_in (nI (yl_k (nod 0) (c_d + 1))) 200 := vp_in_nI (show nod 0 c_d < 200 by omega) (by decide)
  have htop : ¬ nI (yl_k (nod 0) (c_d + 1)) = 0 := nI_ne0 (show 0 < nod 0 c_d by omega) (show nod 0 c_d < 2 ^ 31 by omega)
  have hC2 := hC.2 (by omega)
  have hpl : b_places (nI (yl_k (nod 0) (c_d + 1))).toNatClampNeg = nI (fr_p (c_s c_d)) := by rw [c1]; exact hC2.1
  have har : b_around (nI (yl_k (nod 0) (c_d + 1))).toNatClampNeg = nI (fr_e (c_s c_d)) := by rw [c1]; exact hC2.2.1
  have htl := tb_lt (hk _ hpN).2
  have htk : tok (nI (fr_p (c_s c_d))).toNatClampNeg = nI (tn (fr_p (c_s c_d))) := by rw [nI_clamp (by omega)]; exact (hk _ hpN).1
  have hin : vp_in (nI (fr_p (c_s c_d))) 32 := vp_in_nI (by omega) (by decide)
  refine br_f htop ⟨i1, ?_⟩
  rw [hpl]
  refine br_t (nI_pos' (by omega)) ⟨hin, ?_⟩
  rw [htk]
  refine br_f htop ?_
  have hpt := sg_pt_two (t := tn (fr_p (c_s c_d))) (by omega)
  refine br_t (nI_lt (a := 56) (by omega) (by omega)) (br_f (nb_ne (b := 59) (by omega) (by decide) (by omega)) (br_f (nI_nlt (b := 60) ht.1 (by omega)) ⟨i1, nm_r har ?_⟩))
  refine yo_pop hp (by omega) hn8 ?_
  intro len2 nod2 ow2 out2 P2
  have e60 : nI (tn (fr_p (c_s c_d))) - 60 = nI (tn (fr_p (c_s c_d)) - 60) := pk_sub (b := 60) ht.1
  show wpY_bind _ _ (nI (tn (fr_p (c_s c_d))) - 60) _ _ _
  rw [e60]
  refine yo_bind hm hb ?_
  intro nm2 nk2 nv2 no2 M2
  show wpY_end _ _ (nI (fr_p (c_s c_d)) + 1)
  rw [nI_1]
  refine tb_end hc hk (sg_p1 hc hpN (by omega)) ?_
  exact K _ (yr_mk0 M2 P2)
theorem yg_calc (I : yr_R tok N (true, c_at, c_e, c_k, c_v, c_d + 1, c_s, c_H, c_R, c_cl, c_ms, c_oc, c_out) w) (hk : tb_T tn tok N) (hN : N ≤ 32) (hd : c_d + 1 ≤ 16) (hn8 : rs_n c_R ≤ 8) (hfd : fr_d (c_s c_d) = 1) (hpN : fr_p (c_s c_d) < N) (ht : 52 ≤ tn (fr_p (c_s c_d)) ∧ tn (fr_p (c_s c_d)) ≤ 56) (h52 : tn (fr_p (c_s c_d)) ≠ 52) (hkv : c_k = 1) (hkk : fr_k (c_s c_d) = 1)
    (K : ∀ w', yr_R tok N (true, c_at, fr_e (c_s c_d), 1, ab_ca (tn (fr_p (c_s c_d))) (fr_v (c_s c_d)) c_v, c_d, c_s, c_H, c_R, c_cl, c_ms, c_oc, c_out) w' → post w') : wpY_hand post w := by
  refine yr_el1 (P := fun w => wpY_hand post w) ?_ I
  intro len nod ow fr g_sort g_result g_at g_scope b_places b_second b_around b_kinds b_values b_outer b_taken b_names b_nameKinds b_nameValues b_nameOuter hm hp
  have hp2 := hp
  obtain ⟨⟨L, hfr⟩, C, h0, h1, h2, h3⟩ := hp2
  have hL := L 0 c_d (by omega)
  have hC := C.1 c_d (by omega)
  have c1 : (nI (yl_k (nod 0) (c_d + 1))).toNatClampNeg = nod 0 c_d := nI_clamp (show nod 0 c_d < 2 ^ 31 by omega)
  have i1 : vp_in (nI (yl_k (nod 0) (c_d + 1))) 200 := vp_in_nI (show nod 0 c_d < 200 by omega) (by decide)
  have htop : ¬ nI (yl_k (nod 0) (c_d + 1)) = 0 := nI_ne0 (show 0 < nod 0 c_d by omega) (show nod 0 c_d < 2 ^ 31 by omega)
  have hC2 := hC.2 (by omega)
  have hpl : b_places (nI (yl_k (nod 0) (c_d + 1))).toNatClampNeg = nI (fr_p (c_s c_d)) := by rw [c1]; exact hC2.1
  have har : b_around (nI (yl_k (nod 0) (c_d + 1))).toNatClampNeg = nI (fr_e (c_s c_d)) := by rw [c1]; exact hC2.2.1
  have htl := tb_lt (hk _ hpN).2
  have htk : tok (nI (fr_p (c_s c_d))).toNatClampNeg = nI (tn (fr_p (c_s c_d))) := by rw [nI_clamp (by omega)]; exact (hk _ hpN).1
  have hin : vp_in (nI (fr_p (c_s c_d))) 32 := vp_in_nI (by omega) (by decide)
  refine br_f htop ⟨i1, ?_⟩
  rw [hpl]
  refine br_t (nI_pos' (by omega)) ⟨hin, ?_⟩
  rw [htk]
  refine br_f htop ?_
  have hC3 := hC2.2.2.1 hfd
  have hsec : ¬ b_second (nI (yl_k (nod 0) (c_d + 1))).toNatClampNeg = 0 := by rw [c1, hC3.1]; decide
  have hki : b_kinds (nI (yl_k (nod 0) (c_d + 1))).toNatClampNeg = nI (fr_k (c_s c_d)) := by rw [c1]; exact hC3.2.1
  have hva : b_values (nI (yl_k (nod 0) (c_d + 1))).toNatClampNeg = fr_v (c_s c_d) := by rw [c1]; exact hC3.2.2
  refine br_f (nI_nlt (b := tn (fr_p (c_s c_d))) (a := 56) ht.2 (by decide)) ?_
  refine ⟨i1, br_f hsec ⟨i1, nm_r hki ⟨i1, nm_r hva ?_⟩⟩⟩
  refine yo_pop hp (by omega) hn8 ?_
  intro len2 nod2 ow2 out2 P2
  refine And.intro hin ?_
  refine br_f (by rw [htk]; exact nb_ne (b := 52) (by omega) (by decide) h52) ?_
  have hk1 : nI (fr_k (c_s c_d)) = 1 := by rw [hkk]; rfl
  have hk2 : nI c_k = 1 := by rw [hkv]; rfl
  refine br_t hk1 (br_t hk2 ⟨hin, ?_⟩)
  rw [htk]
  have hfin := fun x => K _ (yr_mk1 (c_at := c_at) (c_e := fr_e (c_s c_d)) (c_k := 1) (c_v := ab_ca (tn (fr_p (c_s c_d))) (fr_v (c_s c_d)) c_v) (g_sort := g_sort) (g_result := g_result) (g_at := g_at) (g_scope := x) (tok := tok) (N := N) (c_cl := c_cl) (c_ms := c_ms) (c_oc := c_oc) (c_out := c_out) hm P2)
  rcases (by omega : tn (fr_p (c_s c_d)) = 53 ∨ tn (fr_p (c_s c_d)) = 54 ∨ tn (fr_p (c_s c_d)) = 55 ∨ tn (fr_p (c_s c_d)) = 56) with h | h | h | h
  · rw [h] at hfin ⊢
    exact br_t (by decide) (hfin _)
  · rw [h] at hfin ⊢
    exact br_f (by decide) (br_t (by decide) (hfin _))
  · rw [h] at hfin ⊢
    exact br_f (by decide) (br_f (by decide) (br_t (by decide) (hfin _)))
  · rw [h] at hfin ⊢
    refine br_f (by decide) (br_f (by decide) (br_f (by decide) (br_c (fun hle => ?_) (fun hle => ?_))))
    · have e : ab_ca 56 (fr_v (c_s c_d)) c_v = 0 := if_pos hle
      rw [e] at hfin
      exact hfin _
    · have e : ab_ca 56 (fr_v (c_s c_d)) c_v = 1 := if_neg hle
      rw [e] at hfin
      exact hfin _
theorem yg_wrong (I : yr_R tok N (true, c_at, c_e, c_k, c_v, c_d + 1, c_s, c_H, c_R, c_cl, c_ms, c_oc, c_out) w) (hk : tb_T tn tok N) (hN : N ≤ 32) (hd : c_d + 1 ≤ 16) (hn8 : rs_n c_R ≤ 8) (hfd : fr_d (c_s c_d) = 1) (hpN : fr_p (c_s c_d) < N) (ht : 52 ≤ tn (fr_p (c_s c_d)) ∧ tn (fr_p (c_s c_d)) ≤ 56) (h52 : tn (fr_p (c_s c_d)) ≠ 52) (hk3 : c_k ≤ 3) (hkk3 : fr_k (c_s c_d) ≤ 3) (hkw : ¬ (c_k = 1 ∧ fr_k (c_s c_d) = 1))
    (K : ∀ w', yf_R tok N 2 0 (0) c_cl (rs_n c_R) c_ms c_oc c_out w' → post w') : wpY_hand post w := by
  refine yr_el1 (P := fun w => wpY_hand post w) ?_ I
  intro len nod ow fr g_sort g_result g_at g_scope b_places b_second b_around b_kinds b_values b_outer b_taken b_names b_nameKinds b_nameValues b_nameOuter hm hp
  have hp2 := hp
  obtain ⟨⟨L, hfr⟩, C, h0, h1, h2, h3⟩ := hp2
  have hL := L 0 c_d (by omega)
  have hC := C.1 c_d (by omega)
  have c1 : (nI (yl_k (nod 0) (c_d + 1))).toNatClampNeg = nod 0 c_d := nI_clamp (show nod 0 c_d < 2 ^ 31 by omega)
  have i1 : vp_in (nI (yl_k (nod 0) (c_d + 1))) 200 := vp_in_nI (show nod 0 c_d < 200 by omega) (by decide)
  have htop : ¬ nI (yl_k (nod 0) (c_d + 1)) = 0 := nI_ne0 (show 0 < nod 0 c_d by omega) (show nod 0 c_d < 2 ^ 31 by omega)
  have hC2 := hC.2 (by omega)
  have hpl : b_places (nI (yl_k (nod 0) (c_d + 1))).toNatClampNeg = nI (fr_p (c_s c_d)) := by rw [c1]; exact hC2.1
  have har : b_around (nI (yl_k (nod 0) (c_d + 1))).toNatClampNeg = nI (fr_e (c_s c_d)) := by rw [c1]; exact hC2.2.1
  have htl := tb_lt (hk _ hpN).2
  have htk : tok (nI (fr_p (c_s c_d))).toNatClampNeg = nI (tn (fr_p (c_s c_d))) := by rw [nI_clamp (by omega)]; exact (hk _ hpN).1
  have hin : vp_in (nI (fr_p (c_s c_d))) 32 := vp_in_nI (by omega) (by decide)
  refine br_f htop ⟨i1, ?_⟩
  rw [hpl]
  refine br_t (nI_pos' (by omega)) ⟨hin, ?_⟩
  rw [htk]
  refine br_f htop ?_
  have hC3 := hC2.2.2.1 hfd
  have hsec : ¬ b_second (nI (yl_k (nod 0) (c_d + 1))).toNatClampNeg = 0 := by rw [c1, hC3.1]; decide
  have hki : b_kinds (nI (yl_k (nod 0) (c_d + 1))).toNatClampNeg = nI (fr_k (c_s c_d)) := by rw [c1]; exact hC3.2.1
  have hva : b_values (nI (yl_k (nod 0) (c_d + 1))).toNatClampNeg = fr_v (c_s c_d) := by rw [c1]; exact hC3.2.2
  refine br_f (nI_nlt (b := tn (fr_p (c_s c_d))) (a := 56) ht.2 (by decide)) ?_
  refine ⟨i1, br_f hsec ⟨i1, nm_r hki ⟨i1, nm_r hva ?_⟩⟩⟩
  refine yo_pop hp (by omega) hn8 ?_
  intro len2 nod2 ow2 out2 P2
  refine And.intro hin ?_
  refine br_f (by rw [htk]; exact nb_ne (b := 52) (by omega) (by decide) h52) ?_
  by_cases hkk : fr_k (c_s c_d) = 1
  · have hk1 : nI (fr_k (c_s c_d)) = 1 := by rw [hkk]; rfl
    refine br_t hk1 (br_f (nb_ne (b := 1) (by omega) (by decide) (fun z => hkw ⟨z, hkk⟩)) ?_)
    exact K _ (yf_mk (st := 2) (fun z => absurd z (by decide)))
  · refine br_f (nb_ne (b := 1) (by omega) (by decide) hkk) ?_
    exact K _ (yf_mk (st := 2) (fun z => absurd z (by decide)))
theorem yg_callw (I : yr_R tok N (true, c_at, c_e, c_k, c_v, c_d + 1, c_s, c_H, c_R, c_cl, c_ms, c_oc, c_out) w) (hk : tb_T tn tok N) (hN : N ≤ 32) (hd : c_d + 1 ≤ 16) (hn8 : rs_n c_R ≤ 8) (hfd : fr_d (c_s c_d) = 1) (hpN : fr_p (c_s c_d) < N) (ht : 52 ≤ tn (fr_p (c_s c_d)) ∧ tn (fr_p (c_s c_d)) ≤ 56) (h52 : tn (fr_p (c_s c_d)) = 52) (hkk : fr_k (c_s c_d) = 1)
    (K : ∀ w', yf_R tok N 2 0 (0) c_cl (rs_n c_R) c_ms c_oc c_out w' → post w') : wpY_hand post w := by
  refine yr_el1 (P := fun w => wpY_hand post w) ?_ I
  intro len nod ow fr g_sort g_result g_at g_scope b_places b_second b_around b_kinds b_values b_outer b_taken b_names b_nameKinds b_nameValues b_nameOuter hm hp
  have hp2 := hp
  obtain ⟨⟨L, hfr⟩, C, h0, h1, h2, h3⟩ := hp2
  have hL := L 0 c_d (by omega)
  have hC := C.1 c_d (by omega)
  have c1 : (nI (yl_k (nod 0) (c_d + 1))).toNatClampNeg = nod 0 c_d := nI_clamp (show nod 0 c_d < 2 ^ 31 by omega)
  have i1 : vp_in (nI (yl_k (nod 0) (c_d + 1))) 200 := vp_in_nI (show nod 0 c_d < 200 by omega) (by decide)
  have htop : ¬ nI (yl_k (nod 0) (c_d + 1)) = 0 := nI_ne0 (show 0 < nod 0 c_d by omega) (show nod 0 c_d < 2 ^ 31 by omega)
  have hC2 := hC.2 (by omega)
  have hpl : b_places (nI (yl_k (nod 0) (c_d + 1))).toNatClampNeg = nI (fr_p (c_s c_d)) := by rw [c1]; exact hC2.1
  have har : b_around (nI (yl_k (nod 0) (c_d + 1))).toNatClampNeg = nI (fr_e (c_s c_d)) := by rw [c1]; exact hC2.2.1
  have htl := tb_lt (hk _ hpN).2
  have htk : tok (nI (fr_p (c_s c_d))).toNatClampNeg = nI (tn (fr_p (c_s c_d))) := by rw [nI_clamp (by omega)]; exact (hk _ hpN).1
  have hin : vp_in (nI (fr_p (c_s c_d))) 32 := vp_in_nI (by omega) (by decide)
  refine br_f htop ⟨i1, ?_⟩
  rw [hpl]
  refine br_t (nI_pos' (by omega)) ⟨hin, ?_⟩
  rw [htk]
  refine br_f htop ?_
  have hC3 := hC2.2.2.1 hfd
  have hsec : ¬ b_second (nI (yl_k (nod 0) (c_d + 1))).toNatClampNeg = 0 := by rw [c1, hC3.1]; decide
  have hki : b_kinds (nI (yl_k (nod 0) (c_d + 1))).toNatClampNeg = nI (fr_k (c_s c_d)) := by rw [c1]; exact hC3.2.1
  have hva : b_values (nI (yl_k (nod 0) (c_d + 1))).toNatClampNeg = fr_v (c_s c_d) := by rw [c1]; exact hC3.2.2
  refine br_f (nI_nlt (b := tn (fr_p (c_s c_d))) (a := 56) ht.2 (by decide)) ?_
  refine ⟨i1, br_f hsec ⟨i1, nm_r hki ⟨i1, nm_r hva ?_⟩⟩⟩
  refine yo_pop hp (by omega) hn8 ?_
  intro len2 nod2 ow2 out2 P2
  refine And.intro hin ?_
  refine br_t (by rw [htk, h52]; rfl) ?_
  have hk1 : nI (fr_k (c_s c_d)) = 1 := by rw [hkk]; rfl
  refine br_t hk1 ?_
  exact K _ (yf_mk (st := 2) (fun z => absurd z (by decide)))
theorem yg_calll (I : yr_R tok N (true, c_at, c_e, c_k, c_v, c_d + 1, c_s, c_H, c_R, c_cl, c_ms, c_oc, c_out) w) (hk : tb_T tn tok N) (hN : N ≤ 32) (hd : c_d + 1 ≤ 16) (hn8 : rs_n c_R ≤ 8) (hfd : fr_d (c_s c_d) = 1) (hpN : fr_p (c_s c_d) < N) (ht : 52 ≤ tn (fr_p (c_s c_d)) ∧ tn (fr_p (c_s c_d)) ≤ 56) (h52 : tn (fr_p (c_s c_d)) = 52) (hkk : fr_k (c_s c_d) = 2 ∨ fr_k (c_s c_d) = 3) (hcl0 : c_cl = 40)
    (K : ∀ w', yf_R tok N 3 0 (0) c_cl (rs_n c_R) c_ms c_oc c_out w' → post w') : wpY_hand post w := by
  refine yr_el1 (P := fun w => wpY_hand post w) ?_ I
  intro len nod ow fr g_sort g_result g_at g_scope b_places b_second b_around b_kinds b_values b_outer b_taken b_names b_nameKinds b_nameValues b_nameOuter hm hp
  have hp2 := hp
  obtain ⟨⟨L, hfr⟩, C, h0, h1, h2, h3⟩ := hp2
  have hL := L 0 c_d (by omega)
  have hC := C.1 c_d (by omega)
  have c1 : (nI (yl_k (nod 0) (c_d + 1))).toNatClampNeg = nod 0 c_d := nI_clamp (show nod 0 c_d < 2 ^ 31 by omega)
  have i1 : vp_in (nI (yl_k (nod 0) (c_d + 1))) 200 := vp_in_nI (show nod 0 c_d < 200 by omega) (by decide)
  have htop : ¬ nI (yl_k (nod 0) (c_d + 1)) = 0 := nI_ne0 (show 0 < nod 0 c_d by omega) (show nod 0 c_d < 2 ^ 31 by omega)
  have hC2 := hC.2 (by omega)
  have hpl : b_places (nI (yl_k (nod 0) (c_d + 1))).toNatClampNeg = nI (fr_p (c_s c_d)) := by rw [c1]; exact hC2.1
  have har : b_around (nI (yl_k (nod 0) (c_d + 1))).toNatClampNeg = nI (fr_e (c_s c_d)) := by rw [c1]; exact hC2.2.1
  have htl := tb_lt (hk _ hpN).2
  have htk : tok (nI (fr_p (c_s c_d))).toNatClampNeg = nI (tn (fr_p (c_s c_d))) := by rw [nI_clamp (by omega)]; exact (hk _ hpN).1
  have hin : vp_in (nI (fr_p (c_s c_d))) 32 := vp_in_nI (by omega) (by decide)
  refine br_f htop ⟨i1, ?_⟩
  rw [hpl]
  refine br_t (nI_pos' (by omega)) ⟨hin, ?_⟩
  rw [htk]
  refine br_f htop ?_
  have hC3 := hC2.2.2.1 hfd
  have hsec : ¬ b_second (nI (yl_k (nod 0) (c_d + 1))).toNatClampNeg = 0 := by rw [c1, hC3.1]; decide
  have hki : b_kinds (nI (yl_k (nod 0) (c_d + 1))).toNatClampNeg = nI (fr_k (c_s c_d)) := by rw [c1]; exact hC3.2.1
  have hva : b_values (nI (yl_k (nod 0) (c_d + 1))).toNatClampNeg = fr_v (c_s c_d) := by rw [c1]; exact hC3.2.2
  refine br_f (nI_nlt (b := tn (fr_p (c_s c_d))) (a := 56) ht.2 (by decide)) ?_
  refine ⟨i1, br_f hsec ⟨i1, nm_r hki ⟨i1, nm_r hva ?_⟩⟩⟩
  refine yo_pop hp (by omega) hn8 ?_
  intro len2 nod2 ow2 out2 P2
  refine And.intro hin ?_
  refine br_t (by rw [htk, h52]; rfl) ?_
  have h40 : nI c_cl = 40 := by rw [hcl0]; rfl
  refine br_f (nb_ne (b := 1) (by omega) (by decide) (by omega)) (br_t h40 ?_)
  exact K _ (yf_mk (st := 3) (fun z => absurd z (by decide)))
theorem yg_callf (I : yr_R tok N (true, c_at, c_e, c_k, c_v, c_d + 1, c_s, c_H, c_R, c_cl, c_ms, c_oc, c_out) w) (hk : tb_T tn tok N) (hN : N ≤ 32) (hd : c_d + 1 ≤ 16) (hn8 : rs_n c_R ≤ 8) (hfd : fr_d (c_s c_d) = 1) (hpN : fr_p (c_s c_d) < N) (ht : 52 ≤ tn (fr_p (c_s c_d)) ∧ tn (fr_p (c_s c_d)) ≤ 56) (h52 : tn (fr_p (c_s c_d)) = 52) (hkk : fr_k (c_s c_d) = 2) (hcl0 : c_cl < 40) {s0 p0 : Nat} (hv0 : fr_v (c_s c_d) = nI (64 * s0 + p0)) (hp0 : p0 < N) (hs0 : s0 < 2 ^ 20) (h40 : 40 ≤ tn p0) (hb : hn_b c_H + 1 < 12000)
    (K : ∀ w', yr_R tok N (false, p0 + 1, hn_b c_H + 1, c_k, c_v, c_d, c_s, hn_add c_H (tn p0 - 40) c_k c_v s0, c_R, c_cl + 1, c_ms, c_oc, c_out) w' → post w') : wpY_hand post w := by
  refine yr_el1 (P := fun w => wpY_hand post w) ?_ I
  intro len nod ow fr g_sort g_result g_at g_scope b_places b_second b_around b_kinds b_values b_outer b_taken b_names b_nameKinds b_nameValues b_nameOuter hm hp
  have hp2 := hp
  obtain ⟨⟨L, hfr⟩, C, h0, h1, h2, h3⟩ := hp2
  have hL := L 0 c_d (by omega)
  have hC := C.1 c_d (by omega)
  have c1 : (nI (yl_k (nod 0) (c_d + 1))).toNatClampNeg = nod 0 c_d := nI_clamp (show nod 0 c_d < 2 ^ 31 by omega)
  have i1 : vp_in (nI (yl_k (nod 0) (c_d + 1))) 200 := vp_in_nI (show nod 0 c_d < 200 by omega) (by decide)
  have htop : ¬ nI (yl_k (nod 0) (c_d + 1)) = 0 := nI_ne0 (show 0 < nod 0 c_d by omega) (show nod 0 c_d < 2 ^ 31 by omega)
  have hC2 := hC.2 (by omega)
  have hpl : b_places (nI (yl_k (nod 0) (c_d + 1))).toNatClampNeg = nI (fr_p (c_s c_d)) := by rw [c1]; exact hC2.1
  have har : b_around (nI (yl_k (nod 0) (c_d + 1))).toNatClampNeg = nI (fr_e (c_s c_d)) := by rw [c1]; exact hC2.2.1
  have htl := tb_lt (hk _ hpN).2
  have htk : tok (nI (fr_p (c_s c_d))).toNatClampNeg = nI (tn (fr_p (c_s c_d))) := by rw [nI_clamp (by omega)]; exact (hk _ hpN).1
  have hin : vp_in (nI (fr_p (c_s c_d))) 32 := vp_in_nI (by omega) (by decide)
  refine br_f htop ⟨i1, ?_⟩
  rw [hpl]
  refine br_t (nI_pos' (by omega)) ⟨hin, ?_⟩
  rw [htk]
  refine br_f htop ?_
  have hC3 := hC2.2.2.1 hfd
  have hsec : ¬ b_second (nI (yl_k (nod 0) (c_d + 1))).toNatClampNeg = 0 := by rw [c1, hC3.1]; decide
  have hki : b_kinds (nI (yl_k (nod 0) (c_d + 1))).toNatClampNeg = nI (fr_k (c_s c_d)) := by rw [c1]; exact hC3.2.1
  have hva : b_values (nI (yl_k (nod 0) (c_d + 1))).toNatClampNeg = fr_v (c_s c_d) := by rw [c1]; exact hC3.2.2
  refine br_f (nI_nlt (b := tn (fr_p (c_s c_d))) (a := 56) ht.2 (by decide)) ?_
  refine ⟨i1, br_f hsec ⟨i1, nm_r hki ⟨i1, nm_r hva ?_⟩⟩⟩
  refine yo_pop hp (by omega) hn8 ?_
  intro len2 nod2 ow2 out2 P2
  refine And.intro hin ?_
  refine br_t (by rw [htk, h52]; rfl) ?_
  have hk2 : nI (fr_k (c_s c_d)) = 2 := by rw [hkk]; rfl
  have er : fr_v (c_s c_d) - fr_v (c_s c_d) / 64 * 64 = nI p0 := by rw [hv0, nb_r64 (by omega), show (64 * s0 + p0) % 64 = p0 from by omega]
  have ed : fr_v (c_s c_d) / 64 = nI s0 := by rw [hv0, nb_d64 (by omega), show (64 * s0 + p0) / 64 = s0 from by omega]
  have hp0t := tb_lt (hk p0 hp0).2
  have et : tok (nI p0).toNatClampNeg - 40 = nI (tn p0 - 40) := by rw [nI_clamp (by omega), (hk p0 hp0).1]; exact pk_sub (b := 40) h40
  refine br_f (nb_ne (b := 1) (by omega) (by decide) (by omega)) (br_f (nb_ne (b := 40) (by omega) (by decide) (by omega)) (nm_r (nI_1 c_cl) (br_t hk2 ⟨by decide, nm_r er ⟨vp_in_nI (by omega) (by decide), by decide, ?_⟩⟩)))
  rw [et, ed]
  refine yo_bind hm hb ?_
  intro nm2 nk2 nv2 no2 M2
  show wpY_go _ _ (nI p0 + 1)
  rw [nI_1]
  exact K _ (yr_mk0 M2 P2)
theorem yg_bdeep (I : yr_R tok N (true, c_at, c_e, c_k, c_v, c_d + 1, c_s, c_H, c_R, c_cl, c_ms, c_oc, c_out) w) (hk : tb_T tn tok N) (hN : N ≤ 32) (hd : c_d + 1 ≤ 16) (hn8 : rs_n c_R ≤ 8) (hfd : fr_d (c_s c_d) = 1) (hpN : fr_p (c_s c_d) < N) (ht : 52 ≤ tn (fr_p (c_s c_d)) ∧ tn (fr_p (c_s c_d)) ≤ 56) (h52 : tn (fr_p (c_s c_d)) = 52) (hkk : fr_k (c_s c_d) = 3) (hcl0 : c_cl < 40) (hms2 : c_ms ≤ 16) (hR : ∀ r, rs_l c_R r ≤ 15) {r0 : Nat} (hv0 : fr_v (c_s c_d) = nI r0) (hr0 : r0 < rs_n c_R) (h4 : ∀ j, j < rs_l c_R r0 → fr_d (rs_f c_R r0 j) ≠ 4) (hdp : 16 < c_d + 1 + rs_l c_R r0)
    (K : ∀ w', yf_R tok N 4 0 (0) (c_cl + 1) (rs_n c_R) c_ms c_oc c_out w' → post w') : wpY_hand post w := by
  refine yr_el1 (P := fun w => wpY_hand post w) ?_ I
  intro len nod ow fr g_sort g_result g_at g_scope b_places b_second b_around b_kinds b_values b_outer b_taken b_names b_nameKinds b_nameValues b_nameOuter hm hp
  have hp2 := hp
  obtain ⟨⟨L, hfr⟩, C, h0, h1, h2, h3⟩ := hp2
  have hL := L 0 c_d (by omega)
  have hC := C.1 c_d (by omega)
  have c1 : (nI (yl_k (nod 0) (c_d + 1))).toNatClampNeg = nod 0 c_d := nI_clamp (show nod 0 c_d < 2 ^ 31 by omega)
  have i1 : vp_in (nI (yl_k (nod 0) (c_d + 1))) 200 := vp_in_nI (show nod 0 c_d < 200 by omega) (by decide)
  have htop : ¬ nI (yl_k (nod 0) (c_d + 1)) = 0 := nI_ne0 (show 0 < nod 0 c_d by omega) (show nod 0 c_d < 2 ^ 31 by omega)
  have hC2 := hC.2 (by omega)
  have hpl : b_places (nI (yl_k (nod 0) (c_d + 1))).toNatClampNeg = nI (fr_p (c_s c_d)) := by rw [c1]; exact hC2.1
  have har : b_around (nI (yl_k (nod 0) (c_d + 1))).toNatClampNeg = nI (fr_e (c_s c_d)) := by rw [c1]; exact hC2.2.1
  have htl := tb_lt (hk _ hpN).2
  have htk : tok (nI (fr_p (c_s c_d))).toNatClampNeg = nI (tn (fr_p (c_s c_d))) := by rw [nI_clamp (by omega)]; exact (hk _ hpN).1
  have hin : vp_in (nI (fr_p (c_s c_d))) 32 := vp_in_nI (by omega) (by decide)
  refine br_f htop ⟨i1, ?_⟩
  rw [hpl]
  refine br_t (nI_pos' (by omega)) ⟨hin, ?_⟩
  rw [htk]
  refine br_f htop ?_
  have hC3 := hC2.2.2.1 hfd
  have hsec : ¬ b_second (nI (yl_k (nod 0) (c_d + 1))).toNatClampNeg = 0 := by rw [c1, hC3.1]; decide
  have hki : b_kinds (nI (yl_k (nod 0) (c_d + 1))).toNatClampNeg = nI (fr_k (c_s c_d)) := by rw [c1]; exact hC3.2.1
  have hva : b_values (nI (yl_k (nod 0) (c_d + 1))).toNatClampNeg = fr_v (c_s c_d) := by rw [c1]; exact hC3.2.2
  refine br_f (nI_nlt (b := tn (fr_p (c_s c_d))) (a := 56) ht.2 (by decide)) ?_
  refine ⟨i1, br_f hsec ⟨i1, nm_r hki ⟨i1, nm_r hva ?_⟩⟩⟩
  refine yo_pop hp (by omega) hn8 ?_
  intro len2 nod2 ow2 out2 P2
  refine And.intro hin ?_
  refine br_t (by rw [htk, h52]; rfl) ?_
  refine br_f (nb_ne (b := 1) (by omega) (by decide) (by omega)) (br_f (nb_ne (b := 40) (by omega) (by decide) (by omega)) (nm_r (nI_1 c_cl) (br_f (nb_ne (b := 2) (by omega) (by decide) (by omega)) ?_)))
  rw [hv0]
  refine yt_taken P2 (by omega) hr0 hn8 hR hms2 h4 (fun z => absurd hdp (by omega)) (fun _ => ?_)
  exact K _ (yf_mk (st := 4) (fun z => absurd z (by decide)))
theorem yg_back (I : yr_R tok N (true, c_at, c_e, c_k, c_v, c_d + 1, c_s, c_H, c_R, c_cl, c_ms, c_oc, c_out) w) (hk : tb_T tn tok N) (hN : N ≤ 32) (hd : c_d + 1 ≤ 16) (hn8 : rs_n c_R ≤ 8) (hfd : fr_d (c_s c_d) = 1) (hpN : fr_p (c_s c_d) < N) (ht : 52 ≤ tn (fr_p (c_s c_d)) ∧ tn (fr_p (c_s c_d)) ≤ 56) (h52 : tn (fr_p (c_s c_d)) = 52) (hkk : fr_k (c_s c_d) = 3) (hcl0 : c_cl < 40) (hms2 : c_ms ≤ 16) (hR : ∀ r, rs_l c_R r ≤ 15) {r0 : Nat} (hv0 : fr_v (c_s c_d) = nI r0) (hr0 : r0 < rs_n c_R) (h4 : ∀ j, j < rs_l c_R r0 → fr_d (rs_f c_R r0 j) ≠ 4) (hdp : c_d + 1 + rs_l c_R r0 ≤ 16)
    (K : ∀ w', yr_R tok N (true, c_at, 0, c_k, c_v, c_d + 1 + rs_l c_R r0, ab_brk c_s c_d (rs_f c_R r0), c_H, c_R, c_cl + 1, ab_mx (c_d + 1 + rs_l c_R r0) (ab_mx (c_d + 1) c_ms), c_oc, c_out) w' → post w') : wpY_hand post w := by
  refine yr_el1 (P := fun w => wpY_hand post w) ?_ I
  intro len nod ow fr g_sort g_result g_at g_scope b_places b_second b_around b_kinds b_values b_outer b_taken b_names b_nameKinds b_nameValues b_nameOuter hm hp
  have hp2 := hp
  obtain ⟨⟨L, hfr⟩, C, h0, h1, h2, h3⟩ := hp2
  have hL := L 0 c_d (by omega)
  have hC := C.1 c_d (by omega)
  have c1 : (nI (yl_k (nod 0) (c_d + 1))).toNatClampNeg = nod 0 c_d := nI_clamp (show nod 0 c_d < 2 ^ 31 by omega)
  have i1 : vp_in (nI (yl_k (nod 0) (c_d + 1))) 200 := vp_in_nI (show nod 0 c_d < 200 by omega) (by decide)
  have htop : ¬ nI (yl_k (nod 0) (c_d + 1)) = 0 := nI_ne0 (show 0 < nod 0 c_d by omega) (show nod 0 c_d < 2 ^ 31 by omega)
  have hC2 := hC.2 (by omega)
  have hpl : b_places (nI (yl_k (nod 0) (c_d + 1))).toNatClampNeg = nI (fr_p (c_s c_d)) := by rw [c1]; exact hC2.1
  have har : b_around (nI (yl_k (nod 0) (c_d + 1))).toNatClampNeg = nI (fr_e (c_s c_d)) := by rw [c1]; exact hC2.2.1
  have htl := tb_lt (hk _ hpN).2
  have htk : tok (nI (fr_p (c_s c_d))).toNatClampNeg = nI (tn (fr_p (c_s c_d))) := by rw [nI_clamp (by omega)]; exact (hk _ hpN).1
  have hin : vp_in (nI (fr_p (c_s c_d))) 32 := vp_in_nI (by omega) (by decide)
  refine br_f htop ⟨i1, ?_⟩
  rw [hpl]
  refine br_t (nI_pos' (by omega)) ⟨hin, ?_⟩
  rw [htk]
  refine br_f htop ?_
  have hC3 := hC2.2.2.1 hfd
  have hsec : ¬ b_second (nI (yl_k (nod 0) (c_d + 1))).toNatClampNeg = 0 := by rw [c1, hC3.1]; decide
  have hki : b_kinds (nI (yl_k (nod 0) (c_d + 1))).toNatClampNeg = nI (fr_k (c_s c_d)) := by rw [c1]; exact hC3.2.1
  have hva : b_values (nI (yl_k (nod 0) (c_d + 1))).toNatClampNeg = fr_v (c_s c_d) := by rw [c1]; exact hC3.2.2
  refine br_f (nI_nlt (b := tn (fr_p (c_s c_d))) (a := 56) ht.2 (by decide)) ?_
  refine ⟨i1, br_f hsec ⟨i1, nm_r hki ⟨i1, nm_r hva ?_⟩⟩⟩
  refine yo_pop hp (by omega) hn8 ?_
  intro len2 nod2 ow2 out2 P2
  refine And.intro hin ?_
  refine br_t (by rw [htk, h52]; rfl) ?_
  refine br_f (nb_ne (b := 1) (by omega) (by decide) (by omega)) (br_f (nb_ne (b := 40) (by omega) (by decide) (by omega)) (nm_r (nI_1 c_cl) (br_f (nb_ne (b := 2) (by omega) (by decide) (by omega)) ?_)))
  rw [hv0]
  refine yt_taken P2 (by omega) hr0 hn8 hR hms2 h4 (fun _ len3 nod3 ow3 fr3 pl3 sec3 aro3 kin3 vals3 out3 P3 => ?_) (fun z => absurd hdp (by omega))
  exact K _ (yr_mk1 hm P3)
end
end
section
/-! what holds of the abstract machine, step by step; what is left to do falls -/
def ck_K (tn : Nat → Nat) (N : Nat) (H : ab_H) (R : ab_R) : Prop :=
  (∀ i, 1 ≤ i → i ≤ hn_b H → ab_V tn N H R (hn_k H i) (hn_v H i)) ∧ (∀ r, rs_l R r ≤ 15) ∧ (∀ r, r < rs_n R → ∀ j, j < rs_l R r → ab_W tn N H R (rs_f R r j) ∧ fr_d (rs_f R r j) ≠ 4) ∧ rs_n R ≤ 8
def ck_T (tn : Nat → Nat) (N : Nat) (H : ab_H) (R : ab_R) (d : Nat) (s : Nat → ab_F) (ms : Nat) : Prop :=
  1 ≤ d ∧ d ≤ 16 ∧ d ≤ ms ∧ ms ≤ 16 ∧ fr_d (s 0) = 4 ∧ ∀ f, f < d → ab_W tn N H R (s f)
def ck_O (tn : Nat → Nat) (N : Nat) (c : ab_C) : Prop := match c with
  | (c_has, c_at, c_e, c_k, c_v, c_d, c_s, c_H, c_R, c_cl, c_ms, c_oc, c_out) => (c_has = false → c_at < N ∧ ab_E c_H (sg_s tn c_at) c_e) ∧ (c_has = true → ab_V tn N c_H c_R c_k c_v) ∧ ck_T tn N c_H c_R c_d c_s c_ms ∧ ck_K tn N c_H c_R ∧ c_cl ≤ 40 ∧ c_oc ≤ 16
def ck_M (tn : Nat → Nat) (has : Bool) (at0 d : Nat) (s : Nat → ab_F) (R : ab_R) (cl : Nat) : Nat :=
  13000 * (40 - cl) + 500 * (8 - rs_n R) + pm_s (fun f => pm_f tn (s f)) d + (if has = true then 0 else pm_t tn at0)
section
variable {tn : Nat → Nat} {N : Nat} {H : ab_H} {R : ab_R} {x k o d ms : Nat} {v : Int32} {s : Nat → ab_F} {g : ab_F}
theorem ck_K_addH (h : ck_K tn N H R) (hv : ab_V tn N H R k v) : ck_K tn N (hn_add H x k v o) R := by
  refine ⟨fun i h1 h2 => ?_, h.2.1, fun r hr j hj => ⟨ab_W_addH (h.2.2.1 r hr j hj).1, (h.2.2.1 r hr j hj).2⟩, h.2.2.2⟩
  rw [hn_add_b] at h2
  rcases Nat.lt_or_ge i (hn_b H + 1) with h3 | h3
  · rw [hn_add_k (by omega), hn_add_v (by omega)]
    exact ab_V_addH (h.1 i h1 (by omega))
  · have : i = hn_b H + 1 := by omega
    subst this
    rw [hn_add_k', hn_add_v']
    exact ab_V_addH hv
theorem ck_T_addH (h : ck_T tn N H R d s ms) : ck_T tn N (hn_add H x k v o) R d s ms :=
  ⟨h.1, h.2.1, h.2.2.1, h.2.2.2.1, h.2.2.2.2.1, fun f hf => ab_W_addH (h.2.2.2.2.2 f hf)⟩
theorem ck_T_pop (h : ck_T tn N H R (d + 1) s ms) (hd : 1 ≤ d) : ck_T tn N H R d s ms :=
  ⟨hd, by have := h.2.1; omega, by have := h.2.2.1; omega, h.2.2.2.1, h.2.2.2.2.1, fun f hf => h.2.2.2.2.2 f (by omega)⟩
theorem ab_mx_le {a b : Nat} : a ≤ ab_mx a b ∧ b ≤ ab_mx a b := by unfold ab_mx; split <;> omega
theorem ab_mx_16 {a b : Nat} (ha : a ≤ 16) (hb : b ≤ 16) : ab_mx a b ≤ 16 := by unfold ab_mx; split <;> omega
theorem ck_T_push (h : ck_T tn N H R d s ms) (hd : d < 16) (hg : ab_W tn N H R g) : ck_T tn N H R (d + 1) (ab_psh s d g) (ab_mx (d + 1) ms) := by
  refine ⟨by omega, hd, ab_mx_le.1, ab_mx_16 hd h.2.2.2.1, ?_, fun f hf => ?_⟩
  · have e : ab_psh s d g 0 = s 0 := if_neg (by have := h.1; omega)
    rw [e]; exact h.2.2.2.2.1
  · by_cases hfd : f = d
    · have e : ab_psh s d g f = g := if_pos hfd
      rw [e]; exact hg
    · have e : ab_psh s d g f = s f := if_neg hfd
      rw [e]; exact h.2.2.2.2.2 f (by omega)
theorem ck_T_set (h : ck_T tn N H R (d + 1) s ms) (hd : 1 ≤ d) (hg : ab_W tn N H R g) : ck_T tn N H R (d + 1) (ab_psh s d g) ms := by
  refine ⟨by omega, h.2.1, h.2.2.1, h.2.2.2.1, ?_, fun f hf => ?_⟩
  · have e : ab_psh s d g 0 = s 0 := if_neg (by omega)
    rw [e]; exact h.2.2.2.2.1
  · by_cases hfd : f = d
    · have e : ab_psh s d g f = g := if_pos hfd
      rw [e]; exact hg
    · have e : ab_psh s d g f = s f := if_neg hfd
      rw [e]; exact h.2.2.2.2.2 f hf
theorem pm_psh : pm_s (fun f => pm_f tn (ab_psh s d g f)) (d + 1) = pm_s (fun f => pm_f tn (s f)) d + pm_f tn g := by
  show pm_s (fun f => pm_f tn (ab_psh s d g f)) d + pm_f tn (ab_psh s d g d) = _
  have e : ab_psh s d g d = g := if_pos rfl
  rw [e, pm_s_eq d (h := fun f => pm_f tn (s f)) (fun i hi => by
    have e2 : ab_psh s d g i = s i := if_neg (by omega)
    show pm_f tn (ab_psh s d g i) = _
    rw [e2])]
/-- there is a last mark -/
theorem ck_mark : ∀ d, fr_d (s 0) = 4 → 0 < d → ∃ m, m < d ∧ fr_d (s m) = 4 ∧ ∀ f, m < f → f < d → fr_d (s f) ≠ 4 := by
  intro d h0
  induction d with
  | zero => intro h; omega
  | succ d ih =>
    intro _
    by_cases hd : fr_d (s d) = 4
    · exact ⟨d, Nat.lt_succ_self _, hd, fun f h1 h2 => by omega⟩
    · rcases Nat.eq_zero_or_pos d with h1 | h1
      · subst h1; exact absurd h0 hd
      · obtain ⟨m, h2, h3, h4⟩ := ih h1
        refine ⟨m, by omega, h3, fun f h5 h6 => ?_⟩
        by_cases hf : f = d
        · rw [hf]; exact hd
        · exact h4 f h5 (by omega)
theorem ck_shift {m : Nat} (hT : ck_T tn N H R d s ms) (hK : ck_K tn N H R) (hm : m < d) (hmf : ∀ f, m < f → f < d → fr_d (s f) ≠ 4) (hsh : rs_n R < 8) :
    ck_T tn N (hn_add H x 3 (nI (rs_n R)) o) (rs_add R (d - 1 - m) (fun j => s (m + 1 + j))) (m + 1) s ms ∧ ck_K tn N (hn_add H x 3 (nI (rs_n R)) o) (rs_add R (d - 1 - m) (fun j => s (m + 1 + j))) := by
  have hd16 := hT.2.1
  have hdm := hT.2.2.1
  refine ⟨⟨by omega, by omega, by omega, hT.2.2.2.1, hT.2.2.2.2.1, fun f hf => ab_W_addH (ab_W_addR (hT.2.2.2.2.2 f (by omega)))⟩, ?_⟩
  have hK2 : ck_K tn N H (rs_add R (d - 1 - m) (fun j => s (m + 1 + j))) := by
    refine ⟨fun i h1 h2 => ab_V_addR (hK.1 i h1 h2), fun r => ?_, fun r hr j hj => ?_, by rw [rs_add_n]; omega⟩
    · by_cases hr : r = rs_n R
      · rw [hr, rs_add_l']; omega
      · rw [rs_add_l hr]; exact hK.2.1 r
    · by_cases hr2 : r = rs_n R
      · subst hr2
        rw [rs_add_l'] at hj
        rw [rs_add_f']
        exact ⟨ab_W_addR (hT.2.2.2.2.2 (m + 1 + j) (by omega)), hmf (m + 1 + j) (by omega) (by omega)⟩
      · rw [rs_add_n] at hr
        rw [rs_add_l hr2] at hj
        rw [rs_add_f hr2]
        have h := hK.2.2.1 r (by omega) j hj
        exact ⟨ab_W_addR h.1, h.2⟩
  exact ck_K_addH hK2 (Or.inr (Or.inr ⟨rfl, rs_n R, by rw [rs_add_n]; omega, rfl⟩))
theorem ck_brk {r : Nat} (hT : ck_T tn N H R d s ms) (hK : ck_K tn N H R) (hr : r < rs_n R) (hd : d + 1 + rs_l R r ≤ 16) :
    ck_T tn N H R (d + 1 + rs_l R r) (ab_brk s d (rs_f R r)) (ab_mx (d + 1 + rs_l R r) (ab_mx (d + 1) ms)) := by
  refine ⟨by omega, hd, ab_mx_le.1, ab_mx_16 hd (ab_mx_16 (by omega) hT.2.2.2.1), ?_, fun f hf => ?_⟩
  · have e : ab_brk s d (rs_f R r) 0 = s 0 := by
      unfold ab_brk ab_psh
      rw [if_pos (Nat.zero_le _), if_neg (by have := hT.1; omega)]
    rw [e]; exact hT.2.2.2.2.1
  · rcases Nat.lt_trichotomy f d with h | h | h
    · have e : ab_brk s d (rs_f R r) f = s f := by
        unfold ab_brk ab_psh
        rw [if_pos (by omega), if_neg (by omega)]
      rw [e]; exact hT.2.2.2.2.2 f h
    · have e : ab_brk s d (rs_f R r) f = (4, 0, 0, 0, 0) := by
        unfold ab_brk ab_psh
        rw [if_pos (by omega), if_pos h]
      rw [e]
      exact ⟨by decide, fun _ => rfl, Or.inr (Or.inr (Or.inr (Or.inr (Or.inl rfl))))⟩
    · have e : ab_brk s d (rs_f R r) f = rs_f R r (f - (d + 1)) := if_neg (by omega)
      rw [e]
      exact (hK.2.2.1 r hr (f - (d + 1)) (by omega)).1
theorem pm_brk {r : Nat} (hc : sg_cp tn N) (hK : ck_K tn N H R) (hr : r < rs_n R) : pm_s (fun f => pm_f tn (ab_brk s d (rs_f R r) f)) (d + 1 + rs_l R r) ≤ pm_s (fun f => pm_f tn (s f)) d + 3 + 15 * 865 := by
  rw [pm_s_add]
  have e1 : pm_s (fun f => pm_f tn (ab_brk s d (rs_f R r) f)) (d + 1) = pm_s (fun f => pm_f tn (ab_psh s d (4, 0, 0, 0, 0) f)) (d + 1) := pm_s_eq _ (fun i hi => by
    have e : ab_brk s d (rs_f R r) i = ab_psh s d (4, 0, 0, 0, 0) i := if_pos (by omega)
    show pm_f tn (ab_brk s d (rs_f R r) i) = _
    rw [e])
  have e2 : pm_f tn (4, 0, 0, 0, 0) = 3 := rfl
  have e3 : pm_s (fun i => pm_f tn (ab_brk s d (rs_f R r) (d + 1 + i))) (rs_l R r) ≤ rs_l R r * 865 := pm_s_le _ (fun i hi => by
    have e : ab_brk s d (rs_f R r) (d + 1 + i) = rs_f R r i := by
      unfold ab_brk
      rw [if_neg (by omega), show d + 1 + i - (d + 1) = i from by omega]
    show pm_f tn (ab_brk s d (rs_f R r) (d + 1 + i)) ≤ 865
    rw [e]
    exact pm_f_le hc (hK.2.2.1 r hr i hi).1)
  have h15 := hK.2.1 r
  rw [e1, pm_psh, e2]
  have : rs_l R r * 865 ≤ 15 * 865 := Nat.mul_le_mul_right _ h15
  omega
end
section
variable {tn : Nat → Nat} {N p : Nat}
/-- the weight of a term and of its parts -/
theorem pm_t1 (hc : sg_cp tn N) (hp : p < N) (h : sg_pt (tn p) = 1) : pm_t tn p = pm_t tn (p + 1) + 28 := by
  have h1 := sg_e1 hc hp h
  have h2 := sg_lt hc (sg_p1 hc hp (by omega))
  unfold pm_t; rw [h1]; omega
theorem pm_t2 (hc : sg_cp tn N) (hp : p < N) (h : sg_pt (tn p) = 2) : pm_t tn p = pm_t tn (p + 1) + pm_t tn (sg_e tn (p + 1)) + 53 := by
  have h1 := sg_e2 hc hp h
  have h2 := sg_lt hc (sg_p1 hc hp (by omega))
  have h3 := sg_lt hc (sg_p2 hc hp (by omega))
  unfold pm_t; rw [h1]; omega
theorem pm_t3 (hc : sg_cp tn N) (hp : p < N) (h : sg_pt (tn p) = 3) : pm_t tn p = pm_t tn (p + 1) + pm_t tn (sg_e tn (p + 1)) + pm_t tn (sg_e tn (sg_e tn (p + 1))) + 78 := by
  have h1 := sg_e3 hc hp h
  have h2 := sg_lt hc (sg_p1 hc hp (by omega))
  have h3 := sg_lt hc (sg_p2 hc hp (by omega))
  have h4 := sg_lt hc (sg_p3 hc hp (by omega))
  unfold pm_t; rw [h1]; omega
/-- the piece that is made pending -/
theorem ck_piece {H : ab_H} {R : ab_R} {e : Nat} (hc : sg_cp tn N) (hp : p < N) (ht : 52 ≤ tn p ∧ tn p < 66) (hE : ab_E H (sg_s tn p) e) :
    ab_W tn N H R (ab_kd (tn p), p, e, 0, 0) ∧ pm_f tn (ab_kd (tn p), p, e, 0, 0) + pm_t tn (p + 1) + 3 ≤ pm_t tn p ∧ sg_s tn (p + 1) = sg_s tn p ∧ p + 1 < N := by
  have hN := hc.1.1
  have hpt : 1 ≤ sg_pt (tn p) := by
    rcases (by omega : tn p ≤ 56 ∨ tn p = 57 ∨ tn p = 58 ∨ tn p = 59 ∨ 60 ≤ tn p) with h | h | h | h | h
    · have := sg_pt_two (t := tn p) (by omega); omega
    · have := sg_pt_three; rw [← h] at this; omega
    · have := sg_pt_one (t := tn p) (by omega); omega
    · have := sg_pt_one (t := tn p) (by omega); omega
    · have := sg_pt_two (t := tn p) (by omega); omega
  refine ⟨⟨show p < 32 by omega, fun _ => rfl, ?_⟩, ?_, sg_s1n hc hp (by omega) hpt, sg_p1 hc hp hpt⟩
  · rcases (by omega : tn p ≤ 56 ∨ tn p = 57 ∨ tn p = 58 ∨ tn p = 59 ∨ 60 ≤ tn p) with h | h | h | h | h
    · exact Or.inl ⟨if_pos h, hp, ht.1, h, hE⟩
    · exact Or.inr (Or.inr (Or.inl ⟨by rw [h]; rfl, hp, h, hE⟩))
    · exact Or.inr (Or.inr (Or.inr (Or.inl ⟨by rw [h]; rfl, hp, h⟩)))
    · exact Or.inr (Or.inr (Or.inr (Or.inr (Or.inl (by rw [h]; rfl)))))
    · refine Or.inr (Or.inr (Or.inr (Or.inr (Or.inr ⟨?_, hp, h, ht.2, hE⟩))))
      show ab_kd (tn p) = 5
      unfold ab_kd
      rw [if_neg (by omega), if_neg (by omega), if_neg (by omega), if_neg (by omega)]
  · rcases (by omega : tn p ≤ 56 ∨ tn p = 57 ∨ tn p = 58 ∨ tn p = 59 ∨ 60 ≤ tn p) with h | h | h | h | h
    · have e : ab_kd (tn p) = 0 := if_pos h
      have h2 := pm_t2 hc hp (sg_pt_two (by omega))
      rw [e]
      show pm_t tn (sg_e tn (p + 1)) + 6 + pm_t tn (p + 1) + 3 ≤ pm_t tn p
      omega
    · have e : ab_kd (tn p) = 2 := by rw [h]; rfl
      have h2 := pm_t3 hc hp (by rw [h]; exact sg_pt_three)
      rw [e]
      show pm_t tn (sg_e tn (p + 1)) + pm_t tn (sg_e tn (sg_e tn (p + 1))) + 3 + pm_t tn (p + 1) + 3 ≤ pm_t tn p
      omega
    · have e : ab_kd (tn p) = 3 := by rw [h]; rfl
      have h2 := pm_t1 hc hp (sg_pt_one (by omega))
      rw [e]
      show 3 + pm_t tn (p + 1) + 3 ≤ pm_t tn p
      omega
    · have e : ab_kd (tn p) = 4 := by rw [h]; rfl
      have h2 := pm_t1 hc hp (sg_pt_one (by omega))
      rw [e]
      show 3 + pm_t tn (p + 1) + 3 ≤ pm_t tn p
      omega
    · have e : ab_kd (tn p) = 5 := by
        unfold ab_kd
        rw [if_neg (by omega), if_neg (by omega), if_neg (by omega), if_neg (by omega)]
      have h2 := pm_t2 hc hp (sg_pt_two (by omega))
      rw [e]
      show pm_t tn (sg_e tn (p + 1)) + 50 + pm_t tn (p + 1) + 3 ≤ pm_t tn p
      omega
end
end
section
/-! the run: one outcome for both sides, by induction on what is left to do -/
-- base E f_count=nI N; f_base=nI b; f_top=nI (hp_t Z); f_depth=nI c_d; f_returning=0; f_code=nI c_at; f_bindings=nI pb; f_lastStatus=0; f_lastKind=0; f_lastNumber=0; f_outCount=nI c_oc; f_callCount=nI c_cl; f_shiftCount=nI (rs_n c_R); f_mostPending=nI c_ms; a_tokens=tok; a_outputs=c_out; n_memory=116000
-- base V f_count=nI N; f_base=nI b; f_top=nI (hp_t Z); f_depth=nI c_d; f_returning=1; f_bindings=nI pb; f_lastStatus=0; f_lastKind=0; f_lastNumber=0; f_outCount=nI c_oc; f_callCount=nI c_cl; f_shiftCount=nI (rs_n c_R); f_mostPending=nI c_ms; a_tokens=tok; a_outputs=c_out; n_memory=116000
def rn_X (post : Int32 → SX → Prop) (n ks : Nat) (u : SX) : Prop := match u with
  | (f_count, f_scopes, f_freeNames, f_base, f_top, f_sinceCollected, f_room, f_depth, f_returning, f_code, f_bindings, f_value, f_other, f_lastStatus, f_lastKind, f_lastNumber, f_outCount, f_callCount, f_shiftCount, f_mostPending, a_tokens, a_spans, a_codeOp, a_codeArgument, a_partOne, a_partTwo, a_partThree, a_scopeName, a_scopeAround, a_scopeOf, a_memory, a_frames, a_outputs, n_memory) => wX_run_109 post n (nI ks) f_count f_scopes f_freeNames f_base f_top f_sinceCollected f_room f_depth f_returning f_code f_bindings f_value f_other f_lastStatus f_lastKind f_lastNumber f_outCount f_callCount f_shiftCount f_mostPending a_tokens a_spans a_codeOp a_codeArgument a_partOne a_partTwo a_partThree a_scopeName a_scopeAround a_scopeOf a_memory a_frames a_outputs n_memory
def rn_XE (post : Int32 → SX → Prop) (u : SX) : Prop := match u with
  | (f_count, f_scopes, f_freeNames, f_base, f_top, f_sinceCollected, f_room, f_depth, f_returning, f_code, f_bindings, f_value, f_other, f_lastStatus, f_lastKind, f_lastNumber, f_outCount, f_callCount, f_shiftCount, f_mostPending, a_tokens, a_spans, a_codeOp, a_codeArgument, a_partOne, a_partTwo, a_partThree, a_scopeName, a_scopeAround, a_scopeOf, a_memory, a_frames, a_outputs, n_memory) => wX_run_146 post f_count f_scopes f_freeNames f_base f_top f_sinceCollected f_room f_depth f_returning f_code f_bindings f_value f_other f_lastStatus f_lastKind f_lastNumber f_outCount f_callCount f_shiftCount f_mostPending a_tokens a_spans a_codeOp a_codeArgument a_partOne a_partTwo a_partThree a_scopeName a_scopeAround a_scopeOf a_memory a_frames a_outputs n_memory
def rn_Y (post : Int32 → SY → Prop) (n : Nat) (w : SY) : Prop := match w with
  | (g_size, g_state, g_sort, g_result, g_shown, g_called, g_shifted, g_most, g_fresh, g_spare, g_top, g_depth, g_bound, g_at, g_scope, g_has, g_valueKind, g_value, b_tokens, b_paper, b_places, b_second, b_around, b_kinds, b_values, b_outer, b_taken, b_names, b_nameKinds, b_nameValues, b_nameOuter) => wY_run_65 post n g_size g_state g_sort g_result g_shown g_called g_shifted g_most g_fresh g_spare g_top g_depth g_bound g_at g_scope g_has g_valueKind g_value b_tokens b_paper b_places b_second b_around b_kinds b_values b_outer b_taken b_names b_nameKinds b_nameValues b_nameOuter
def rn_YE (post : Int32 → SY → Prop) (w : SY) : Prop := match w with
  | (g_size, g_state, g_sort, g_result, g_shown, g_called, g_shifted, g_most, g_fresh, g_spare, g_top, g_depth, g_bound, g_at, g_scope, g_has, g_valueKind, g_value, b_tokens, b_paper, b_places, b_second, b_around, b_kinds, b_values, b_outer, b_taken, b_names, b_nameKinds, b_nameValues, b_nameOuter) => ((g_state = 1 → ((g_valueKind = 1 → wY_run_119 post 1 g_size g_state g_sort g_result g_shown g_called g_shifted g_most g_fresh g_spare g_top g_depth g_bound g_at g_scope g_has g_valueKind g_value b_tokens b_paper b_places b_second b_around b_kinds b_values b_outer b_taken b_names b_nameKinds b_nameValues b_nameOuter) ∧ (¬ g_valueKind = 1 → wY_run_119 post 2 g_size g_state g_sort g_result g_shown g_called g_shifted g_most g_fresh g_spare g_top g_depth g_bound g_at g_scope g_has g_valueKind g_value b_tokens b_paper b_places b_second b_around b_kinds b_values b_outer b_taken b_names b_nameKinds b_nameValues b_nameOuter))) ∧ (¬ g_state = 1 → wY_run_119 post 0 g_size g_state g_sort g_result g_shown g_called g_shifted g_most g_fresh g_spare g_top g_depth g_bound g_at g_scope g_has g_valueKind g_value b_tokens b_paper b_places b_second b_around b_kinds b_values b_outer b_taken b_names b_nameKinds b_nameValues b_nameOuter))
section
variable {c_has : Bool} {c_at c_e c_k : Nat} {c_v : Int32} {c_d : Nat} {c_s : Nat → ab_F} {c_H : ab_H} {c_R : ab_R} {c_cl c_ms c_oc : Nat} {c_out : Nat → Int32}
variable {tn : Nat → Nat} {tok : Nat → Int32} {N T n ks : Nat} {u : SX} {w : SY} {post : Int32 → SX → Prop} {q : Int32 → SY → Prop} {G : SX → Prop} {GY : SY → Prop}
theorem rn_X0 (hks : ks < 200000) (I : xr_R tn tok N T (false, c_at, c_e, c_k, c_v, c_d, c_s, c_H, c_R, c_cl, c_ms, c_oc, c_out) u) (H : ∀ P : SX → Prop, (∀ u', G u' → P u') → wpX_workOut P u) (K : ∀ u', G u' → rn_X post n (ks + 1) u') : rn_X post (n + 1) ks u := by
  revert H
  refine xr_el0 (P := fun u => (∀ P : SX → Prop, (∀ u', G u' → P u') → wpX_workOut P u) → rn_X post (n + 1) ks u) ?_ I
  intro b Z pb f_scopes f_freeNames f_sinceCollected f_room f_value f_other a_spans a_codeOp a_codeArgument a_partOne a_partTwo a_partThree a_scopeName a_scopeAround a_scopeOf a_memory a_frames hc hm H
  refine br_f (nI_ge (b := 200000) hks (by decide)) (br_t rfl (br_t rfl (H _ ?_)))
  intro u' g
  have k := K u' g
  obtain ⟨f_count, f_scopes, f_freeNames, f_base, f_top, f_sinceCollected, f_room, f_depth, f_returning, f_code, f_bindings, f_value, f_other, f_lastStatus, f_lastKind, f_lastNumber, f_outCount, f_callCount, f_shiftCount, f_mostPending, a_tokens, a_spans, a_codeOp, a_codeArgument, a_partOne, a_partTwo, a_partThree, a_scopeName, a_scopeAround, a_scopeOf, a_memory, a_frames, a_outputs, n_memory⟩ := u'
  exact nm_r (nI_1 ks) k
theorem rn_X1 (hks : ks < 200000) (I : xr_R tn tok N T (true, c_at, c_e, c_k, c_v, c_d, c_s, c_H, c_R, c_cl, c_ms, c_oc, c_out) u) (H : ∀ P : SX → Prop, (∀ u', G u' → P u') → wpX_goOn P u) (K : ∀ u', G u' → rn_X post n (ks + 1) u') : rn_X post (n + 1) ks u := by
  revert H
  refine xr_el1 (P := fun u => (∀ P : SX → Prop, (∀ u', G u' → P u') → wpX_goOn P u) → rn_X post (n + 1) ks u) ?_ I
  intro b Z pb f_scopes f_freeNames f_sinceCollected f_room f_code f_value f_other a_spans a_codeOp a_codeArgument a_partOne a_partTwo a_partThree a_scopeName a_scopeAround a_scopeOf a_memory a_frames hc hm H
  refine br_f (nI_ge (b := 200000) hks (by decide)) (br_t rfl (br_f (by decide) (H _ ?_)))
  intro u' g
  have k := K u' g
  obtain ⟨f_count, f_scopes, f_freeNames, f_base, f_top, f_sinceCollected, f_room, f_depth, f_returning, f_code, f_bindings, f_value, f_other, f_lastStatus, f_lastKind, f_lastNumber, f_outCount, f_callCount, f_shiftCount, f_mostPending, a_tokens, a_spans, a_codeOp, a_codeArgument, a_partOne, a_partTwo, a_partThree, a_scopeName, a_scopeAround, a_scopeOf, a_memory, a_frames, a_outputs, n_memory⟩ := u'
  exact nm_r (nI_1 ks) k
theorem rn_XF {st k cl sh ms oc : Nat} {v : Int32} {out : Nat → Int32} (hst : 1 ≤ st ∧ st ≤ 5) (I : xf_R tok N st k v cl sh ms oc out u) (K : rn_XE post u) : rn_X post (n + 1) ks u := by
  obtain ⟨f_count, f_scopes, f_freeNames, f_base, f_top, f_sinceCollected, f_room, f_depth, f_returning, f_code, f_bindings, f_value, f_other, f_lastStatus, f_lastKind, f_lastNumber, f_outCount, f_callCount, f_shiftCount, f_mostPending, a_tokens, a_spans, a_codeOp, a_codeArgument, a_partOne, a_partTwo, a_partThree, a_scopeName, a_scopeAround, a_scopeOf, a_memory, a_frames, a_outputs, n_memory⟩ := u
  have e : f_lastStatus = nI st := I.2.1
  have hne : ¬ f_lastStatus = 0 := by rw [e]; exact nI_ne0 (by omega) (by omega)
  exact br_c (fun _ => K) (fun _ => br_f hne K)
theorem rn_Y0 (I : yr_R tok N (false, c_at, c_e, c_k, c_v, c_d, c_s, c_H, c_R, c_cl, c_ms, c_oc, c_out) w) (H : ∀ P : SY → Prop, (∀ w', GY w' → P w') → wpY_enter P w) (K : ∀ w', GY w' → rn_Y q n w') : rn_Y q (n + 1) w := by
  revert H
  refine yr_el0 (P := fun w => (∀ P : SY → Prop, (∀ w', GY w' → P w') → wpY_enter P w) → rn_Y q (n + 1) w) ?_ I
  intro len nod ow fr g_sort g_result g_valueKind g_value b_places b_second b_around b_kinds b_values b_outer b_taken b_names b_nameKinds b_nameValues b_nameOuter hm hp H
  refine br_t rfl (br_t rfl (H _ ?_))
  intro w' g
  have k := K w' g
  obtain ⟨g_size, g_state, g_sort, g_result, g_shown, g_called, g_shifted, g_most, g_fresh, g_spare, g_top, g_depth, g_bound, g_at, g_scope, g_has, g_valueKind, g_value, b_tokens, b_paper, b_places, b_second, b_around, b_kinds, b_values, b_outer, b_taken, b_names, b_nameKinds, b_nameValues, b_nameOuter⟩ := w'
  exact k
theorem rn_Y1 (I : yr_R tok N (true, c_at, c_e, c_k, c_v, c_d, c_s, c_H, c_R, c_cl, c_ms, c_oc, c_out) w) (H : ∀ P : SY → Prop, (∀ w', GY w' → P w') → wpY_hand P w) (K : ∀ w', GY w' → rn_Y q n w') : rn_Y q (n + 1) w := by
  revert H
  refine yr_el1 (P := fun w => (∀ P : SY → Prop, (∀ w', GY w' → P w') → wpY_hand P w) → rn_Y q (n + 1) w) ?_ I
  intro len nod ow fr g_sort g_result g_at g_scope b_places b_second b_around b_kinds b_values b_outer b_taken b_names b_nameKinds b_nameValues b_nameOuter hm hp H
  refine br_t rfl (br_f (by decide) (H _ ?_))
  intro w' g
  have k := K w' g
  obtain ⟨g_size, g_state, g_sort, g_result, g_shown, g_called, g_shifted, g_most, g_fresh, g_spare, g_top, g_depth, g_bound, g_at, g_scope, g_has, g_valueKind, g_value, b_tokens, b_paper, b_places, b_second, b_around, b_kinds, b_values, b_outer, b_taken, b_names, b_nameKinds, b_nameValues, b_nameOuter⟩ := w'
  exact k
theorem rn_YF {st k cl sh ms oc : Nat} {v : Int32} {out : Nat → Int32} (hst : 1 ≤ st ∧ st ≤ 5) (I : yf_R tok N st k v cl sh ms oc out w) (K : rn_YE q w) : rn_Y q (n + 1) w := by
  obtain ⟨g_size, g_state, g_sort, g_result, g_shown, g_called, g_shifted, g_most, g_fresh, g_spare, g_top, g_depth, g_bound, g_at, g_scope, g_has, g_valueKind, g_value, b_tokens, b_paper, b_places, b_second, b_around, b_kinds, b_values, b_outer, b_taken, b_names, b_nameKinds, b_nameValues, b_nameOuter⟩ := w
  have e : g_state = nI st := I.2.1
  have hne : ¬ g_state = 0 := by rw [e]; exact nI_ne0 (by omega) (by omega)
  exact br_f hne K
end
/-- both sides come to one end -/
def rn_G (tn : Nat → Nat) (tok : Nat → Int32) (N : Nat) (c : ab_C) (M : Nat) : Prop :=
  ∃ (st k : Nat) (v : Int32) (cl sh ms oc : Nat) (out : Nat → Int32), (1 ≤ st ∧ st ≤ 5) ∧ k ≤ 3 ∧ oc ≤ 16 ∧
    (∀ (T ks n : Nat) (u : SX) (post : Int32 → SX → Prop), xr_R tn tok N T c u → 10 * T + M ≤ 578000 → 3 * ks + M ≤ 599990 → M < n → (∀ u', xf_R tok N st k v cl sh ms oc out u' → rn_XE post u') → rn_X post n ks u) ∧
    (∀ (n : Nat) (w : SY) (q : Int32 → SY → Prop), yr_R tok N c w → M + 1 < n → (∀ w', yf_R tok N st k v cl sh ms oc out w' → rn_YE q w') → rn_Y q n w)
section
variable {c_has : Bool} {c_at c_e c_k : Nat} {c_v : Int32} {c_d : Nat} {c_s : Nat → ab_F} {c_H : ab_H} {c_R : ab_R} {c_cl c_ms c_oc : Nat} {c_out : Nat → Int32}
variable {tn : Nat → Nat} {tok : Nat → Int32} {N M M' al : Nat} {c' : ab_C}
theorem rn_E (hX : ∀ (T : Nat) (u : SX) (post : SX → Prop), T ≤ 57800 → xr_R tn tok N T (false, c_at, c_e, c_k, c_v, c_d, c_s, c_H, c_R, c_cl, c_ms, c_oc, c_out) u → (∀ u', xr_R tn tok N (T + al) c' u' → post u') → wpX_workOut post u)
    (hY : ∀ (w : SY) (post : SY → Prop), yr_R tok N (false, c_at, c_e, c_k, c_v, c_d, c_s, c_H, c_R, c_cl, c_ms, c_oc, c_out) w → (∀ w', yr_R tok N c' w' → post w') → wpY_enter post w) (hM : M' + 3 ≤ M) (hal : 10 * al + M' ≤ M) (G : rn_G tn tok N c' M') : rn_G tn tok N (false, c_at, c_e, c_k, c_v, c_d, c_s, c_H, c_R, c_cl, c_ms, c_oc, c_out) M := by
  obtain ⟨st, k, v, cl, sh, ms, oc, out, h1, h2, h3, gX, gY⟩ := G
  refine ⟨st, k, v, cl, sh, ms, oc, out, h1, h2, h3, fun T ks n u post I hT hks hn K => ?_, fun n w q I hn K => ?_⟩
  · obtain ⟨n', rfl⟩ : ∃ n', n = n' + 1 := ⟨n - 1, by omega⟩
    exact rn_X0 (by omega) I (fun P h => hX T u P (by omega) I h) (fun u' g => gX (T + al) (ks + 1) n' u' post g (by omega) (by omega) (by omega) K)
  · obtain ⟨n', rfl⟩ : ∃ n', n = n' + 1 := ⟨n - 1, by omega⟩
    exact rn_Y0 I (fun P h => hY w P I h) (fun w' g => gY n' w' q g (by omega) K)
theorem rn_V (hX : ∀ (T : Nat) (u : SX) (post : SX → Prop), T ≤ 57800 → xr_R tn tok N T (true, c_at, c_e, c_k, c_v, c_d, c_s, c_H, c_R, c_cl, c_ms, c_oc, c_out) u → (∀ u', xr_R tn tok N (T + al) c' u' → post u') → wpX_goOn post u)
    (hY : ∀ (w : SY) (post : SY → Prop), yr_R tok N (true, c_at, c_e, c_k, c_v, c_d, c_s, c_H, c_R, c_cl, c_ms, c_oc, c_out) w → (∀ w', yr_R tok N c' w' → post w') → wpY_hand post w) (hM : M' + 3 ≤ M) (hal : 10 * al + M' ≤ M) (G : rn_G tn tok N c' M') : rn_G tn tok N (true, c_at, c_e, c_k, c_v, c_d, c_s, c_H, c_R, c_cl, c_ms, c_oc, c_out) M := by
  obtain ⟨st, k, v, cl, sh, ms, oc, out, h1, h2, h3, gX, gY⟩ := G
  refine ⟨st, k, v, cl, sh, ms, oc, out, h1, h2, h3, fun T ks n u post I hT hks hn K => ?_, fun n w q I hn K => ?_⟩
  · obtain ⟨n', rfl⟩ : ∃ n', n = n' + 1 := ⟨n - 1, by omega⟩
    exact rn_X1 (by omega) I (fun P h => hX T u P (by omega) I h) (fun u' g => gX (T + al) (ks + 1) n' u' post g (by omega) (by omega) (by omega) K)
  · obtain ⟨n', rfl⟩ : ∃ n', n = n' + 1 := ⟨n - 1, by omega⟩
    exact rn_Y1 I (fun P h => hY w P I h) (fun w' g => gY n' w' q g (by omega) K)
variable {st k cl sh ms oc : Nat} {v : Int32} {out : Nat → Int32}
theorem rn_EF (h1 : 1 ≤ st ∧ st ≤ 5) (h2 : k ≤ 3) (h3 : oc ≤ 16) (hX : ∀ (T : Nat) (u : SX) (post : SX → Prop), T ≤ 57800 → xr_R tn tok N T (false, c_at, c_e, c_k, c_v, c_d, c_s, c_H, c_R, c_cl, c_ms, c_oc, c_out) u → (∀ u', xf_R tok N st k v cl sh ms oc out u' → post u') → wpX_workOut post u)
    (hY : ∀ (w : SY) (post : SY → Prop), yr_R tok N (false, c_at, c_e, c_k, c_v, c_d, c_s, c_H, c_R, c_cl, c_ms, c_oc, c_out) w → (∀ w', yf_R tok N st k v cl sh ms oc out w' → post w') → wpY_enter post w) (hM : 3 ≤ M) : rn_G tn tok N (false, c_at, c_e, c_k, c_v, c_d, c_s, c_H, c_R, c_cl, c_ms, c_oc, c_out) M := by
  refine ⟨st, k, v, cl, sh, ms, oc, out, h1, h2, h3, fun T ks n u post I hT hks hn K => ?_, fun n w q I hn K => ?_⟩
  · obtain ⟨n', rfl⟩ : ∃ n', n = n' + 1 + 1 := ⟨n - 2, by omega⟩
    exact rn_X0 (by omega) I (fun P h => hX T u P (by omega) I h) (fun u' g => rn_XF h1 g (K u' g))
  · obtain ⟨n', rfl⟩ : ∃ n', n = n' + 1 + 1 := ⟨n - 2, by omega⟩
    exact rn_Y0 I (fun P h => hY w P I h) (fun w' g => rn_YF h1 g (K w' g))
theorem rn_VF (h1 : 1 ≤ st ∧ st ≤ 5) (h2 : k ≤ 3) (h3 : oc ≤ 16) (hX : ∀ (T : Nat) (u : SX) (post : SX → Prop), T ≤ 57800 → xr_R tn tok N T (true, c_at, c_e, c_k, c_v, c_d, c_s, c_H, c_R, c_cl, c_ms, c_oc, c_out) u → (∀ u', xf_R tok N st k v cl sh ms oc out u' → post u') → wpX_goOn post u)
    (hY : ∀ (w : SY) (post : SY → Prop), yr_R tok N (true, c_at, c_e, c_k, c_v, c_d, c_s, c_H, c_R, c_cl, c_ms, c_oc, c_out) w → (∀ w', yf_R tok N st k v cl sh ms oc out w' → post w') → wpY_hand post w) (hM : 3 ≤ M) : rn_G tn tok N (true, c_at, c_e, c_k, c_v, c_d, c_s, c_H, c_R, c_cl, c_ms, c_oc, c_out) M := by
  refine ⟨st, k, v, cl, sh, ms, oc, out, h1, h2, h3, fun T ks n u post I hT hks hn K => ?_, fun n w q I hn K => ?_⟩
  · obtain ⟨n', rfl⟩ : ∃ n', n = n' + 1 + 1 := ⟨n - 2, by omega⟩
    exact rn_X1 (by omega) I (fun P h => hX T u P (by omega) I h) (fun u' g => rn_XF h1 g (K u' g))
  · obtain ⟨n', rfl⟩ : ∃ n', n = n' + 1 + 1 := ⟨n - 2, by omega⟩
    exact rn_Y1 I (fun P h => hY w P I h) (fun w' g => rn_YF h1 g (K w' g))
/-- the end: the reference takes one step more -/
theorem rn_VD (h2 : c_k ≤ 3) (h3 : c_oc ≤ 16) (hX : ∀ (T : Nat) (u : SX) (post : SX → Prop), T ≤ 57800 → xr_R tn tok N T (true, c_at, c_e, c_k, c_v, 1, c_s, c_H, c_R, c_cl, c_ms, c_oc, c_out) u → (∀ u', xf_R tok N 1 c_k c_v c_cl (rs_n c_R) c_ms c_oc c_out u' → post u') → wpX_goOn post u)
    (hY : ∀ (w : SY) (post : SY → Prop), yr_R tok N (true, c_at, c_e, c_k, c_v, 1, c_s, c_H, c_R, c_cl, c_ms, c_oc, c_out) w → (∀ w', yr_R tok N (true, c_at, fr_e (c_s 0), c_k, c_v, 0, c_s, c_H, c_R, c_cl, c_ms, c_oc, c_out) w' → post w') → wpY_hand post w) (hM : 3 ≤ M) : rn_G tn tok N (true, c_at, c_e, c_k, c_v, 1, c_s, c_H, c_R, c_cl, c_ms, c_oc, c_out) M := by
  refine ⟨1, c_k, c_v, c_cl, rs_n c_R, c_ms, c_oc, c_out, by decide, h2, h3, fun T ks n u post I hT hks hn K => ?_, fun n w q I hn K => ?_⟩
  · obtain ⟨n', rfl⟩ : ∃ n', n = n' + 1 + 1 := ⟨n - 2, by omega⟩
    exact rn_X1 (by omega) I (fun P h => hX T u P (by omega) I h) (fun u' g => rn_XF (by decide) g (K u' g))
  · obtain ⟨n', rfl⟩ : ∃ n', n = n' + 1 + 1 + 1 := ⟨n - 3, by omega⟩
    exact rn_Y1 I (fun P h => hY w P I h) (fun w' g => rn_Y1 g (fun P h => yg_top g h) (fun w2 g2 => rn_YF (by decide) g2 (K w2 g2)))
end
end
section
/-! every step of the run -/
theorem ck_M_f (tn : Nat → Nat) (a d : Nat) (s : Nat → ab_F) (R : ab_R) (cl : Nat) : ck_M tn false a d s R cl = 13000 * (40 - cl) + 500 * (8 - rs_n R) + pm_s (fun f => pm_f tn (s f)) d + pm_t tn a := rfl
theorem ck_M_t (tn : Nat → Nat) (a d : Nat) (s : Nat → ab_F) (R : ab_R) (cl : Nat) : ck_M tn true a d s R cl = 13000 * (40 - cl) + 500 * (8 - rs_n R) + pm_s (fun f => pm_f tn (s f)) d := rfl
theorem ck_s3 {tn : Nat → Nat} {s : Nat → ab_F} {d : Nat} (h0 : fr_d (s 0) = 4) (hd : 1 ≤ d) : 3 ≤ pm_s (fun f => pm_f tn (s f)) d := by
  have h1 := pm_s_mono (g := fun f => pm_f tn (s f)) hd
  have h2 : pm_s (fun f => pm_f tn (s f)) 1 = 0 + pm_f tn (s 0) := rfl
  have h3 : pm_f tn (s 0) = 3 := by unfold pm_f; rw [if_neg (by omega), if_neg (by omega), if_neg (by omega)]
  omega
theorem sg_s_small {tn : Nat → Nat} {a y : Nat} (h : y ∈ sg_s tn a) : y < 10 := by
  obtain ⟨p, _, _, h3⟩ := (sg_mem (tn := tn) (q := a) a).mp h
  omega
section
variable {c_has : Bool} {c_at c_e c_k : Nat} {c_v : Int32} {c_d : Nat} {c_s : Nat → ab_F} {c_H : ab_H} {c_R : ab_R} {c_cl c_ms c_oc : Nat} {c_out : Nat → Int32}
variable {tn : Nat → Nat} {tok : Nat → Int32} {N : Nat}
theorem rm_E (hc : sg_cp tn N) (hk : tb_T tn tok N) (O : ck_O tn N (false, c_at, c_e, c_k, c_v, c_d, c_s, c_H, c_R, c_cl, c_ms, c_oc, c_out)) (hb : 50 * hn_b c_H + ck_M tn false c_at c_d c_s c_R c_cl ≤ 590000)
    (IH : ∀ (has : Bool) (at0 e k : Nat) (v : Int32) (d : Nat) (s : Nat → ab_F) (H : ab_H) (R : ab_R) (cl ms oc : Nat) (out : Nat → Int32), ck_O tn N (has, at0, e, k, v, d, s, H, R, cl, ms, oc, out) → 50 * hn_b H + ck_M tn has at0 d s R cl ≤ 590000 → ck_M tn has at0 d s R cl < ck_M tn false c_at c_d c_s c_R c_cl → rn_G tn tok N (has, at0, e, k, v, d, s, H, R, cl, ms, oc, out) (ck_M tn has at0 d s R cl)) :
    rn_G tn tok N (false, c_at, c_e, c_k, c_v, c_d, c_s, c_H, c_R, c_cl, c_ms, c_oc, c_out) (ck_M tn false c_at c_d c_s c_R c_cl) := by
  obtain ⟨h1, _, hT, hK, hcl, hoc⟩ := O
  obtain ⟨hat, hE⟩ := h1 rfl
  have hN := hc.1.1
  have hpm := pm_t_le hc hat
  have heq := ck_M_f tn c_at c_d c_s c_R c_cl
  have heq2 := ck_M_t tn c_at c_d c_s c_R c_cl
  have hs3 := ck_s3 (tn := tn) hT.2.2.2.2.1 hT.1
  have hel := ab_E_le _ _ hE
  have hvt := (hk c_at hat).2
  have hp64 : ∀ f, f < c_d → fr_d (c_s f) ≤ 5 ∧ fr_p (c_s f) < 64 := by
    intro f hf
    obtain ⟨a1, _, a3⟩ := hT.2.2.2.2.2 f hf
    rcases a3 with a | a | a | a | a | a
    · have := a.1; omega
    · have := a.1; omega
    · have := a.1; omega
    · have := a.1; omega
    · omega
    · have := a.1; omega
  rcases hvt with ht | ht | ht | ht | ht
  · refine rn_E (al := 0) (M' := ck_M tn true c_at c_d c_s c_R c_cl) (c' := (true, c_at, c_e, 1, nI (tn c_at) - 100, c_d, c_s, c_H, c_R, c_cl, c_ms, c_oc, c_out)) (fun T u post hT I K => xw_num I hat hN ht.1 K) (fun w post I K => yw_num I hk hat hN ht.1 K) (by omega) (by omega) (IH _ _ _ _ _ _ _ _ _ _ _ _ _ ⟨fun z => absurd z (by decide), fun _ => Or.inl rfl, hT, hK, hcl, hoc⟩ (by omega) (by omega))
  · by_cases hx : tn c_at - 30 ∈ sg_s tn c_at
    · have hu := ab_u_E (sg_i (tn c_at - 30) (sg_s tn c_at)) _ _ hE ((sg_i_lt _).mp hx)
      refine rn_E (al := 0) (M' := ck_M tn true c_at c_d c_s c_R c_cl) (c' := (true, c_at, c_e, hn_k c_H (ab_u c_H (sg_i (tn c_at - 30) (sg_s tn c_at)) c_e), hn_v c_H (ab_u c_H (sg_i (tn c_at - 30) (sg_s tn c_at)) c_e), c_d, c_s, c_H, c_R, c_cl, c_ms, c_oc, c_out)) (fun T u post hT I K => xw_look I hat hN hT hK.2.1 (by omega) hx hE K) (fun w post I K => yw_look I hk hat hN (by omega) (by omega) hx hE (fun y hy => by have := sg_s_small hy; omega) K) (by omega) (by omega) (IH _ _ _ _ _ _ _ _ _ _ _ _ _ ⟨fun z => absurd z (by decide), fun _ => hK.1 _ hu.1 hu.2.1, hT, hK, hcl, hoc⟩ (by omega) (by omega))
    · exact rn_EF (st := 2) (by decide) (by decide) hoc (fun T u post hT I K => xw_none I hat hN hT (by omega) hx K) (fun w post I K => yw_none I hk hat hN (by omega) (by omega) hx hE (fun y hy => by have := sg_s_small hy; omega) K) (by omega)
  · have h2 := (sg_in1 hc hat (by rw [sg_pt_one (by omega)]; decide)).2.1
    have h3 : 31 ≤ pm_t tn c_at := by unfold pm_t; omega
    refine rn_E (al := 3) (M' := ck_M tn true c_at c_d c_s c_R c_cl) (c' := (true, c_at, c_e, 2, nI (64 * c_e + c_at), c_d, c_s, c_H, c_R, c_cl, c_ms, c_oc, c_out)) (fun T u post hT2 I K => xw_fun I hat hN hT2 hK.2.1 hT.2.1 (by omega) (by omega) K) (fun w post I K => yw_fun I hk hat hN (by omega) K) (by omega) (by omega) (IH _ _ _ _ _ _ _ _ _ _ _ _ _ ⟨fun z => absurd z (by decide), fun _ => Or.inr (Or.inl ⟨rfl, c_e, c_at, rfl, hat, by omega, by omega, hel, hE⟩), hT, hK, hcl, hoc⟩ (by omega) (by omega))
  · have ht2 : 52 ≤ tn c_at ∧ tn c_at < 66 := by omega
    obtain ⟨b1, b2, b3, b4⟩ := ck_piece (R := c_R) hc hat ht2 hE
    rcases Nat.lt_or_ge c_d 16 with hd | hd
    · have e1 := ck_M_f tn (c_at + 1) (c_d + 1) (ab_psh c_s c_d (ab_kd (tn c_at), c_at, c_e, 0, 0)) c_R c_cl
      rw [pm_psh] at e1
      refine rn_E (al := 0) (M' := ck_M tn false (c_at + 1) (c_d + 1) (ab_psh c_s c_d (ab_kd (tn c_at), c_at, c_e, 0, 0)) c_R c_cl) (c' := (false, c_at + 1, c_e, c_k, c_v, c_d + 1, ab_psh c_s c_d (ab_kd (tn c_at), c_at, c_e, 0, 0), c_H, c_R, c_cl, ab_mx (c_d + 1) c_ms, c_oc, c_out)) (fun T u post hT2 I K => xw_push I hat hN hd hT.2.2.2.1 ht2 K) (fun w post I K => yw_push I hk hat hN hd hT.2.2.2.1 hK.2.2.2 hK.2.1 ht2 K) (by omega) (by omega) (IH _ _ _ _ _ _ _ _ _ _ _ _ _ ⟨fun _ => ⟨b4, by rw [b3]; exact hE⟩, fun z => absurd z (by decide), ck_T_push hT hd b1, hK, hcl, hoc⟩ (by omega) (by omega))
    · have hd16 : c_d = 16 := by have := hT.2.1; omega
      exact rn_EF (st := 4) (by decide) (by decide) hoc (fun T u post hT2 I K => xw_deep I hat hN hT2 hd16 ht2 K) (fun w post I K => yw_deep I hk hat hN hd16 ht2 K) (by omega)
  · have ht2 : 70 ≤ tn c_at ∧ tn c_at < 76 := by omega
    rcases Nat.lt_or_ge (rs_n c_R) 8 with hsh | hsh
    · obtain ⟨m, m1, m2, m3⟩ := ck_mark c_d hT.2.2.2.2.1 hT.1
      have hpt := sg_pt_one (t := tn c_at) (by omega)
      have h5 := pm_t1 hc hat hpt
      have e1 := ck_M_f tn (c_at + 1) (m + 1) c_s (rs_add c_R (c_d - 1 - m) (fun j => c_s (m + 1 + j))) c_cl
      rw [rs_add_n] at e1
      have h6 := pm_s_mono (g := fun f => pm_f tn (c_s f)) (show m + 1 ≤ c_d from m1)
      obtain ⟨q1, q2⟩ := ck_shift (x := tn c_at - 70) (o := c_e) hT hK m1 m3 hsh
      have hE2 : ab_E (hn_add c_H (tn c_at - 70) 3 (nI (rs_n c_R)) c_e) (sg_s tn (c_at + 1)) (hn_b c_H + 1) := by
        rw [sg_s1b hc hat (by omega) (by omega), show tn c_at % 10 = tn c_at - 70 from by omega]
        exact ab_E_new hE
      have hb2 : hn_b (hn_add c_H (tn c_at - 70) 3 (nI (rs_n c_R)) c_e) = hn_b c_H + 1 := rfl
      refine rn_E (al := 50) (M' := ck_M tn false (c_at + 1) (m + 1) c_s (rs_add c_R (c_d - 1 - m) (fun j => c_s (m + 1 + j))) c_cl) (c' := (false, c_at + 1, hn_b c_H + 1, 3, nI (rs_n c_R), m + 1, c_s, hn_add c_H (tn c_at - 70) 3 (nI (rs_n c_R)) c_e, rs_add c_R (c_d - 1 - m) (fun j => c_s (m + 1 + j)), c_cl, c_ms, c_oc, c_out)) (fun T u post hT2 I K => xw_shift I hat hN hT2 hK.2.1 hT.2.1 hsh (by omega) ht2 m1 m2 m3 hp64 K) (fun w post I K => yw_shift I hk hat hN hsh hT.2.1 (by omega) ht2 m1 m2 m3 (fun f hf => (hp64 f hf).2) K) (by omega) (by omega) (IH _ _ _ _ _ _ _ _ _ _ _ _ _ ⟨fun _ => ⟨sg_p1 hc hat (by omega), hE2⟩, fun z => absurd z (by decide), q1, q2, hcl, hoc⟩ (by omega) (by omega))
    · have hsh8 : rs_n c_R = 8 := by have := hK.2.2.2; omega
      exact rn_EF (st := 3) (by decide) (by decide) hoc (fun T u post hT2 I K => xw_slong I hat hN hT2 hsh8 ht2 K) (fun w post I K => yw_slong I hk hat hN hsh8 ht2 K) (by omega)
theorem rm_V (hc : sg_cp tn N) (hk : tb_T tn tok N) (O : ck_O tn N (true, c_at, c_e, c_k, c_v, c_d + 1, c_s, c_H, c_R, c_cl, c_ms, c_oc, c_out)) (hb : 50 * hn_b c_H + ck_M tn true c_at (c_d + 1) c_s c_R c_cl ≤ 590000)
    (IH : ∀ (has : Bool) (at0 e k : Nat) (v : Int32) (d : Nat) (s : Nat → ab_F) (H : ab_H) (R : ab_R) (cl ms oc : Nat) (out : Nat → Int32), ck_O tn N (has, at0, e, k, v, d, s, H, R, cl, ms, oc, out) → 50 * hn_b H + ck_M tn has at0 d s R cl ≤ 590000 → ck_M tn has at0 d s R cl < ck_M tn true c_at (c_d + 1) c_s c_R c_cl → rn_G tn tok N (has, at0, e, k, v, d, s, H, R, cl, ms, oc, out) (ck_M tn has at0 d s R cl)) :
    rn_G tn tok N (true, c_at, c_e, c_k, c_v, c_d + 1, c_s, c_H, c_R, c_cl, c_ms, c_oc, c_out) (ck_M tn true c_at (c_d + 1) c_s c_R c_cl) := by
  obtain ⟨_, h1, hT, hK, hcl, hoc⟩ := O
  have hV := h1 rfl
  have hVk := ab_V_k hV
  have hN := hc.1.1
  have heq := ck_M_t tn c_at (c_d + 1) c_s c_R c_cl
  have hs1 : pm_s (fun f => pm_f tn (c_s f)) (c_d + 1) = pm_s (fun f => pm_f tn (c_s f)) c_d + pm_f tn (c_s c_d) := rfl
  have heq2 := ck_M_t tn c_at c_d c_s c_R c_cl
  have hs3 := ck_s3 (tn := tn) hT.2.2.2.2.1 hT.1
  have hd16 := hT.2.1
  have hR := hK.2.1
  have hn8 := hK.2.2.2
  obtain ⟨hp32, hk0, hW⟩ := hT.2.2.2.2.2 c_d (Nat.lt_succ_self _)
  have hd1 : fr_d (c_s c_d) ≠ 4 → 1 ≤ c_d := by
    intro z
    rcases Nat.eq_zero_or_pos c_d with h0 | h0
    · rw [h0] at z; exact absurd hT.2.2.2.2.1 z
    · exact h0
  rcases hW with ⟨hfd, hp, ht1, ht2, hE⟩ | ⟨hfd, hp, ht1, ht2, hVf⟩ | ⟨hfd, hp, ht, hE⟩ | ⟨hfd, hp, ht⟩ | hfd | ⟨hfd, hp, ht1, ht2, hE⟩
  · -- the first part is done
    have hpt := sg_pt_two (t := tn (fr_p (c_s c_d))) (by omega)
    have hpf : pm_f tn (c_s c_d) = pm_t tn (sg_e tn (fr_p (c_s c_d) + 1)) + 6 := if_pos hfd
    have e1 := ck_M_f tn (sg_e tn (fr_p (c_s c_d) + 1)) (c_d + 1) (ab_psh c_s c_d (1, fr_p (c_s c_d), fr_e (c_s c_d), c_k, c_v)) c_R c_cl
    rw [pm_psh, show pm_f tn (1, fr_p (c_s c_d), fr_e (c_s c_d), c_k, c_v) = 3 from rfl] at e1
    refine rn_V (al := 0) (M' := ck_M tn false (sg_e tn (fr_p (c_s c_d) + 1)) (c_d + 1) (ab_psh c_s c_d (1, fr_p (c_s c_d), fr_e (c_s c_d), c_k, c_v)) c_R c_cl) (c' := (false, sg_e tn (fr_p (c_s c_d) + 1), fr_e (c_s c_d), c_k, c_v, c_d + 1, ab_psh c_s c_d (1, fr_p (c_s c_d), fr_e (c_s c_d), c_k, c_v), c_H, c_R, c_cl, c_ms, c_oc, c_out)) (fun T u post hT2 I K => xg_first I hR hT2 hd16 hfd hp32 hN hp (by omega) hT.2.2.1 hT.2.2.2.1 K) (fun w post I K => yg_first I hk hN hd16 hn8 hfd hp hc ⟨ht1, ht2⟩ K) (by omega) (by omega) (IH _ _ _ _ _ _ _ _ _ _ _ _ _ ⟨fun _ => ⟨sg_p2 hc hp (by omega), ?_⟩, fun z => absurd z (by decide), ck_T_set hT (hd1 (by omega)) ⟨hp32, fun z => absurd rfl z, Or.inr (Or.inl ⟨rfl, hp, ht1, ht2, hV⟩)⟩, hK, hcl, hoc⟩ (by omega) (by omega))
    rw [sg_s2n hc hp (by omega) (by omega)]
    exact hE
  · -- the second part is done
    have hpf : pm_f tn (c_s c_d) = 3 := by unfold pm_f; rw [if_neg (by omega), if_neg (by omega), if_neg (by omega)]
    have hT1 := ck_T_pop hT (hd1 (by omega))
    have hVfk := ab_V_k hVf
    by_cases h52 : tn (fr_p (c_s c_d)) = 52
    · rcases hVf with hf1 | ⟨hf2, s0, p0, hv0, hp0, ht40, ht46, hs0, hE0⟩ | ⟨hf3, r0, hr0, hv0⟩
      · exact rn_VF (st := 2) (by decide) (by decide) hoc (fun T u post hT2 I K => xg_callw I hR hT2 hd16 hfd hp32 hN hp ⟨ht1, ht2⟩ h52 hf1 K) (fun w post I K => yg_callw I hk hN hd16 hn8 hfd hp ⟨ht1, ht2⟩ h52 hf1 K) (by omega)
      · rcases Nat.lt_or_ge c_cl 40 with hcl0 | hcl0
        · have hpt := sg_pt_one (t := tn p0) (by omega)
          have hp1 := sg_p1 hc hp0 (by omega)
          have hpm := pm_t_le hc hp1
          have hE2 : ab_E (hn_add c_H (tn p0 - 40) c_k c_v s0) (sg_s tn (p0 + 1)) (hn_b c_H + 1) := by
            rw [sg_s1b hc hp0 (by omega) (by omega), show tn p0 % 10 = tn p0 - 40 from by omega]
            exact ab_E_new hE0
          have hb2 : hn_b (hn_add c_H (tn p0 - 40) c_k c_v s0) = hn_b c_H + 1 := rfl
          have e1 := ck_M_f tn (p0 + 1) c_d c_s c_R (c_cl + 1)
          have e2 : 13000 * (40 - c_cl) = 13000 * (40 - (c_cl + 1)) + 13000 := by omega
          exact rn_V (al := 3) (M' := ck_M tn false (p0 + 1) c_d c_s c_R (c_cl + 1)) (c' := (false, p0 + 1, hn_b c_H + 1, c_k, c_v, c_d, c_s, hn_add c_H (tn p0 - 40) c_k c_v s0, c_R, c_cl + 1, c_ms, c_oc, c_out)) (fun T u post hT2 I K => xg_callf I hR hT2 hd16 hfd hp32 hN hp ⟨ht1, ht2⟩ h52 hf2 hcl0 hv0 hp0 (by omega) (by omega) K) (fun w post I K => yg_callf I hk hN hd16 hn8 hfd hp ⟨ht1, ht2⟩ h52 hf2 hcl0 hv0 hp0 (by omega) ht40 (by omega) K) (by omega) (by omega) (IH _ _ _ _ _ _ _ _ _ _ _ _ _ ⟨fun _ => ⟨hp1, hE2⟩, fun z => absurd z (by decide), ck_T_addH hT1, ck_K_addH hK hV, by omega, hoc⟩ (by omega) (by omega))
        · exact rn_VF (st := 3) (by decide) (by decide) hoc (fun T u post hT2 I K => xg_calll I hR hT2 hd16 hfd hp32 hN hp ⟨ht1, ht2⟩ h52 (Or.inl hf2) (by omega) K) (fun w post I K => yg_calll I hk hN hd16 hn8 hfd hp ⟨ht1, ht2⟩ h52 (Or.inl hf2) (by omega) K) (by omega)
      · rcases Nat.lt_or_ge c_cl 40 with hcl0 | hcl0
        · rcases Nat.lt_or_ge 16 (c_d + 1 + rs_l c_R r0) with hdp | hdp
          · exact rn_VF (st := 4) (by decide) (by decide) hoc (fun T u post hT2 I K => xg_bdeep I hR hT2 hd16 hfd hp32 hN hp ⟨ht1, ht2⟩ h52 hf3 hcl0 hv0 (by omega) hdp K) (fun w post I K => yg_bdeep I hk hN hd16 hn8 hfd hp ⟨ht1, ht2⟩ h52 hf3 hcl0 hT.2.2.2.1 hR hv0 hr0 (fun j hj => (hK.2.2.1 r0 hr0 j hj).2) hdp K) (by omega)
          · have hbr := pm_brk (s := c_s) (d := c_d) hc hK hr0
            have e1 := ck_M_t tn c_at (c_d + 1 + rs_l c_R r0) (ab_brk c_s c_d (rs_f c_R r0)) c_R (c_cl + 1)
            have e2 : 13000 * (40 - c_cl) = 13000 * (40 - (c_cl + 1)) + 13000 := by omega
            exact rn_V (al := 0) (M' := ck_M tn true c_at (c_d + 1 + rs_l c_R r0) (ab_brk c_s c_d (rs_f c_R r0)) c_R (c_cl + 1)) (c' := (true, c_at, 0, c_k, c_v, c_d + 1 + rs_l c_R r0, ab_brk c_s c_d (rs_f c_R r0), c_H, c_R, c_cl + 1, ab_mx (c_d + 1 + rs_l c_R r0) (ab_mx (c_d + 1) c_ms), c_oc, c_out)) (fun T u post hT2 I K => xg_back I hR hT2 hd16 hfd hp32 hN hp ⟨ht1, ht2⟩ h52 hf3 hcl0 hv0 (by omega) hT.2.2.2.1 hdp K) (fun w post I K => yg_back I hk hN hd16 hn8 hfd hp ⟨ht1, ht2⟩ h52 hf3 hcl0 hT.2.2.2.1 hR hv0 hr0 (fun j hj => (hK.2.2.1 r0 hr0 j hj).2) hdp K) (by omega) (by omega) (IH _ _ _ _ _ _ _ _ _ _ _ _ _ ⟨fun z => absurd z (by decide), fun _ => hV, ck_brk hT1 hK hr0 hdp, hK, by omega, hoc⟩ (by omega) (by omega))
        · exact rn_VF (st := 3) (by decide) (by decide) hoc (fun T u post hT2 I K => xg_calll I hR hT2 hd16 hfd hp32 hN hp ⟨ht1, ht2⟩ h52 (Or.inr hf3) (by omega) K) (fun w post I K => yg_calll I hk hN hd16 hn8 hfd hp ⟨ht1, ht2⟩ h52 (Or.inr hf3) (by omega) K) (by omega)
    · by_cases hkk : c_k = 1 ∧ fr_k (c_s c_d) = 1
      · exact rn_V (al := 0) (M' := ck_M tn true c_at c_d c_s c_R c_cl) (c' := (true, c_at, fr_e (c_s c_d), 1, ab_ca (tn (fr_p (c_s c_d))) (fr_v (c_s c_d)) c_v, c_d, c_s, c_H, c_R, c_cl, c_ms, c_oc, c_out)) (fun T u post hT2 I K => xg_calc I hR hT2 hd16 hfd hp32 hN hp ⟨ht1, ht2⟩ h52 hkk.1 hkk.2 K) (fun w post I K => yg_calc I hk hN hd16 hn8 hfd hp ⟨ht1, ht2⟩ h52 hkk.1 hkk.2 K) (by omega) (by omega) (IH _ _ _ _ _ _ _ _ _ _ _ _ _ ⟨fun z => absurd z (by decide), fun _ => Or.inl rfl, hT1, hK, hcl, hoc⟩ (by omega) (by omega))
      · exact rn_VF (st := 2) (by decide) (by decide) hoc (fun T u post hT2 I K => xg_wrong I hR hT2 hd16 hfd hp32 hN hp ⟨ht1, ht2⟩ h52 hVk.2 hVfk.2 hkk K) (fun w post I K => yg_wrong I hk hN hd16 hn8 hfd hp ⟨ht1, ht2⟩ h52 hVk.2 hVfk.2 hkk K) (by omega)
  · -- a condition
    have hpt : sg_pt (tn (fr_p (c_s c_d))) = 3 := by rw [ht]; exact sg_pt_three
    have hpf : pm_f tn (c_s c_d) = pm_t tn (sg_e tn (fr_p (c_s c_d) + 1)) + pm_t tn (sg_e tn (sg_e tn (fr_p (c_s c_d) + 1))) + 3 := by unfold pm_f; rw [if_neg (by omega), if_pos hfd]
    have hT1 := ck_T_pop hT (hd1 (by omega))
    by_cases hk1 : c_k = 1
    · by_cases hv : c_v = 0
      · have e1 := ck_M_f tn (sg_e tn (sg_e tn (fr_p (c_s c_d) + 1))) c_d c_s c_R c_cl
        refine rn_V (al := 0) (M' := ck_M tn false (sg_e tn (sg_e tn (fr_p (c_s c_d) + 1))) c_d c_s c_R c_cl) (c' := (false, sg_e tn (sg_e tn (fr_p (c_s c_d) + 1)), fr_e (c_s c_d), c_k, c_v, c_d, c_s, c_H, c_R, c_cl, c_ms, c_oc, c_out)) (fun T u post hT2 I K => xg_no I hR hT2 hd16 hfd hp32 hN hp (by omega) hk1 hv K) (fun w post I K => yg_no I hk hN hd16 hn8 hfd hp hc ht hk1 hv K) (by omega) (by omega) (IH _ _ _ _ _ _ _ _ _ _ _ _ _ ⟨fun _ => ⟨sg_p3 hc hp (by omega), ?_⟩, fun z => absurd z (by decide), hT1, hK, hcl, hoc⟩ (by omega) (by omega))
        rw [sg_s3n hc hp (by omega) (by omega)]
        exact hE
      · have e1 := ck_M_f tn (sg_e tn (fr_p (c_s c_d) + 1)) c_d c_s c_R c_cl
        refine rn_V (al := 0) (M' := ck_M tn false (sg_e tn (fr_p (c_s c_d) + 1)) c_d c_s c_R c_cl) (c' := (false, sg_e tn (fr_p (c_s c_d) + 1), fr_e (c_s c_d), c_k, c_v, c_d, c_s, c_H, c_R, c_cl, c_ms, c_oc, c_out)) (fun T u post hT2 I K => xg_yes I hR hT2 hd16 hfd hp32 hN hp (by omega) hk1 hv K) (fun w post I K => yg_yes I hk hN hd16 hn8 hfd hp hc ht hk1 hv K) (by omega) (by omega) (IH _ _ _ _ _ _ _ _ _ _ _ _ _ ⟨fun _ => ⟨sg_p2 hc hp (by omega), ?_⟩, fun z => absurd z (by decide), hT1, hK, hcl, hoc⟩ (by omega) (by omega))
        rw [sg_s2n hc hp (by omega) (by omega)]
        exact hE
    · exact rn_VF (st := 2) (by decide) (by decide) hoc (fun T u post hT2 I K => xg_cw I hR hT2 hd16 hfd hp32 hk1 hVk.2 K) (fun w post I K => yg_cw I hk hN hd16 hn8 hfd hp ht hk1 hVk.2 K) (by omega)
  · -- what is put out
    have hpf : pm_f tn (c_s c_d) = 3 := by unfold pm_f; rw [if_neg (by omega), if_neg (by omega), if_neg (by omega)]
    have hT1 := ck_T_pop hT (hd1 (by omega))
    by_cases hk1 : c_k = 1
    · rcases Nat.lt_or_ge c_oc 16 with ho | ho
      · exact rn_V (al := 0) (M' := ck_M tn true c_at c_d c_s c_R c_cl) (c' := (true, c_at, fr_e (c_s c_d), c_k, c_v, c_d, c_s, c_H, c_R, c_cl, c_ms, c_oc + 1, upd c_out c_oc c_v)) (fun T u post hT2 I K => xg_print I hR hT2 hd16 hfd hp32 hk1 ho K) (fun w post I K => yg_print I hk hN hd16 hn8 hfd hp ht hk1 ho K) (by omega) (by omega) (IH _ _ _ _ _ _ _ _ _ _ _ _ _ ⟨fun z => absurd z (by decide), fun _ => hV, hT1, hK, hcl, by omega⟩ (by omega) (by omega))
      · exact rn_VF (st := 5) (by decide) (by decide) hoc (fun T u post hT2 I K => xg_pfull I hR hT2 hd16 hfd hp32 hk1 (by omega) K) (fun w post I K => yg_pfull I hk hN hd16 hn8 hfd hp ht hk1 (by omega) K) (by omega)
    · exact rn_VF (st := 2) (by decide) (by decide) hoc (fun T u post hT2 I K => xg_pw I hR hT2 hd16 hfd hp32 hk1 hVk.2 K) (fun w post I K => yg_pw I hk hN hd16 hn8 hfd hp ht hk1 hVk.2 K) (by omega)
  · -- a mark
    have hpf : pm_f tn (c_s c_d) = 3 := by unfold pm_f; rw [if_neg (by omega), if_neg (by omega), if_neg (by omega)]
    rcases Nat.eq_zero_or_pos c_d with h0 | h0
    · subst h0
      exact rn_VD hVk.2 hoc (fun T u post hT2 I K => xg_done I hR hT2 hd16 hfd hp32 rfl K) (fun w post I K => yg_mark I hk hN hd16 hn8 hfd K) (by omega)
    · exact rn_V (al := 0) (M' := ck_M tn true c_at c_d c_s c_R c_cl) (c' := (true, c_at, fr_e (c_s c_d), c_k, c_v, c_d, c_s, c_H, c_R, c_cl, c_ms, c_oc, c_out)) (fun T u post hT2 I K => xg_mark I hR hT2 hd16 hfd hp32 h0 K) (fun w post I K => yg_mark I hk hN hd16 hn8 hfd K) (by omega) (by omega) (IH _ _ _ _ _ _ _ _ _ _ _ _ _ ⟨fun z => absurd z (by decide), fun _ => hV, ck_T_pop hT h0, hK, hcl, hoc⟩ (by omega) (by omega))
  · -- what is named
    have hpt := sg_pt_two (t := tn (fr_p (c_s c_d))) (by omega)
    have hpf : pm_f tn (c_s c_d) = pm_t tn (sg_e tn (fr_p (c_s c_d) + 1)) + 50 := by unfold pm_f; rw [if_neg (by omega), if_neg (by omega), if_pos hfd]
    have hT1 := ck_T_pop hT (hd1 (by omega))
    have hE2 : ab_E (hn_add c_H (tn (fr_p (c_s c_d)) - 60) c_k c_v (fr_e (c_s c_d))) (sg_s tn (sg_e tn (fr_p (c_s c_d) + 1))) (hn_b c_H + 1) := by
      rw [sg_s2b hc hp ⟨ht1, ht2⟩ (by omega), show tn (fr_p (c_s c_d)) % 10 = tn (fr_p (c_s c_d)) - 60 from by omega]
      exact ab_E_new hE
    have hb2 : hn_b (hn_add c_H (tn (fr_p (c_s c_d)) - 60) c_k c_v (fr_e (c_s c_d))) = hn_b c_H + 1 := rfl
    have e1 := ck_M_f tn (sg_e tn (fr_p (c_s c_d) + 1)) c_d c_s c_R c_cl
    exact rn_V (al := 3) (M' := ck_M tn false (sg_e tn (fr_p (c_s c_d) + 1)) c_d c_s c_R c_cl) (c' := (false, sg_e tn (fr_p (c_s c_d) + 1), hn_b c_H + 1, c_k, c_v, c_d, c_s, hn_add c_H (tn (fr_p (c_s c_d)) - 60) c_k c_v (fr_e (c_s c_d)), c_R, c_cl, c_ms, c_oc, c_out)) (fun T u post hT2 I K => xg_named I hR hT2 hd16 hfd hp32 hN hp (by omega) (by omega) K) (fun w post I K => yg_named I hk hN hd16 hn8 hfd hp hc ⟨ht1, ht2⟩ (by omega) K) (by omega) (by omega) (IH _ _ _ _ _ _ _ _ _ _ _ _ _ ⟨fun _ => ⟨sg_p2 hc hp (by omega), hE2⟩, fun z => absurd z (by decide), ck_T_addH hT1, ck_K_addH hK hV, hcl, hoc⟩ (by omega) (by omega))
end
section
variable {tn : Nat → Nat} {tok : Nat → Int32} {N : Nat}
theorem rm_all (hc : sg_cp tn N) (hk : tb_T tn tok N) : ∀ (M : Nat) (has : Bool) (at0 e k : Nat) (v : Int32) (d : Nat) (s : Nat → ab_F) (H : ab_H) (R : ab_R) (cl ms oc : Nat) (out : Nat → Int32), ck_M tn has at0 d s R cl < M → ck_O tn N (has, at0, e, k, v, d, s, H, R, cl, ms, oc, out) → 50 * hn_b H + ck_M tn has at0 d s R cl ≤ 590000 → rn_G tn tok N (has, at0, e, k, v, d, s, H, R, cl, ms, oc, out) (ck_M tn has at0 d s R cl) := by
  intro M
  induction M with
  | zero => intro has at0 e k v d s H R cl ms oc out h; omega
  | succ M ih =>
    intro has at0 e k v d s H R cl ms oc out hM O hb
    cases has with
    | false => exact rm_E hc hk O hb (fun has2 at2 e2 k2 v2 d2 s2 H2 R2 cl2 ms2 oc2 out2 O2 hb2 hlt => ih has2 at2 e2 k2 v2 d2 s2 H2 R2 cl2 ms2 oc2 out2 (by omega) O2 hb2)
    | true =>
      obtain ⟨d', rfl⟩ : ∃ d', d = d' + 1 := ⟨d - 1, by have := O.2.2.1.1; omega⟩
      exact rm_V hc hk O hb (fun has2 at2 e2 k2 v2 d2 s2 H2 R2 cl2 ms2 oc2 out2 O2 hb2 hlt => ih has2 at2 e2 k2 v2 d2 s2 H2 R2 cl2 ms2 oc2 out2 (by omega) O2 hb2)
end
end
section
/-! measure: the spans -/
def ms_k (tn : Nat → Nat) (i : Nat) : Nat → Nat
  | 0 => i + 1
  | k + 1 => sg_e tn (ms_k tn i k)
section
variable {tn : Nat → Nat} {N i : Nat}
theorem ms_k_lt (hc : sg_cp tn N) (hi : i < N) {k : Nat} (hk : k < sg_pt (tn i)) : ms_k tn i k < N ∧ i < ms_k tn i k := by
  have h3 := sg_pt3 (tn i)
  rcases (by omega : k = 0 ∨ k = 1 ∨ k = 2) with rfl | rfl | rfl
  · exact ⟨sg_p1 hc hi hk, Nat.lt_succ_self _⟩
  · have := sg_lt hc (sg_p1 hc hi (by omega))
    exact ⟨sg_p2 hc hi hk, show i < sg_e tn (i + 1) by omega⟩
  · have := sg_lt hc (sg_p1 hc hi (by omega))
    have := sg_lt hc (sg_p2 hc hi (by omega))
    exact ⟨sg_p3 hc hi hk, show i < sg_e tn (sg_e tn (i + 1)) by omega⟩
theorem ms_k_end (hc : sg_cp tn N) (hi : i < N) : ms_k tn i (sg_pt (tn i)) = sg_e tn i := by
  have h3 := sg_pt3 (tn i)
  rcases (by omega : sg_pt (tn i) = 0 ∨ sg_pt (tn i) = 1 ∨ sg_pt (tn i) = 2 ∨ sg_pt (tn i) = 3) with h | h | h | h
  · rw [h, sg_e0 hc hi h]; rfl
  · rw [h, sg_e1 hc hi h]; rfl
  · rw [h, sg_e2 hc hi h]; rfl
  · rw [h, sg_e3 hc hi h]; rfl
end
section
variable {f_count f_scopes f_freeNames f_base f_top f_sinceCollected f_room f_depth f_returning f_code f_bindings : Int32} {f_value f_other : Int64} {f_lastStatus f_lastKind f_lastNumber f_outCount f_callCount f_shiftCount f_mostPending : Int32} {a_tokens a_spans a_codeOp a_codeArgument a_partOne a_partTwo a_partThree a_scopeName a_scopeAround a_scopeOf : Nat → Int32} {a_memory a_frames : Nat → Int64} {a_outputs : Nat → Int32} {n_memory : Nat}
variable {tn : Nat → Nat} {tok : Nat → Int32} {N i : Nat} {post : SX → Prop}
theorem ms_26 {J : Int32 → (Nat → Int32) → (Nat → Int32) → (Nat → Int32) → (Nat → Int32) → (Nat → Int32) → (Nat → Int32) → (Nat → Int32) → (Nat → Int32) → (Nat → Int32) → (Nat → Int32) → (Nat → Int64) → (Nat → Int64) → (Nat → Int32) → Prop}
    (hc : sg_cp tn N) (hi : i < N) (hs : ∀ j, i < j → j < N → a_spans j = nI (sg_e tn j - j)) (K : J (nI i + (-1)) a_tokens (upd a_spans i (nI (sg_e tn i - i))) a_codeOp a_codeArgument a_partOne a_partTwo a_partThree a_scopeName a_scopeAround a_scopeOf a_memory a_frames a_outputs) :
    ∀ n k, k ≤ sg_pt (tn i) → sg_pt (tn i) - k < n → wX_measure_26 post J (nI i) (nI (sg_pt (tn i))) f_count f_scopes f_freeNames f_base f_top f_sinceCollected f_room f_depth f_returning f_code f_bindings f_value f_other f_lastStatus f_lastKind f_lastNumber f_outCount f_callCount f_shiftCount f_mostPending a_tokens a_spans a_codeOp a_codeArgument a_partOne a_partTwo a_partThree a_scopeName a_scopeAround a_scopeOf a_memory a_frames a_outputs n_memory n (nI (ms_k tn i k - i)) (nI k) := by
  have hN := hc.1.1
  have h3 := sg_pt3 (tn i)
  intro n
  induction n with
  | zero => intro k _ h; omega
  | succ n ih =>
    intro k hk hn
    rcases Nat.lt_or_ge k (sg_pt (tn i)) with h | h
    · have hm := ms_k_lt hc hi h
      have hl := sg_lt hc hm.1
      have e1 : nI i + nI (ms_k tn i k - i) = nI (ms_k tn i k) := by rw [nI_add]; congr 1; omega
      have e2 : nI (ms_k tn i k - i) + a_spans (nI i + nI (ms_k tn i k - i)).toNatClampNeg = nI (ms_k tn i (k + 1) - i) := by
        rw [pk_cl _ e1 (by omega), hs _ hm.2 hm.1, nI_add]
        congr 1
        show _ = sg_e tn (ms_k tn i k) - i
        omega
      exact br_f (nI_ge h (by omega)) ⟨pk_in _ _ (by omega) e1 (by decide), nm_r e2 (nm_r (nI_1 k) (ih (k + 1) h (by omega)))⟩
    · have hk2 : k = sg_pt (tn i) := by omega
      subst hk2
      rw [ms_k_end hc hi]
      have hle := sg_le hc hi
      refine br_t (nI_le (Nat.le_refl _) (by omega)) ⟨vp_in_nI (by omega) (by decide), nm_r (e' := upd a_spans i (nI (sg_e tn i - i))) ?_ (nm_e K)⟩
      rw [nI_clamp (by omega), nb_vb (by omega)]
theorem ms_7 (hc : sg_cp tn N) (hk : tb_T tn tok N) (K : ∀ sp : Nat → Int32, (∀ j, j < N → sp j = nI (sg_e tn j - j)) → post (f_count, f_scopes, f_freeNames, f_base, f_top, f_sinceCollected, f_room, f_depth, f_returning, f_code, f_bindings, f_value, f_other, f_lastStatus, f_lastKind, f_lastNumber, f_outCount, f_callCount, f_shiftCount, f_mostPending, tok, sp, a_codeOp, a_codeArgument, a_partOne, a_partTwo, a_partThree, a_scopeName, a_scopeAround, a_scopeOf, a_memory, a_frames, a_outputs, n_memory)) :
    ∀ n m (x1 : Int32) (sp : Nat → Int32), m ≤ N → m < n → ((m = 0 ∧ x1 = -1) ∨ (0 < m ∧ x1 = nI (m - 1))) → (∀ j, m ≤ j → j < N → sp j = nI (sg_e tn j - j)) → wX_measure_7 post f_count f_scopes f_freeNames f_base f_top f_sinceCollected f_room f_depth f_returning f_code f_bindings f_value f_other f_lastStatus f_lastKind f_lastNumber f_outCount f_callCount f_shiftCount f_mostPending n_memory n x1 tok sp a_codeOp a_codeArgument a_partOne a_partTwo a_partThree a_scopeName a_scopeAround a_scopeOf a_memory a_frames a_outputs := by
  have hN := hc.1.1
  intro n
  induction n with
  | zero => intro m x1 sp _ h; omega
  | succ n ih =>
    intro m x1 sp hm hn hx hs
    rcases hx with ⟨h0, rfl⟩ | ⟨h0, rfl⟩
    · exact br_t (by decide) (K sp (fun j hj => hs j (by omega) hj))
    · obtain ⟨i, rfl⟩ : ∃ i, m = i + 1 := ⟨m - 1, by omega⟩
      rw [Nat.add_sub_cancel]
      obtain ⟨e1, e2⟩ := hk i (by omega)
      have ht := tb_lt e2
      refine br_f (nI_pos (by omega)) ⟨vp_in_nI (by omega) (by decide), ?_⟩
      rw [nI_clamp (by omega), e1]
      refine tb_pof (by omega) (fun _ => ?_) (fun z => absurd e2 z)
      have h3 := sg_pt3 (tn i)
      refine ⟨4, ?_⟩
      have hl := ms_26 (post := post) (J := wX_measure_7 post f_count f_scopes f_freeNames f_base f_top f_sinceCollected f_room f_depth f_returning f_code f_bindings f_value f_other f_lastStatus f_lastKind f_lastNumber f_outCount f_callCount f_shiftCount f_mostPending n_memory n) (a_spans := sp) (a_tokens := tok) (f_count := f_count) (f_scopes := f_scopes) (f_freeNames := f_freeNames) (f_base := f_base) (f_top := f_top) (f_sinceCollected := f_sinceCollected) (f_room := f_room) (f_depth := f_depth) (f_returning := f_returning) (f_code := f_code) (f_bindings := f_bindings) (f_value := f_value) (f_other := f_other) (f_lastStatus := f_lastStatus) (f_lastKind := f_lastKind) (f_lastNumber := f_lastNumber) (f_outCount := f_outCount) (f_callCount := f_callCount) (f_shiftCount := f_shiftCount) (f_mostPending := f_mostPending) (a_codeOp := a_codeOp) (a_codeArgument := a_codeArgument) (a_partOne := a_partOne) (a_partTwo := a_partTwo) (a_partThree := a_partThree) (a_scopeName := a_scopeName) (a_scopeAround := a_scopeAround) (a_scopeOf := a_scopeOf) (a_memory := a_memory) (a_frames := a_frames) (a_outputs := a_outputs) (n_memory := n_memory) hc (show i < N by omega) (fun j hj hj2 => hs j hj hj2) ?_ 4 0 (Nat.zero_le _) (by omega)
      · rw [show ms_k tn i 0 - i = 1 from by show i + 1 - i = 1; omega] at hl
        exact hl
      · refine ih i _ _ (by omega) (by omega) ?_ ?_
        · rcases Nat.eq_zero_or_pos i with h4 | h4
          · exact Or.inl ⟨h4, by rw [h4]; decide⟩
          · exact Or.inr ⟨h4, sb_m1 h4⟩
        · intro j hj hj2
          by_cases hji : j = i
          · rw [hji, pk_us]
          · rw [pk_un hji]; exact hs j (by omega) hj2
theorem ms_all (hc : sg_cp tn N) (hk : tb_T tn tok N) (K : ∀ sp : Nat → Int32, (∀ j, j < N → sp j = nI (sg_e tn j - j)) → post (nI N, f_scopes, f_freeNames, f_base, f_top, f_sinceCollected, f_room, f_depth, f_returning, f_code, f_bindings, f_value, f_other, f_lastStatus, f_lastKind, f_lastNumber, f_outCount, f_callCount, f_shiftCount, f_mostPending, tok, sp, a_codeOp, a_codeArgument, a_partOne, a_partTwo, a_partThree, a_scopeName, a_scopeAround, a_scopeOf, a_memory, a_frames, a_outputs, n_memory)) : wpX_measure post (nI N, f_scopes, f_freeNames, f_base, f_top, f_sinceCollected, f_room, f_depth, f_returning, f_code, f_bindings, f_value, f_other, f_lastStatus, f_lastKind, f_lastNumber, f_outCount, f_callCount, f_shiftCount, f_mostPending, tok, a_spans, a_codeOp, a_codeArgument, a_partOne, a_partTwo, a_partThree, a_scopeName, a_scopeAround, a_scopeOf, a_memory, a_frames, a_outputs, n_memory) := by
  have h0 := (sg_e_0 hc).2
  refine nm_r (nb_s1 h0) ⟨N + 1, ?_⟩
  exact ms_7 (f_count := nI N) hc hk K (N + 1) N _ a_spans (Nat.le_refl _) (by omega) (Or.inr ⟨h0, rfl⟩) (fun j h1 h2 => by omega)
end
end
section
/-! compileNames: scopes -/
def cs_R (scn sca : Nat → Int32) (sc : Nat) : List Nat → Int32 → Prop
  | [], z => z = -1
  | x :: l, z => ∃ k, k < sc ∧ z = nI k ∧ scn k = nI x ∧ cs_R scn sca sc l (sca k)
theorem cs_ext {scn sca scn2 sca2 : Nat → Int32} {sc sc2 : Nat} (h : ∀ k, k < sc → scn2 k = scn k ∧ sca2 k = sca k) (hs : sc ≤ sc2) : ∀ (l : List Nat) (z : Int32), cs_R scn sca sc l z → cs_R scn2 sca2 sc2 l z := by
  intro l
  induction l with
  | nil => intro z h; exact h
  | cons x l ih =>
    rintro z ⟨k, h1, h2, h3, h4⟩
    exact ⟨k, by omega, h2, by rw [(h k h1).1]; exact h3, by rw [(h k h1).2]; exact ih _ h4⟩
theorem cs_byte {scn sca : Nat → Int32} {sc : Nat} {l : List Nat} {z : Int32} (h : cs_R scn sca sc l z) (hs : sc ≤ 64) : vp_nar .byte z.toInt8.toInt32 = z := by
  cases l with
  | nil => have h2 : z = -1 := h; rw [h2]; exact nb_vbm2
  | cons x l =>
    obtain ⟨k, h1, h2, _⟩ := h
    rw [h2]; exact nb_vb (by omega)
/-- a new scope -/
theorem cs_new {scn sca : Nat → Int32} {sc x : Nat} {l : List Nat} {z : Int32} (h : cs_R scn sca sc l z) : cs_R (upd scn sc (nI x)) (upd sca sc z) (sc + 1) (x :: l) (nI sc) := by
  refine ⟨sc, Nat.lt_succ_self _, rfl, pk_us, ?_⟩
  rw [pk_us]
  exact cs_ext (fun k hk => ⟨pk_un (by omega), pk_un (by omega)⟩) (Nat.le_succ _) l z h
def cs_part (tn : Nat → Nat) (p q : Nat) : Prop := (q = p + 1 ∧ 1 ≤ sg_pt (tn p)) ∨ (q = sg_e tn (p + 1) ∧ 2 ≤ sg_pt (tn p)) ∨ (q = sg_e tn (sg_e tn (p + 1)) ∧ 3 ≤ sg_pt (tn p))
section
variable {f_count f_scopes f_freeNames f_base f_top f_sinceCollected f_room f_depth f_returning f_code f_bindings : Int32} {f_value f_other : Int64} {f_lastStatus f_lastKind f_lastNumber f_outCount f_callCount f_shiftCount f_mostPending : Int32} {a_tokens a_spans a_codeOp a_codeArgument a_partOne a_partTwo a_partThree a_scopeName a_scopeAround a_scopeOf : Nat → Int32} {a_memory a_frames : Nat → Int64} {a_outputs : Nat → Int32} {n_memory : Nat}
variable {tn : Nat → Nat} {tok : Nat → Int32} {N i t sc x op b2 b3 : Nat} {l : List Nat} {z : Int32}
theorem cn_5 {post : Int32 → Prop} (hx : x < 2 ^ 31) (l1 : List Nat) (KY : x ∈ l1 → post (nI (sg_i x l1))) (KN : ¬ x ∈ l1 → post (-1)) (hsc : sc ≤ 32) :
    ∀ (l : List Nat) n (z : Int32) c, l.length < n → cs_R a_scopeName a_scopeAround sc l z → (∀ y, y ∈ l → y < 2 ^ 31) → (x ∈ l1 ↔ x ∈ l) → sg_i x l1 = c + sg_i x l → wX_placeOf_5 post (nI x) f_count f_scopes f_freeNames f_base f_top f_sinceCollected f_room f_depth f_returning f_code f_bindings f_value f_other f_lastStatus f_lastKind f_lastNumber f_outCount f_callCount f_shiftCount f_mostPending a_tokens a_spans a_codeOp a_codeArgument a_partOne a_partTwo a_partThree a_scopeName a_scopeAround a_scopeOf a_memory a_frames a_outputs n_memory n (nI c) z := by
  intro l
  induction l with
  | nil =>
    intro n z c hn hR _ hi _
    obtain ⟨m, rfl⟩ : ∃ m, n = m + 1 := ⟨n - 1, by have : ([] : List Nat).length = 0 := rfl; omega⟩
    have hz : z = -1 := hR
    subst hz
    exact br_t (by decide) (KN (fun w => absurd (hi.mp w) (by intro w; cases w)))
  | cons y l ih =>
    intro n z c hn hR hl hi hu
    obtain ⟨m, rfl⟩ : ∃ m, n = m + 1 := ⟨n - 1, by rw [List.length_cons] at hn; omega⟩
    obtain ⟨k, h1, rfl, h3, h4⟩ := hR
    have c1 : (nI k).toNatClampNeg = k := nI_clamp (by omega)
    have i1 : vp_in (nI k) 32 := vp_in_nI (by omega) (by decide)
    have hy := hl y (List.mem_cons_self ..)
    have hnm : a_scopeName (nI k).toNatClampNeg = nI y := by rw [c1, h3]
    refine br_f (nI_pos (by omega)) ⟨i1, ?_⟩
    by_cases hyx : y = x
    · have hin : x ∈ l1 := hi.mpr (by rw [hyx]; exact List.mem_cons_self ..)
      have h0 : sg_i x (y :: l) = 0 := if_pos hyx
      rw [h0, Nat.add_zero] at hu
      have hfin := KY hin
      rw [hu] at hfin
      exact br_t (by rw [hnm, hyx]) hfin
    · have h0 : sg_i x (y :: l) = sg_i x l + 1 := if_neg hyx
      refine br_f (by rw [hnm]; exact nb_ne hy hx hyx) (nm_r (nI_1 c) ⟨i1, nm_r (e' := a_scopeAround k) (by rw [c1]) (ih m _ (c + 1) (by rw [List.length_cons] at hn; omega) h4 (fun w hw => hl w (List.mem_cons_of_mem _ hw)) ?_ (by omega))⟩)
      rw [hi, List.mem_cons]
      exact ⟨fun w => w.resolve_left (fun v => hyx v.symm), Or.inr⟩
variable {post : SX → Prop}
theorem cn_num (hi : i < 32) (ho : a_codeOp i = 0) (K : post (f_count, f_scopes, f_freeNames, f_base, f_top, f_sinceCollected, f_room, f_depth, f_returning, f_code, f_bindings, f_value, f_other, f_lastStatus, f_lastKind, f_lastNumber, f_outCount, f_callCount, f_shiftCount, f_mostPending, a_tokens, a_spans, a_codeOp, a_codeArgument, a_partOne, a_partTwo, a_partThree, a_scopeName, a_scopeAround, a_scopeOf, a_memory, a_frames, a_outputs, n_memory)) : wpX_compileNames post (f_count, f_scopes, f_freeNames, f_base, f_top, f_sinceCollected, f_room, f_depth, f_returning, f_code, f_bindings, f_value, f_other, f_lastStatus, f_lastKind, f_lastNumber, f_outCount, f_callCount, f_shiftCount, f_mostPending, a_tokens, a_spans, a_codeOp, a_codeArgument, a_partOne, a_partTwo, a_partThree, a_scopeName, a_scopeAround, a_scopeOf, a_memory, a_frames, a_outputs, n_memory) (nI i) (nI t) := by
  have c1 : (nI i).toNatClampNeg = i := nI_clamp (by omega)
  exact ⟨vp_in_nI hi (by decide), nm_r (e' := 0) (by rw [c1, ho]) ⟨vp_in_nI (by omega) (by decide), nm_e (br_f (by decide) (br_t rfl K))⟩⟩
theorem cn_47 {r z0 : Int32} (hi : i < 32) (hr : vp_nar .byte r.toInt8.toInt32 = r) (hz : vp_nar .byte z0.toInt8.toInt32 = z0)
    (K1 : 0 ≤ r → post (f_count, f_scopes, f_freeNames, f_base, f_top, f_sinceCollected, f_room, f_depth, f_returning, f_code, f_bindings, f_value, f_other, f_lastStatus, f_lastKind, f_lastNumber, f_outCount, f_callCount, f_shiftCount, f_mostPending, a_tokens, a_spans, upd a_codeOp i z0, upd a_codeArgument i r, a_partOne, a_partTwo, a_partThree, a_scopeName, a_scopeAround, a_scopeOf, a_memory, a_frames, a_outputs, n_memory)) (K2 : ¬ 0 ≤ r → post (f_count, f_scopes, f_freeNames ||| ((1 : Int32) <<< ((nI t - 30) &&& 31)), f_base, f_top, f_sinceCollected, f_room, f_depth, f_returning, f_code, f_bindings, f_value, f_other, f_lastStatus, f_lastKind, f_lastNumber, f_outCount, f_callCount, f_shiftCount, f_mostPending, a_tokens, a_spans, upd a_codeOp i z0, upd a_codeArgument i r, a_partOne, a_partTwo, a_partThree, a_scopeName, a_scopeAround, a_scopeOf, a_memory, a_frames, a_outputs, n_memory)) :
    wX_compileNames_47 post (nI i) (nI t) r z0 (nI i) f_count f_scopes f_freeNames f_base f_top f_sinceCollected f_room f_depth f_returning f_code f_bindings f_value f_other f_lastStatus f_lastKind f_lastNumber f_outCount f_callCount f_shiftCount f_mostPending a_tokens a_spans a_codeOp a_codeArgument a_partOne a_partTwo a_partThree a_scopeName a_scopeAround a_scopeOf a_memory a_frames a_outputs n_memory := by
  have c1 : (nI i).toNatClampNeg = i := nI_clamp (by omega)
  have i1 : vp_in (nI i) 32 := vp_in_nI hi (by decide)
  refine ⟨i1, nm_r (e' := upd a_codeOp i z0) (by rw [c1, hz]) ⟨i1, nm_r (e' := upd a_codeArgument i r) (by rw [c1, hr]) (br_c (fun h => nm_r (e' := f_freeNames) (Int32.or_zero) (K1 h)) (fun h => nm_e (K2 h)))⟩⟩
theorem cn_place (hi : i < 32) (ho : a_codeOp i = 1) (hsc : sc ≤ 32) (hR : cs_R a_scopeName a_scopeAround sc l (a_scopeOf i)) (hl : ∀ y, y ∈ l → y < 2 ^ 31) (hlen : l.length ≤ 32) (ht : 30 ≤ t ∧ t < 40)
    (KY : t - 30 ∈ l → post (f_count, f_scopes, f_freeNames, f_base, f_top, f_sinceCollected, f_room, f_depth, f_returning, f_code, f_bindings, f_value, f_other, f_lastStatus, f_lastKind, f_lastNumber, f_outCount, f_callCount, f_shiftCount, f_mostPending, a_tokens, a_spans, upd a_codeOp i 1, upd a_codeArgument i (nI (sg_i (t - 30) l)), a_partOne, a_partTwo, a_partThree, a_scopeName, a_scopeAround, a_scopeOf, a_memory, a_frames, a_outputs, n_memory))
    (KN : ¬ t - 30 ∈ l → post (f_count, f_scopes, f_freeNames ||| ((1 : Int32) <<< ((nI t - 30) &&& 31)), f_base, f_top, f_sinceCollected, f_room, f_depth, f_returning, f_code, f_bindings, f_value, f_other, f_lastStatus, f_lastKind, f_lastNumber, f_outCount, f_callCount, f_shiftCount, f_mostPending, a_tokens, a_spans, upd a_codeOp i 2, upd a_codeArgument i (-1), a_partOne, a_partTwo, a_partThree, a_scopeName, a_scopeAround, a_scopeOf, a_memory, a_frames, a_outputs, n_memory)) :
    wpX_compileNames post (f_count, f_scopes, f_freeNames, f_base, f_top, f_sinceCollected, f_room, f_depth, f_returning, f_code, f_bindings, f_value, f_other, f_lastStatus, f_lastKind, f_lastNumber, f_outCount, f_callCount, f_shiftCount, f_mostPending, a_tokens, a_spans, a_codeOp, a_codeArgument, a_partOne, a_partTwo, a_partThree, a_scopeName, a_scopeAround, a_scopeOf, a_memory, a_frames, a_outputs, n_memory) (nI i) (nI t) := by
  have c1 : (nI i).toNatClampNeg = i := nI_clamp (by omega)
  refine ⟨vp_in_nI hi (by decide), nm_r (e' := 1) (by rw [c1, ho]) ⟨vp_in_nI (by omega) (by decide), nm_r (e' := a_scopeOf i) (by rw [c1]) (br_t rfl ?_)⟩⟩
  have e30 : nI t - 30 = nI (t - 30) := pk_sub (b := 30) ht.1
  have hgo : wpX_placeOf (fun r_96 => (((0 ≤ r_96 → (wX_compileNames_47 post (nI i) (nI t) r_96 1 (nI i) f_count f_scopes f_freeNames f_base f_top f_sinceCollected f_room f_depth f_returning f_code f_bindings f_value f_other f_lastStatus f_lastKind f_lastNumber f_outCount f_callCount f_shiftCount f_mostPending a_tokens a_spans a_codeOp a_codeArgument a_partOne a_partTwo a_partThree a_scopeName a_scopeAround a_scopeOf a_memory a_frames a_outputs n_memory)) ∧ (¬ 0 ≤ r_96 → (wX_compileNames_47 post (nI i) (nI t) r_96 2 (nI i) f_count f_scopes f_freeNames f_base f_top f_sinceCollected f_room f_depth f_returning f_code f_bindings f_value f_other f_lastStatus f_lastKind f_lastNumber f_outCount f_callCount f_shiftCount f_mostPending a_tokens a_spans a_codeOp a_codeArgument a_partOne a_partTwo a_partThree a_scopeName a_scopeAround a_scopeOf a_memory a_frames a_outputs n_memory))))) (f_count, f_scopes, f_freeNames, f_base, f_top, f_sinceCollected, f_room, f_depth, f_returning, f_code, f_bindings, f_value, f_other, f_lastStatus, f_lastKind, f_lastNumber, f_outCount, f_callCount, f_shiftCount, f_mostPending, a_tokens, a_spans, a_codeOp, a_codeArgument, a_partOne, a_partTwo, a_partThree, a_scopeName, a_scopeAround, a_scopeOf, a_memory, a_frames, a_outputs, n_memory) (nI (t - 30)) (a_scopeOf i) := by
    refine ⟨l.length + 1, cn_5 (x := t - 30) (by omega) l (fun hin => ?_) (fun hin => ?_) hsc l (l.length + 1) _ 0 (Nat.lt_succ_self _) hR hl Iff.rfl (by omega)⟩
    · have hlt := (sg_i_lt l).mp hin
      refine br_t (nI_pos' (by omega)) (cn_47 hi (nb_vb (by omega)) (nb_vb (t := 1) (by decide)) (fun _ => KY hin) (fun h => absurd (nI_pos' (by omega)) h))
    · refine br_f (by decide) (cn_47 hi nb_vbm2 (nb_vb (t := 2) (by decide)) (fun h => absurd h (by decide)) (fun _ => KN hin))
  rw [← e30] at hgo
  exact hgo
theorem cn_scope {post : Int32 → SX → Prop} (hsc : sc < 32) (hx : x < 128) (hz : vp_nar .byte z.toInt8.toInt32 = z) (K : post (nI sc) (f_count, nI (sc + 1), f_freeNames, f_base, f_top, f_sinceCollected, f_room, f_depth, f_returning, f_code, f_bindings, f_value, f_other, f_lastStatus, f_lastKind, f_lastNumber, f_outCount, f_callCount, f_shiftCount, f_mostPending, a_tokens, a_spans, a_codeOp, a_codeArgument, a_partOne, a_partTwo, a_partThree, upd a_scopeName sc (nI x), upd a_scopeAround sc z, a_scopeOf, a_memory, a_frames, a_outputs, n_memory)) :
    wpX_newScope post (f_count, nI sc, f_freeNames, f_base, f_top, f_sinceCollected, f_room, f_depth, f_returning, f_code, f_bindings, f_value, f_other, f_lastStatus, f_lastKind, f_lastNumber, f_outCount, f_callCount, f_shiftCount, f_mostPending, a_tokens, a_spans, a_codeOp, a_codeArgument, a_partOne, a_partTwo, a_partThree, a_scopeName, a_scopeAround, a_scopeOf, a_memory, a_frames, a_outputs, n_memory) (nI x) z := by
  have c1 : (nI sc).toNatClampNeg = sc := nI_clamp (by omega)
  have i1 : vp_in (nI sc) 32 := vp_in_nI hsc (by decide)
  exact nm_r (nI_1 sc) ⟨i1, nm_r (e' := upd a_scopeName sc (nI x)) (by rw [c1, nb_vb hx]) ⟨i1, nm_r (e' := upd a_scopeAround sc z) (by rw [c1, hz]) K⟩⟩
theorem cn_180 (hi : i < 32) (hz : vp_nar .byte z.toInt8.toInt32 = z) (h3 : a_partThree i = nI b3) (hb3 : b3 < 40) (K1 : b3 = 0 → post (f_count, f_scopes, f_freeNames, f_base, f_top, f_sinceCollected, f_room, f_depth, f_returning, f_code, f_bindings, f_value, f_other, f_lastStatus, f_lastKind, f_lastNumber, f_outCount, f_callCount, f_shiftCount, f_mostPending, a_tokens, a_spans, a_codeOp, a_codeArgument, a_partOne, a_partTwo, a_partThree, a_scopeName, a_scopeAround, a_scopeOf, a_memory, a_frames, a_outputs, n_memory)) (K2 : 0 < b3 → post (f_count, f_scopes, f_freeNames, f_base, f_top, f_sinceCollected, f_room, f_depth, f_returning, f_code, f_bindings, f_value, f_other, f_lastStatus, f_lastKind, f_lastNumber, f_outCount, f_callCount, f_shiftCount, f_mostPending, a_tokens, a_spans, a_codeOp, a_codeArgument, a_partOne, a_partTwo, a_partThree, a_scopeName, a_scopeAround, upd a_scopeOf b3 z, a_memory, a_frames, a_outputs, n_memory)) : wX_compileNames_180 post (nI i) z f_count f_scopes f_freeNames f_base f_top f_sinceCollected f_room f_depth f_returning f_code f_bindings f_value f_other f_lastStatus f_lastKind f_lastNumber f_outCount f_callCount f_shiftCount f_mostPending a_tokens a_spans a_codeOp a_codeArgument a_partOne a_partTwo a_partThree a_scopeName a_scopeAround a_scopeOf a_memory a_frames a_outputs n_memory := by
  have c1 : (nI i).toNatClampNeg = i := nI_clamp (by omega)
  have i1 : vp_in (nI i) 32 := vp_in_nI hi (by decide)
  unfold wX_compileNames_180
  rw [c1, h3]
  refine ⟨i1, ?_⟩
  rcases Nat.eq_zero_or_pos b3 with h0 | h0
  · exact br_t (by rw [h0]; decide) (K1 h0)
  · exact br_f (nI_nle h0 (by omega)) ⟨i1, vp_in_nI hb3 (by decide), nm_r (e' := upd a_scopeOf b3 z) (by rw [nI_clamp (by omega), hz]) (K2 h0)⟩
theorem cn_178 {z0 : Int32} (hi : i < 32) (hz : vp_nar .byte z.toInt8.toInt32 = z) (hz0 : vp_nar .byte z0.toInt8.toInt32 = z0) (h3 : a_partThree i = nI b3) (hb3 : b3 < 40) (hb2 : b2 < 40) (K1 : b3 = 0 → post (f_count, f_scopes, f_freeNames, f_base, f_top, f_sinceCollected, f_room, f_depth, f_returning, f_code, f_bindings, f_value, f_other, f_lastStatus, f_lastKind, f_lastNumber, f_outCount, f_callCount, f_shiftCount, f_mostPending, a_tokens, a_spans, a_codeOp, a_codeArgument, a_partOne, a_partTwo, a_partThree, a_scopeName, a_scopeAround, upd a_scopeOf b2 z0, a_memory, a_frames, a_outputs, n_memory)) (K2 : 0 < b3 → post (f_count, f_scopes, f_freeNames, f_base, f_top, f_sinceCollected, f_room, f_depth, f_returning, f_code, f_bindings, f_value, f_other, f_lastStatus, f_lastKind, f_lastNumber, f_outCount, f_callCount, f_shiftCount, f_mostPending, a_tokens, a_spans, a_codeOp, a_codeArgument, a_partOne, a_partTwo, a_partThree, a_scopeName, a_scopeAround, upd (upd a_scopeOf b2 z0) b3 z, a_memory, a_frames, a_outputs, n_memory)) :
    wX_compileNames_178 post (nI i) z z0 (nI b2) f_count f_scopes f_freeNames f_base f_top f_sinceCollected f_room f_depth f_returning f_code f_bindings f_value f_other f_lastStatus f_lastKind f_lastNumber f_outCount f_callCount f_shiftCount f_mostPending a_tokens a_spans a_codeOp a_codeArgument a_partOne a_partTwo a_partThree a_scopeName a_scopeAround a_scopeOf a_memory a_frames a_outputs n_memory :=
  ⟨vp_in_nI hb2 (by decide), nm_r (e' := upd a_scopeOf b2 z0) (by rw [nI_clamp (by omega), hz0]) (cn_180 hi hz h3 hb3 K1 K2)⟩
/-- a function or a shift: a scope for its part -/
theorem cn_bind (hi : i < 32) (ho : a_codeOp i = nI op) (hop : op = 3 ∨ op = 13) (hsc : sc < 32) (hz : vp_nar .byte (a_scopeOf i).toInt8.toInt32 = a_scopeOf i) (h1 : a_partOne i = nI (i + 1)) (h2 : a_partTwo i = 0) (h3 : a_partThree i = 0) (ht : t < 128)
    (K : post (f_count, nI (sc + 1), f_freeNames, f_base, f_top, f_sinceCollected, f_room, f_depth, f_returning, f_code, f_bindings, f_value, f_other, f_lastStatus, f_lastKind, f_lastNumber, f_outCount, f_callCount, f_shiftCount, f_mostPending, a_tokens, a_spans, a_codeOp, a_codeArgument, a_partOne, a_partTwo, a_partThree, upd a_scopeName sc (nI (t % 10)), upd a_scopeAround sc (a_scopeOf i), upd a_scopeOf (i + 1) (nI sc), a_memory, a_frames, a_outputs, n_memory)) :
    wpX_compileNames post (f_count, nI sc, f_freeNames, f_base, f_top, f_sinceCollected, f_room, f_depth, f_returning, f_code, f_bindings, f_value, f_other, f_lastStatus, f_lastKind, f_lastNumber, f_outCount, f_callCount, f_shiftCount, f_mostPending, a_tokens, a_spans, a_codeOp, a_codeArgument, a_partOne, a_partTwo, a_partThree, a_scopeName, a_scopeAround, a_scopeOf, a_memory, a_frames, a_outputs, n_memory) (nI i) (nI t) := by
  have c1 : (nI i).toNatClampNeg = i := nI_clamp (by omega)
  have i1 : vp_in (nI i) 32 := vp_in_nI hi (by decide)
  have e10 : nI t - nI t / 10 * 10 = nI (t % 10) := pk_rem (by omega) (by decide) (by decide)
  have h99 : wX_compileNames_99 post (nI i) (nI t) (nI op) (a_scopeOf i) f_count (nI sc) f_freeNames f_base f_top f_sinceCollected f_room f_depth f_returning f_code f_bindings f_value f_other f_lastStatus f_lastKind f_lastNumber f_outCount f_callCount f_shiftCount f_mostPending a_tokens a_spans a_codeOp a_codeArgument a_partOne a_partTwo a_partThree a_scopeName a_scopeAround a_scopeOf a_memory a_frames a_outputs n_memory := by
    unfold wX_compileNames_99 wX_compileNames_104
    rw [c1, h1, e10]
    refine ⟨i1, br_f (by decide) ⟨by decide, cn_scope hsc (by omega) hz ?_⟩⟩
    show wX_compileNames_136 _ _ _ _ _ _ _ _ _ _ _ _ _ _ _ _ _ _ _ _ _ _ _ _ _ _ _ _ _ _ _ _ _ _ _ _ _ _ _ _ _
    refine ⟨vp_in_nI (by omega) (by decide), nm_r (e' := upd a_scopeOf (i + 1) (nI sc)) (by rw [nI_clamp (by omega), nb_vb (by omega)]) ⟨i1, br_t (by rw [c1, h2]; decide) ?_⟩⟩
    exact cn_180 (b3 := 0) hi hz h3 (by decide) (fun _ => K) (fun h => absurd h (by decide))
  refine ⟨i1, nm_r (e' := nI op) (by rw [c1, ho]) ⟨vp_in_nI (by omega) (by decide), nm_r (e' := a_scopeOf i) (by rw [c1]) ?_⟩⟩
  rcases hop with rfl | rfl
  · exact br_f (by decide) (br_f (by decide) (br_t rfl h99))
  · exact br_f (by decide) (br_f (by decide) (br_f (by decide) (br_t rfl h99)))
/-- other terms with parts -/
theorem cn_op (hi : i < 32) (ho : a_codeOp i = nI op) (hop : 4 ≤ op ∧ op ≤ 12) (hsc : sc < 32) (hz : vp_nar .byte (a_scopeOf i).toInt8.toInt32 = a_scopeOf i) (h1 : a_partOne i = nI (i + 1)) (h2 : a_partTwo i = nI b2) (h3 : a_partThree i = nI b3) (hb2 : b2 < 40) (hb3 : b3 < 40) (hb23 : b2 = 0 → b3 = 0) (hb12 : op = 12 → b3 = 0) (ht : t < 128)
    (K1 : b2 = 0 → post (f_count, nI sc, f_freeNames, f_base, f_top, f_sinceCollected, f_room, f_depth, f_returning, f_code, f_bindings, f_value, f_other, f_lastStatus, f_lastKind, f_lastNumber, f_outCount, f_callCount, f_shiftCount, f_mostPending, a_tokens, a_spans, a_codeOp, a_codeArgument, a_partOne, a_partTwo, a_partThree, a_scopeName, a_scopeAround, upd a_scopeOf (i + 1) (a_scopeOf i), a_memory, a_frames, a_outputs, n_memory))
    (K2 : 0 < b2 → op ≠ 12 → b3 = 0 → post (f_count, nI sc, f_freeNames, f_base, f_top, f_sinceCollected, f_room, f_depth, f_returning, f_code, f_bindings, f_value, f_other, f_lastStatus, f_lastKind, f_lastNumber, f_outCount, f_callCount, f_shiftCount, f_mostPending, a_tokens, a_spans, a_codeOp, a_codeArgument, a_partOne, a_partTwo, a_partThree, a_scopeName, a_scopeAround, upd (upd a_scopeOf (i + 1) (a_scopeOf i)) b2 (a_scopeOf i), a_memory, a_frames, a_outputs, n_memory))
    (K3 : 0 < b2 → op ≠ 12 → 0 < b3 → post (f_count, nI sc, f_freeNames, f_base, f_top, f_sinceCollected, f_room, f_depth, f_returning, f_code, f_bindings, f_value, f_other, f_lastStatus, f_lastKind, f_lastNumber, f_outCount, f_callCount, f_shiftCount, f_mostPending, a_tokens, a_spans, a_codeOp, a_codeArgument, a_partOne, a_partTwo, a_partThree, a_scopeName, a_scopeAround, upd (upd (upd a_scopeOf (i + 1) (a_scopeOf i)) b2 (a_scopeOf i)) b3 (a_scopeOf i), a_memory, a_frames, a_outputs, n_memory))
    (K4 : 0 < b2 → op = 12 → post (f_count, nI (sc + 1), f_freeNames, f_base, f_top, f_sinceCollected, f_room, f_depth, f_returning, f_code, f_bindings, f_value, f_other, f_lastStatus, f_lastKind, f_lastNumber, f_outCount, f_callCount, f_shiftCount, f_mostPending, a_tokens, a_spans, a_codeOp, a_codeArgument, a_partOne, a_partTwo, a_partThree, upd a_scopeName sc (nI (t % 10)), upd a_scopeAround sc (a_scopeOf i), upd (upd a_scopeOf (i + 1) (a_scopeOf i)) b2 (nI sc), a_memory, a_frames, a_outputs, n_memory)) :
    wpX_compileNames post (f_count, nI sc, f_freeNames, f_base, f_top, f_sinceCollected, f_room, f_depth, f_returning, f_code, f_bindings, f_value, f_other, f_lastStatus, f_lastKind, f_lastNumber, f_outCount, f_callCount, f_shiftCount, f_mostPending, a_tokens, a_spans, a_codeOp, a_codeArgument, a_partOne, a_partTwo, a_partThree, a_scopeName, a_scopeAround, a_scopeOf, a_memory, a_frames, a_outputs, n_memory) (nI i) (nI t) := by
  have c1 : (nI i).toNatClampNeg = i := nI_clamp (by omega)
  have i1 : vp_in (nI i) 32 := vp_in_nI hi (by decide)
  have e10 : nI t - nI t / 10 * 10 = nI (t % 10) := pk_rem (by omega) (by decide) (by decide)
  have h104 : wX_compileNames_104 post (nI i) (nI t) (nI op) (a_scopeOf i) 0 f_count (nI sc) f_freeNames f_base f_top f_sinceCollected f_room f_depth f_returning f_code f_bindings f_value f_other f_lastStatus f_lastKind f_lastNumber f_outCount f_callCount f_shiftCount f_mostPending a_tokens a_spans a_codeOp a_codeArgument a_partOne a_partTwo a_partThree a_scopeName a_scopeAround a_scopeOf a_memory a_frames a_outputs n_memory := by
    unfold wX_compileNames_104
    rw [c1, h1]
    refine ⟨i1, br_t rfl ?_⟩
    unfold wX_compileNames_136
    rw [c1, h2, e10]
    refine ⟨vp_in_nI (by omega) (by decide), nm_r (e' := upd a_scopeOf (i + 1) (a_scopeOf i)) (by rw [nI_clamp (by omega), hz]) ⟨i1, ?_⟩⟩
    rcases Nat.eq_zero_or_pos b2 with h0 | h0
    · refine br_t (by rw [h0]; decide) ?_
      exact cn_180 (b3 := b3) hi hz h3 hb3 (fun _ => K1 h0) (fun h => absurd (hb23 h0) (by omega))
    · refine br_f (nI_nle h0 (by omega)) ⟨i1, ?_⟩
      by_cases h12 : op = 12
      · refine br_t (by rw [h12]; decide) ⟨by decide, cn_scope hsc (by omega) hz ?_⟩
        exact cn_178 hi hz (nb_vb (by omega)) h3 hb3 hb2 (fun _ => K4 h0 h12) (fun h => absurd (hb12 h12) (by omega))
      · refine br_f (nb_ne (b := 12) (by omega) (by decide) h12) ?_
        exact cn_178 hi hz hz h3 hb3 hb2 (fun h => K2 h0 h12 h) (fun h => K3 h0 h12 h)
  refine ⟨i1, nm_r (e' := nI op) (by rw [c1, ho]) ⟨vp_in_nI (by omega) (by decide), nm_r (e' := a_scopeOf i) (by rw [c1]) ?_⟩⟩
  exact br_f (nb_ne (b := 1) (by omega) (by decide) (by omega)) (br_f (nb_ne (b := 0) (by omega) (by decide) (by omega)) (br_f (nb_ne (b := 3) (by omega) (by decide) (by omega)) (br_f (nb_ne (b := 13) (by omega) (by decide) (by omega)) h104)))
end
end
section
/-! compile -/
noncomputable def fn_n (tn : Nat → Nat) : Nat → Int32
  | 0 => 0
  | i + 1 => haveI := Classical.propDecidable (tn i < 40 ∧ ¬ tn i - 30 ∈ sg_s tn i); if tn i < 40 ∧ ¬ tn i - 30 ∈ sg_s tn i then fn_n tn i ||| ((1 : Int32) <<< ((nI (tn i) - 30) &&& 31)) else fn_n tn i
theorem fn_t {tn : Nat → Nat} {i : Nat} (h : tn i < 40 ∧ ¬ tn i - 30 ∈ sg_s tn i) : fn_n tn (i + 1) = fn_n tn i ||| ((1 : Int32) <<< ((nI (tn i) - 30) &&& 31)) := by
  show (haveI := Classical.propDecidable (tn i < 40 ∧ ¬ tn i - 30 ∈ sg_s tn i); if tn i < 40 ∧ ¬ tn i - 30 ∈ sg_s tn i then fn_n tn i ||| ((1 : Int32) <<< ((nI (tn i) - 30) &&& 31)) else fn_n tn i) = _
  exact if_pos h
theorem fn_f {tn : Nat → Nat} {i : Nat} (h : ¬ (tn i < 40 ∧ ¬ tn i - 30 ∈ sg_s tn i)) : fn_n tn (i + 1) = fn_n tn i := by
  show (haveI := Classical.propDecidable (tn i < 40 ∧ ¬ tn i - 30 ∈ sg_s tn i); if tn i < 40 ∧ ¬ tn i - 30 ∈ sg_s tn i then fn_n tn i ||| ((1 : Int32) <<< ((nI (tn i) - 30) &&& 31)) else fn_n tn i) = _
  exact if_neg h
def cc_o (t : Nat) : Nat := if 80 ≤ t then 0 else if 70 ≤ t then 13 else if 60 ≤ t then 12 else if 52 ≤ t then t - 48 else if 40 ≤ t then 3 else 1
theorem cc_op {post : Int32 → Prop} {t : Nat} (ht : t < 2 ^ 30) (K : post (nI (cc_o t))) : wpX_operationOf post (nI t) := by
  unfold cc_o at K
  refine pk_lt t 80 (fun h => ?_) (fun h => ?_)
  · rw [if_neg (by omega)] at K
    refine pk_lt t 70 (fun h2 => ?_) (fun h2 => ?_)
    · rw [if_neg (by omega)] at K
      refine pk_lt t 60 (fun h3 => ?_) (fun h3 => ?_)
      · rw [if_neg (by omega)] at K
        refine pk_lt t 52 (fun h4 => ?_) (fun h4 => ?_)
        · rw [if_neg (by omega)] at K
          refine pk_lt t 40 (fun h5 => ?_) (fun h5 => ?_)
          · rw [if_neg (by omega)] at K; exact K
          · rw [if_pos h5] at K; exact K
        · rw [if_pos h4] at K
          have e : (4 + nI t) - 52 = nI (t - 48) := by
            rw [show (4 : Int32) = nI 4 from rfl, nI_add, show (52 : Int32) = nI 52 from rfl, pk_sub (by omega)]
            congr 1; omega
          rw [e]; exact K
      · rw [if_pos h3] at K; exact K
    · rw [if_pos h2] at K; exact K
  · rw [if_pos h] at K; exact K
def xc_1 (tn : Nat → Nat) (i : Nat) (cop car p1 p2 p3 : Nat → Int32) : Prop :=
  cop i = nI (xc_o tn i) ∧ p1 i = nI (i + 1) ∧ (2 ≤ sg_pt (tn i) → p2 i = nI (sg_e tn (i + 1))) ∧ (3 ≤ sg_pt (tn i) → p3 i = nI (sg_e tn (sg_e tn (i + 1)))) ∧ (80 ≤ tn i → car i = nI (tn i) - 100) ∧ (tn i < 40 → tn i - 30 ∈ sg_s tn i → car i = nI (sg_i (tn i - 30) (sg_s tn i)))
def cc_I (tn : Nat → Nat) (N i sc : Nat) (fn : Int32) (cop car p1 p2 p3 scn sca sco : Nat → Int32) : Prop :=
  sc ≤ i ∧ fn = fn_n tn i ∧ (∀ j, j < i → xc_1 tn j cop car p1 p2 p3) ∧ (∀ q, i ≤ q → q < N → (q = 0 ∨ ∃ p, p < i ∧ cs_part tn p q) → cs_R scn sca sc (sg_s tn q) (sco q))
section
variable {tn : Nat → Nat} {N i sc sc2 : Nat} {fn fn2 : Int32} {cop car p1 p2 p3 scn sca sco cop2 car2 p12 p22 p32 scn2 sca2 sco2 : Nat → Int32}
theorem cc_next (I : cc_I tn N i sc fn cop car p1 p2 p3 scn sca sco) (hsc : sc ≤ sc2 ∧ sc2 ≤ sc + 1) (hn : ∀ k, k < sc → scn2 k = scn k ∧ sca2 k = sca k) (hfn : fn2 = fn_n tn (i + 1))
    (hcode : ∀ j, j < i → cop2 j = cop j ∧ car2 j = car j ∧ p12 j = p1 j ∧ p22 j = p2 j ∧ p32 j = p3 j) (hi : xc_1 tn i cop2 car2 p12 p22 p32) (hpart : ∀ q, cs_part tn i q → cs_R scn2 sca2 sc2 (sg_s tn q) (sco2 q)) (hrest : ∀ q, i < q → ¬ cs_part tn i q → sco2 q = sco q) :
    cc_I tn N (i + 1) sc2 fn2 cop2 car2 p12 p22 p32 scn2 sca2 sco2 := by
  obtain ⟨h1, h2, h3, h4⟩ := I
  refine ⟨by omega, hfn, fun j hj => ?_, fun q hq hqN hp => ?_⟩
  · rcases Nat.lt_or_ge j i with h | h
    · obtain ⟨a1, a2, a3, a4, a5⟩ := hcode j h
      unfold xc_1
      rw [a1, a2, a3, a4, a5]
      exact h3 j h
    · have : j = i := by omega
      rw [this]; exact hi
  · by_cases hqp : cs_part tn i q
    · exact hpart q hqp
    · rw [hrest q (by omega) hqp]
      refine cs_ext hn hsc.1 _ _ (h4 q (by omega) hqN ?_)
      rcases hp with h | ⟨p, hp1, hp2⟩
      · exact Or.inl h
      · rcases Nat.lt_or_ge p i with h | h
        · exact Or.inr ⟨p, h, hp2⟩
        · have : p = i := by omega
          rw [this] at hp2
          exact absurd hp2 hqp
theorem cc_here (hc : sg_cp tn N) (I : cc_I tn N i sc fn cop car p1 p2 p3 scn sca sco) (hi : i < N) : cs_R scn sca sc (sg_s tn i) (sco i) := by
  refine I.2.2.2 i (Nat.le_refl _) hi ?_
  rcases Nat.eq_zero_or_pos i with h | h
  · exact Or.inl h
  · obtain ⟨p, h1, h2⟩ := sg_par hc h hi
    exact Or.inr ⟨p, h1, h2⟩
end
section
variable {f_count f_scopes f_freeNames f_base f_top f_sinceCollected f_room f_depth f_returning f_code f_bindings : Int32} {f_value f_other : Int64} {f_lastStatus f_lastKind f_lastNumber f_outCount f_callCount f_shiftCount f_mostPending : Int32} {a_tokens a_spans a_codeOp a_codeArgument a_partOne a_partTwo a_partThree a_scopeName a_scopeAround a_scopeOf : Nat → Int32} {a_memory a_frames : Nat → Int64} {a_outputs : Nat → Int32} {n_memory : Nat}
variable {tn : Nat → Nat} {tok : Nat → Int32} {N i sc b2 b3 : Nat} {post : SX → Prop}
theorem cc_88 {J : Int32 → Int32 → Int32 → Int32 → Int32 → Int32 → Int32 → Int32 → Int32 → Int32 → Int32 → Int32 → Int64 → Int64 → Int32 → Int32 → Int32 → Int32 → Int32 → Int32 → Int32 → (Nat → Int32) → (Nat → Int32) → (Nat → Int32) → (Nat → Int32) → (Nat → Int32) → (Nat → Int32) → (Nat → Int32) → (Nat → Int32) → (Nat → Int32) → (Nat → Int32) → (Nat → Int64) → (Nat → Int64) → (Nat → Int32) → Nat → Prop}
    (hc : sg_cp tn N) (hv : sg_vt (tn i)) (hi : i < N) (I : cc_I tn N i sc f_freeNames a_codeOp a_codeArgument a_partOne a_partTwo a_partThree a_scopeName a_scopeAround a_scopeOf)
    (hb2 : b2 = if 2 ≤ sg_pt (tn i) then sg_e tn (i + 1) else 0) (hb3 : b3 = if 3 ≤ sg_pt (tn i) then sg_e tn (sg_e tn (i + 1)) else 0)
    (K : ∀ (sc2 : Nat) (fn2 : Int32) (cop2 car2 p12 p22 p32 scn2 sca2 sco2 : Nat → Int32), cc_I tn N (i + 1) sc2 fn2 cop2 car2 p12 p22 p32 scn2 sca2 sco2 → J (nI (i + 1)) f_count (nI sc2) fn2 f_base f_top f_sinceCollected f_room f_depth f_returning f_code f_bindings f_value f_other f_lastStatus f_lastKind f_lastNumber f_outCount f_callCount f_shiftCount f_mostPending a_tokens a_spans cop2 car2 p12 p22 p32 scn2 sca2 sco2 a_memory a_frames a_outputs n_memory) :
    wX_compile_88 post J (nI i) (nI (tn i)) (nI (i + 1)) (nI b2) (nI b3) f_count (nI sc) f_freeNames f_base f_top f_sinceCollected f_room f_depth f_returning f_code f_bindings f_value f_other f_lastStatus f_lastKind f_lastNumber f_outCount f_callCount f_shiftCount f_mostPending a_tokens a_spans a_codeOp a_codeArgument a_partOne a_partTwo a_partThree a_scopeName a_scopeAround a_scopeOf a_memory a_frames a_outputs n_memory := by
  have hN := hc.1.1
  have ht := tb_lt hv
  have hsci := I.1
  have h3 := sg_pt3 (tn i)
  have hhere := cc_here hc I hi
  have hbyte := cs_byte hhere (by omega)
  have c1 : (nI i).toNatClampNeg = i := nI_clamp (by omega)
  have i1 : vp_in (nI i) 32 := vp_in_nI (by omega) (by decide)
  have hb2N : b2 < 33 := by
    rw [hb2]
    by_cases h : 2 ≤ sg_pt (tn i)
    · rw [if_pos h]; have := sg_p2 hc hi h; omega
    · rw [if_neg h]; omega
  have hb3N : b3 < 33 := by
    rw [hb3]
    by_cases h : 3 ≤ sg_pt (tn i)
    · rw [if_pos h]; have := sg_p3 hc hi h; omega
    · rw [if_neg h]; omega
  have hoo : cc_o (tn i) < 128 := by unfold cc_o; repeat' split
                                     all_goals omega
  refine cc_op (by omega) ?_
  refine ⟨i1, nm_r (e' := upd a_codeOp i (nI (cc_o (tn i)))) (by rw [c1, nb_vb hoo]) ⟨i1, nm_r (e' := upd a_partOne i (nI (i + 1))) (by rw [c1, nb_vb (by omega)]) ⟨i1, nm_r (e' := upd a_partTwo i (nI b2)) (by rw [c1, nb_vb (by omega)]) ⟨i1, nm_r (e' := upd a_partThree i (nI b3)) (by rw [c1, nb_vb (by omega)]) ⟨i1, nm_r (e' := upd a_codeArgument i (nI (tn i) - 100)) (by rw [c1, nb_bt (by omega)]) ?_⟩⟩⟩⟩⟩
  have hcode : ∀ (y1 y2 y3 y4 y5 y6 y7 : Int32) j, j < i → upd a_codeOp i y1 j = a_codeOp j ∧ upd a_codeArgument i y2 j = a_codeArgument j ∧ upd a_partOne i y3 j = a_partOne j ∧ upd a_partTwo i y4 j = a_partTwo j ∧ upd a_partThree i y5 j = a_partThree j ∧ upd (upd a_codeOp i y1) i y6 j = a_codeOp j ∧ upd (upd a_codeArgument i y2) i y7 j = a_codeArgument j := by
    intro y1 y2 y3 y4 y5 y6 y7 j hj
    have hne : j ≠ i := by omega
    exact ⟨pk_un hne, pk_un hne, pk_un hne, pk_un hne, pk_un hne, by rw [pk_un hne, pk_un hne], by rw [pk_un hne, pk_un hne]⟩
  have hsame : ∀ k, k < sc → a_scopeName k = a_scopeName k ∧ a_scopeAround k = a_scopeAround k := fun k _ => ⟨rfl, rfl⟩
  have hnew : ∀ (y1 y2 : Int32) k, k < sc → upd a_scopeName sc y1 k = a_scopeName k ∧ upd a_scopeAround sc y2 k = a_scopeAround k := fun y1 y2 k hk => ⟨pk_un (by omega), pk_un (by omega)⟩
  have hfnN : ¬ tn i < 40 → f_freeNames = fn_n tn (i + 1) := fun h => I.2.1.trans (fn_f (fun z => h z.1)).symm
  have hxo : ¬ tn i < 40 → xc_o tn i = cc_o (tn i) := by
    intro h
    unfold xc_o cc_o
    by_cases h80 : 80 ≤ tn i
    · rw [if_pos h80, if_pos h80]
    rw [if_neg h80, if_neg h80]
    by_cases h70 : 70 ≤ tn i
    · rw [if_pos h70, if_pos h70]
    rw [if_neg h70, if_neg h70]
    by_cases h60 : 60 ≤ tn i
    · rw [if_pos h60, if_pos h60]
    rw [if_neg h60, if_neg h60]
    by_cases h52 : 52 ≤ tn i
    · rw [if_pos h52, if_pos h52]
    rw [if_neg h52, if_neg h52, if_pos (by omega), if_pos (by omega)]
  have hxc1 : ¬ tn i < 40 → xc_1 tn i (upd a_codeOp i (nI (cc_o (tn i)))) (upd a_codeArgument i (nI (tn i) - 100)) (upd a_partOne i (nI (i + 1))) (upd a_partTwo i (nI b2)) (upd a_partThree i (nI b3)) := by
    intro h
    unfold xc_1
    rw [pk_us, pk_us, pk_us, pk_us, pk_us, hxo h]
    exact ⟨rfl, rfl, fun z => by rw [hb2, if_pos z], fun z => by rw [hb3, if_pos z], fun _ => rfl, fun z => absurd z h⟩
  rcases hv with hv | hv | hv | hv | hv
  · -- a number
    have hpt := sg_pt_leaf (t := tn i) (by omega)
    refine cn_num (by omega) (by rw [pk_us]; unfold cc_o; rw [if_pos hv.1]; rfl) ?_
    exact nm_r (nI_1 i) (K sc f_freeNames _ _ _ _ _ _ _ _ (cc_next I ⟨Nat.le_refl _, Nat.le_succ _⟩ hsame (hfnN (by omega)) (fun j hj => by have h := hcode (nI (cc_o (tn i))) (nI (tn i) - 100) (nI (i + 1)) (nI b2) (nI b3) 0 0 j hj; exact ⟨h.1, h.2.1, h.2.2.1, h.2.2.2.1, h.2.2.2.2.1⟩) (hxc1 (by omega)) (fun q hq => by rcases hq with h | h | h <;> omega) (fun q _ _ => rfl)))
  · -- a name
    have hpt := sg_pt_leaf (t := tn i) (by omega)
    have hlen : (sg_s tn i).length ≤ i := sg_l_len i
    refine cn_place (l := sg_s tn i) (sc := sc) (by omega) (by rw [pk_us]; unfold cc_o; rw [if_neg (by omega), if_neg (by omega), if_neg (by omega), if_neg (by omega), if_neg (by omega)]; rfl) (by omega) hhere (fun y hy => by have := sg_s_small hy; omega) (by omega) (by omega) (fun hin => ?_) (fun hin => ?_)
    · refine nm_r (nI_1 i) (K sc f_freeNames _ _ _ _ _ _ _ _ (cc_next I ⟨Nat.le_refl _, Nat.le_succ _⟩ hsame (I.2.1.trans (fn_f (fun z => z.2 hin)).symm) (fun j hj => by have h := hcode (nI (cc_o (tn i))) (nI (tn i) - 100) (nI (i + 1)) (nI b2) (nI b3) 1 (nI (sg_i (tn i - 30) (sg_s tn i))) j hj; exact ⟨h.2.2.2.2.2.1, h.2.2.2.2.2.2, h.2.2.1, h.2.2.2.1, h.2.2.2.2.1⟩) ?_ (fun q hq => by rcases hq with h | h | h <;> omega) (fun q _ _ => rfl)))
      unfold xc_1
      rw [pk_us, pk_us, pk_us, pk_us, pk_us]
      refine ⟨?_, rfl, fun z => by omega, fun z => by omega, fun z => by omega, fun _ _ => rfl⟩
      unfold xc_o; rw [if_neg (by omega), if_neg (by omega), if_neg (by omega), if_neg (by omega), if_neg (by omega), if_pos hin]; rfl
    · refine nm_r (nI_1 i) (K sc _ _ _ _ _ _ _ _ _ (cc_next I ⟨Nat.le_refl _, Nat.le_succ _⟩ hsame (by rw [I.2.1]; exact (fn_t ⟨by omega, hin⟩).symm) (fun j hj => by have h := hcode (nI (cc_o (tn i))) (nI (tn i) - 100) (nI (i + 1)) (nI b2) (nI b3) 2 (-1) j hj; exact ⟨h.2.2.2.2.2.1, h.2.2.2.2.2.2, h.2.2.1, h.2.2.2.1, h.2.2.2.2.1⟩) ?_ (fun q hq => by rcases hq with h | h | h <;> omega) (fun q _ _ => rfl)))
      unfold xc_1
      rw [pk_us, pk_us, pk_us, pk_us, pk_us]
      refine ⟨?_, rfl, fun z => by omega, fun z => by omega, fun z => by omega, fun _ z => absurd z hin⟩
      unfold xc_o; rw [if_neg (by omega), if_neg (by omega), if_neg (by omega), if_neg (by omega), if_neg (by omega), if_neg hin]; rfl
  · -- a function
    have hpt := sg_pt_one (t := tn i) (by omega)
    refine cn_bind (op := 3) (by omega) (by rw [pk_us]; unfold cc_o; rw [if_neg (by omega), if_neg (by omega), if_neg (by omega), if_neg (by omega), if_pos (by omega)]) (Or.inl rfl) (by omega) hbyte pk_us (by rw [pk_us, hb2, if_neg (by omega)]; rfl) (by rw [pk_us, hb3, if_neg (by omega)]; rfl) (by omega) ?_
    refine nm_r (nI_1 i) (K (sc + 1) f_freeNames _ _ _ _ _ _ _ _ (cc_next I ⟨Nat.le_succ _, Nat.le_refl _⟩ (hnew _ _) (hfnN (by omega)) (fun j hj => by have h := hcode (nI (cc_o (tn i))) (nI (tn i) - 100) (nI (i + 1)) (nI b2) (nI b3) 0 0 j hj; exact ⟨h.1, h.2.1, h.2.2.1, h.2.2.2.1, h.2.2.2.2.1⟩) (hxc1 (by omega)) (fun q hq => ?_) (fun q _ hq => pk_un (fun z => hq (Or.inl ⟨z, by omega⟩)))))
    have hq1 : q = i + 1 := by rcases hq with h | h | h <;> omega
    rw [hq1, pk_us, sg_s1b hc hi (by omega) (by omega)]
    exact cs_new hhere
  · -- other terms with parts
    have hpc : tn i ≤ 56 ∨ tn i = 57 ∨ tn i = 58 ∨ tn i = 59 ∨ 60 ≤ tn i := by omega
    have hpt1 : 1 ≤ sg_pt (tn i) := by
      rcases hpc with h | h | h | h | h
      · rw [sg_pt_two (by omega)]; decide
      · rw [h]; decide
      · rw [sg_pt_one (by omega)]; decide
      · rw [sg_pt_one (by omega)]; decide
      · rw [sg_pt_two (by omega)]; decide
    have hs1 := sg_s1n hc hi (by omega) hpt1
    have hl1 := sg_p1 hc hi hpt1
    have hlt1 := sg_lt hc hl1
    have hop : 4 ≤ cc_o (tn i) ∧ cc_o (tn i) ≤ 12 ∧ (cc_o (tn i) = 12 ↔ 60 ≤ tn i) := by
      unfold cc_o
      rw [if_neg (by omega), if_neg (by omega)]
      by_cases h60 : 60 ≤ tn i
      · rw [if_pos h60]; omega
      · rw [if_neg h60, if_pos (by omega)]; omega
    have h12 : cc_o (tn i) = 12 → sg_pt (tn i) = 2 := fun h => sg_pt_two (by have := hop.2.2.mp h; omega)
    have hb20 : b2 = 0 → sg_pt (tn i) = 1 := by
      intro h
      rw [hb2] at h
      by_cases h2 : 2 ≤ sg_pt (tn i)
      · rw [if_pos h2] at h; omega
      · omega
    have hb30 : b3 = 0 → sg_pt (tn i) ≤ 2 := by
      intro h
      rw [hb3] at h
      by_cases h2 : 3 ≤ sg_pt (tn i)
      · rw [if_pos h2] at h
        have := sg_lt hc (sg_p2 hc hi (by omega))
        omega
      · omega
    refine cn_op (op := cc_o (tn i)) (b2 := b2) (b3 := b3) (by omega) pk_us ⟨hop.1, hop.2.1⟩ (by omega) hbyte pk_us pk_us pk_us (by omega) (by omega) (fun h => by rw [hb3, if_neg (by have := hb20 h; omega)]) (fun h => by rw [hb3, if_neg (by have := h12 h; omega)]) (by omega) (fun hz => ?_) (fun hz ho hz3 => ?_) (fun hz ho hz3 => ?_) (fun hz ho => ?_)
    · have hpt := hb20 hz
      refine nm_r (nI_1 i) (K sc f_freeNames _ _ _ _ _ _ _ _ (cc_next I ⟨Nat.le_refl _, Nat.le_succ _⟩ hsame (hfnN (by omega)) (fun j hj => by have h := hcode (nI (cc_o (tn i))) (nI (tn i) - 100) (nI (i + 1)) (nI b2) (nI b3) 0 0 j hj; exact ⟨h.1, h.2.1, h.2.2.1, h.2.2.2.1, h.2.2.2.2.1⟩) (hxc1 (by omega)) (fun q hq => ?_) (fun q _ hq => pk_un (fun z => hq (Or.inl ⟨z, by omega⟩)))))
      have hq1 : q = i + 1 := by rcases hq with h | h | h <;> omega
      rw [hq1, pk_us, hs1]
      exact hhere
    · have hpt : sg_pt (tn i) = 2 := by
        have := hb30 hz3
        by_cases h2 : 2 ≤ sg_pt (tn i)
        · omega
        · rw [hb2, if_neg h2] at hz; omega
      have eb2 : b2 = sg_e tn (i + 1) := by rw [hb2, if_pos (by omega)]
      have h60 : ¬ 60 ≤ tn i := fun z => ho (hop.2.2.mpr z)
      have hs2 := sg_s2n hc hi (by omega) (by omega)
      refine nm_r (nI_1 i) (K sc f_freeNames _ _ _ _ _ _ _ _ (cc_next I ⟨Nat.le_refl _, Nat.le_succ _⟩ hsame (hfnN (by omega)) (fun j hj => by have h := hcode (nI (cc_o (tn i))) (nI (tn i) - 100) (nI (i + 1)) (nI b2) (nI b3) 0 0 j hj; exact ⟨h.1, h.2.1, h.2.2.1, h.2.2.2.1, h.2.2.2.2.1⟩) (hxc1 (by omega)) (fun q hq => ?_) (fun q _ hq => ?_)))
      · rcases hq with ⟨h, _⟩ | ⟨h, _⟩ | ⟨_, h⟩
        · rw [h, pk_un (by omega), pk_us, hs1]; exact hhere
        · rw [h, ← eb2, pk_us, eb2, hs2]; exact hhere
        · omega
      · rw [pk_un (fun z => hq (Or.inr (Or.inl ⟨z.trans eb2, by omega⟩))), pk_un (fun z => hq (Or.inl ⟨z, by omega⟩))]
    · have hpt : sg_pt (tn i) = 3 := by
        by_cases h2 : 3 ≤ sg_pt (tn i)
        · omega
        · rw [hb3, if_neg h2] at hz3; omega
      have eb2 : b2 = sg_e tn (i + 1) := by rw [hb2, if_pos (by omega)]
      have eb3 : b3 = sg_e tn (sg_e tn (i + 1)) := by rw [hb3, if_pos (by omega)]
      have h60 : ¬ 60 ≤ tn i := fun z => ho (hop.2.2.mpr z)
      have hs2 := sg_s2n hc hi (by omega) (by omega)
      have hs3 := sg_s3n hc hi (by omega) (by omega)
      have hlt2 := sg_lt hc (sg_p2 hc hi (by omega))
      refine nm_r (nI_1 i) (K sc f_freeNames _ _ _ _ _ _ _ _ (cc_next I ⟨Nat.le_refl _, Nat.le_succ _⟩ hsame (hfnN (by omega)) (fun j hj => by have h := hcode (nI (cc_o (tn i))) (nI (tn i) - 100) (nI (i + 1)) (nI b2) (nI b3) 0 0 j hj; exact ⟨h.1, h.2.1, h.2.2.1, h.2.2.2.1, h.2.2.2.2.1⟩) (hxc1 (by omega)) (fun q hq => ?_) (fun q _ hq => ?_)))
      · rcases hq with ⟨h, _⟩ | ⟨h, _⟩ | ⟨h, _⟩
        · rw [h, pk_un (by omega), pk_un (by omega), pk_us, hs1]; exact hhere
        · rw [h, pk_un (by omega), ← eb2, pk_us, eb2, hs2]; exact hhere
        · rw [h, ← eb3, pk_us, eb3, hs3]; exact hhere
      · rw [pk_un (fun z => hq (Or.inr (Or.inr ⟨z.trans eb3, by omega⟩))), pk_un (fun z => hq (Or.inr (Or.inl ⟨z.trans eb2, by omega⟩))), pk_un (fun z => hq (Or.inl ⟨z, by omega⟩))]
    · have hpt := h12 ho
      have eb2 : b2 = sg_e tn (i + 1) := by rw [hb2, if_pos (by omega)]
      have h60 := hop.2.2.mp ho
      have hs2 := sg_s2b hc hi (by omega) (by omega)
      refine nm_r (nI_1 i) (K (sc + 1) f_freeNames _ _ _ _ _ _ _ _ (cc_next I ⟨Nat.le_succ _, Nat.le_refl _⟩ (hnew _ _) (hfnN (by omega)) (fun j hj => by have h := hcode (nI (cc_o (tn i))) (nI (tn i) - 100) (nI (i + 1)) (nI b2) (nI b3) 0 0 j hj; exact ⟨h.1, h.2.1, h.2.2.1, h.2.2.2.1, h.2.2.2.2.1⟩) (hxc1 (by omega)) (fun q hq => ?_) (fun q _ hq => ?_)))
      · rcases hq with ⟨h, _⟩ | ⟨h, _⟩ | ⟨_, h⟩
        · rw [h, pk_un (by omega), pk_us, hs1]
          exact cs_ext (hnew _ _) (Nat.le_succ _) _ _ hhere
        · rw [h, ← eb2, pk_us, eb2, hs2]; exact cs_new hhere
        · omega
      · rw [pk_un (fun z => hq (Or.inr (Or.inl ⟨z.trans eb2, by omega⟩))), pk_un (fun z => hq (Or.inl ⟨z, by omega⟩))]
  · -- a shift
    have hpt := sg_pt_one (t := tn i) (by omega)
    refine cn_bind (op := 13) (by omega) (by rw [pk_us]; unfold cc_o; rw [if_neg (by omega), if_pos (by omega)]) (Or.inr rfl) (by omega) hbyte pk_us (by rw [pk_us, hb2, if_neg (by omega)]; rfl) (by rw [pk_us, hb3, if_neg (by omega)]; rfl) (by omega) ?_
    refine nm_r (nI_1 i) (K (sc + 1) f_freeNames _ _ _ _ _ _ _ _ (cc_next I ⟨Nat.le_succ _, Nat.le_refl _⟩ (hnew _ _) (hfnN (by omega)) (fun j hj => by have h := hcode (nI (cc_o (tn i))) (nI (tn i) - 100) (nI (i + 1)) (nI b2) (nI b3) 0 0 j hj; exact ⟨h.1, h.2.1, h.2.2.1, h.2.2.2.1, h.2.2.2.2.1⟩) (hxc1 (by omega)) (fun q hq => ?_) (fun q _ hq => pk_un (fun z => hq (Or.inl ⟨z, by omega⟩)))))
    have hq1 : q = i + 1 := by rcases hq with h | h | h <;> omega
    rw [hq1, pk_us, sg_s1b hc hi (by omega) (by omega)]
    exact cs_new hhere
theorem cc_23 (hc : sg_cp tn N) (hk : tb_T tn tok N) (hsp : ∀ j, j < N → a_spans j = nI (sg_e tn j - j))
    (K : ∀ (sc2 : Nat) (cop2 car2 p12 p22 p32 scn2 sca2 sco2 : Nat → Int32), xc_C tn N cop2 car2 p12 p22 p32 → post (nI N, nI sc2, fn_n tn N, f_base, f_top, f_sinceCollected, f_room, f_depth, f_returning, f_code, f_bindings, f_value, f_other, f_lastStatus, f_lastKind, f_lastNumber, f_outCount, f_callCount, f_shiftCount, f_mostPending, tok, a_spans, cop2, car2, p12, p22, p32, scn2, sca2, sco2, a_memory, a_frames, a_outputs, n_memory)) :
    ∀ n i sc (fn : Int32) (cop car p1 p2 p3 scn sca sco : Nat → Int32), i ≤ N → N - i < n → cc_I tn N i sc fn cop car p1 p2 p3 scn sca sco → wX_compile_23 post n (nI i) (nI N) (nI sc) fn f_base f_top f_sinceCollected f_room f_depth f_returning f_code f_bindings f_value f_other f_lastStatus f_lastKind f_lastNumber f_outCount f_callCount f_shiftCount f_mostPending tok a_spans cop car p1 p2 p3 scn sca sco a_memory a_frames a_outputs n_memory := by
  have hN := hc.1.1
  intro n
  induction n with
  | zero => intro i sc fn cop car p1 p2 p3 scn sca sco _ h; omega
  | succ n ih =>
    intro i sc fn cop car p1 p2 p3 scn sca sco hi hn I
    rcases Nat.lt_or_ge i N with h | h
    · obtain ⟨e1, e2⟩ := hk i h
      have ht := tb_lt e2
      have h3 := sg_pt3 (tn i)
      have h88 := fun b2 b3 hb2 hb3 => cc_88 (b2 := b2) (b3 := b3) (post := post) (J := wX_compile_23 post n) (f_count := nI N) (a_tokens := tok) (a_spans := a_spans) (f_base := f_base) (f_top := f_top) (f_sinceCollected := f_sinceCollected) (f_room := f_room) (f_depth := f_depth) (f_returning := f_returning) (f_code := f_code) (f_bindings := f_bindings) (f_value := f_value) (f_other := f_other) (f_lastStatus := f_lastStatus) (f_lastKind := f_lastKind) (f_lastNumber := f_lastNumber) (f_outCount := f_outCount) (f_callCount := f_callCount) (f_shiftCount := f_shiftCount) (f_mostPending := f_mostPending) (a_memory := a_memory) (a_frames := a_frames) (a_outputs := a_outputs) (n_memory := n_memory) hc e2 h I hb2 hb3 (fun sc2 fn2 cop2 car2 p12 p22 p32 scn2 sca2 sco2 I2 => ih (i + 1) sc2 fn2 cop2 car2 p12 p22 p32 scn2 sca2 sco2 h (by omega) I2)
      refine br_f (nI_ge h (by omega)) ⟨vp_in_nI (by omega) (by decide), nm_r (e' := nI (tn i)) (by rw [nI_clamp (by omega), e1]) ?_⟩
      refine tb_pof (by omega) (fun _ => ?_) (fun z => absurd e2 z)
      refine nm_r (nI_1 i) ?_
      rcases Nat.lt_or_ge 1 (sg_pt (tn i)) with hp | hp
      · have hl1 := sg_p1 hc h (by omega)
        have hl2 := sg_p2 hc h hp
        have hlt1 := sg_lt hc hl1
        have ec1 : (nI (i + 1)).toNatClampNeg = i + 1 := nI_clamp (by omega)
        have ex : nI (i + 1) + a_spans (nI (i + 1)).toNatClampNeg = nI (sg_e tn (i + 1)) := by
          rw [ec1, hsp _ hl1, nI_add]; congr 1; omega
        refine br_f (nI_ge (a := 1) hp (by omega)) ⟨vp_in_nI (by omega) (by decide), ?_⟩
        rw [ex]
        rcases Nat.lt_or_ge 2 (sg_pt (tn i)) with hp2 | hp2
        · have hl3 := sg_p3 hc h hp2
          have hlt2 := sg_lt hc hl2
          have ey : nI (sg_e tn (i + 1)) + a_spans (nI (sg_e tn (i + 1))).toNatClampNeg = nI (sg_e tn (sg_e tn (i + 1))) := by
            rw [nI_clamp (by omega), hsp _ hl2, nI_add]; congr 1; omega
          refine br_f (nI_ge (a := 2) hp2 (by omega)) ⟨vp_in_nI (by omega) (by decide), ?_⟩
          rw [ey]
          exact h88 _ _ (if_pos (by omega)).symm (if_pos (by omega)).symm
        · refine br_t (nI_le (b := 2) hp2 (by decide)) ?_
          exact h88 _ 0 (if_pos (by omega)).symm (if_neg (by omega)).symm
      · refine br_t (nI_le (b := 1) hp (by decide)) (br_t (nI_le (b := 2) (by omega) (by decide)) ?_)
        exact h88 0 0 (if_neg (by omega)).symm (if_neg (by omega)).symm
    · have hiN : i = N := by omega
      subst hiN
      refine br_t (nI_le (Nat.le_refl _) (by omega)) ?_
      have hfn := I.2.1
      subst hfn
      exact K sc cop car p1 p2 p3 scn sca sco (fun j hj => I.2.2.1 j hj)
theorem cc_all (hc : sg_cp tn N) (hk : tb_T tn tok N)
    (K : ∀ (sc2 : Nat) (sp2 cop2 car2 p12 p22 p32 scn2 sca2 sco2 : Nat → Int32), xc_C tn N cop2 car2 p12 p22 p32 → post (nI N, nI sc2, fn_n tn N, f_base, f_top, f_sinceCollected, f_room, f_depth, f_returning, f_code, f_bindings, f_value, f_other, f_lastStatus, f_lastKind, f_lastNumber, f_outCount, f_callCount, f_shiftCount, f_mostPending, tok, sp2, cop2, car2, p12, p22, p32, scn2, sca2, sco2, a_memory, a_frames, a_outputs, n_memory)) :
    wpX_compile post (nI N, f_scopes, f_freeNames, f_base, f_top, f_sinceCollected, f_room, f_depth, f_returning, f_code, f_bindings, f_value, f_other, f_lastStatus, f_lastKind, f_lastNumber, f_outCount, f_callCount, f_shiftCount, f_mostPending, tok, a_spans, a_codeOp, a_codeArgument, a_partOne, a_partTwo, a_partThree, a_scopeName, a_scopeAround, a_scopeOf, a_memory, a_frames, a_outputs, n_memory) := by
  have hN := hc.1.1
  unfold wpX_compile
  refine ms_all hc hk ?_
  intro sp hsp
  refine nm_r (e' := upd a_scopeOf 0 (-1)) (by rw [nb_vbm]) ⟨N + 1, ?_⟩
  refine cc_23 hc hk hsp (fun sc2 cop2 car2 p12 p22 p32 scn2 sca2 sco2 h => K sc2 sp cop2 car2 p12 p22 p32 scn2 sca2 sco2 h) (N + 1) 0 0 0 a_codeOp a_codeArgument a_partOne a_partTwo a_partThree a_scopeName a_scopeAround (upd a_scopeOf 0 (-1)) (Nat.zero_le _) (by omega) ⟨Nat.le_refl _, rfl, fun j hj => absurd hj (Nat.not_lt_zero _), fun q _ _ hq => ?_⟩
  rcases hq with h | ⟨p, hp, _⟩
  · rw [h, pk_us]; exact rfl
  · exact absurd hp (Nat.not_lt_zero _)
end
end
section
/-! the reference's free -/
section
variable {g_size g_state g_sort g_result g_shown g_called g_shifted g_most g_fresh g_spare g_top g_depth g_bound g_at g_scope g_has g_valueKind g_value : Int32} {b_tokens b_paper b_places b_second b_around b_kinds b_values b_outer b_taken b_names b_nameKinds b_nameValues b_nameOuter : Nat → Int32}
variable {tn : Nat → Nat} {tok : Nat → Int32} {N p q x : Nat} {post : Int32 → Prop}
theorem yf_61 (hc : sg_cp tn N) (hk : tb_T tn tok N) (hp : p < q) (hq : q < N) (K1 : q < sg_e tn p → post 1) (K0 : ¬ q < sg_e tn p → post 0) : wY_gives_61 post (nI p) (nI q) (nI N) g_state g_sort g_result g_shown g_called g_shifted g_most g_fresh g_spare g_top g_depth g_bound g_at g_scope g_has g_valueKind g_value tok b_paper b_places b_second b_around b_kinds b_values b_outer b_taken b_names b_nameKinds b_nameValues b_nameOuter := by
  have hN := hc.1.1
  have hle := sg_le hc (show p < N by omega)
  refine br_f (nI_ge hp (by omega)) ?_
  refine tb_end hc hk (by omega) ?_
  exact pk_le (sg_e tn p) q (fun h => K0 (by omega)) (fun h => K1 h)
theorem yf_gives (hc : sg_cp tn N) (hk : tb_T tn tok N) (hp : p < q) (hq : q < N) (hx : x ≤ 5) (K1 : sg_c tn p q ∧ tn p % 10 = x → post 1) (K0 : ¬ (sg_c tn p q ∧ tn p % 10 = x) → post 0) :
    wpY_gives post (nI N, g_state, g_sort, g_result, g_shown, g_called, g_shifted, g_most, g_fresh, g_spare, g_top, g_depth, g_bound, g_at, g_scope, g_has, g_valueKind, g_value, tok, b_paper, b_places, b_second, b_around, b_kinds, b_values, b_outer, b_taken, b_names, b_nameKinds, b_nameValues, b_nameOuter) (nI p) (nI x) (nI q) := by
  have hN := hc.1.1
  have hpN : p < N := by omega
  obtain ⟨e1, e2⟩ := hk p hpN
  have ht := tb_lt e2
  refine ⟨vp_in_nI (by omega) (by decide), nm_r (e' := nI (tn p)) (by rw [nI_clamp (by omega), e1]) ?_⟩
  have e60 : (60 : Int32) + nI x = nI (60 + x) := nI_add 60 x
  have e40 : (40 : Int32) + nI x = nI (40 + x) := nI_add 40 x
  have e70 : (70 : Int32) + nI x = nI (70 + x) := nI_add 70 x
  have hle := sg_le hc hpN
  rw [e60, e40, e70]
  refine pk_eq (tn p) (60 + x) (fun h => ?_) (fun h => ?_)
  · have hpt := sg_pt_two (t := tn p) (by omega)
    have hp1 := sg_p1 hc hpN (by omega)
    have hle1 := sg_le hc hp1
    rw [nI_1]
    refine tb_end hc hk hp1 ?_
    refine pk_lt q (sg_e tn (p + 1)) (fun h2 => K0 ?_) (fun h2 => ?_)
    · rintro ⟨(⟨_, _, h3, _⟩ | ⟨h3, _⟩), _⟩ <;> omega
    · refine tb_end hc hk hpN ?_
      refine pk_le (sg_e tn p) q (fun h3 => K0 ?_) (fun h3 => K1 ⟨Or.inl ⟨by omega, by omega, h2, h3⟩, by omega⟩)
      rintro ⟨(⟨_, _, _, h4⟩ | ⟨h4, _⟩), _⟩ <;> omega
  · refine pk_eq (tn p) (40 + x) (fun h2 => ?_) (fun h2 => ?_)
    · exact yf_61 hc hk hp hq (fun h3 => K1 ⟨Or.inr ⟨Or.inl (by omega), hp, h3⟩, by omega⟩) (fun h3 => K0 (by rintro ⟨(⟨_, _, _, h4⟩ | ⟨_, _, h4⟩), _⟩ <;> omega))
    · refine pk_eq (tn p) (70 + x) (fun h3 => ?_) (fun h3 => K0 ?_)
      · exact yf_61 hc hk hp hq (fun h4 => K1 ⟨Or.inr ⟨Or.inr (by omega), hp, h4⟩, by omega⟩) (fun h4 => K0 (by rintro ⟨(⟨_, _, _, h5⟩ | ⟨_, _, h5⟩), _⟩ <;> omega))
      · rintro ⟨(⟨h4, h5, _⟩ | ⟨h4 | h4, _⟩), h6⟩ <;> omega
theorem yf_50 {J : Int32 → Int32 → Prop} {x1 : Int32} (hc : sg_cp tn N) (hk : tb_T tn tok N) (hq : q < N) (hx : x ≤ 5)
    (KN : ¬ x ∈ sg_s tn q → wY_free_85 post J x1 (nI q) (nI x) 1 (nI N) g_state g_sort g_result g_shown g_called g_shifted g_most g_fresh g_spare g_top g_depth g_bound g_at g_scope g_has g_valueKind g_value tok b_paper b_places b_second b_around b_kinds b_values b_outer b_taken b_names b_nameKinds b_nameValues b_nameOuter) (KY : x ∈ sg_s tn q → wY_free_85 post J x1 (nI q) (nI x) 0 (nI N) g_state g_sort g_result g_shown g_called g_shifted g_most g_fresh g_spare g_top g_depth g_bound g_at g_scope g_has g_valueKind g_value tok b_paper b_places b_second b_around b_kinds b_values b_outer b_taken b_names b_nameKinds b_nameValues b_nameOuter) :
    ∀ n p, p ≤ q → q - p + 1 < n → (∀ p', p' < p → ¬ (sg_c tn p' q ∧ tn p' % 10 = x)) → wY_free_50 post J x1 (nI q) (nI x) (nI N) g_state g_sort g_result g_shown g_called g_shifted g_most g_fresh g_spare g_top g_depth g_bound g_at g_scope g_has g_valueKind g_value tok b_paper b_places b_second b_around b_kinds b_values b_outer b_taken b_names b_nameKinds b_nameValues b_nameOuter n 1 (nI p) := by
  have hN := hc.1.1
  intro n
  induction n with
  | zero => intro p _ h; omega
  | succ n ih =>
    intro p hp hn ho
    rcases Nat.lt_or_ge p q with h | h
    · refine br_f (nI_ge h (by omega)) (br_f (by decide) (yf_gives hc hk h hq hx (fun hg => ?_) (fun hg => ?_)))
      · have hin : x ∈ sg_s tn q := (sg_mem (tn := tn) (q := q) q).mpr ⟨p, h, hg.1, hg.2⟩
        refine br_f (by decide) (nm_r (nI_1 p) ?_)
        obtain ⟨m, rfl⟩ : ∃ m, n = m + 1 := ⟨n - 1, by omega⟩
        refine br_c (fun _ => KY hin) (fun _ => br_t rfl (KY hin))
      · refine br_t rfl (nm_r (nI_1 p) (ih (p + 1) h (by omega) ?_))
        intro p' hp'
        rcases Nat.lt_or_ge p' p with h2 | h2
        · exact ho p' h2
        · have : p' = p := by omega
          rw [this]; exact hg
    · refine br_t (nI_le h (by omega)) (KN ?_)
      intro hin
      obtain ⟨p', h1, h2, h3⟩ := (sg_mem (tn := tn) (q := q) q).mp hin
      exact ho p' (by omega) ⟨h2, h3⟩
theorem yf_13 (hc : sg_cp tn N) (hk : tb_T tn tok N) (K : post (fn_n tn N)) : ∀ n q, q ≤ N → N - q < n → wY_free_13 post (nI N) g_state g_sort g_result g_shown g_called g_shifted g_most g_fresh g_spare g_top g_depth g_bound g_at g_scope g_has g_valueKind g_value tok b_paper b_places b_second b_around b_kinds b_values b_outer b_taken b_names b_nameKinds b_nameValues b_nameOuter n (fn_n tn q) (nI q) := by
  have hN := hc.1.1
  intro n
  induction n with
  | zero => intro q _ h; omega
  | succ n ih =>
    intro q hq hn
    rcases Nat.lt_or_ge q N with h | h
    · obtain ⟨e1, e2⟩ := hk q h
      have ht := tb_lt e2
      have ih2 := ih (q + 1) h (by omega)
      have e30 : nI (tn q) - 30 = nI (tn q - 30) := pk_sub (b := 30) (by omega)
      have h0 : ∀ J : Int32 → Int32 → Prop, J (fn_n tn q) (nI (q + 1)) → wY_free_85 post J (fn_n tn q) (nI q) (nI (tn q - 30)) 0 (nI N) g_state g_sort g_result g_shown g_called g_shifted g_most g_fresh g_spare g_top g_depth g_bound g_at g_scope g_has g_valueKind g_value tok b_paper b_places b_second b_around b_kinds b_values b_outer b_taken b_names b_nameKinds b_nameValues b_nameOuter := fun J hJ => br_t rfl (nm_r (nI_1 q) hJ)
      have h1 : ∀ J : Int32 → Int32 → Prop, J (fn_n tn q ||| ((1 : Int32) <<< (nI (tn q - 30) &&& 31))) (nI (q + 1)) → wY_free_85 post J (fn_n tn q) (nI q) (nI (tn q - 30)) 1 (nI N) g_state g_sort g_result g_shown g_called g_shifted g_most g_fresh g_spare g_top g_depth g_bound g_at g_scope g_has g_valueKind g_value tok b_paper b_places b_second b_around b_kinds b_values b_outer b_taken b_names b_nameKinds b_nameValues b_nameOuter := fun J hJ => br_f (by decide) (nm_e (nm_r (nI_1 q) hJ))
      refine br_f (nI_ge h (by omega)) ⟨vp_in_nI (by omega) (by decide), nm_r (e' := nI (tn q - 30)) (by rw [nI_clamp (by omega), e1, e30]) (br_f (nI_pos (by omega)) ?_)⟩
      refine pk_lt 5 (tn q - 30) (fun h5 => ?_) (fun h5 => ?_)
      · have hfn : fn_n tn (q + 1) = fn_n tn q := fn_f (fun z => by
          have := z.1
          unfold sg_vt at e2
          omega)
        rw [hfn] at ih2
        exact ⟨1, br_c (fun _ => h0 _ ih2) (fun _ => br_t rfl (h0 _ ih2))⟩
      · refine ⟨q + 2, yf_50 hc hk h h5 (fun hin => h1 _ ?_) (fun hin => h0 _ ?_) (q + 2) 0 (Nat.zero_le _) (by omega) (fun p' hp' => absurd hp' (Nat.not_lt_zero _))⟩
        · rw [fn_t ⟨by omega, hin⟩, e30] at ih2
          exact ih2
        · rw [fn_f (fun z => z.2 hin)] at ih2
          exact ih2
    · have hqN : q = N := by omega
      subst hqN
      exact br_t (nI_le (Nat.le_refl _) (by omega)) K
end
end
section
/-! the relation, and the methods that don't run -/
-- base U f_count=nI N; f_base=nI b; f_top=nI t; f_outCount=nI oc; n_memory=116000
-- base W g_size=nI N; g_state=f_lastStatus; g_sort=f_lastKind; g_result=f_lastNumber; g_shown=nI oc; g_called=f_callCount; g_shifted=f_shiftCount; g_most=f_mostPending; b_tokens=a_tokens; b_paper=a_outputs
/-- one list of tokens on both sides, and one last run -/
def i_Rel (k : Nat) (u : SX) (v : SY) : Prop := match u, v with
  | (f_count, f_scopes, f_freeNames, f_base, f_top, f_sinceCollected, f_room, f_depth, f_returning, f_code, f_bindings, f_value, f_other, f_lastStatus, f_lastKind, f_lastNumber, f_outCount, f_callCount, f_shiftCount, f_mostPending, a_tokens, a_spans, a_codeOp, a_codeArgument, a_partOne, a_partTwo, a_partThree, a_scopeName, a_scopeAround, a_scopeOf, a_memory, a_frames, a_outputs, n_memory), (g_size, g_state, g_sort, g_result, g_shown, g_called, g_shifted, g_most, g_fresh, g_spare, g_top, g_depth, g_bound, g_at, g_scope, g_has, g_valueKind, g_value, b_tokens, b_paper, b_places, b_second, b_around, b_kinds, b_values, b_outer, b_taken, b_names, b_nameKinds, b_nameValues, b_nameOuter) => ∃ (tn : Nat → Nat) (N oc b t : Nat), sg_ok tn N ∧ tb_T tn a_tokens N ∧ oc ≤ 16 ∧ b ≤ t ∧ t ≤ 116000 ∧ f_count = nI N ∧ f_base = nI b ∧ f_top = nI t ∧ f_outCount = nI oc ∧ n_memory = 116000 ∧ g_size = nI N ∧ g_state = f_lastStatus ∧ g_sort = f_lastKind ∧ g_result = f_lastNumber ∧ g_shown = nI oc ∧ g_called = f_callCount ∧ g_shifted = f_shiftCount ∧ g_most = f_mostPending ∧ b_tokens = a_tokens ∧ b_paper = a_outputs
theorem i_up {k : Nat} {u : SX} {v : SY} (h : i_Rel k u v) : i_Rel (k + 2) u v := h
section
variable {f_count f_scopes f_freeNames f_base f_top f_sinceCollected f_room f_depth f_returning f_code f_bindings : Int32} {f_value f_other : Int64} {f_lastStatus f_lastKind f_lastNumber f_outCount f_callCount f_shiftCount f_mostPending : Int32} {a_tokens a_spans a_codeOp a_codeArgument a_partOne a_partTwo a_partThree a_scopeName a_scopeAround a_scopeOf : Nat → Int32} {a_memory a_frames : Nat → Int64} {a_outputs : Nat → Int32} {n_memory : Nat}
variable {g_size g_state g_sort g_result g_shown g_called g_shifted g_most g_fresh g_spare g_top g_depth g_bound g_at g_scope g_has g_valueKind g_value : Int32} {b_tokens b_paper b_places b_second b_around b_kinds b_values b_outer b_taken b_names b_nameKinds b_nameValues b_nameOuter : Nat → Int32}
theorem zz_mk {k N oc b t : Nat} {tn : Nat → Nat} (h1 : sg_ok tn N) (h2 : tb_T tn a_tokens N) (h3 : oc ≤ 16) (h4 : b ≤ t) (h5 : t ≤ 116000) : i_Rel k (nI N, f_scopes, f_freeNames, nI b, nI t, f_sinceCollected, f_room, f_depth, f_returning, f_code, f_bindings, f_value, f_other, f_lastStatus, f_lastKind, f_lastNumber, nI oc, f_callCount, f_shiftCount, f_mostPending, a_tokens, a_spans, a_codeOp, a_codeArgument, a_partOne, a_partTwo, a_partThree, a_scopeName, a_scopeAround, a_scopeOf, a_memory, a_frames, a_outputs, 116000) (nI N, f_lastStatus, f_lastKind, f_lastNumber, nI oc, f_callCount, f_shiftCount, f_mostPending, g_fresh, g_spare, g_top, g_depth, g_bound, g_at, g_scope, g_has, g_valueKind, g_value, a_tokens, a_outputs, b_places, b_second, b_around, b_kinds, b_values, b_outer, b_taken, b_names, b_nameKinds, b_nameValues, b_nameOuter) :=
  ⟨tn, N, oc, b, t, h1, h2, h3, h4, h5, rfl, rfl, rfl, rfl, rfl, rfl, rfl, rfl, rfl, rfl, rfl, rfl, rfl, rfl, rfl⟩
end
theorem zz_el {k : Nat} {u : SX} {v : SY} {P : SX → SY → Prop} (h : ∀ (tn : Nat → Nat) (N oc b t : Nat) (f_scopes f_freeNames f_sinceCollected f_room f_depth f_returning f_code f_bindings : Int32) (f_value f_other : Int64) (f_lastStatus f_lastKind f_lastNumber f_callCount f_shiftCount f_mostPending : Int32) (a_tokens a_spans a_codeOp a_codeArgument a_partOne a_partTwo a_partThree a_scopeName a_scopeAround a_scopeOf : Nat → Int32) (a_memory a_frames : Nat → Int64) (a_outputs : Nat → Int32) (g_fresh g_spare g_top g_depth g_bound g_at g_scope g_has g_valueKind g_value : Int32) (b_places b_second b_around b_kinds b_values b_outer b_taken b_names b_nameKinds b_nameValues b_nameOuter : Nat → Int32),
      sg_ok tn N → tb_T tn a_tokens N → oc ≤ 16 → b ≤ t → t ≤ 116000 → P (nI N, f_scopes, f_freeNames, nI b, nI t, f_sinceCollected, f_room, f_depth, f_returning, f_code, f_bindings, f_value, f_other, f_lastStatus, f_lastKind, f_lastNumber, nI oc, f_callCount, f_shiftCount, f_mostPending, a_tokens, a_spans, a_codeOp, a_codeArgument, a_partOne, a_partTwo, a_partThree, a_scopeName, a_scopeAround, a_scopeOf, a_memory, a_frames, a_outputs, 116000) (nI N, f_lastStatus, f_lastKind, f_lastNumber, nI oc, f_callCount, f_shiftCount, f_mostPending, g_fresh, g_spare, g_top, g_depth, g_bound, g_at, g_scope, g_has, g_valueKind, g_value, a_tokens, a_outputs, b_places, b_second, b_around, b_kinds, b_values, b_outer, b_taken, b_names, b_nameKinds, b_nameValues, b_nameOuter)) (I : i_Rel k u v) : P u v := by
  obtain ⟨f_count, f_scopes, f_freeNames, f_base, f_top, f_sinceCollected, f_room, f_depth, f_returning, f_code, f_bindings, f_value, f_other, f_lastStatus, f_lastKind, f_lastNumber, f_outCount, f_callCount, f_shiftCount, f_mostPending, a_tokens, a_spans, a_codeOp, a_codeArgument, a_partOne, a_partTwo, a_partThree, a_scopeName, a_scopeAround, a_scopeOf, a_memory, a_frames, a_outputs, n_memory⟩ := u
  obtain ⟨g_size, g_state, g_sort, g_result, g_shown, g_called, g_shifted, g_most, g_fresh, g_spare, g_top, g_depth, g_bound, g_at, g_scope, g_has, g_valueKind, g_value, b_tokens, b_paper, b_places, b_second, b_around, b_kinds, b_values, b_outer, b_taken, b_names, b_nameKinds, b_nameValues, b_nameOuter⟩ := v
  obtain ⟨tn, N, oc, b, t, h1, h2, h3, h4, h5, e1, e2, e3, e4, e5, e6, e7, e8, e9, e10, e11, e12, e13, e14, e15⟩ := I
  subst e1 e2 e3 e4 e5 e6 e7 e8 e9 e10 e11 e12 e13 e14 e15
  exact h tn N oc b t _ _ _ _ _ _ _ _ _ _ _ _ _ _ _ _ _ _ _ _ _ _ _ _ _ _ _ _ _ _ _ _ _ _ _ _ _ _ _ _ _ _ _ _ _ _ _ _ _ _ h1 h2 h3 h4 h5
theorem i_vc0 : wpX_init (fun u => wpY_init (fun v => i_Rel 0 u v)) := by
  refine ⟨by decide, nm_r (e' := 116000) (nI_clamp (n := 116000) (by decide)) ⟨Nat.le_refl _, ?_⟩⟩
  exact ⟨fun _ => 0, 0, 0, 0, 0, ⟨by decide, fun i hi => absurd hi (Nat.not_lt_zero _), fun j hj => absurd hj (Nat.not_lt_zero _)⟩, fun i hi => absurd hi (Nat.not_lt_zero _), by decide, Nat.le_refl _, by decide, rfl, rfl, rfl, rfl, rfl, rfl, rfl, rfl, rfl, rfl, rfl, rfl, rfl, rfl, rfl⟩
theorem sg_w_eq {tn tn' : Nat → Nat} : ∀ j, (∀ i, i < j → tn' i = tn i) → sg_w tn' j = sg_w tn j := by
  intro j
  induction j with
  | zero => intro _; rfl
  | succ j ih => intro h; rw [sg_w_s, sg_w_s, ih (fun i hi => h i (by omega)), h j (by omega)]
theorem sg_ok_feed {tn : Nat → Nat} {N t : Nat} (ho : sg_ok tn N) (hN : N < 32) (ht : sg_vt t) (hw : ¬ sg_w tn N = -1) : sg_ok (fun i => if i = N then t else tn i) (N + 1) := by
  have hag : ∀ j, j ≤ N → sg_w (fun i => if i = N then t else tn i) j = sg_w tn j := fun j hj => sg_w_eq j (fun i hi => if_neg (by omega))
  refine ⟨hN, fun i hi => ?_, fun j hj => ?_⟩
  · by_cases h : i = N
    · show sg_vt (if i = N then t else tn i)
      rw [if_pos h]; exact ht
    · show sg_vt (if i = N then t else tn i)
      rw [if_neg h]; exact ho.2.1 i (by omega)
  · rw [hag j (by omega)]
    rcases Nat.lt_or_ge j N with h | h
    · exact ho.2.2 j h
    · have : j = N := by omega
      subst this
      rcases Nat.eq_zero_or_pos j with h0 | h0
      · rw [h0]; exact Int.le_refl 0
      · have h1 := sg_free (tn := tn) h0
        have h2 := ho.2.2 (j - 1) (by omega)
        omega
theorem tb_T_feed {tn : Nat → Nat} {tok : Nat → Int32} {N t : Nat} (hk : tb_T tn tok N) (ht : sg_vt t) : tb_T (fun i => if i = N then t else tn i) (upd tok N (nI t)) (N + 1) := by
  intro i hi
  by_cases h : i = N
  · subst h
    dsimp only
    rw [if_pos rfl, pk_us]; exact ⟨rfl, ht⟩
  · dsimp only
    rw [if_neg h, pk_un h]; exact hk i (by omega)
theorem i_vc_feed {k : Nat} {u : SX} {v : SY} (I : i_Rel k u v) (hk : k + 2 ≤ 1024) (v1 : Int32) : wpX_feed (fun r u' => wpY_feed (fun r' v' => r' = r ∧ i_Rel (k + 2) u' v') v v1) u v1 := by
  refine zz_el (P := fun u v => wpX_feed (fun r u' => wpY_feed (fun r' v' => r' = r ∧ i_Rel (k + 2) u' v') v v1) u v1) ?_ I
  intro tn N oc b t f_scopes f_freeNames f_sinceCollected f_room f_depth f_returning f_code f_bindings f_value f_other f_lastStatus f_lastKind f_lastNumber f_callCount f_shiftCount f_mostPending a_tokens a_spans a_codeOp a_codeArgument a_partOne a_partTwo a_partThree a_scopeName a_scopeAround a_scopeOf a_memory a_frames a_outputs g_fresh g_spare g_top g_depth g_bound g_at g_scope g_has g_valueKind g_value b_places b_second b_around b_kinds b_values b_outer b_taken b_names b_nameKinds b_nameValues b_nameOuter h1 h2 h3 h4 h5
  have hN := h1.1
  have hrel := zz_mk (k := k + 2) (f_scopes := f_scopes) (f_freeNames := f_freeNames) (f_sinceCollected := f_sinceCollected) (f_room := f_room) (f_depth := f_depth) (f_returning := f_returning) (f_code := f_code) (f_bindings := f_bindings) (f_value := f_value) (f_other := f_other) (f_lastStatus := f_lastStatus) (f_lastKind := f_lastKind) (f_lastNumber := f_lastNumber) (f_callCount := f_callCount) (f_shiftCount := f_shiftCount) (f_mostPending := f_mostPending) (a_spans := a_spans) (a_codeOp := a_codeOp) (a_codeArgument := a_codeArgument) (a_partOne := a_partOne) (a_partTwo := a_partTwo) (a_partThree := a_partThree) (a_scopeName := a_scopeName) (a_scopeAround := a_scopeAround) (a_scopeOf := a_scopeOf) (a_memory := a_memory) (a_frames := a_frames) (a_outputs := a_outputs) (g_fresh := g_fresh) (g_spare := g_spare) (g_top := g_top) (g_depth := g_depth) (g_bound := g_bound) (g_at := g_at) (g_scope := g_scope) (g_has := g_has) (g_valueKind := g_valueKind) (g_value := g_value) (b_places := b_places) (b_second := b_second) (b_around := b_around) (b_kinds := b_kinds) (b_values := b_values) (b_outer := b_outer) (b_taken := b_taken) (b_names := b_names) (b_nameKinds := b_nameKinds) (b_nameValues := b_nameValues) (b_nameOuter := b_nameOuter) h1 h2 h3 h4 h5
  unfold wpX_feed
  by_cases hneg : v1 < 0
  · refine tb_pofN hneg (br_f (by decide) ?_)
    unfold wpY_feed
    exact tb_isN hneg (br_t rfl ⟨rfl, hrel⟩)
  · obtain ⟨x, hx, rfl⟩ := nI_of hneg
    refine tb_pof hx (fun hv => ?_) (fun hv => ?_)
    · have hxt := tb_lt hv
      have h3p := sg_pt3 x
      refine br_t (nI_pos' (by omega)) ?_
      refine tb_compX h1 h2 (fun hw => ?_) (fun hw => ?_)
      · refine br_f (by decide) ?_
        unfold wpY_feed
        refine tb_is hx (fun _ => br_f (by decide) ?_) (fun z => absurd hv z)
        exact tb_compY h1 h2 (fun _ => br_f (by decide) ⟨rfl, hrel⟩) (fun z => absurd hw z)
      · refine br_t rfl ?_
        rcases Nat.lt_or_ge N 32 with hlt | hge
        · have c1 : (nI N).toNatClampNeg = N := nI_clamp (by omega)
          have iN : vp_in (nI N) 32 := vp_in_nI hlt (by decide)
          refine br_t (nI_lt (b := 32) hlt (by decide)) ⟨iN, nm_r (e' := upd a_tokens N (nI x)) (by rw [c1, nb_vb (by omega)]) (nm_r (nI_1 N) ?_)⟩
          unfold wpX_forget
          show wpY_feed _ _ _
          unfold wpY_feed
          refine tb_is hx (fun _ => br_f (by decide) ?_) (fun z => absurd hv z)
          refine tb_compY h1 h2 (fun z => absurd z hw) (fun _ => br_t rfl (br_t (nI_lt (b := 32) hlt (by decide)) ⟨iN, nm_r (e' := upd a_tokens N (nI x)) (by rw [c1]) (nm_r (nI_1 N) ?_)⟩))
          unfold wpY_forget
          exact ⟨rfl, zz_mk (tn := fun i => if i = N then x else tn i) (N := N + 1) (oc := 0) (sg_ok_feed h1 hlt hv hw) (tb_T_feed h2 hv) (by decide) h4 h5⟩
        · refine br_f (nI_nlt (b := 32) hge (by omega)) ?_
          unfold wpY_feed
          refine tb_is hx (fun _ => br_f (by decide) ?_) (fun z => absurd hv z)
          exact tb_compY h1 h2 (fun z => absurd z hw) (fun _ => br_t rfl (br_f (nI_nlt (b := 32) hge (by omega)) ⟨rfl, hrel⟩))
    · refine br_f (by decide) ?_
      unfold wpY_feed
      exact tb_is hx (fun z => absurd z hv) (fun _ => br_t rfl ⟨rfl, hrel⟩)
theorem i_vc_undo {k : Nat} {u : SX} {v : SY} (I : i_Rel k u v) (hk : k + 2 ≤ 1024) : wpX_undo (fun r u' => wpY_undo (fun r' v' => r' = r ∧ i_Rel (k + 2) u' v') v) u := by
  refine zz_el (P := fun u v => wpX_undo (fun r u' => wpY_undo (fun r' v' => r' = r ∧ i_Rel (k + 2) u' v') v) u) ?_ I
  intro tn N oc b t f_scopes f_freeNames f_sinceCollected f_room f_depth f_returning f_code f_bindings f_value f_other f_lastStatus f_lastKind f_lastNumber f_callCount f_shiftCount f_mostPending a_tokens a_spans a_codeOp a_codeArgument a_partOne a_partTwo a_partThree a_scopeName a_scopeAround a_scopeOf a_memory a_frames a_outputs g_fresh g_spare g_top g_depth g_bound g_at g_scope g_has g_valueKind g_value b_places b_second b_around b_kinds b_values b_outer b_taken b_names b_nameKinds b_nameValues b_nameOuter h1 h2 h3 h4 h5
  have hN := h1.1
  have hrel := zz_mk (k := k + 2) (f_scopes := f_scopes) (f_freeNames := f_freeNames) (f_sinceCollected := f_sinceCollected) (f_room := f_room) (f_depth := f_depth) (f_returning := f_returning) (f_code := f_code) (f_bindings := f_bindings) (f_value := f_value) (f_other := f_other) (f_lastStatus := f_lastStatus) (f_lastKind := f_lastKind) (f_lastNumber := f_lastNumber) (f_callCount := f_callCount) (f_shiftCount := f_shiftCount) (f_mostPending := f_mostPending) (a_spans := a_spans) (a_codeOp := a_codeOp) (a_codeArgument := a_codeArgument) (a_partOne := a_partOne) (a_partTwo := a_partTwo) (a_partThree := a_partThree) (a_scopeName := a_scopeName) (a_scopeAround := a_scopeAround) (a_scopeOf := a_scopeOf) (a_memory := a_memory) (a_frames := a_frames) (a_outputs := a_outputs) (g_fresh := g_fresh) (g_spare := g_spare) (g_top := g_top) (g_depth := g_depth) (g_bound := g_bound) (g_at := g_at) (g_scope := g_scope) (g_has := g_has) (g_valueKind := g_valueKind) (g_value := g_value) (b_places := b_places) (b_second := b_second) (b_around := b_around) (b_kinds := b_kinds) (b_values := b_values) (b_outer := b_outer) (b_taken := b_taken) (b_names := b_names) (b_nameKinds := b_nameKinds) (b_nameValues := b_nameValues) (b_nameOuter := b_nameOuter) h1 h2 h3 h4 h5
  rcases Nat.eq_zero_or_pos N with h0 | h0
  · have e : nI N = 0 := by rw [h0]; rfl
    exact br_t e (br_t e ⟨rfl, hrel⟩)
  · have e : ¬ nI N = 0 := nI_ne0 h0 (by omega)
    have iN : vp_in (nI (N - 1)) 32 := vp_in_nI (by omega) (by decide)
    refine br_f e (nm_r (nb_s1 h0) ?_)
    unfold wpX_forget
    refine And.intro iN (br_f e (nm_r (nb_s1 h0) ?_))
    unfold wpY_forget
    exact And.intro iN ⟨rfl, zz_mk (tn := tn) (N := N - 1) (oc := 0) ⟨by omega, fun i hi => h1.2.1 i (by omega), fun j hj => h1.2.2 j (by omega)⟩ (fun i hi => h2 i (by omega)) (by decide) h4 h5⟩
theorem i_vc_token {k : Nat} {u : SX} {v : SY} (I : i_Rel k u v) (hk : k + 2 ≤ 1024) (v1 : Int32) : wpX_token (fun r => wpY_token (fun r' => r' = r ∧ i_Rel (k + 2) u v) v v1) u v1 := by
  refine zz_el (P := fun u v => wpX_token (fun r => wpY_token (fun r' => r' = r ∧ i_Rel (k + 2) u v) v v1) u v1) ?_ I
  intro tn N oc b t f_scopes f_freeNames f_sinceCollected f_room f_depth f_returning f_code f_bindings f_value f_other f_lastStatus f_lastKind f_lastNumber f_callCount f_shiftCount f_mostPending a_tokens a_spans a_codeOp a_codeArgument a_partOne a_partTwo a_partThree a_scopeName a_scopeAround a_scopeOf a_memory a_frames a_outputs g_fresh g_spare g_top g_depth g_bound g_at g_scope g_has g_valueKind g_value b_places b_second b_around b_kinds b_values b_outer b_taken b_names b_nameKinds b_nameValues b_nameOuter h1 h2 h3 h4 h5
  have hN := h1.1
  have hrel := zz_mk (k := k + 2) (f_scopes := f_scopes) (f_freeNames := f_freeNames) (f_sinceCollected := f_sinceCollected) (f_room := f_room) (f_depth := f_depth) (f_returning := f_returning) (f_code := f_code) (f_bindings := f_bindings) (f_value := f_value) (f_other := f_other) (f_lastStatus := f_lastStatus) (f_lastKind := f_lastKind) (f_lastNumber := f_lastNumber) (f_callCount := f_callCount) (f_shiftCount := f_shiftCount) (f_mostPending := f_mostPending) (a_spans := a_spans) (a_codeOp := a_codeOp) (a_codeArgument := a_codeArgument) (a_partOne := a_partOne) (a_partTwo := a_partTwo) (a_partThree := a_partThree) (a_scopeName := a_scopeName) (a_scopeAround := a_scopeAround) (a_scopeOf := a_scopeOf) (a_memory := a_memory) (a_frames := a_frames) (a_outputs := a_outputs) (g_fresh := g_fresh) (g_spare := g_spare) (g_top := g_top) (g_depth := g_depth) (g_bound := g_bound) (g_at := g_at) (g_scope := g_scope) (g_has := g_has) (g_valueKind := g_valueKind) (g_value := g_value) (b_places := b_places) (b_second := b_second) (b_around := b_around) (b_kinds := b_kinds) (b_values := b_values) (b_outer := b_outer) (b_taken := b_taken) (b_names := b_names) (b_nameKinds := b_nameKinds) (b_nameValues := b_nameValues) (b_nameOuter := b_nameOuter) h1 h2 h3 h4 h5
  by_cases hneg : v1 < 0
  · exact br_t hneg (br_t hneg ⟨rfl, hrel⟩)
  · obtain ⟨x, hx, rfl⟩ := nI_of hneg
    refine br_f hneg ?_
    rcases Nat.lt_or_ge x N with h | h
    · have ix : vp_in (nI x) 32 := vp_in_nI (by omega) (by decide)
      exact br_f (nI_ge h (by omega)) ⟨ix, br_f hneg (br_f (nI_ge h (by omega)) ⟨ix, rfl, hrel⟩)⟩
    · exact br_t (nI_le h hx) (br_f hneg (br_t (nI_le h hx) ⟨rfl, hrel⟩))
theorem i_vc_complete {k : Nat} {u : SX} {v : SY} (I : i_Rel k u v) (hk : k + 2 ≤ 1024) : wpX_complete (fun r => wpY_complete (fun r' => r' = r ∧ i_Rel (k + 2) u v) v) u := by
  refine zz_el (P := fun u v => wpX_complete (fun r => wpY_complete (fun r' => r' = r ∧ i_Rel (k + 2) u v) v) u) ?_ I
  intro tn N oc b t f_scopes f_freeNames f_sinceCollected f_room f_depth f_returning f_code f_bindings f_value f_other f_lastStatus f_lastKind f_lastNumber f_callCount f_shiftCount f_mostPending a_tokens a_spans a_codeOp a_codeArgument a_partOne a_partTwo a_partThree a_scopeName a_scopeAround a_scopeOf a_memory a_frames a_outputs g_fresh g_spare g_top g_depth g_bound g_at g_scope g_has g_valueKind g_value b_places b_second b_around b_kinds b_values b_outer b_taken b_names b_nameKinds b_nameValues b_nameOuter h1 h2 h3 h4 h5
  have hN := h1.1
  have hrel := zz_mk (k := k + 2) (f_scopes := f_scopes) (f_freeNames := f_freeNames) (f_sinceCollected := f_sinceCollected) (f_room := f_room) (f_depth := f_depth) (f_returning := f_returning) (f_code := f_code) (f_bindings := f_bindings) (f_value := f_value) (f_other := f_other) (f_lastStatus := f_lastStatus) (f_lastKind := f_lastKind) (f_lastNumber := f_lastNumber) (f_callCount := f_callCount) (f_shiftCount := f_shiftCount) (f_mostPending := f_mostPending) (a_spans := a_spans) (a_codeOp := a_codeOp) (a_codeArgument := a_codeArgument) (a_partOne := a_partOne) (a_partTwo := a_partTwo) (a_partThree := a_partThree) (a_scopeName := a_scopeName) (a_scopeAround := a_scopeAround) (a_scopeOf := a_scopeOf) (a_memory := a_memory) (a_frames := a_frames) (a_outputs := a_outputs) (g_fresh := g_fresh) (g_spare := g_spare) (g_top := g_top) (g_depth := g_depth) (g_bound := g_bound) (g_at := g_at) (g_scope := g_scope) (g_has := g_has) (g_valueKind := g_valueKind) (g_value := g_value) (b_places := b_places) (b_second := b_second) (b_around := b_around) (b_kinds := b_kinds) (b_values := b_values) (b_outer := b_outer) (b_taken := b_taken) (b_names := b_names) (b_nameKinds := b_nameKinds) (b_nameValues := b_nameValues) (b_nameOuter := b_nameOuter) h1 h2 h3 h4 h5
  exact tb_compX h1 h2 (fun hw => tb_compY h1 h2 (fun _ => ⟨rfl, hrel⟩) (fun z => absurd hw z)) (fun hw => tb_compY h1 h2 (fun z => absurd z hw) (fun _ => ⟨rfl, hrel⟩))
theorem i_vc_free {k : Nat} {u : SX} {v : SY} (I : i_Rel k u v) (hk : k + 2 ≤ 1024) : wpX_free (fun r u' => wpY_free (fun r' => r' = r ∧ i_Rel (k + 2) u' v) v) u := by
  refine zz_el (P := fun u v => wpX_free (fun r u' => wpY_free (fun r' => r' = r ∧ i_Rel (k + 2) u' v) v) u) ?_ I
  intro tn N oc b t f_scopes f_freeNames f_sinceCollected f_room f_depth f_returning f_code f_bindings f_value f_other f_lastStatus f_lastKind f_lastNumber f_callCount f_shiftCount f_mostPending a_tokens a_spans a_codeOp a_codeArgument a_partOne a_partTwo a_partThree a_scopeName a_scopeAround a_scopeOf a_memory a_frames a_outputs g_fresh g_spare g_top g_depth g_bound g_at g_scope g_has g_valueKind g_value b_places b_second b_around b_kinds b_values b_outer b_taken b_names b_nameKinds b_nameValues b_nameOuter h1 h2 h3 h4 h5
  have hN := h1.1
  have hrel := zz_mk (k := k + 2) (f_scopes := f_scopes) (f_freeNames := f_freeNames) (f_sinceCollected := f_sinceCollected) (f_room := f_room) (f_depth := f_depth) (f_returning := f_returning) (f_code := f_code) (f_bindings := f_bindings) (f_value := f_value) (f_other := f_other) (f_lastStatus := f_lastStatus) (f_lastKind := f_lastKind) (f_lastNumber := f_lastNumber) (f_callCount := f_callCount) (f_shiftCount := f_shiftCount) (f_mostPending := f_mostPending) (a_spans := a_spans) (a_codeOp := a_codeOp) (a_codeArgument := a_codeArgument) (a_partOne := a_partOne) (a_partTwo := a_partTwo) (a_partThree := a_partThree) (a_scopeName := a_scopeName) (a_scopeAround := a_scopeAround) (a_scopeOf := a_scopeOf) (a_memory := a_memory) (a_frames := a_frames) (a_outputs := a_outputs) (g_fresh := g_fresh) (g_spare := g_spare) (g_top := g_top) (g_depth := g_depth) (g_bound := g_bound) (g_at := g_at) (g_scope := g_scope) (g_has := g_has) (g_valueKind := g_valueKind) (g_value := g_value) (b_places := b_places) (b_second := b_second) (b_around := b_around) (b_kinds := b_kinds) (b_values := b_values) (b_outer := b_outer) (b_taken := b_taken) (b_names := b_names) (b_nameKinds := b_nameKinds) (b_nameValues := b_nameValues) (b_nameOuter := b_nameOuter) h1 h2 h3 h4 h5
  unfold wpX_free
  refine tb_compX h1 h2 (fun hw => ?_) (fun hw => ?_)
  · have hc : sg_cp tn N := ⟨h1, hw⟩
    refine br_f (by decide) ?_
    refine cc_all hc h2 ?_
    intro sc2 sp2 cop2 car2 p12 p22 p32 scn2 sca2 sco2 hC
    show wpY_free _ _
    unfold wpY_free
    refine tb_compY h1 h2 (fun _ => br_f (by decide) ⟨N + 1, ?_⟩) (fun z => absurd hw z)
    exact yf_13 hc h2 ⟨rfl, zz_mk h1 h2 h3 h4 h5⟩ (N + 1) 0 (Nat.zero_le _) (by omega)
  · refine br_t rfl ?_
    unfold wpY_free
    exact tb_compY h1 h2 (fun z => absurd z hw) (fun _ => br_t rfl ⟨rfl, hrel⟩)
theorem i_vc_status {k : Nat} {u : SX} {v : SY} (I : i_Rel k u v) (hk : k + 2 ≤ 1024) : wpX_status (fun r => wpY_status (fun r' => r' = r ∧ i_Rel (k + 2) u v) v) u := by
  refine zz_el (P := fun u v => wpX_status (fun r => wpY_status (fun r' => r' = r ∧ i_Rel (k + 2) u v) v) u) ?_ I
  intro tn N oc b t f_scopes f_freeNames f_sinceCollected f_room f_depth f_returning f_code f_bindings f_value f_other f_lastStatus f_lastKind f_lastNumber f_callCount f_shiftCount f_mostPending a_tokens a_spans a_codeOp a_codeArgument a_partOne a_partTwo a_partThree a_scopeName a_scopeAround a_scopeOf a_memory a_frames a_outputs g_fresh g_spare g_top g_depth g_bound g_at g_scope g_has g_valueKind g_value b_places b_second b_around b_kinds b_values b_outer b_taken b_names b_nameKinds b_nameValues b_nameOuter h1 h2 h3 h4 h5
  exact ⟨rfl, zz_mk h1 h2 h3 h4 h5⟩
theorem i_vc_kind {k : Nat} {u : SX} {v : SY} (I : i_Rel k u v) (hk : k + 2 ≤ 1024) : wpX_kind (fun r => wpY_kind (fun r' => r' = r ∧ i_Rel (k + 2) u v) v) u := by
  refine zz_el (P := fun u v => wpX_kind (fun r => wpY_kind (fun r' => r' = r ∧ i_Rel (k + 2) u v) v) u) ?_ I
  intro tn N oc b t f_scopes f_freeNames f_sinceCollected f_room f_depth f_returning f_code f_bindings f_value f_other f_lastStatus f_lastKind f_lastNumber f_callCount f_shiftCount f_mostPending a_tokens a_spans a_codeOp a_codeArgument a_partOne a_partTwo a_partThree a_scopeName a_scopeAround a_scopeOf a_memory a_frames a_outputs g_fresh g_spare g_top g_depth g_bound g_at g_scope g_has g_valueKind g_value b_places b_second b_around b_kinds b_values b_outer b_taken b_names b_nameKinds b_nameValues b_nameOuter h1 h2 h3 h4 h5
  exact ⟨rfl, zz_mk h1 h2 h3 h4 h5⟩
theorem i_vc_number {k : Nat} {u : SX} {v : SY} (I : i_Rel k u v) (hk : k + 2 ≤ 1024) : wpX_number (fun r => wpY_number (fun r' => r' = r ∧ i_Rel (k + 2) u v) v) u := by
  refine zz_el (P := fun u v => wpX_number (fun r => wpY_number (fun r' => r' = r ∧ i_Rel (k + 2) u v) v) u) ?_ I
  intro tn N oc b t f_scopes f_freeNames f_sinceCollected f_room f_depth f_returning f_code f_bindings f_value f_other f_lastStatus f_lastKind f_lastNumber f_callCount f_shiftCount f_mostPending a_tokens a_spans a_codeOp a_codeArgument a_partOne a_partTwo a_partThree a_scopeName a_scopeAround a_scopeOf a_memory a_frames a_outputs g_fresh g_spare g_top g_depth g_bound g_at g_scope g_has g_valueKind g_value b_places b_second b_around b_kinds b_values b_outer b_taken b_names b_nameKinds b_nameValues b_nameOuter h1 h2 h3 h4 h5
  exact ⟨rfl, zz_mk h1 h2 h3 h4 h5⟩
theorem i_vc_outs {k : Nat} {u : SX} {v : SY} (I : i_Rel k u v) (hk : k + 2 ≤ 1024) : wpX_outs (fun r => wpY_outs (fun r' => r' = r ∧ i_Rel (k + 2) u v) v) u := by
  refine zz_el (P := fun u v => wpX_outs (fun r => wpY_outs (fun r' => r' = r ∧ i_Rel (k + 2) u v) v) u) ?_ I
  intro tn N oc b t f_scopes f_freeNames f_sinceCollected f_room f_depth f_returning f_code f_bindings f_value f_other f_lastStatus f_lastKind f_lastNumber f_callCount f_shiftCount f_mostPending a_tokens a_spans a_codeOp a_codeArgument a_partOne a_partTwo a_partThree a_scopeName a_scopeAround a_scopeOf a_memory a_frames a_outputs g_fresh g_spare g_top g_depth g_bound g_at g_scope g_has g_valueKind g_value b_places b_second b_around b_kinds b_values b_outer b_taken b_names b_nameKinds b_nameValues b_nameOuter h1 h2 h3 h4 h5
  exact ⟨rfl, zz_mk h1 h2 h3 h4 h5⟩
theorem i_vc_calls {k : Nat} {u : SX} {v : SY} (I : i_Rel k u v) (hk : k + 2 ≤ 1024) : wpX_calls (fun r => wpY_calls (fun r' => r' = r ∧ i_Rel (k + 2) u v) v) u := by
  refine zz_el (P := fun u v => wpX_calls (fun r => wpY_calls (fun r' => r' = r ∧ i_Rel (k + 2) u v) v) u) ?_ I
  intro tn N oc b t f_scopes f_freeNames f_sinceCollected f_room f_depth f_returning f_code f_bindings f_value f_other f_lastStatus f_lastKind f_lastNumber f_callCount f_shiftCount f_mostPending a_tokens a_spans a_codeOp a_codeArgument a_partOne a_partTwo a_partThree a_scopeName a_scopeAround a_scopeOf a_memory a_frames a_outputs g_fresh g_spare g_top g_depth g_bound g_at g_scope g_has g_valueKind g_value b_places b_second b_around b_kinds b_values b_outer b_taken b_names b_nameKinds b_nameValues b_nameOuter h1 h2 h3 h4 h5
  exact ⟨rfl, zz_mk h1 h2 h3 h4 h5⟩
theorem i_vc_shifts {k : Nat} {u : SX} {v : SY} (I : i_Rel k u v) (hk : k + 2 ≤ 1024) : wpX_shifts (fun r => wpY_shifts (fun r' => r' = r ∧ i_Rel (k + 2) u v) v) u := by
  refine zz_el (P := fun u v => wpX_shifts (fun r => wpY_shifts (fun r' => r' = r ∧ i_Rel (k + 2) u v) v) u) ?_ I
  intro tn N oc b t f_scopes f_freeNames f_sinceCollected f_room f_depth f_returning f_code f_bindings f_value f_other f_lastStatus f_lastKind f_lastNumber f_callCount f_shiftCount f_mostPending a_tokens a_spans a_codeOp a_codeArgument a_partOne a_partTwo a_partThree a_scopeName a_scopeAround a_scopeOf a_memory a_frames a_outputs g_fresh g_spare g_top g_depth g_bound g_at g_scope g_has g_valueKind g_value b_places b_second b_around b_kinds b_values b_outer b_taken b_names b_nameKinds b_nameValues b_nameOuter h1 h2 h3 h4 h5
  exact ⟨rfl, zz_mk h1 h2 h3 h4 h5⟩
theorem i_vc_deepest {k : Nat} {u : SX} {v : SY} (I : i_Rel k u v) (hk : k + 2 ≤ 1024) : wpX_deepest (fun r => wpY_deepest (fun r' => r' = r ∧ i_Rel (k + 2) u v) v) u := by
  refine zz_el (P := fun u v => wpX_deepest (fun r => wpY_deepest (fun r' => r' = r ∧ i_Rel (k + 2) u v) v) u) ?_ I
  intro tn N oc b t f_scopes f_freeNames f_sinceCollected f_room f_depth f_returning f_code f_bindings f_value f_other f_lastStatus f_lastKind f_lastNumber f_callCount f_shiftCount f_mostPending a_tokens a_spans a_codeOp a_codeArgument a_partOne a_partTwo a_partThree a_scopeName a_scopeAround a_scopeOf a_memory a_frames a_outputs g_fresh g_spare g_top g_depth g_bound g_at g_scope g_has g_valueKind g_value b_places b_second b_around b_kinds b_values b_outer b_taken b_names b_nameKinds b_nameValues b_nameOuter h1 h2 h3 h4 h5
  exact ⟨rfl, zz_mk h1 h2 h3 h4 h5⟩
theorem i_vc_out {k : Nat} {u : SX} {v : SY} (I : i_Rel k u v) (hk : k + 2 ≤ 1024) (v1 : Int32) : wpX_out (fun r => wpY_out (fun r' => r' = r ∧ i_Rel (k + 2) u v) v v1) u v1 := by
  refine zz_el (P := fun u v => wpX_out (fun r => wpY_out (fun r' => r' = r ∧ i_Rel (k + 2) u v) v v1) u v1) ?_ I
  intro tn N oc b t f_scopes f_freeNames f_sinceCollected f_room f_depth f_returning f_code f_bindings f_value f_other f_lastStatus f_lastKind f_lastNumber f_callCount f_shiftCount f_mostPending a_tokens a_spans a_codeOp a_codeArgument a_partOne a_partTwo a_partThree a_scopeName a_scopeAround a_scopeOf a_memory a_frames a_outputs g_fresh g_spare g_top g_depth g_bound g_at g_scope g_has g_valueKind g_value b_places b_second b_around b_kinds b_values b_outer b_taken b_names b_nameKinds b_nameValues b_nameOuter h1 h2 h3 h4 h5
  have hN := h1.1
  have hrel := zz_mk (k := k + 2) (f_scopes := f_scopes) (f_freeNames := f_freeNames) (f_sinceCollected := f_sinceCollected) (f_room := f_room) (f_depth := f_depth) (f_returning := f_returning) (f_code := f_code) (f_bindings := f_bindings) (f_value := f_value) (f_other := f_other) (f_lastStatus := f_lastStatus) (f_lastKind := f_lastKind) (f_lastNumber := f_lastNumber) (f_callCount := f_callCount) (f_shiftCount := f_shiftCount) (f_mostPending := f_mostPending) (a_spans := a_spans) (a_codeOp := a_codeOp) (a_codeArgument := a_codeArgument) (a_partOne := a_partOne) (a_partTwo := a_partTwo) (a_partThree := a_partThree) (a_scopeName := a_scopeName) (a_scopeAround := a_scopeAround) (a_scopeOf := a_scopeOf) (a_memory := a_memory) (a_frames := a_frames) (a_outputs := a_outputs) (g_fresh := g_fresh) (g_spare := g_spare) (g_top := g_top) (g_depth := g_depth) (g_bound := g_bound) (g_at := g_at) (g_scope := g_scope) (g_has := g_has) (g_valueKind := g_valueKind) (g_value := g_value) (b_places := b_places) (b_second := b_second) (b_around := b_around) (b_kinds := b_kinds) (b_values := b_values) (b_outer := b_outer) (b_taken := b_taken) (b_names := b_names) (b_nameKinds := b_nameKinds) (b_nameValues := b_nameValues) (b_nameOuter := b_nameOuter) h1 h2 h3 h4 h5
  by_cases hneg : v1 < 0
  · exact br_t hneg (br_t hneg ⟨rfl, hrel⟩)
  · obtain ⟨x, hx, rfl⟩ := nI_of hneg
    refine br_f hneg ?_
    rcases Nat.lt_or_ge x oc with h | h
    · have ix : vp_in (nI x) 16 := vp_in_nI (by omega) (by decide)
      exact br_f (nI_ge h (by omega)) ⟨ix, br_f hneg (br_f (nI_ge h (by omega)) ⟨ix, rfl, hrel⟩)⟩
    · exact br_t (nI_le h hx) (br_f hneg (br_t (nI_le h hx) ⟨rfl, hrel⟩))
end
section
/-! a run's start and end -/
def re_so (st k : Nat) : Nat := if st = 1 then (if k = 1 then 1 else 2) else 0
def re_rs (st k : Nat) (v : Int32) : Int32 := if st = 1 then (if k = 1 then v else 0) else 0
def xz_R (tok : Nat → Int32) (N st k : Nat) (v : Int32) (cl sh ms oc : Nat) (out : Nat → Int32) (u : SX) : Prop := match u with
  | (f_count, f_scopes, f_freeNames, f_base, f_top, f_sinceCollected, f_room, f_depth, f_returning, f_code, f_bindings, f_value, f_other, f_lastStatus, f_lastKind, f_lastNumber, f_outCount, f_callCount, f_shiftCount, f_mostPending, a_tokens, a_spans, a_codeOp, a_codeArgument, a_partOne, a_partTwo, a_partThree, a_scopeName, a_scopeAround, a_scopeOf, a_memory, a_frames, a_outputs, n_memory) => f_count = nI N ∧ f_lastStatus = nI st ∧ f_lastKind = nI (re_so st k) ∧ f_lastNumber = re_rs st k v ∧ f_outCount = nI oc ∧ f_callCount = nI cl ∧ f_shiftCount = nI sh ∧ f_mostPending = nI ms ∧ a_tokens = tok ∧ a_outputs = out ∧ n_memory = 116000 ∧ ∃ b t : Nat, f_base = nI b ∧ f_top = nI t ∧ b ≤ t ∧ t ≤ 116000
def yz_R (tok : Nat → Int32) (N st k : Nat) (v : Int32) (cl sh ms oc : Nat) (out : Nat → Int32) (w : SY) : Prop := match w with
  | (g_size, g_state, g_sort, g_result, g_shown, g_called, g_shifted, g_most, g_fresh, g_spare, g_top, g_depth, g_bound, g_at, g_scope, g_has, g_valueKind, g_value, b_tokens, b_paper, b_places, b_second, b_around, b_kinds, b_values, b_outer, b_taken, b_names, b_nameKinds, b_nameValues, b_nameOuter) => g_size = nI N ∧ g_state = nI st ∧ g_sort = nI (re_so st k) ∧ g_result = re_rs st k v ∧ g_shown = nI oc ∧ g_called = nI cl ∧ g_shifted = nI sh ∧ g_most = nI ms ∧ b_tokens = tok ∧ b_paper = out
theorem re_X {tok out : Nat → Int32} {N st k cl sh ms oc : Nat} {v : Int32} {u : SX} {post : Int32 → SX → Prop} (hst : 1 ≤ st ∧ st ≤ 5) (hk3 : k ≤ 3) (I : xf_R tok N st k v cl sh ms oc out u) (K : ∀ u2, xz_R tok N st k v cl sh ms oc out u2 → post (nI st) u2) : rn_XE post u := by
  obtain ⟨f_count, f_scopes, f_freeNames, f_base, f_top, f_sinceCollected, f_room, f_depth, f_returning, f_code, f_bindings, f_value, f_other, f_lastStatus, f_lastKind, f_lastNumber, f_outCount, f_callCount, f_shiftCount, f_mostPending, a_tokens, a_spans, a_codeOp, a_codeArgument, a_partOne, a_partTwo, a_partThree, a_scopeName, a_scopeAround, a_scopeOf, a_memory, a_frames, a_outputs, n_memory⟩ := u
  obtain ⟨e1, e2, e3, e4, e5, e6, e7, e8, e9, e10, e11, hv, hb⟩ := I
  subst e2
  by_cases h1 : st = 1
  · obtain ⟨hv1, hv2⟩ := hv h1
    have e : nI st = 1 := by rw [h1]; rfl
    by_cases hk : k = 1
    · have hko : nb_ko f_value = 1 := by rw [hv1, hk]; rfl
      refine br_t e (br_t hko (br_t rfl (K _ ⟨e1, rfl, ?_, ?_, e5, e6, e7, e8, e9, e10, e11, hb⟩)))
      · show (1 : Int32) = nI (re_so st k)
        unfold re_so; rw [if_pos h1, if_pos hk]; rfl
      · show f_value.toInt32 = re_rs st k v
        unfold re_rs; rw [if_pos h1, if_pos hk]; exact hv2 hk
    · have hko : ¬ nb_ko f_value = 1 := by rw [hv1]; exact nb_ne (b := 1) (by omega) (by decide) hk
      refine br_t e (br_f hko (br_f (by decide) (K _ ⟨e1, rfl, ?_, ?_, e5, e6, e7, e8, e9, e10, e11, hb⟩)))
      · show (2 : Int32) = nI (re_so st k)
        unfold re_so; rw [if_pos h1, if_neg hk]; rfl
      · show (0 : Int32) = re_rs st k v
        unfold re_rs; rw [if_pos h1, if_neg hk]
  · have e : ¬ nI st = 1 := nb_ne (b := 1) (by omega) (by decide) h1
    refine br_f e (K _ ⟨e1, rfl, ?_, ?_, e5, e6, e7, e8, e9, e10, e11, hb⟩)
    · show f_lastKind = nI (re_so st k)
      unfold re_so; rw [if_neg h1, e3]; rfl
    · show f_lastNumber = re_rs st k v
      unfold re_rs; rw [if_neg h1, e4]
theorem re_Y {tok out : Nat → Int32} {N st k cl sh ms oc : Nat} {v : Int32} {w : SY} {post : Int32 → SY → Prop} (hst : 1 ≤ st ∧ st ≤ 5) (hk3 : k ≤ 3) (I : yf_R tok N st k v cl sh ms oc out w) (K : ∀ w2, yz_R tok N st k v cl sh ms oc out w2 → post (nI st) w2) : rn_YE post w := by
  obtain ⟨g_size, g_state, g_sort, g_result, g_shown, g_called, g_shifted, g_most, g_fresh, g_spare, g_top, g_depth, g_bound, g_at, g_scope, g_has, g_valueKind, g_value, b_tokens, b_paper, b_places, b_second, b_around, b_kinds, b_values, b_outer, b_taken, b_names, b_nameKinds, b_nameValues, b_nameOuter⟩ := w
  obtain ⟨e1, e2, e3, e4, e5, e6, e7, e8, hv⟩ := I
  subst e2
  by_cases h1 : st = 1
  · obtain ⟨hv1, hv2⟩ := hv h1
    have e : nI st = 1 := by rw [h1]; rfl
    by_cases hk : k = 1
    · have hko : g_valueKind = 1 := by rw [hv1, hk]; rfl
      refine br_t e (br_t hko (br_t rfl (K _ ⟨e1, rfl, ?_, ?_, e3, e4, e5, e6, e7, e8⟩)))
      · show (1 : Int32) = nI (re_so st k)
        unfold re_so; rw [if_pos h1, if_pos hk]; rfl
      · show g_value = re_rs st k v
        unfold re_rs; rw [if_pos h1, if_pos hk]; exact hv2
    · have hko : ¬ g_valueKind = 1 := by rw [hv1]; exact nb_ne (b := 1) (by omega) (by decide) hk
      refine br_t e (br_f hko (br_f (by decide) (K _ ⟨e1, rfl, ?_, ?_, e3, e4, e5, e6, e7, e8⟩)))
      · show (2 : Int32) = nI (re_so st k)
        unfold re_so; rw [if_pos h1, if_neg hk]; rfl
      · show (0 : Int32) = re_rs st k v
        unfold re_rs; rw [if_pos h1, if_neg hk]
  · have e : ¬ nI st = 1 := nb_ne (b := 1) (by omega) (by decide) h1
    refine br_f e (br_f (by decide) (K _ ⟨e1, rfl, ?_, ?_, e3, e4, e5, e6, e7, e8⟩))
    · show (0 : Int32) = nI (re_so st k)
      unfold re_so; rw [if_neg h1]; rfl
    · show (0 : Int32) = re_rs st k v
      unfold re_rs; rw [if_neg h1]
theorem re_rel {tok out : Nat → Int32} {tn : Nat → Nat} {N st k cl sh ms oc kk : Nat} {v : Int32} {u : SX} {w : SY} (hx : xz_R tok N st k v cl sh ms oc out u) (hy : yz_R tok N st k v cl sh ms oc out w) (ho : sg_ok tn N) (hk : tb_T tn tok N) (hoc : oc ≤ 16) : i_Rel kk u w := by
  obtain ⟨f_count, f_scopes, f_freeNames, f_base, f_top, f_sinceCollected, f_room, f_depth, f_returning, f_code, f_bindings, f_value, f_other, f_lastStatus, f_lastKind, f_lastNumber, f_outCount, f_callCount, f_shiftCount, f_mostPending, a_tokens, a_spans, a_codeOp, a_codeArgument, a_partOne, a_partTwo, a_partThree, a_scopeName, a_scopeAround, a_scopeOf, a_memory, a_frames, a_outputs, n_memory⟩ := u
  obtain ⟨g_size, g_state, g_sort, g_result, g_shown, g_called, g_shifted, g_most, g_fresh, g_spare, g_top, g_depth, g_bound, g_at, g_scope, g_has, g_valueKind, g_value, b_tokens, b_paper, b_places, b_second, b_around, b_kinds, b_values, b_outer, b_taken, b_names, b_nameKinds, b_nameValues, b_nameOuter⟩ := w
  obtain ⟨x1, x2, x3, x4, x5, x6, x7, x8, x9, x10, x11, b, t, x12, x13, x14, x15⟩ := hx
  obtain ⟨y1, y2, y3, y4, y5, y6, y7, y8, y9, y10⟩ := hy
  exact ⟨tn, N, oc, b, t, ho, by rw [x9]; exact hk, hoc, x14, x15, x1, x12, x13, x5, x11, y1, y2.trans x2.symm, y3.trans x3.symm, y4.trans x4.symm, y5, y6.trans x6.symm, y7.trans x7.symm, y8.trans x8.symm, y9.trans x9.symm, y10.trans x10.symm⟩
/-- the start -/
def re_s : Nat → ab_F := ab_psh (fun _ => (4, 0, 0, 0, 0)) 0 (4, 0, 0, 0, 0)
def re_H : ab_H := (0, (fun _ => 0), (fun _ => 0), (fun _ => 0), (fun _ => 0))
def re_R : ab_R := (0, (fun _ => 0), (fun _ _ => (0, 0, 0, 0, 0)))
def re_c (out : Nat → Int32) : ab_C := (false, 0, 0, 0, 0, 1, re_s, re_H, re_R, 0, 1, 0, out)
theorem re_O {tn : Nat → Nat} {N : Nat} (hc : sg_cp tn N) (out : Nat → Int32) : ck_O tn N (re_c out) := by
  have h0 := (sg_e_0 hc).2
  refine ⟨fun _ => ⟨h0, rfl⟩, fun z => absurd z (by decide), ⟨by decide, by decide, by decide, by decide, rfl, fun f hf => ?_⟩, ⟨fun i h1 h2 => ?_, fun r => Nat.zero_le _, fun r hr => absurd hr (Nat.not_lt_zero _), by decide⟩, by decide, by decide⟩
  · have e : f = 0 := by omega
    subst e
    exact ⟨by decide, fun _ => rfl, Or.inr (Or.inr (Or.inr (Or.inr (Or.inl rfl))))⟩
  · have h3 : i ≤ 0 := h2
    omega
theorem re_M {tn : Nat → Nat} {N : Nat} (hc : sg_cp tn N) : ck_M tn false 0 1 re_s re_R 0 ≤ 525000 := by
  have h0 := (sg_e_0 hc).2
  have h1 := pm_t_le hc h0
  have h2 := hc.1.1
  have h3 : ck_M tn false 0 1 re_s re_R 0 = 13000 * 40 + 500 * 8 + (0 + 3) + pm_t tn 0 := rfl
  omega
section
variable {f_count f_scopes f_freeNames f_base f_top f_sinceCollected f_room f_depth f_returning f_code f_bindings : Int32} {f_value f_other : Int64} {f_lastStatus f_lastKind f_lastNumber f_outCount f_callCount f_shiftCount f_mostPending : Int32} {a_tokens a_spans a_codeOp a_codeArgument a_partOne a_partTwo a_partThree a_scopeName a_scopeAround a_scopeOf : Nat → Int32} {a_memory a_frames : Nat → Int64} {a_outputs : Nat → Int32} {n_memory : Nat}
variable {tn : Nat → Nat} {tok : Nat → Int32} {N b t : Nat} {post : Int32 → SX → Prop}
theorem re_39 (ht : t ≤ 116000) (K : ∀ (mem2 : Nat → Int64) (n : Nat), wX_run_39 post f_count f_scopes f_freeNames f_base (nI t) f_sinceCollected f_room f_depth f_returning f_code f_bindings f_value f_other f_lastStatus f_lastKind f_lastNumber f_outCount f_callCount f_shiftCount f_mostPending 116000 (n + 1) (nI t) a_tokens a_spans a_codeOp a_codeArgument a_partOne a_partTwo a_partThree a_scopeName a_scopeAround a_scopeOf mem2 a_frames a_outputs) :
    ∀ n i (mem : Nat → Int64), i ≤ t → t - i < n → wX_run_39 post f_count f_scopes f_freeNames f_base (nI t) f_sinceCollected f_room f_depth f_returning f_code f_bindings f_value f_other f_lastStatus f_lastKind f_lastNumber f_outCount f_callCount f_shiftCount f_mostPending 116000 n (nI i) a_tokens a_spans a_codeOp a_codeArgument a_partOne a_partTwo a_partThree a_scopeName a_scopeAround a_scopeOf mem a_frames a_outputs := by
  intro n
  induction n with
  | zero => intro i mem _ h; omega
  | succ n ih =>
    intro i mem h1 h2
    rcases Nat.lt_or_ge i t with h | h
    · exact br_f (nI_ge h (by omega)) ⟨vp_in_nI (by omega) (by decide), nm_e (nm_r (nI_1 i) (ih (i + 1) _ h (by omega)))⟩
    · have : i = t := by omega
      subst this
      exact K mem n
theorem re_X0 (hC : xc_C tn N a_codeOp a_codeArgument a_partOne a_partTwo a_partThree) (hb : b ≤ t) (ht : t ≤ 116000) (gX : ∀ u, xr_R tn tok N 0 (re_c a_outputs) u → rn_X post 600000 0 u) :
    ∃ n39 : Nat, wX_run_39 post (nI N) f_scopes f_freeNames (nI b) (nI t) f_sinceCollected f_room f_depth f_returning f_code f_bindings f_value f_other 0 0 0 0 0 0 0 116000 n39 (nI b) tok a_spans a_codeOp a_codeArgument a_partOne a_partTwo a_partThree a_scopeName a_scopeAround a_scopeOf a_memory a_frames a_outputs := by
  refine ⟨t + 1, re_39 ht ?_ (t + 1) b a_memory hb (by omega)⟩
  intro mem2 n
  refine br_t (nI_le (Nat.le_refl _) (by omega)) ?_
  refine xs_push (kd := 4) (n := 0) (d := 0) (pb := 0) (ms := 0) (by decide) (by decide) (by decide) (by decide) ?_
  refine ⟨600000, ?_⟩
  have hM : xm_M re_H re_R 0 1 (0, 1, (fun _ => 1), (fun _ => 0), (fun _ => 0)) 0 0 0 1 re_s 0 0 0 mem2 (vp_updL (vp_updL (vp_updL a_frames (0 * 3) (lN (4 * 64 + 0))) (0 * 3 + 1) (lN 0)) (0 * 3 + 2) 0) :=
    ⟨Or.inl rfl, ⟨⟨rfl, rfl, fun j hj => absurd hj (Nat.not_lt_zero _), fun j hj => absurd hj (Nat.not_lt_zero _)⟩, fun j hj => absurd hj (Nat.not_lt_zero _)⟩, Nat.le_refl _, by decide, Or.inl ⟨rfl, rfl⟩, Or.inl ⟨rfl, rfl⟩, ⟨0, 0, Or.inl ⟨rfl, rfl⟩⟩,
      xm_psh (d := 0) (s := fun _ => (4, 0, 0, 0, 0)) (fr := (4, 0, 0, 0, 0)) (fun y hy => absurd hy (Nat.not_lt_zero _)) rfl (Or.inl ⟨rfl, rfl⟩) (Or.inl ⟨rfl, rfl⟩)⟩
  have h := gX _ (xr_mk0 (tok := tok) (c_at := 0) (c_e := 0) (c_k := 0) (c_v := 0) (c_d := 1) (c_s := re_s) (c_H := re_H) (c_R := re_R) (c_cl := 0) (c_ms := 1) (c_oc := 0) (c_out := a_outputs) (f_scopes := f_scopes) (f_freeNames := f_freeNames) (f_sinceCollected := 0) (f_room := f_room) (a_spans := a_spans) (a_scopeName := a_scopeName) (a_scopeAround := a_scopeAround) (a_scopeOf := a_scopeOf) hC hM)
  exact h
end
section
variable {g_size g_state g_sort g_result g_shown g_called g_shifted g_most g_fresh g_spare g_top g_depth g_bound g_at g_scope g_has g_valueKind g_value : Int32} {b_tokens b_paper b_places b_second b_around b_kinds b_values b_outer b_taken b_names b_nameKinds b_nameValues b_nameOuter : Nat → Int32}
variable {tok : Nat → Int32} {N : Nat}
/-- the reference's nodes at the start -/
theorem re_P : yl_P 0 (fun _ => (4, 0, 0, 0, 0)) re_R (fun _ => 0) (fun _ _ => 0) (fun _ => (0, 0)) 1 b_places b_second b_around b_kinds b_values b_outer b_taken :=
  ⟨⟨fun q f hf => absurd hf (Nat.not_lt_zero _), rfl, rfl⟩, ⟨fun f hf => absurd hf (Nat.not_lt_zero _), fun r hr => absurd hr (Nat.not_lt_zero _)⟩, rfl, fun r hr => absurd hr (Nat.not_lt_zero _), fun r _ _ => rfl, by decide⟩
theorem re_Y0 {tn : Nat → Nat} {q : Int32 → SY → Prop} (ho : sg_cp tn N) (hk : tb_T tn tok N) {p0 : Int32} (hp1 : ¬ p0 < 1) (hp2 : p0 ≤ 1000) (gY : ∀ w, yr_R tok N (re_c b_paper) w → rn_Y q 600000 w) : wpY_run q (nI N, g_state, g_sort, g_result, g_shown, g_called, g_shifted, g_most, g_fresh, g_spare, g_top, g_depth, g_bound, g_at, g_scope, g_has, g_valueKind, g_value, tok, b_paper, b_places, b_second, b_around, b_kinds, b_values, b_outer, b_taken, b_names, b_nameKinds, b_nameValues, b_nameOuter) p0 := by
  unfold wpY_run
  refine tb_compY ho.1 hk (fun _ => br_f (by decide) (br_f hp1 (br_t hp2 ?_))) (fun z => absurd ho.2 z)
  unfold wpY_forget
  show wpY_push _ _ _
  refine yo_push (d := 0) (ms := 0) (fr := 1) (s := fun _ => (4, 0, 0, 0, 0)) (R := re_R) (g := (4, 0, 0, 0, 0)) (len := fun _ => 0) (nod := fun _ _ => 0) (ow := fun _ => (0, 0)) re_P (by decide) (by decide) (by decide) (fun r => Nat.zero_le _) ⟨fun _ => rfl, fun z => absurd rfl z⟩ ?_
  intro len2 nod2 ow2 fr2 pl2 sec2 aro2 out2 P2
  refine ⟨600000, ?_⟩
  have hm : yn_M re_H b_names b_nameKinds b_nameValues b_nameOuter := fun i h1 h2 => by
    have h3 : i ≤ 0 := h2
    omega
  have h := gY _ (yr_mk0 (tok := tok) (N := N) (c_at := 0) (c_e := 0) (c_k := 0) (c_v := 0) (c_d := 1) (c_s := re_s) (c_H := re_H) (c_R := re_R) (c_cl := 0) (c_ms := 1) (c_oc := 0) (c_out := b_paper) (g_sort := 0) (g_result := 0) (g_valueKind := g_valueKind) (g_value := g_value) hm P2)
  exact h
end
end
section
/-! the run -/
theorem i_vc_run {k : Nat} {u : SX} {v : SY} (I : i_Rel k u v) (hk : k + 2 ≤ 1024) (v1 : Int32) : wpX_run (fun r u' => wpY_run (fun r' v' => r' = r ∧ i_Rel (k + 2) u' v') v v1) u v1 := by
  refine zz_el (P := fun u v => wpX_run (fun r u' => wpY_run (fun r' v' => r' = r ∧ i_Rel (k + 2) u' v') v v1) u v1) ?_ I
  intro tn N oc b t f_scopes f_freeNames f_sinceCollected f_room f_depth f_returning f_code f_bindings f_value f_other f_lastStatus f_lastKind f_lastNumber f_callCount f_shiftCount f_mostPending a_tokens a_spans a_codeOp a_codeArgument a_partOne a_partTwo a_partThree a_scopeName a_scopeAround a_scopeOf a_memory a_frames a_outputs g_fresh g_spare g_top g_depth g_bound g_at g_scope g_has g_valueKind g_value b_places b_second b_around b_kinds b_values b_outer b_taken b_names b_nameKinds b_nameValues b_nameOuter h1 h2 h3 h4 h5
  have hN := h1.1
  have hrel := zz_mk (k := k + 2) (f_scopes := f_scopes) (f_freeNames := f_freeNames) (f_sinceCollected := f_sinceCollected) (f_room := f_room) (f_depth := f_depth) (f_returning := f_returning) (f_code := f_code) (f_bindings := f_bindings) (f_value := f_value) (f_other := f_other) (f_lastStatus := f_lastStatus) (f_lastKind := f_lastKind) (f_lastNumber := f_lastNumber) (f_callCount := f_callCount) (f_shiftCount := f_shiftCount) (f_mostPending := f_mostPending) (a_spans := a_spans) (a_codeOp := a_codeOp) (a_codeArgument := a_codeArgument) (a_partOne := a_partOne) (a_partTwo := a_partTwo) (a_partThree := a_partThree) (a_scopeName := a_scopeName) (a_scopeAround := a_scopeAround) (a_scopeOf := a_scopeOf) (a_memory := a_memory) (a_frames := a_frames) (a_outputs := a_outputs) (g_fresh := g_fresh) (g_spare := g_spare) (g_top := g_top) (g_depth := g_depth) (g_bound := g_bound) (g_at := g_at) (g_scope := g_scope) (g_has := g_has) (g_valueKind := g_valueKind) (g_value := g_value) (b_places := b_places) (b_second := b_second) (b_around := b_around) (b_kinds := b_kinds) (b_values := b_values) (b_outer := b_outer) (b_taken := b_taken) (b_names := b_names) (b_nameKinds := b_nameKinds) (b_nameValues := b_nameValues) (b_nameOuter := b_nameOuter) h1 h2 h3 h4 h5
  unfold wpX_run
  refine tb_compX h1 h2 (fun hw => ?_) (fun hw => ?_)
  · have hc : sg_cp tn N := ⟨h1, hw⟩
    refine br_f (by decide) ?_
    by_cases hp1 : v1 < 1
    · refine br_t hp1 ?_
      unfold wpY_run
      exact tb_compY h1 h2 (fun _ => br_f (by decide) (br_t hp1 ⟨rfl, hrel⟩)) (fun z => absurd hw z)
    · refine br_f hp1 ?_
      by_cases hp2 : v1 ≤ 1000
      · refine br_t hp2 ?_
        refine cc_all hc h2 ?_
        intro sc2 sp2 cop2 car2 p12 p22 p32 scn2 sca2 sco2 hC
        unfold wpX_forget
        have hMM := re_M hc
        obtain ⟨st, kk, vv, cl, sh, ms, oc2, out, g1, g2, g3, gX, gY⟩ := rm_all hc h2 600000 false 0 0 0 0 1 re_s re_H re_R 0 1 0 a_outputs (by omega) (re_O hc a_outputs) (by show 50 * 0 + ck_M tn false 0 1 re_s re_R 0 ≤ 590000; omega)
        refine re_X0 hC h4 h5 (fun u hu => gX 0 0 600000 u _ hu (by omega) (by omega) (by omega) (fun u' hu' => re_X g1 g2 hu' (fun u2 hu2 => ?_)))
        exact re_Y0 hc h2 hp1 hp2 (fun w hw2 => gY 600000 w _ hw2 (by omega) (fun w' hw' => re_Y g1 g2 hw' (fun w2 hw3 => ⟨rfl, re_rel hu2 hw3 h1 h2 g3⟩)))
      · refine br_f hp2 ?_
        unfold wpY_run
        exact tb_compY h1 h2 (fun _ => br_f (by decide) (br_f hp1 (br_f hp2 ⟨rfl, hrel⟩))) (fun z => absurd hw z)
  · refine br_t rfl ?_
    unfold wpY_run
    exact tb_compY h1 h2 (fun z => absurd z hw) (fun _ => br_t rfl ⟨rfl, hrel⟩)
end
