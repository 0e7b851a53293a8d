section
/-! pure rows to paste: stores, nI and lN arithmetic, masks, shifts, narrowing, branches by naturals (pk_le, pk_lt, pk_eq), loops (lp1 .. lp16: the measure of the state; rp1 ..: recursion), negatives. Take what you need -/
theorem pk_us {f : Nat → Int32} {k : Nat} {x : Int32} : upd f k x k = x := if_pos rfl
theorem pk_un {f : Nat → Int32} {k j : Nat} {x : Int32} (h : j ≠ k) : upd f k x j = f j := if_neg h
theorem pk_uLs {f : Nat → Int64} {k : Nat} {x : Int64} : vp_updL f k x k = x := if_pos rfl
theorem pk_uLn {f : Nat → Int64} {k j : Nat} {x : Int64} (h : j ≠ k) : vp_updL f k x j = f j := if_neg h
theorem pk_sub {a b : Nat} (h : b ≤ a) : nI a - nI b = nI (a - b) := by
  obtain ⟨c, rfl⟩ : ∃ c, a = c + b := ⟨a - b, by omega⟩
  rw [← nI_add, Int32.add_sub_cancel, Nat.add_sub_cancel]
theorem pk_m1 (n : Nat) : nI (n + 1) + (-1) = nI n := by
  rw [← nI_1, Int32.add_assoc, show (1 : Int32) + (-1) = 0 from rfl, Int32.add_zero]
theorem pk_mul (a b : Nat) : nI a * nI b = nI (a * b) := (Int32.ofNat_mul a b).symm
theorem pk_div {a d : Nat} (ha : a < 2 ^ 31) (h0 : 0 < d) (hd : d < 2 ^ 31) : nI a / nI d = nI (a / d) := by
  apply Int32.toInt_inj.mp
  rw [lg_idiv_nonneg (by rw [nI_toInt ha]; omega) (by rw [nI_toInt hd]; omega), nI_toInt ha, nI_toInt hd, nI_toInt (Nat.lt_of_le_of_lt (Nat.div_le_self a d) ha)]
  first | rfl | exact (Int.natCast_ediv _ _).symm
theorem pk_rem {a d : Nat} (ha : a < 2 ^ 31) (h0 : 0 < d) (hd : d < 2 ^ 31) : nI a - nI a / nI d * nI d = nI (a % d) := by
  rw [pk_div ha h0 hd, pk_mul, pk_sub (Nat.div_mul_le_self a d)]
  exact congrArg nI (by have := Nat.div_add_mod' a d; omega)
theorem pk_sub_toInt {a b : Nat} (ha : a < 2 ^ 30) (hb : b < 2 ^ 30) : (nI a - nI b).toInt = (a : Int) - b := by
  rw [Int32.toInt_sub, nI_toInt (by omega), nI_toInt (by omega)]
  exact Int.bmod_eq_of_le (by omega) (by omega)
theorem pk_sneg {a b : Nat} (hb : b < 2 ^ 30) (h : a < b) : nI a - nI b < 0 := by
  rw [Int32.lt_iff_toInt_lt, pk_sub_toInt (by omega) hb, show (0 : Int32).toInt = 0 from by decide]
  omega
theorem pk_ix (x : Int32) {n : Nat} (hn : n < 2 ^ 31) : x < 0 ∨ nI n ≤ x ∨ ∃ j : Nat, j < n ∧ x = nI j := by
  by_cases h : x < 0
  · exact Or.inl h
  · obtain ⟨j, hj, rfl⟩ := nI_of h
    by_cases h2 : j < n
    · exact Or.inr (Or.inr ⟨j, h2, rfl⟩)
    · exact Or.inr (Or.inl (nI_le (by omega) hj))
theorem pk_le {x y : Int32} {A B : Prop} (a b : Nat) (f : a ≤ b → A) (g : b < a → B) (hx : x = nI a := by rfl) (hy : y = nI b := by rfl) (ha : a < 2 ^ 31 := by omega) (hb : b < 2 ^ 31 := by omega) : (x ≤ y → A) ∧ (¬ x ≤ y → B) := by
  subst hx hy
  rw [nI_leI ha hb]
  exact ⟨f, fun z => g (by omega)⟩
theorem pk_lt {x y : Int32} {A B : Prop} (a b : Nat) (f : a < b → A) (g : b ≤ a → B) (hx : x = nI a := by rfl) (hy : y = nI b := by rfl) (ha : a < 2 ^ 31 := by omega) (hb : b < 2 ^ 31 := by omega) : (x < y → A) ∧ (¬ x < y → B) := by
  subst hx hy
  rw [nI_ltI ha hb]
  exact ⟨f, fun z => g (by omega)⟩
theorem pk_eq {x y : Int32} {A B : Prop} (a b : Nat) (f : a = b → A) (g : a ≠ b → B) (hx : x = nI a := by rfl) (hy : y = nI b := by rfl) (ha : a < 2 ^ 31 := by omega) (hb : b < 2 ^ 31 := by omega) : (x = y → A) ∧ (¬ x = y → B) := by
  subst hx hy
  rw [nI_eq ha hb]
  exact ⟨f, g⟩
theorem pk_in {x : Int32} (n N : Nat) (h : n < N) (hx : x = nI n := by rfl) (hN : N < 2 ^ 31 := by omega) : vp_in x N := by
  subst hx
  exact vp_in_nI h hN
theorem pk_cl {x : Int32} (n : Nat) (hx : x = nI n := by rfl) (h : n < 2 ^ 31 := by omega) : x.toNatClampNeg = n := by
  subst hx
  exact nI_clamp h
theorem pk_tn {n : Nat} (h : n < 2 ^ 32) : (nI n).toBitVec.toNat = n := Nat.mod_eq_of_lt h
theorem pk_and (x : Int32) {m : Int32} (k : Nat) (hm : m.toBitVec.toNat = 2 ^ k - 1) : x &&& m = nI (x.toBitVec.toNat % 2 ^ k) := by
  apply Int32.toBitVec_inj.mp
  apply BitVec.eq_of_toNat_eq
  rw [Int32.toBitVec_and, BitVec.toNat_and, hm, Nat.and_two_pow_sub_one_eq_mod]
  show _ = (BitVec.ofNat 32 _).toNat
  rw [BitVec.toNat_ofNat]
  exact (Nat.mod_eq_of_lt (Nat.lt_of_le_of_lt (Nat.mod_le _ _) x.toBitVec.isLt)).symm
theorem pk_andN {n : Nat} (h : n < 2 ^ 32) {m : Int32} (k : Nat) (hm : m.toBitVec.toNat = 2 ^ k - 1) : nI n &&& m = nI (n % 2 ^ k) := by
  rw [pk_and _ k hm, pk_tn h]
theorem pk_andE (x : Int32) {m : Int32} (k : Nat) (hm : m.toBitVec.toNat = 2 ^ k - 1) : ∃ j : Nat, j < 2 ^ k ∧ x &&& m = nI j := ⟨_, Nat.mod_lt _ (Nat.two_pow_pos k), pk_and x k hm⟩
theorem pk_andIn (x : Int32) {m : Int32} (k : Nat) (hm : m.toBitVec.toNat = 2 ^ k - 1) (hk : k ≤ 30) : vp_in (x &&& m) (2 ^ k) := by
  obtain ⟨j, hj, e⟩ := pk_andE x k hm
  rw [e]
  exact vp_in_nI hj (Nat.lt_of_le_of_lt (Nat.pow_le_pow_right (by decide) hk) (by decide))
theorem pk_shl (a s : Int32) (k : Nat) (hs : (s.toBitVec.smod 32).toNat = k) : (a <<< s).toBitVec.toNat = a.toBitVec.toNat * 2 ^ k % 2 ^ 32 := by
  show (a.toBitVec <<< (s.toBitVec.smod 32).toNat).toNat = _
  rw [hs, BitVec.toNat_shiftLeft, Nat.shiftLeft_eq]
theorem pk_shlN {n : Nat} (s : Int32) (k : Nat) (hs : (s.toBitVec.smod 32).toNat = k) (h : n * 2 ^ k < 2 ^ 32) : nI n <<< s = nI (n * 2 ^ k) := by
  apply Int32.toBitVec_inj.mp
  apply BitVec.eq_of_toNat_eq
  have hn : n < 2 ^ 32 := Nat.lt_of_le_of_lt (Nat.le_mul_of_pos_right n (Nat.two_pow_pos k)) h
  rw [pk_shl _ _ k hs, pk_tn hn, pk_tn h, Nat.mod_eq_of_lt h]
theorem pk_shr (a s : Int32) (k : Nat) (hs : (s.toBitVec.smod 32).toNat = k) : (a >>> s).toInt = a.toInt >>> k := by
  show (a.toBitVec.sshiftRight (s.toBitVec.smod 32).toNat).toInt = _
  rw [hs, BitVec.toInt_sshiftRight]
  rfl
theorem pk_shrN {n : Nat} (h : n < 2 ^ 31) (s : Int32) (k : Nat) (hs : (s.toBitVec.smod 32).toNat = k) : nI n >>> s = nI (n / 2 ^ k) := by
  apply Int32.toInt_inj.mp
  have h2 : n / 2 ^ k ≤ n := Nat.div_le_self _ _
  rw [pk_shr _ _ k hs, nI_toInt h, nI_toInt (by omega), Int.shiftRight_eq_div_pow]
  rfl
theorem pk_ushr (x s : Int32) (k : Nat) (hs : ((s.toUInt32 &&& Int32.toUInt32 31).toBitVec % 32).toNat = k) : (x.toUInt32 >>> (s.toUInt32 &&& Int32.toUInt32 31)).toInt32.toBitVec.toNat = x.toBitVec.toNat / 2 ^ k := by
  have e : (x.toUInt32 >>> (s.toUInt32 &&& Int32.toUInt32 31)).toInt32.toBitVec = x.toBitVec >>> k := by
    rw [← hs]
    exact UInt32.toBitVec_shiftRight _ _
  rw [e, BitVec.toNat_ushiftRight, Nat.shiftRight_eq_div_pow]
theorem pk_ushrN {n : Nat} (hn : n < 2 ^ 32) (s : Int32) (k : Nat) (hs : ((s.toUInt32 &&& Int32.toUInt32 31).toBitVec % 32).toNat = k) : ((nI n).toUInt32 >>> (s.toUInt32 &&& Int32.toUInt32 31)).toInt32 = nI (n / 2 ^ k) := by
  apply Int32.toBitVec_inj.mp
  apply BitVec.eq_of_toNat_eq
  rw [pk_ushr _ s k hs, pk_tn hn, pk_tn (Nat.lt_of_le_of_lt (Nat.div_le_self _ _) hn)]
theorem pk_nb (z : Int32) : narrow .byte (.int z.toInt8.toInt32) = .int z.toInt8.toInt32 := congrArg Value.int (by simp)
theorem pk_ns (z : Int32) : narrow .short (.int z.toInt16.toInt32) = .int z.toInt16.toInt32 := congrArg Value.int (by simp)
theorem pk_fb (r : Int32) : fits .byte (.int r.toInt8.toInt32) = true := by
  have ⟨a, b⟩ := lg_i2b_range r
  have h1 : (-128 : Int32).toInt = -128 := by decide
  have h2 : (127 : Int32).toInt = 127 := by decide
  simp only [fits, Bool.and_eq_true, decide_eq_true_eq, Int32.le_iff_toInt_le, h1, h2]
  omega
theorem pk_fs (r : Int32) : fits .short (.int r.toInt16.toInt32) = true := by
  have ⟨a, b⟩ := lg_i2s_range r
  have h1 : (-32768 : Int32).toInt = -32768 := by decide
  have h2 : (32767 : Int32).toInt = 32767 := by decide
  simp only [fits, Bool.and_eq_true, decide_eq_true_eq, Int32.le_iff_toInt_le, h1, h2]
  omega
theorem pk_charN {q : Nat} (hq : q < 65536) : narrow .char (.int (nI q)) = .int (nI q) ∧ fits .char (.int (nI q)) = true := by
  constructor
  · have e : (nI q).toUInt32.toUInt16.toUInt32.toInt32 = nI q := by
      apply Int32.toBitVec_inj.mp
      apply BitVec.eq_of_toNat_eq
      show (nI q).toUInt32.toUInt16.toUInt32.toNat = q % 2 ^ 32
      rw [UInt16.toNat_toUInt32, UInt32.toNat_toUInt16, show (nI q).toUInt32.toNat = q % 2 ^ 32 from rfl]
      omega
    exact congrArg Value.int e
  · have a : (0 : Int32) ≤ nI q := nI_pos' (by omega)
    have b : nI q ≤ 65535 := nI_le (b := 65535) (by omega) (by decide)
    show (decide ((0 : Int32) ≤ nI q) && decide (nI q ≤ 65535)) = true
    rw [decide_eq_true a, decide_eq_true b]
    rfl
theorem pk_char (x : Int32) : (x.toUInt32 % 65536).toInt32 = nI (x.toBitVec.toNat % 65536) := by
  apply Int32.toBitVec_inj.mp
  apply BitVec.eq_of_toNat_eq
  rw [pk_tn (by omega)]
  show (x.toUInt32 % 65536).toNat = _
  rw [UInt32.toNat_mod]
  rfl
theorem pk_nc (x : Int32) : narrow .char (.int (x.toUInt32 % 65536).toInt32) = .int (x.toUInt32 % 65536).toInt32 := by
  rw [pk_char]
  exact (pk_charN (Nat.mod_lt _ (by decide))).1
theorem pk_fc (x : Int32) : fits .char (.int (x.toUInt32 % 65536).toInt32) = true := by
  rw [pk_char]
  exact (pk_charN (Nat.mod_lt _ (by decide))).2
theorem pk_vb (z : Int32) : vp_nar .byte z.toInt8.toInt32 = z.toInt8.toInt32 := by rw [vp_nar_byte]; simp
theorem pk_vs (z : Int32) : vp_nar .short z.toInt16.toInt32 = z.toInt16.toInt32 := by rw [vp_nar_short]; simp
theorem pk_vc (z : Int32) : vp_nar .char (z.toUInt32 % 65536).toInt32 = (z.toUInt32 % 65536).toInt32 := Value.int.inj (pk_nc z)
theorem pk_lT {n : Nat} (h : n < 2 ^ 63) : (lN n).toInt = (n : Int) := lg_ofNat_toInt h
theorem pk_lLT {a b : Nat} (ha : a < 2 ^ 63) (hb : b < 2 ^ 63) : lN a < lN b ↔ a < b := by
  rw [Int64.lt_iff_toInt_lt, pk_lT ha, pk_lT hb]; omega
theorem pk_lLE {a b : Nat} (ha : a < 2 ^ 63) (hb : b < 2 ^ 63) : lN a ≤ lN b ↔ a ≤ b := by
  rw [Int64.le_iff_toInt_le, pk_lT ha, pk_lT hb]; omega
theorem pk_lEQ {a b : Nat} (ha : a < 2 ^ 63) (hb : b < 2 ^ 63) : lN a = lN b ↔ a = b := by
  rw [← Int64.toInt_inj, pk_lT ha, pk_lT hb]; omega
theorem pk_lOf {x : Int64} (h : ¬ x < 0) : ∃ k : Nat, k < 2 ^ 63 ∧ x = lN k := by
  rw [Int64.lt_iff_toInt_lt] at h
  have h0 : (0 : Int64).toInt = 0 := by decide
  have hx := Int64.toInt_lt x
  refine ⟨x.toInt.toNat, by omega, Int64.toInt_inj.mp ?_⟩
  rw [pk_lT (by omega)]
  omega
theorem pk_lDiv {a b : Nat} (ha : a < 2 ^ 63) (h0 : 0 < b) (hb : b < 2 ^ 63) : lN a / lN b = lN (a / b) := by
  apply Int64.toInt_inj.mp
  rw [lg_ldiv_nonneg (by rw [pk_lT ha]; omega) (by rw [pk_lT hb]; omega), pk_lT ha, pk_lT hb, pk_lT (Nat.lt_of_le_of_lt (Nat.div_le_self a b) ha)]
  rfl
theorem pk_lRem {a b : Nat} (ha : a < 2 ^ 63) (h0 : 0 < b) (hb : b < 2 ^ 63) : lN a - lN a / lN b * lN b = lN (a % b) := by
  rw [pk_lDiv ha h0 hb, lN_mul, lN_sub (Nat.div_mul_le_self a b)]
  exact congrArg lN (by have := Nat.div_add_mod' a b; omega)
theorem pk_loop {σ : Type} (W : Nat → Nat → σ → Prop) (I : Nat → σ → Prop) (e i0 : Nat) (s : σ) (hi : i0 ≤ e) (h0 : I i0 s) (hx : ∀ n s, I e s → W (n + 1) e s)
    (hs : ∀ n i s, i < e → I i s → (∀ s', I (i + 1) s' → W n (i + 1) s') → W (n + 1) i s) : ∃ n, W n i0 s :=
  ⟨e + 1, loop_i W I e hx hs (e + 1) i0 s hi (by omega) h0⟩
theorem pk_loopD {σ : Type} (W : Nat → Nat → σ → Prop) (I : Nat → σ → Prop) (hx : ∀ n s, I 0 s → W (n + 1) 0 s)
    (hs : ∀ n i s, I (i + 1) s → (∀ s', I i s' → W n i s') → W (n + 1) (i + 1) s) : ∀ (e : Nat) (s : σ), I e s → W (e + 1) e s := by
  intro e
  induction e with
  | zero => exact fun s h => hx 0 s h
  | succ e ih => exact fun s h => hs (e + 1) e s h (fun s' h' => ih s' h')
theorem lp1 {A1 : Type} (W : Nat → A1 → Prop) (I : A1 → Prop) (μ : A1 → Nat) (hs : ∀ (n : Nat) (a1 : A1), I a1 → (∀ (b1 : A1), I b1 → μ b1 < μ a1 → W n b1) → W (n + 1) a1) (a1 : A1) (h : I a1) : ∃ n, W n a1 :=
  loop_m (σ := A1) (fun n s => W n s) (fun s => I s) (fun s => μ s) (fun n s hI hk => hs n s hI (fun b1 h9 hm => hk b1 h9 hm)) a1 h
theorem lp2 {A1 A2 : Type} (W : Nat → A1 → A2 → Prop) (I : A1 → A2 → Prop) (μ : A1 → A2 → Nat) (hs : ∀ (n : Nat) (a1 : A1) (a2 : A2), I a1 a2 → (∀ (b1 : A1) (b2 : A2), I b1 b2 → μ b1 b2 < μ a1 a2 → W n b1 b2) → W (n + 1) a1 a2) (a1 : A1) (a2 : A2) (h : I a1 a2) : ∃ n, W n a1 a2 :=
  loop_m (σ := A1 × A2) (fun n s => W n s.1 s.2) (fun s => I s.1 s.2) (fun s => μ s.1 s.2) (fun n s hI hk => hs n s.1 s.2 hI (fun b1 b2 h9 hm => hk (b1, b2) h9 hm)) (a1, a2) h
theorem lp3 {A1 A2 A3 : Type} (W : Nat → A1 → A2 → A3 → Prop) (I : A1 → A2 → A3 → Prop) (μ : A1 → A2 → A3 → Nat) (hs : ∀ (n : Nat) (a1 : A1) (a2 : A2) (a3 : A3), I a1 a2 a3 → (∀ (b1 : A1) (b2 : A2) (b3 : A3), I b1 b2 b3 → μ b1 b2 b3 < μ a1 a2 a3 → W n b1 b2 b3) → W (n + 1) a1 a2 a3) (a1 : A1) (a2 : A2) (a3 : A3) (h : I a1 a2 a3) : ∃ n, W n a1 a2 a3 :=
  loop_m (σ := A1 × A2 × A3) (fun n s => W n s.1 s.2.1 s.2.2) (fun s => I s.1 s.2.1 s.2.2) (fun s => μ s.1 s.2.1 s.2.2) (fun n s hI hk => hs n s.1 s.2.1 s.2.2 hI (fun b1 b2 b3 h9 hm => hk (b1, b2, b3) h9 hm)) (a1, a2, a3) h
theorem lp4 {A1 A2 A3 A4 : Type} (W : Nat → A1 → A2 → A3 → A4 → Prop) (I : A1 → A2 → A3 → A4 → Prop) (μ : A1 → A2 → A3 → A4 → Nat) (hs : ∀ (n : Nat) (a1 : A1) (a2 : A2) (a3 : A3) (a4 : A4), I a1 a2 a3 a4 → (∀ (b1 : A1) (b2 : A2) (b3 : A3) (b4 : A4), I b1 b2 b3 b4 → μ b1 b2 b3 b4 < μ a1 a2 a3 a4 → W n b1 b2 b3 b4) → W (n + 1) a1 a2 a3 a4) (a1 : A1) (a2 : A2) (a3 : A3) (a4 : A4) (h : I a1 a2 a3 a4) : ∃ n, W n a1 a2 a3 a4 :=
  loop_m (σ := A1 × A2 × A3 × A4) (fun n s => W n s.1 s.2.1 s.2.2.1 s.2.2.2) (fun s => I s.1 s.2.1 s.2.2.1 s.2.2.2) (fun s => μ s.1 s.2.1 s.2.2.1 s.2.2.2) (fun n s hI hk => hs n s.1 s.2.1 s.2.2.1 s.2.2.2 hI (fun b1 b2 b3 b4 h9 hm => hk (b1, b2, b3, b4) h9 hm)) (a1, a2, a3, a4) h
theorem lp5 {A1 A2 A3 A4 A5 : Type} (W : Nat → A1 → A2 → A3 → A4 → A5 → Prop) (I : A1 → A2 → A3 → A4 → A5 → Prop) (μ : A1 → A2 → A3 → A4 → A5 → Nat) (hs : ∀ (n : Nat) (a1 : A1) (a2 : A2) (a3 : A3) (a4 : A4) (a5 : A5), I a1 a2 a3 a4 a5 → (∀ (b1 : A1) (b2 : A2) (b3 : A3) (b4 : A4) (b5 : A5), I b1 b2 b3 b4 b5 → μ b1 b2 b3 b4 b5 < μ a1 a2 a3 a4 a5 → W n b1 b2 b3 b4 b5) → W (n + 1) a1 a2 a3 a4 a5) (a1 : A1) (a2 : A2) (a3 : A3) (a4 : A4) (a5 : A5) (h : I a1 a2 a3 a4 a5) : ∃ n, W n a1 a2 a3 a4 a5 :=
  loop_m (σ := A1 × A2 × A3 × A4 × A5) (fun n s => W n s.1 s.2.1 s.2.2.1 s.2.2.2.1 s.2.2.2.2) (fun s => I s.1 s.2.1 s.2.2.1 s.2.2.2.1 s.2.2.2.2) (fun s => μ s.1 s.2.1 s.2.2.1 s.2.2.2.1 s.2.2.2.2) (fun n s hI hk => hs n s.1 s.2.1 s.2.2.1 s.2.2.2.1 s.2.2.2.2 hI (fun b1 b2 b3 b4 b5 h9 hm => hk (b1, b2, b3, b4, b5) h9 hm)) (a1, a2, a3, a4, a5) h
theorem lp6 {A1 A2 A3 A4 A5 A6 : Type} (W : Nat → A1 → A2 → A3 → A4 → A5 → A6 → Prop) (I : A1 → A2 → A3 → A4 → A5 → A6 → Prop) (μ : A1 → A2 → A3 → A4 → A5 → A6 → Nat) (hs : ∀ (n : Nat) (a1 : A1) (a2 : A2) (a3 : A3) (a4 : A4) (a5 : A5) (a6 : A6), I a1 a2 a3 a4 a5 a6 → (∀ (b1 : A1) (b2 : A2) (b3 : A3) (b4 : A4) (b5 : A5) (b6 : A6), I b1 b2 b3 b4 b5 b6 → μ b1 b2 b3 b4 b5 b6 < μ a1 a2 a3 a4 a5 a6 → W n b1 b2 b3 b4 b5 b6) → W (n + 1) a1 a2 a3 a4 a5 a6) (a1 : A1) (a2 : A2) (a3 : A3) (a4 : A4) (a5 : A5) (a6 : A6) (h : I a1 a2 a3 a4 a5 a6) : ∃ n, W n a1 a2 a3 a4 a5 a6 :=
  loop_m (σ := A1 × A2 × A3 × A4 × A5 × A6) (fun n s => W n s.1 s.2.1 s.2.2.1 s.2.2.2.1 s.2.2.2.2.1 s.2.2.2.2.2) (fun s => I s.1 s.2.1 s.2.2.1 s.2.2.2.1 s.2.2.2.2.1 s.2.2.2.2.2) (fun s => μ s.1 s.2.1 s.2.2.1 s.2.2.2.1 s.2.2.2.2.1 s.2.2.2.2.2) (fun n s hI hk => hs n s.1 s.2.1 s.2.2.1 s.2.2.2.1 s.2.2.2.2.1 s.2.2.2.2.2 hI (fun b1 b2 b3 b4 b5 b6 h9 hm => hk (b1, b2, b3, b4, b5, b6) h9 hm)) (a1, a2, a3, a4, a5, a6) h
theorem lp7 {A1 A2 A3 A4 A5 A6 A7 : Type} (W : Nat → A1 → A2 → A3 → A4 → A5 → A6 → A7 → Prop) (I : A1 → A2 → A3 → A4 → A5 → A6 → A7 → Prop) (μ : A1 → A2 → A3 → A4 → A5 → A6 → A7 → Nat) (hs : ∀ (n : Nat) (a1 : A1) (a2 : A2) (a3 : A3) (a4 : A4) (a5 : A5) (a6 : A6) (a7 : A7), I a1 a2 a3 a4 a5 a6 a7 → (∀ (b1 : A1) (b2 : A2) (b3 : A3) (b4 : A4) (b5 : A5) (b6 : A6) (b7 : A7), I b1 b2 b3 b4 b5 b6 b7 → μ b1 b2 b3 b4 b5 b6 b7 < μ a1 a2 a3 a4 a5 a6 a7 → W n b1 b2 b3 b4 b5 b6 b7) → W (n + 1) a1 a2 a3 a4 a5 a6 a7) (a1 : A1) (a2 : A2) (a3 : A3) (a4 : A4) (a5 : A5) (a6 : A6) (a7 : A7) (h : I a1 a2 a3 a4 a5 a6 a7) : ∃ n, W n a1 a2 a3 a4 a5 a6 a7 :=
  loop_m (σ := A1 × A2 × A3 × A4 × A5 × A6 × A7) (fun n s => W n s.1 s.2.1 s.2.2.1 s.2.2.2.1 s.2.2.2.2.1 s.2.2.2.2.2.1 s.2.2.2.2.2.2) (fun s => I s.1 s.2.1 s.2.2.1 s.2.2.2.1 s.2.2.2.2.1 s.2.2.2.2.2.1 s.2.2.2.2.2.2) (fun s => μ s.1 s.2.1 s.2.2.1 s.2.2.2.1 s.2.2.2.2.1 s.2.2.2.2.2.1 s.2.2.2.2.2.2) (fun n s hI hk => hs n s.1 s.2.1 s.2.2.1 s.2.2.2.1 s.2.2.2.2.1 s.2.2.2.2.2.1 s.2.2.2.2.2.2 hI (fun b1 b2 b3 b4 b5 b6 b7 h9 hm => hk (b1, b2, b3, b4, b5, b6, b7) h9 hm)) (a1, a2, a3, a4, a5, a6, a7) h
theorem lp8 {A1 A2 A3 A4 A5 A6 A7 A8 : Type} (W : Nat → A1 → A2 → A3 → A4 → A5 → A6 → A7 → A8 → Prop) (I : A1 → A2 → A3 → A4 → A5 → A6 → A7 → A8 → Prop) (μ : A1 → A2 → A3 → A4 → A5 → A6 → A7 → A8 → Nat) (hs : ∀ (n : Nat) (a1 : A1) (a2 : A2) (a3 : A3) (a4 : A4) (a5 : A5) (a6 : A6) (a7 : A7) (a8 : A8), I a1 a2 a3 a4 a5 a6 a7 a8 → (∀ (b1 : A1) (b2 : A2) (b3 : A3) (b4 : A4) (b5 : A5) (b6 : A6) (b7 : A7) (b8 : A8), I b1 b2 b3 b4 b5 b6 b7 b8 → μ b1 b2 b3 b4 b5 b6 b7 b8 < μ a1 a2 a3 a4 a5 a6 a7 a8 → W n b1 b2 b3 b4 b5 b6 b7 b8) → W (n + 1) a1 a2 a3 a4 a5 a6 a7 a8) (a1 : A1) (a2 : A2) (a3 : A3) (a4 : A4) (a5 : A5) (a6 : A6) (a7 : A7) (a8 : A8) (h : I a1 a2 a3 a4 a5 a6 a7 a8) : ∃ n, W n a1 a2 a3 a4 a5 a6 a7 a8 :=
  loop_m (σ := A1 × A2 × A3 × A4 × A5 × A6 × A7 × A8) (fun n s => W n s.1 s.2.1 s.2.2.1 s.2.2.2.1 s.2.2.2.2.1 s.2.2.2.2.2.1 s.2.2.2.2.2.2.1 s.2.2.2.2.2.2.2) (fun s => I s.1 s.2.1 s.2.2.1 s.2.2.2.1 s.2.2.2.2.1 s.2.2.2.2.2.1 s.2.2.2.2.2.2.1 s.2.2.2.2.2.2.2) (fun s => μ s.1 s.2.1 s.2.2.1 s.2.2.2.1 s.2.2.2.2.1 s.2.2.2.2.2.1 s.2.2.2.2.2.2.1 s.2.2.2.2.2.2.2) (fun n s hI hk => hs n s.1 s.2.1 s.2.2.1 s.2.2.2.1 s.2.2.2.2.1 s.2.2.2.2.2.1 s.2.2.2.2.2.2.1 s.2.2.2.2.2.2.2 hI (fun b1 b2 b3 b4 b5 b6 b7 b8 h9 hm => hk (b1, b2, b3, b4, b5, b6, b7, b8) h9 hm)) (a1, a2, a3, a4, a5, a6, a7, a8) h
theorem lp9 {A1 A2 A3 A4 A5 A6 A7 A8 A9 : Type} (W : Nat → A1 → A2 → A3 → A4 → A5 → A6 → A7 → A8 → A9 → Prop) (I : A1 → A2 → A3 → A4 → A5 → A6 → A7 → A8 → A9 → Prop) (μ : A1 → A2 → A3 → A4 → A5 → A6 → A7 → A8 → A9 → Nat) (hs : ∀ (n : Nat) (a1 : A1) (a2 : A2) (a3 : A3) (a4 : A4) (a5 : A5) (a6 : A6) (a7 : A7) (a8 : A8) (a9 : A9), I a1 a2 a3 a4 a5 a6 a7 a8 a9 → (∀ (b1 : A1) (b2 : A2) (b3 : A3) (b4 : A4) (b5 : A5) (b6 : A6) (b7 : A7) (b8 : A8) (b9 : A9), I b1 b2 b3 b4 b5 b6 b7 b8 b9 → μ b1 b2 b3 b4 b5 b6 b7 b8 b9 < μ a1 a2 a3 a4 a5 a6 a7 a8 a9 → W n b1 b2 b3 b4 b5 b6 b7 b8 b9) → W (n + 1) a1 a2 a3 a4 a5 a6 a7 a8 a9) (a1 : A1) (a2 : A2) (a3 : A3) (a4 : A4) (a5 : A5) (a6 : A6) (a7 : A7) (a8 : A8) (a9 : A9) (h : I a1 a2 a3 a4 a5 a6 a7 a8 a9) : ∃ n, W n a1 a2 a3 a4 a5 a6 a7 a8 a9 :=
  loop_m (σ := A1 × A2 × A3 × A4 × A5 × A6 × A7 × A8 × A9) (fun n s => W n s.1 s.2.1 s.2.2.1 s.2.2.2.1 s.2.2.2.2.1 s.2.2.2.2.2.1 s.2.2.2.2.2.2.1 s.2.2.2.2.2.2.2.1 s.2.2.2.2.2.2.2.2) (fun s => I s.1 s.2.1 s.2.2.1 s.2.2.2.1 s.2.2.2.2.1 s.2.2.2.2.2.1 s.2.2.2.2.2.2.1 s.2.2.2.2.2.2.2.1 s.2.2.2.2.2.2.2.2) (fun s => μ s.1 s.2.1 s.2.2.1 s.2.2.2.1 s.2.2.2.2.1 s.2.2.2.2.2.1 s.2.2.2.2.2.2.1 s.2.2.2.2.2.2.2.1 s.2.2.2.2.2.2.2.2) (fun n s hI hk => hs n s.1 s.2.1 s.2.2.1 s.2.2.2.1 s.2.2.2.2.1 s.2.2.2.2.2.1 s.2.2.2.2.2.2.1 s.2.2.2.2.2.2.2.1 s.2.2.2.2.2.2.2.2 hI (fun b1 b2 b3 b4 b5 b6 b7 b8 b9 h9 hm => hk (b1, b2, b3, b4, b5, b6, b7, b8, b9) h9 hm)) (a1, a2, a3, a4, a5, a6, a7, a8, a9) h
theorem lp10 {A1 A2 A3 A4 A5 A6 A7 A8 A9 A10 : Type} (W : Nat → A1 → A2 → A3 → A4 → A5 → A6 → A7 → A8 → A9 → A10 → Prop) (I : A1 → A2 → A3 → A4 → A5 → A6 → A7 → A8 → A9 → A10 → Prop) (μ : A1 → A2 → A3 → A4 → A5 → A6 → A7 → A8 → A9 → A10 → Nat) (hs : ∀ (n : Nat) (a1 : A1) (a2 : A2) (a3 : A3) (a4 : A4) (a5 : A5) (a6 : A6) (a7 : A7) (a8 : A8) (a9 : A9) (a10 : A10), I a1 a2 a3 a4 a5 a6 a7 a8 a9 a10 → (∀ (b1 : A1) (b2 : A2) (b3 : A3) (b4 : A4) (b5 : A5) (b6 : A6) (b7 : A7) (b8 : A8) (b9 : A9) (b10 : A10), I b1 b2 b3 b4 b5 b6 b7 b8 b9 b10 → μ b1 b2 b3 b4 b5 b6 b7 b8 b9 b10 < μ a1 a2 a3 a4 a5 a6 a7 a8 a9 a10 → W n b1 b2 b3 b4 b5 b6 b7 b8 b9 b10) → W (n + 1) a1 a2 a3 a4 a5 a6 a7 a8 a9 a10) (a1 : A1) (a2 : A2) (a3 : A3) (a4 : A4) (a5 : A5) (a6 : A6) (a7 : A7) (a8 : A8) (a9 : A9) (a10 : A10) (h : I a1 a2 a3 a4 a5 a6 a7 a8 a9 a10) : ∃ n, W n a1 a2 a3 a4 a5 a6 a7 a8 a9 a10 :=
  loop_m (σ := A1 × A2 × A3 × A4 × A5 × A6 × A7 × A8 × A9 × A10) (fun n s => W n s.1 s.2.1 s.2.2.1 s.2.2.2.1 s.2.2.2.2.1 s.2.2.2.2.2.1 s.2.2.2.2.2.2.1 s.2.2.2.2.2.2.2.1 s.2.2.2.2.2.2.2.2.1 s.2.2.2.2.2.2.2.2.2) (fun s => I s.1 s.2.1 s.2.2.1 s.2.2.2.1 s.2.2.2.2.1 s.2.2.2.2.2.1 s.2.2.2.2.2.2.1 s.2.2.2.2.2.2.2.1 s.2.2.2.2.2.2.2.2.1 s.2.2.2.2.2.2.2.2.2) (fun s => μ s.1 s.2.1 s.2.2.1 s.2.2.2.1 s.2.2.2.2.1 s.2.2.2.2.2.1 s.2.2.2.2.2.2.1 s.2.2.2.2.2.2.2.1 s.2.2.2.2.2.2.2.2.1 s.2.2.2.2.2.2.2.2.2) (fun n s hI hk => hs n s.1 s.2.1 s.2.2.1 s.2.2.2.1 s.2.2.2.2.1 s.2.2.2.2.2.1 s.2.2.2.2.2.2.1 s.2.2.2.2.2.2.2.1 s.2.2.2.2.2.2.2.2.1 s.2.2.2.2.2.2.2.2.2 hI (fun b1 b2 b3 b4 b5 b6 b7 b8 b9 b10 h9 hm => hk (b1, b2, b3, b4, b5, b6, b7, b8, b9, b10) h9 hm)) (a1, a2, a3, a4, a5, a6, a7, a8, a9, a10) h
theorem lp11 {A1 A2 A3 A4 A5 A6 A7 A8 A9 A10 A11 : Type} (W : Nat → A1 → A2 → A3 → A4 → A5 → A6 → A7 → A8 → A9 → A10 → A11 → Prop) (I : A1 → A2 → A3 → A4 → A5 → A6 → A7 → A8 → A9 → A10 → A11 → Prop) (μ : A1 → A2 → A3 → A4 → A5 → A6 → A7 → A8 → A9 → A10 → A11 → Nat) (hs : ∀ (n : Nat) (a1 : A1) (a2 : A2) (a3 : A3) (a4 : A4) (a5 : A5) (a6 : A6) (a7 : A7) (a8 : A8) (a9 : A9) (a10 : A10) (a11 : A11), I a1 a2 a3 a4 a5 a6 a7 a8 a9 a10 a11 → (∀ (b1 : A1) (b2 : A2) (b3 : A3) (b4 : A4) (b5 : A5) (b6 : A6) (b7 : A7) (b8 : A8) (b9 : A9) (b10 : A10) (b11 : A11), I b1 b2 b3 b4 b5 b6 b7 b8 b9 b10 b11 → μ b1 b2 b3 b4 b5 b6 b7 b8 b9 b10 b11 < μ a1 a2 a3 a4 a5 a6 a7 a8 a9 a10 a11 → W n b1 b2 b3 b4 b5 b6 b7 b8 b9 b10 b11) → W (n + 1) a1 a2 a3 a4 a5 a6 a7 a8 a9 a10 a11) (a1 : A1) (a2 : A2) (a3 : A3) (a4 : A4) (a5 : A5) (a6 : A6) (a7 : A7) (a8 : A8) (a9 : A9) (a10 : A10) (a11 : A11) (h : I a1 a2 a3 a4 a5 a6 a7 a8 a9 a10 a11) : ∃ n, W n a1 a2 a3 a4 a5 a6 a7 a8 a9 a10 a11 :=
  loop_m (σ := A1 × A2 × A3 × A4 × A5 × A6 × A7 × A8 × A9 × A10 × A11) (fun n s => W n s.1 s.2.1 s.2.2.1 s.2.2.2.1 s.2.2.2.2.1 s.2.2.2.2.2.1 s.2.2.2.2.2.2.1 s.2.2.2.2.2.2.2.1 s.2.2.2.2.2.2.2.2.1 s.2.2.2.2.2.2.2.2.2.1 s.2.2.2.2.2.2.2.2.2.2) (fun s => I s.1 s.2.1 s.2.2.1 s.2.2.2.1 s.2.2.2.2.1 s.2.2.2.2.2.1 s.2.2.2.2.2.2.1 s.2.2.2.2.2.2.2.1 s.2.2.2.2.2.2.2.2.1 s.2.2.2.2.2.2.2.2.2.1 s.2.2.2.2.2.2.2.2.2.2) (fun s => μ s.1 s.2.1 s.2.2.1 s.2.2.2.1 s.2.2.2.2.1 s.2.2.2.2.2.1 s.2.2.2.2.2.2.1 s.2.2.2.2.2.2.2.1 s.2.2.2.2.2.2.2.2.1 s.2.2.2.2.2.2.2.2.2.1 s.2.2.2.2.2.2.2.2.2.2) (fun n s hI hk => hs n s.1 s.2.1 s.2.2.1 s.2.2.2.1 s.2.2.2.2.1 s.2.2.2.2.2.1 s.2.2.2.2.2.2.1 s.2.2.2.2.2.2.2.1 s.2.2.2.2.2.2.2.2.1 s.2.2.2.2.2.2.2.2.2.1 s.2.2.2.2.2.2.2.2.2.2 hI (fun b1 b2 b3 b4 b5 b6 b7 b8 b9 b10 b11 h9 hm => hk (b1, b2, b3, b4, b5, b6, b7, b8, b9, b10, b11) h9 hm)) (a1, a2, a3, a4, a5, a6, a7, a8, a9, a10, a11) h
theorem lp12 {A1 A2 A3 A4 A5 A6 A7 A8 A9 A10 A11 A12 : Type} (W : Nat → A1 → A2 → A3 → A4 → A5 → A6 → A7 → A8 → A9 → A10 → A11 → A12 → Prop) (I : A1 → A2 → A3 → A4 → A5 → A6 → A7 → A8 → A9 → A10 → A11 → A12 → Prop) (μ : A1 → A2 → A3 → A4 → A5 → A6 → A7 → A8 → A9 → A10 → A11 → A12 → Nat) (hs : ∀ (n : Nat) (a1 : A1) (a2 : A2) (a3 : A3) (a4 : A4) (a5 : A5) (a6 : A6) (a7 : A7) (a8 : A8) (a9 : A9) (a10 : A10) (a11 : A11) (a12 : A12), I a1 a2 a3 a4 a5 a6 a7 a8 a9 a10 a11 a12 → (∀ (b1 : A1) (b2 : A2) (b3 : A3) (b4 : A4) (b5 : A5) (b6 : A6) (b7 : A7) (b8 : A8) (b9 : A9) (b10 : A10) (b11 : A11) (b12 : A12), I b1 b2 b3 b4 b5 b6 b7 b8 b9 b10 b11 b12 → μ b1 b2 b3 b4 b5 b6 b7 b8 b9 b10 b11 b12 < μ a1 a2 a3 a4 a5 a6 a7 a8 a9 a10 a11 a12 → W n b1 b2 b3 b4 b5 b6 b7 b8 b9 b10 b11 b12) → W (n + 1) a1 a2 a3 a4 a5 a6 a7 a8 a9 a10 a11 a12) (a1 : A1) (a2 : A2) (a3 : A3) (a4 : A4) (a5 : A5) (a6 : A6) (a7 : A7) (a8 : A8) (a9 : A9) (a10 : A10) (a11 : A11) (a12 : A12) (h : I a1 a2 a3 a4 a5 a6 a7 a8 a9 a10 a11 a12) : ∃ n, W n a1 a2 a3 a4 a5 a6 a7 a8 a9 a10 a11 a12 :=
  loop_m (σ := A1 × A2 × A3 × A4 × A5 × A6 × A7 × A8 × A9 × A10 × A11 × A12) (fun n s => W n s.1 s.2.1 s.2.2.1 s.2.2.2.1 s.2.2.2.2.1 s.2.2.2.2.2.1 s.2.2.2.2.2.2.1 s.2.2.2.2.2.2.2.1 s.2.2.2.2.2.2.2.2.1 s.2.2.2.2.2.2.2.2.2.1 s.2.2.2.2.2.2.2.2.2.2.1 s.2.2.2.2.2.2.2.2.2.2.2) (fun s => I s.1 s.2.1 s.2.2.1 s.2.2.2.1 s.2.2.2.2.1 s.2.2.2.2.2.1 s.2.2.2.2.2.2.1 s.2.2.2.2.2.2.2.1 s.2.2.2.2.2.2.2.2.1 s.2.2.2.2.2.2.2.2.2.1 s.2.2.2.2.2.2.2.2.2.2.1 s.2.2.2.2.2.2.2.2.2.2.2) (fun s => μ s.1 s.2.1 s.2.2.1 s.2.2.2.1 s.2.2.2.2.1 s.2.2.2.2.2.1 s.2.2.2.2.2.2.1 s.2.2.2.2.2.2.2.1 s.2.2.2.2.2.2.2.2.1 s.2.2.2.2.2.2.2.2.2.1 s.2.2.2.2.2.2.2.2.2.2.1 s.2.2.2.2.2.2.2.2.2.2.2) (fun n s hI hk => hs n s.1 s.2.1 s.2.2.1 s.2.2.2.1 s.2.2.2.2.1 s.2.2.2.2.2.1 s.2.2.2.2.2.2.1 s.2.2.2.2.2.2.2.1 s.2.2.2.2.2.2.2.2.1 s.2.2.2.2.2.2.2.2.2.1 s.2.2.2.2.2.2.2.2.2.2.1 s.2.2.2.2.2.2.2.2.2.2.2 hI (fun b1 b2 b3 b4 b5 b6 b7 b8 b9 b10 b11 b12 h9 hm => hk (b1, b2, b3, b4, b5, b6, b7, b8, b9, b10, b11, b12) h9 hm)) (a1, a2, a3, a4, a5, a6, a7, a8, a9, a10, a11, a12) h
theorem lp13 {A1 A2 A3 A4 A5 A6 A7 A8 A9 A10 A11 A12 A13 : Type} (W : Nat → A1 → A2 → A3 → A4 → A5 → A6 → A7 → A8 → A9 → A10 → A11 → A12 → A13 → Prop) (I : A1 → A2 → A3 → A4 → A5 → A6 → A7 → A8 → A9 → A10 → A11 → A12 → A13 → Prop) (μ : A1 → A2 → A3 → A4 → A5 → A6 → A7 → A8 → A9 → A10 → A11 → A12 → A13 → Nat) (hs : ∀ (n : Nat) (a1 : A1) (a2 : A2) (a3 : A3) (a4 : A4) (a5 : A5) (a6 : A6) (a7 : A7) (a8 : A8) (a9 : A9) (a10 : A10) (a11 : A11) (a12 : A12) (a13 : A13), I a1 a2 a3 a4 a5 a6 a7 a8 a9 a10 a11 a12 a13 → (∀ (b1 : A1) (b2 : A2) (b3 : A3) (b4 : A4) (b5 : A5) (b6 : A6) (b7 : A7) (b8 : A8) (b9 : A9) (b10 : A10) (b11 : A11) (b12 : A12) (b13 : A13), I b1 b2 b3 b4 b5 b6 b7 b8 b9 b10 b11 b12 b13 → μ b1 b2 b3 b4 b5 b6 b7 b8 b9 b10 b11 b12 b13 < μ a1 a2 a3 a4 a5 a6 a7 a8 a9 a10 a11 a12 a13 → W n b1 b2 b3 b4 b5 b6 b7 b8 b9 b10 b11 b12 b13) → W (n + 1) a1 a2 a3 a4 a5 a6 a7 a8 a9 a10 a11 a12 a13) (a1 : A1) (a2 : A2) (a3 : A3) (a4 : A4) (a5 : A5) (a6 : A6) (a7 : A7) (a8 : A8) (a9 : A9) (a10 : A10) (a11 : A11) (a12 : A12) (a13 : A13) (h : I a1 a2 a3 a4 a5 a6 a7 a8 a9 a10 a11 a12 a13) : ∃ n, W n a1 a2 a3 a4 a5 a6 a7 a8 a9 a10 a11 a12 a13 :=
  loop_m (σ := A1 × A2 × A3 × A4 × A5 × A6 × A7 × A8 × A9 × A10 × A11 × A12 × A13) (fun n s => W n s.1 s.2.1 s.2.2.1 s.2.2.2.1 s.2.2.2.2.1 s.2.2.2.2.2.1 s.2.2.2.2.2.2.1 s.2.2.2.2.2.2.2.1 s.2.2.2.2.2.2.2.2.1 s.2.2.2.2.2.2.2.2.2.1 s.2.2.2.2.2.2.2.2.2.2.1 s.2.2.2.2.2.2.2.2.2.2.2.1 s.2.2.2.2.2.2.2.2.2.2.2.2) (fun s => I s.1 s.2.1 s.2.2.1 s.2.2.2.1 s.2.2.2.2.1 s.2.2.2.2.2.1 s.2.2.2.2.2.2.1 s.2.2.2.2.2.2.2.1 s.2.2.2.2.2.2.2.2.1 s.2.2.2.2.2.2.2.2.2.1 s.2.2.2.2.2.2.2.2.2.2.1 s.2.2.2.2.2.2.2.2.2.2.2.1 s.2.2.2.2.2.2.2.2.2.2.2.2) (fun s => μ s.1 s.2.1 s.2.2.1 s.2.2.2.1 s.2.2.2.2.1 s.2.2.2.2.2.1 s.2.2.2.2.2.2.1 s.2.2.2.2.2.2.2.1 s.2.2.2.2.2.2.2.2.1 s.2.2.2.2.2.2.2.2.2.1 s.2.2.2.2.2.2.2.2.2.2.1 s.2.2.2.2.2.2.2.2.2.2.2.1 s.2.2.2.2.2.2.2.2.2.2.2.2) (fun n s hI hk => hs n s.1 s.2.1 s.2.2.1 s.2.2.2.1 s.2.2.2.2.1 s.2.2.2.2.2.1 s.2.2.2.2.2.2.1 s.2.2.2.2.2.2.2.1 s.2.2.2.2.2.2.2.2.1 s.2.2.2.2.2.2.2.2.2.1 s.2.2.2.2.2.2.2.2.2.2.1 s.2.2.2.2.2.2.2.2.2.2.2.1 s.2.2.2.2.2.2.2.2.2.2.2.2 hI (fun b1 b2 b3 b4 b5 b6 b7 b8 b9 b10 b11 b12 b13 h9 hm => hk (b1, b2, b3, b4, b5, b6, b7, b8, b9, b10, b11, b12, b13) h9 hm)) (a1, a2, a3, a4, a5, a6, a7, a8, a9, a10, a11, a12, a13) h
theorem lp14 {A1 A2 A3 A4 A5 A6 A7 A8 A9 A10 A11 A12 A13 A14 : Type} (W : Nat → A1 → A2 → A3 → A4 → A5 → A6 → A7 → A8 → A9 → A10 → A11 → A12 → A13 → A14 → Prop) (I : A1 → A2 → A3 → A4 → A5 → A6 → A7 → A8 → A9 → A10 → A11 → A12 → A13 → A14 → Prop) (μ : A1 → A2 → A3 → A4 → A5 → A6 → A7 → A8 → A9 → A10 → A11 → A12 → A13 → A14 → Nat) (hs : ∀ (n : Nat) (a1 : A1) (a2 : A2) (a3 : A3) (a4 : A4) (a5 : A5) (a6 : A6) (a7 : A7) (a8 : A8) (a9 : A9) (a10 : A10) (a11 : A11) (a12 : A12) (a13 : A13) (a14 : A14), I a1 a2 a3 a4 a5 a6 a7 a8 a9 a10 a11 a12 a13 a14 → (∀ (b1 : A1) (b2 : A2) (b3 : A3) (b4 : A4) (b5 : A5) (b6 : A6) (b7 : A7) (b8 : A8) (b9 : A9) (b10 : A10) (b11 : A11) (b12 : A12) (b13 : A13) (b14 : A14), I b1 b2 b3 b4 b5 b6 b7 b8 b9 b10 b11 b12 b13 b14 → μ b1 b2 b3 b4 b5 b6 b7 b8 b9 b10 b11 b12 b13 b14 < μ a1 a2 a3 a4 a5 a6 a7 a8 a9 a10 a11 a12 a13 a14 → W n b1 b2 b3 b4 b5 b6 b7 b8 b9 b10 b11 b12 b13 b14) → W (n + 1) a1 a2 a3 a4 a5 a6 a7 a8 a9 a10 a11 a12 a13 a14) (a1 : A1) (a2 : A2) (a3 : A3) (a4 : A4) (a5 : A5) (a6 : A6) (a7 : A7) (a8 : A8) (a9 : A9) (a10 : A10) (a11 : A11) (a12 : A12) (a13 : A13) (a14 : A14) (h : I a1 a2 a3 a4 a5 a6 a7 a8 a9 a10 a11 a12 a13 a14) : ∃ n, W n a1 a2 a3 a4 a5 a6 a7 a8 a9 a10 a11 a12 a13 a14 :=
  loop_m (σ := A1 × A2 × A3 × A4 × A5 × A6 × A7 × A8 × A9 × A10 × A11 × A12 × A13 × A14) (fun n s => W n s.1 s.2.1 s.2.2.1 s.2.2.2.1 s.2.2.2.2.1 s.2.2.2.2.2.1 s.2.2.2.2.2.2.1 s.2.2.2.2.2.2.2.1 s.2.2.2.2.2.2.2.2.1 s.2.2.2.2.2.2.2.2.2.1 s.2.2.2.2.2.2.2.2.2.2.1 s.2.2.2.2.2.2.2.2.2.2.2.1 s.2.2.2.2.2.2.2.2.2.2.2.2.1 s.2.2.2.2.2.2.2.2.2.2.2.2.2) (fun s => I s.1 s.2.1 s.2.2.1 s.2.2.2.1 s.2.2.2.2.1 s.2.2.2.2.2.1 s.2.2.2.2.2.2.1 s.2.2.2.2.2.2.2.1 s.2.2.2.2.2.2.2.2.1 s.2.2.2.2.2.2.2.2.2.1 s.2.2.2.2.2.2.2.2.2.2.1 s.2.2.2.2.2.2.2.2.2.2.2.1 s.2.2.2.2.2.2.2.2.2.2.2.2.1 s.2.2.2.2.2.2.2.2.2.2.2.2.2) (fun s => μ s.1 s.2.1 s.2.2.1 s.2.2.2.1 s.2.2.2.2.1 s.2.2.2.2.2.1 s.2.2.2.2.2.2.1 s.2.2.2.2.2.2.2.1 s.2.2.2.2.2.2.2.2.1 s.2.2.2.2.2.2.2.2.2.1 s.2.2.2.2.2.2.2.2.2.2.1 s.2.2.2.2.2.2.2.2.2.2.2.1 s.2.2.2.2.2.2.2.2.2.2.2.2.1 s.2.2.2.2.2.2.2.2.2.2.2.2.2) (fun n s hI hk => hs n s.1 s.2.1 s.2.2.1 s.2.2.2.1 s.2.2.2.2.1 s.2.2.2.2.2.1 s.2.2.2.2.2.2.1 s.2.2.2.2.2.2.2.1 s.2.2.2.2.2.2.2.2.1 s.2.2.2.2.2.2.2.2.2.1 s.2.2.2.2.2.2.2.2.2.2.1 s.2.2.2.2.2.2.2.2.2.2.2.1 s.2.2.2.2.2.2.2.2.2.2.2.2.1 s.2.2.2.2.2.2.2.2.2.2.2.2.2 hI (fun b1 b2 b3 b4 b5 b6 b7 b8 b9 b10 b11 b12 b13 b14 h9 hm => hk (b1, b2, b3, b4, b5, b6, b7, b8, b9, b10, b11, b12, b13, b14) h9 hm)) (a1, a2, a3, a4, a5, a6, a7, a8, a9, a10, a11, a12, a13, a14) h
theorem lp15 {A1 A2 A3 A4 A5 A6 A7 A8 A9 A10 A11 A12 A13 A14 A15 : Type} (W : Nat → A1 → A2 → A3 → A4 → A5 → A6 → A7 → A8 → A9 → A10 → A11 → A12 → A13 → A14 → A15 → Prop) (I : A1 → A2 → A3 → A4 → A5 → A6 → A7 → A8 → A9 → A10 → A11 → A12 → A13 → A14 → A15 → Prop) (μ : A1 → A2 → A3 → A4 → A5 → A6 → A7 → A8 → A9 → A10 → A11 → A12 → A13 → A14 → A15 → Nat) (hs : ∀ (n : Nat) (a1 : A1) (a2 : A2) (a3 : A3) (a4 : A4) (a5 : A5) (a6 : A6) (a7 : A7) (a8 : A8) (a9 : A9) (a10 : A10) (a11 : A11) (a12 : A12) (a13 : A13) (a14 : A14) (a15 : A15), I a1 a2 a3 a4 a5 a6 a7 a8 a9 a10 a11 a12 a13 a14 a15 → (∀ (b1 : A1) (b2 : A2) (b3 : A3) (b4 : A4) (b5 : A5) (b6 : A6) (b7 : A7) (b8 : A8) (b9 : A9) (b10 : A10) (b11 : A11) (b12 : A12) (b13 : A13) (b14 : A14) (b15 : A15), I b1 b2 b3 b4 b5 b6 b7 b8 b9 b10 b11 b12 b13 b14 b15 → μ b1 b2 b3 b4 b5 b6 b7 b8 b9 b10 b11 b12 b13 b14 b15 < μ a1 a2 a3 a4 a5 a6 a7 a8 a9 a10 a11 a12 a13 a14 a15 → W n b1 b2 b3 b4 b5 b6 b7 b8 b9 b10 b11 b12 b13 b14 b15) → W (n + 1) a1 a2 a3 a4 a5 a6 a7 a8 a9 a10 a11 a12 a13 a14 a15) (a1 : A1) (a2 : A2) (a3 : A3) (a4 : A4) (a5 : A5) (a6 : A6) (a7 : A7) (a8 : A8) (a9 : A9) (a10 : A10) (a11 : A11) (a12 : A12) (a13 : A13) (a14 : A14) (a15 : A15) (h : I a1 a2 a3 a4 a5 a6 a7 a8 a9 a10 a11 a12 a13 a14 a15) : ∃ n, W n a1 a2 a3 a4 a5 a6 a7 a8 a9 a10 a11 a12 a13 a14 a15 :=
  loop_m (σ := A1 × A2 × A3 × A4 × A5 × A6 × A7 × A8 × A9 × A10 × A11 × A12 × A13 × A14 × A15) (fun n s => W n s.1 s.2.1 s.2.2.1 s.2.2.2.1 s.2.2.2.2.1 s.2.2.2.2.2.1 s.2.2.2.2.2.2.1 s.2.2.2.2.2.2.2.1 s.2.2.2.2.2.2.2.2.1 s.2.2.2.2.2.2.2.2.2.1 s.2.2.2.2.2.2.2.2.2.2.1 s.2.2.2.2.2.2.2.2.2.2.2.1 s.2.2.2.2.2.2.2.2.2.2.2.2.1 s.2.2.2.2.2.2.2.2.2.2.2.2.2.1 s.2.2.2.2.2.2.2.2.2.2.2.2.2.2) (fun s => I s.1 s.2.1 s.2.2.1 s.2.2.2.1 s.2.2.2.2.1 s.2.2.2.2.2.1 s.2.2.2.2.2.2.1 s.2.2.2.2.2.2.2.1 s.2.2.2.2.2.2.2.2.1 s.2.2.2.2.2.2.2.2.2.1 s.2.2.2.2.2.2.2.2.2.2.1 s.2.2.2.2.2.2.2.2.2.2.2.1 s.2.2.2.2.2.2.2.2.2.2.2.2.1 s.2.2.2.2.2.2.2.2.2.2.2.2.2.1 s.2.2.2.2.2.2.2.2.2.2.2.2.2.2) (fun s => μ s.1 s.2.1 s.2.2.1 s.2.2.2.1 s.2.2.2.2.1 s.2.2.2.2.2.1 s.2.2.2.2.2.2.1 s.2.2.2.2.2.2.2.1 s.2.2.2.2.2.2.2.2.1 s.2.2.2.2.2.2.2.2.2.1 s.2.2.2.2.2.2.2.2.2.2.1 s.2.2.2.2.2.2.2.2.2.2.2.1 s.2.2.2.2.2.2.2.2.2.2.2.2.1 s.2.2.2.2.2.2.2.2.2.2.2.2.2.1 s.2.2.2.2.2.2.2.2.2.2.2.2.2.2) (fun n s hI hk => hs n s.1 s.2.1 s.2.2.1 s.2.2.2.1 s.2.2.2.2.1 s.2.2.2.2.2.1 s.2.2.2.2.2.2.1 s.2.2.2.2.2.2.2.1 s.2.2.2.2.2.2.2.2.1 s.2.2.2.2.2.2.2.2.2.1 s.2.2.2.2.2.2.2.2.2.2.1 s.2.2.2.2.2.2.2.2.2.2.2.1 s.2.2.2.2.2.2.2.2.2.2.2.2.1 s.2.2.2.2.2.2.2.2.2.2.2.2.2.1 s.2.2.2.2.2.2.2.2.2.2.2.2.2.2 hI (fun b1 b2 b3 b4 b5 b6 b7 b8 b9 b10 b11 b12 b13 b14 b15 h9 hm => hk (b1, b2, b3, b4, b5, b6, b7, b8, b9, b10, b11, b12, b13, b14, b15) h9 hm)) (a1, a2, a3, a4, a5, a6, a7, a8, a9, a10, a11, a12, a13, a14, a15) h
theorem lp16 {A1 A2 A3 A4 A5 A6 A7 A8 A9 A10 A11 A12 A13 A14 A15 A16 : Type} (W : Nat → A1 → A2 → A3 → A4 → A5 → A6 → A7 → A8 → A9 → A10 → A11 → A12 → A13 → A14 → A15 → A16 → Prop) (I : A1 → A2 → A3 → A4 → A5 → A6 → A7 → A8 → A9 → A10 → A11 → A12 → A13 → A14 → A15 → A16 → Prop) (μ : A1 → A2 → A3 → A4 → A5 → A6 → A7 → A8 → A9 → A10 → A11 → A12 → A13 → A14 → A15 → A16 → Nat) (hs : ∀ (n : Nat) (a1 : A1) (a2 : A2) (a3 : A3) (a4 : A4) (a5 : A5) (a6 : A6) (a7 : A7) (a8 : A8) (a9 : A9) (a10 : A10) (a11 : A11) (a12 : A12) (a13 : A13) (a14 : A14) (a15 : A15) (a16 : A16), I a1 a2 a3 a4 a5 a6 a7 a8 a9 a10 a11 a12 a13 a14 a15 a16 → (∀ (b1 : A1) (b2 : A2) (b3 : A3) (b4 : A4) (b5 : A5) (b6 : A6) (b7 : A7) (b8 : A8) (b9 : A9) (b10 : A10) (b11 : A11) (b12 : A12) (b13 : A13) (b14 : A14) (b15 : A15) (b16 : A16), I b1 b2 b3 b4 b5 b6 b7 b8 b9 b10 b11 b12 b13 b14 b15 b16 → μ b1 b2 b3 b4 b5 b6 b7 b8 b9 b10 b11 b12 b13 b14 b15 b16 < μ a1 a2 a3 a4 a5 a6 a7 a8 a9 a10 a11 a12 a13 a14 a15 a16 → W n b1 b2 b3 b4 b5 b6 b7 b8 b9 b10 b11 b12 b13 b14 b15 b16) → W (n + 1) a1 a2 a3 a4 a5 a6 a7 a8 a9 a10 a11 a12 a13 a14 a15 a16) (a1 : A1) (a2 : A2) (a3 : A3) (a4 : A4) (a5 : A5) (a6 : A6) (a7 : A7) (a8 : A8) (a9 : A9) (a10 : A10) (a11 : A11) (a12 : A12) (a13 : A13) (a14 : A14) (a15 : A15) (a16 : A16) (h : I a1 a2 a3 a4 a5 a6 a7 a8 a9 a10 a11 a12 a13 a14 a15 a16) : ∃ n, W n a1 a2 a3 a4 a5 a6 a7 a8 a9 a10 a11 a12 a13 a14 a15 a16 :=
  loop_m (σ := A1 × A2 × A3 × A4 × A5 × A6 × A7 × A8 × A9 × A10 × A11 × A12 × A13 × A14 × A15 × A16) (fun n s => W n s.1 s.2.1 s.2.2.1 s.2.2.2.1 s.2.2.2.2.1 s.2.2.2.2.2.1 s.2.2.2.2.2.2.1 s.2.2.2.2.2.2.2.1 s.2.2.2.2.2.2.2.2.1 s.2.2.2.2.2.2.2.2.2.1 s.2.2.2.2.2.2.2.2.2.2.1 s.2.2.2.2.2.2.2.2.2.2.2.1 s.2.2.2.2.2.2.2.2.2.2.2.2.1 s.2.2.2.2.2.2.2.2.2.2.2.2.2.1 s.2.2.2.2.2.2.2.2.2.2.2.2.2.2.1 s.2.2.2.2.2.2.2.2.2.2.2.2.2.2.2) (fun s => I s.1 s.2.1 s.2.2.1 s.2.2.2.1 s.2.2.2.2.1 s.2.2.2.2.2.1 s.2.2.2.2.2.2.1 s.2.2.2.2.2.2.2.1 s.2.2.2.2.2.2.2.2.1 s.2.2.2.2.2.2.2.2.2.1 s.2.2.2.2.2.2.2.2.2.2.1 s.2.2.2.2.2.2.2.2.2.2.2.1 s.2.2.2.2.2.2.2.2.2.2.2.2.1 s.2.2.2.2.2.2.2.2.2.2.2.2.2.1 s.2.2.2.2.2.2.2.2.2.2.2.2.2.2.1 s.2.2.2.2.2.2.2.2.2.2.2.2.2.2.2) (fun s => μ s.1 s.2.1 s.2.2.1 s.2.2.2.1 s.2.2.2.2.1 s.2.2.2.2.2.1 s.2.2.2.2.2.2.1 s.2.2.2.2.2.2.2.1 s.2.2.2.2.2.2.2.2.1 s.2.2.2.2.2.2.2.2.2.1 s.2.2.2.2.2.2.2.2.2.2.1 s.2.2.2.2.2.2.2.2.2.2.2.1 s.2.2.2.2.2.2.2.2.2.2.2.2.1 s.2.2.2.2.2.2.2.2.2.2.2.2.2.1 s.2.2.2.2.2.2.2.2.2.2.2.2.2.2.1 s.2.2.2.2.2.2.2.2.2.2.2.2.2.2.2) (fun n s hI hk => hs n s.1 s.2.1 s.2.2.1 s.2.2.2.1 s.2.2.2.2.1 s.2.2.2.2.2.1 s.2.2.2.2.2.2.1 s.2.2.2.2.2.2.2.1 s.2.2.2.2.2.2.2.2.1 s.2.2.2.2.2.2.2.2.2.1 s.2.2.2.2.2.2.2.2.2.2.1 s.2.2.2.2.2.2.2.2.2.2.2.1 s.2.2.2.2.2.2.2.2.2.2.2.2.1 s.2.2.2.2.2.2.2.2.2.2.2.2.2.1 s.2.2.2.2.2.2.2.2.2.2.2.2.2.2.1 s.2.2.2.2.2.2.2.2.2.2.2.2.2.2.2 hI (fun b1 b2 b3 b4 b5 b6 b7 b8 b9 b10 b11 b12 b13 b14 b15 b16 h9 hm => hk (b1, b2, b3, b4, b5, b6, b7, b8, b9, b10, b11, b12, b13, b14, b15, b16) h9 hm)) (a1, a2, a3, a4, a5, a6, a7, a8, a9, a10, a11, a12, a13, a14, a15, a16) h
theorem pk_least (P : Nat → Prop) (h : ∃ k, P k) : ∃ k, P k ∧ ∀ j, j < k → ¬ P j := by
  obtain ⟨k, hk⟩ := h
  induction k using Nat.strongRecOn with
  | ind k ih =>
    by_cases e : ∃ j, j < k ∧ P j
    · obtain ⟨j, hj, pj⟩ := e
      exact ih j hj pj
    · exact ⟨k, hk, fun j hj pj => e ⟨j, hj, pj⟩⟩
theorem rp1 {ρ A1 : Type} (W : Nat → (ρ → Prop) → A1 → Prop) (ok : A1 → Prop) (μ : A1 → Nat) (val : A1 → ρ)
    (hs : ∀ (d : Nat) (post : ρ → Prop) (a1 : A1), ok a1 → post (val a1) → (∀ (post' : ρ → Prop) (b1 : A1), ok b1 → μ b1 < μ a1 → post' (val b1) → W d post' b1) → W (d + 1) post a1) :
    ∀ (d : Nat) (post : ρ → Prop) (a1 : A1), ok a1 → μ a1 < d → post (val a1) → W d post a1 := by
  intro d
  induction d with
  | zero => intro post a1 _ h; omega
  | succ d ih =>
    intro post a1 ho hm hp
    exact hs d post a1 ho hp (fun post' b1 ho' hm' hp' => ih post' b1 ho' (by omega) hp')
theorem rp2 {ρ A1 A2 : Type} (W : Nat → (ρ → Prop) → A1 → A2 → Prop) (ok : A1 → A2 → Prop) (μ : A1 → A2 → Nat) (val : A1 → A2 → ρ)
    (hs : ∀ (d : Nat) (post : ρ → Prop) (a1 : A1) (a2 : A2), ok a1 a2 → post (val a1 a2) → (∀ (post' : ρ → Prop) (b1 : A1) (b2 : A2), ok b1 b2 → μ b1 b2 < μ a1 a2 → post' (val b1 b2) → W d post' b1 b2) → W (d + 1) post a1 a2) :
    ∀ (d : Nat) (post : ρ → Prop) (a1 : A1) (a2 : A2), ok a1 a2 → μ a1 a2 < d → post (val a1 a2) → W d post a1 a2 := by
  intro d
  induction d with
  | zero => intro post a1 a2 _ h; omega
  | succ d ih =>
    intro post a1 a2 ho hm hp
    exact hs d post a1 a2 ho hp (fun post' b1 b2 ho' hm' hp' => ih post' b1 b2 ho' (by omega) hp')
theorem rp3 {ρ A1 A2 A3 : Type} (W : Nat → (ρ → Prop) → A1 → A2 → A3 → Prop) (ok : A1 → A2 → A3 → Prop) (μ : A1 → A2 → A3 → Nat) (val : A1 → A2 → A3 → ρ)
    (hs : ∀ (d : Nat) (post : ρ → Prop) (a1 : A1) (a2 : A2) (a3 : A3), ok a1 a2 a3 → post (val a1 a2 a3) → (∀ (post' : ρ → Prop) (b1 : A1) (b2 : A2) (b3 : A3), ok b1 b2 b3 → μ b1 b2 b3 < μ a1 a2 a3 → post' (val b1 b2 b3) → W d post' b1 b2 b3) → W (d + 1) post a1 a2 a3) :
    ∀ (d : Nat) (post : ρ → Prop) (a1 : A1) (a2 : A2) (a3 : A3), ok a1 a2 a3 → μ a1 a2 a3 < d → post (val a1 a2 a3) → W d post a1 a2 a3 := by
  intro d
  induction d with
  | zero => intro post a1 a2 a3 _ h; omega
  | succ d ih =>
    intro post a1 a2 a3 ho hm hp
    exact hs d post a1 a2 a3 ho hp (fun post' b1 b2 b3 ho' hm' hp' => ih post' b1 b2 b3 ho' (by omega) hp')
theorem rp4 {ρ A1 A2 A3 A4 : Type} (W : Nat → (ρ → Prop) → A1 → A2 → A3 → A4 → Prop) (ok : A1 → A2 → A3 → A4 → Prop) (μ : A1 → A2 → A3 → A4 → Nat) (val : A1 → A2 → A3 → A4 → ρ)
    (hs : ∀ (d : Nat) (post : ρ → Prop) (a1 : A1) (a2 : A2) (a3 : A3) (a4 : A4), ok a1 a2 a3 a4 → post (val a1 a2 a3 a4) → (∀ (post' : ρ → Prop) (b1 : A1) (b2 : A2) (b3 : A3) (b4 : A4), ok b1 b2 b3 b4 → μ b1 b2 b3 b4 < μ a1 a2 a3 a4 → post' (val b1 b2 b3 b4) → W d post' b1 b2 b3 b4) → W (d + 1) post a1 a2 a3 a4) :
    ∀ (d : Nat) (post : ρ → Prop) (a1 : A1) (a2 : A2) (a3 : A3) (a4 : A4), ok a1 a2 a3 a4 → μ a1 a2 a3 a4 < d → post (val a1 a2 a3 a4) → W d post a1 a2 a3 a4 := by
  intro d
  induction d with
  | zero => intro post a1 a2 a3 a4 _ h; omega
  | succ d ih =>
    intro post a1 a2 a3 a4 ho hm hp
    exact hs d post a1 a2 a3 a4 ho hp (fun post' b1 b2 b3 b4 ho' hm' hp' => ih post' b1 b2 b3 b4 ho' (by omega) hp')
theorem rp5 {ρ A1 A2 A3 A4 A5 : Type} (W : Nat → (ρ → Prop) → A1 → A2 → A3 → A4 → A5 → Prop) (ok : A1 → A2 → A3 → A4 → A5 → Prop) (μ : A1 → A2 → A3 → A4 → A5 → Nat) (val : A1 → A2 → A3 → A4 → A5 → ρ)
    (hs : ∀ (d : Nat) (post : ρ → Prop) (a1 : A1) (a2 : A2) (a3 : A3) (a4 : A4) (a5 : A5), ok a1 a2 a3 a4 a5 → post (val a1 a2 a3 a4 a5) → (∀ (post' : ρ → Prop) (b1 : A1) (b2 : A2) (b3 : A3) (b4 : A4) (b5 : A5), ok b1 b2 b3 b4 b5 → μ b1 b2 b3 b4 b5 < μ a1 a2 a3 a4 a5 → post' (val b1 b2 b3 b4 b5) → W d post' b1 b2 b3 b4 b5) → W (d + 1) post a1 a2 a3 a4 a5) :
    ∀ (d : Nat) (post : ρ → Prop) (a1 : A1) (a2 : A2) (a3 : A3) (a4 : A4) (a5 : A5), ok a1 a2 a3 a4 a5 → μ a1 a2 a3 a4 a5 < d → post (val a1 a2 a3 a4 a5) → W d post a1 a2 a3 a4 a5 := by
  intro d
  induction d with
  | zero => intro post a1 a2 a3 a4 a5 _ h; omega
  | succ d ih =>
    intro post a1 a2 a3 a4 a5 ho hm hp
    exact hs d post a1 a2 a3 a4 a5 ho hp (fun post' b1 b2 b3 b4 b5 ho' hm' hp' => ih post' b1 b2 b3 b4 b5 ho' (by omega) hp')
theorem rp6 {ρ A1 A2 A3 A4 A5 A6 : Type} (W : Nat → (ρ → Prop) → A1 → A2 → A3 → A4 → A5 → A6 → Prop) (ok : A1 → A2 → A3 → A4 → A5 → A6 → Prop) (μ : A1 → A2 → A3 → A4 → A5 → A6 → Nat) (val : A1 → A2 → A3 → A4 → A5 → A6 → ρ)
    (hs : ∀ (d : Nat) (post : ρ → Prop) (a1 : A1) (a2 : A2) (a3 : A3) (a4 : A4) (a5 : A5) (a6 : A6), ok a1 a2 a3 a4 a5 a6 → post (val a1 a2 a3 a4 a5 a6) → (∀ (post' : ρ → Prop) (b1 : A1) (b2 : A2) (b3 : A3) (b4 : A4) (b5 : A5) (b6 : A6), ok b1 b2 b3 b4 b5 b6 → μ b1 b2 b3 b4 b5 b6 < μ a1 a2 a3 a4 a5 a6 → post' (val b1 b2 b3 b4 b5 b6) → W d post' b1 b2 b3 b4 b5 b6) → W (d + 1) post a1 a2 a3 a4 a5 a6) :
    ∀ (d : Nat) (post : ρ → Prop) (a1 : A1) (a2 : A2) (a3 : A3) (a4 : A4) (a5 : A5) (a6 : A6), ok a1 a2 a3 a4 a5 a6 → μ a1 a2 a3 a4 a5 a6 < d → post (val a1 a2 a3 a4 a5 a6) → W d post a1 a2 a3 a4 a5 a6 := by
  intro d
  induction d with
  | zero => intro post a1 a2 a3 a4 a5 a6 _ h; omega
  | succ d ih =>
    intro post a1 a2 a3 a4 a5 a6 ho hm hp
    exact hs d post a1 a2 a3 a4 a5 a6 ho hp (fun post' b1 b2 b3 b4 b5 b6 ho' hm' hp' => ih post' b1 b2 b3 b4 b5 b6 ho' (by omega) hp')
theorem rec_p {σ ρ : Type} (W : Nat → (ρ → Prop) → σ → Prop) (ok : σ → Prop) (μ : σ → Nat) (val : σ → ρ)
    (hs : ∀ d s post, ok s → post (val s) → (∀ s' post', ok s' → μ s' < μ s → post' (val s') → W d post' s') → W (d + 1) post s) :
    ∀ d s post, ok s → μ s < d → post (val s) → W d post s := by
  intro d
  induction d with
  | zero => intro s post _ h; omega
  | succ d ih =>
    intro s post ho hm hp
    exact hs d s post ho hp (fun s' post' ho' hm' hp' => ih s' post' ho' (by omega) hp')
theorem rec_q {σ ρ : Type} (W : Nat → (ρ → Prop) → σ → Prop) (ok : σ → Prop) (μ : σ → Nat) (Q : σ → ρ → Prop)
    (hs : ∀ d s post, ok s → (∀ r, Q s r → post r) → (∀ s' post', ok s' → μ s' < μ s → (∀ r, Q s' r → post' r) → W d post' s') → W (d + 1) post s) :
    ∀ d s post, ok s → μ s < d → (∀ r, Q s r → post r) → W d post s := by
  intro d
  induction d with
  | zero => intro s post _ h; omega
  | succ d ih =>
    intro s post ho hm hp
    exact hs d s post ho hp (fun s' post' ho' hm' hp' => ih s' post' ho' (by omega) hp')
def bx_sum (f : Nat → Int32) : Nat → Int32
  | 0 => 0
  | n + 1 => bx_sum f n + f n
theorem ek_u {A : Prop} {B : Nat → Prop} {k N : Nat} (hk : k < N) (h : B k) : (some k = none → A) ∧ (∀ y : Nat, some k = some y → (y < N ∧ B y)) :=
  ⟨fun z => absurd z (Option.some_ne_none k), fun _ e => (by cases e; exact ⟨hk, h⟩)⟩
theorem ek_nu {A : Prop} {B : Nat → Prop} (h : A) : ((none : Option Nat) = none → A) ∧ (∀ y : Nat, (none : Option Nat) = some y → B y) :=
  ⟨fun _ => h, fun _ e => (by cases e)⟩
theorem ek_if {c d A B : Prop} (e : c ↔ d) (f : d → A) (g : ¬ d → B) : (c → A) ∧ (¬ c → B) :=
  ⟨fun z => f (e.mp z), fun z => g (fun y => z (e.mpr y))⟩
theorem ek_v {α : Sort _} {P : α → Prop} {a b : α} (e : a = b) (h : P b) : P a := e ▸ h
theorem co_some {x : Option Nat} {A : Prop} {B : Nat → Prop} (i : Nat) (h : B i) (hx : x = some i := by rfl) : (x = none → A) ∧ (∀ y : Nat, x = some y → B y) := by
  subst hx
  exact ⟨fun e => (nomatch e), fun y e => Option.some.inj e ▸ h⟩
theorem co_none {x : Option Nat} {A : Prop} {B : Nat → Prop} (h : A) (hx : x = none := by rfl) : (x = none → A) ∧ (∀ y : Nat, x = some y → B y) := by
  subst hx
  exact ⟨fun _ => h, fun y e => (nomatch e)⟩
theorem co_any {x : Option Nat} {A : Prop} {B : Nat → Prop} (hn : x = none → A) (hs : ∀ i : Nat, x = some i → B i) : (x = none → A) ∧ (∀ y : Nat, x = some y → B y) := ⟨hn, hs⟩
theorem co_2 {P : Nat → Prop} (h0 : P 0) (h1 : P 1) {i : Nat} (hi : i < 2) : P i :=
  match i, hi with
  | 0, _ => h0
  | 1, _ => h1
theorem co_3 {P : Nat → Prop} (h0 : P 0) (h1 : P 1) (h2 : P 2) {i : Nat} (hi : i < 3) : P i :=
  match i, hi with
  | 0, _ => h0
  | 1, _ => h1
  | 2, _ => h2
theorem co_4 {P : Nat → Prop} (h0 : P 0) (h1 : P 1) (h2 : P 2) (h3 : P 3) {i : Nat} (hi : i < 4) : P i :=
  match i, hi with
  | 0, _ => h0
  | 1, _ => h1
  | 2, _ => h2
  | 3, _ => h3
theorem co_dec {N : Nat} {P : Nat → Prop} [DecidablePred P] (h : (List.range N).all (fun i => decide (P i)) = true) {i : Nat} (hi : i < N) : P i := by
  have := List.all_eq_true.mp h i (List.mem_range.mpr hi)
  exact of_decide_eq_true this
theorem co_tab {α : Type} {l : List α} {d : α} {P : α → Prop} (h : ∀ a, a ∈ l → P a) {i : Nat} (hi : i < l.length) : P (l.getD i d) := by
  rw [List.getD_eq_getElem?_getD, List.getElem?_eq_getElem hi]
  exact h _ (List.getElem_mem hi)
theorem pk_mu {x : Int32} {L : Nat} (h0 : ¬ x < 0) (h : ¬ nI L ≤ x) (hL : L < 2 ^ 31) : ∃ j : Nat, j < L ∧ x = nI j ∧ x + 1 = nI (j + 1) ∧ x.toNatClampNeg = j ∧ L - (x + 1).toNatClampNeg < L - x.toNatClampNeg := by
  obtain ⟨j, hj, rfl⟩ := nI_of h0
  have hl : j < L := Nat.not_le.mp fun q => h (nI_le q hj)
  refine ⟨j, hl, rfl, nI_1 j, nI_clamp hj, ?_⟩
  rw [nI_1, nI_clamp (by omega), nI_clamp hj]
  omega
theorem op_s {α : Type} {r : Option α} {A : Prop} {B : α → Prop} {y : α} (h : r = some y) (b : B y) : (r = none → A) ∧ ∀ z, r = some z → B z :=
  ⟨fun e => (by rw [h] at e; cases e), fun z e => (by rw [h] at e; cases e; exact b)⟩
def l_holds {α : Type} (a : Nat → Option Nat) (LP : List Nat) (p : Nat → α) (c : Nat) (b : Nat → α) : Prop :=
  ∀ j, j < c → ∃ y, a j = some y ∧ y ∈ LP ∧ p y = b j
theorem l_holds_0 {α : Type} {a : Nat → Option Nat} {LP : List Nat} {p b : Nat → α} : l_holds a LP p 0 b := fun j h => absurd h (Nat.not_lt_zero j)
theorem l_in_new (LP : List Nat) (q : Nat) : q ∈ LP ++ [q] := List.mem_append.mpr (Or.inr (List.mem_singleton.mpr rfl))
def l_sum (b : Nat → Int32) : Nat → Int32
  | 0 => 0
  | k + 1 => l_sum b k + b k
theorem sb_shr0 (x : Int32) : x >>> ((0 : Int32) &&& 31) = x := by
  rw [show ((0 : Int32) &&& 31) = 0 by decide]
  simp
theorem sb_shl0 (x : Int32) : x <<< ((0 : Int32) &&& 31) = x := by
  rw [show ((0 : Int32) &&& 31) = 0 by decide]
  simp
theorem sb_cl0 : (0 : Int32).toNatClampNeg = 0 := by decide
theorem sb_m1 {p : Nat} (h : 0 < p) : nI p + (-1) = nI (p - 1) := by
  obtain ⟨q, rfl⟩ : ∃ q, p = q + 1 := ⟨p - 1, by omega⟩
  exact pk_m1 q
def sb_b (c : Nat) : Int32 := (nI c).toInt8.toInt32
theorem sb_byte : ∀ c, c < 256 → sb_b c &&& 255 = nI c ∧ ((nI c).toUInt32 % 65536).toInt32 = nI c ∧ nI c ≤ 255 := by decide +kernel
def sb_Fit (a : Nat → Int32) : Prop := ∀ j, fits .byte (.int (a j)) = true
def sb_Lat (t : Nat → Nat) (n : Nat) (a : Nat → Int32) : Prop := ∀ j, j < n → t j < 256 ∧ a j = sb_b (t j)
theorem sb_fitB (c : Nat) : fits .byte (.int (sb_b c)) = true := pk_fb _
theorem sb_fit0 : sb_Fit (fun _ => 0) := fun _ => by
  show fits .byte (.int 0) = true
  decide
theorem sb_fitU {a : Nat → Int32} {k : Nat} {x : Int32} (h : sb_Fit a) (hx : fits .byte (.int x) = true) : sb_Fit (upd a k x) := by
  intro j
  by_cases e : j = k
  · subst e
    rw [pk_us]
    exact hx
  · rw [pk_un e]
    exact h j
def sb_cat (t : Nat → Nat) (n : Nat) (s : Nat → Nat) : Nat → Nat := fun j => if j < n then t j else s (j - n)
theorem sb_cat_lo {t s : Nat → Nat} {n j : Nat} (h : j < n) : sb_cat t n s j = t j := if_pos h
theorem sb_cat_hi {t s : Nat → Nat} {n j : Nat} : sb_cat t n s (n + j) = s j := by
  show (if n + j < n then t (n + j) else s (n + j - n)) = s j
  rw [if_neg (by omega), Nat.add_sub_cancel_left]
theorem sb_latPut {t s : Nat → Nat} {n w : Nat} {a a' : Nat → Int32} (h : sb_Lat t n a) (hk : ∀ j, j < n → a' j = a j) (hs : ∀ i, i < w → s i < 256 ∧ a' (n + i) = sb_b (s i)) : sb_Lat (sb_cat t n s) (n + w) a' := by
  intro j hj
  by_cases e : j < n
  · rw [sb_cat_lo e, hk j e]
    exact h j e
  · obtain ⟨i, rfl⟩ : ∃ i, j = n + i := ⟨j - n, by omega⟩
    rw [sb_cat_hi]
    exact hs i (by omega)
theorem sb_latKeep {t : Nat → Nat} {n : Nat} {a a' : Nat → Int32} (h : sb_Lat t n a) (hk : ∀ j, j < n → a' j = a j) : sb_Lat t n a' := fun j hj => by
  rw [hk j hj]
  exact h j hj
def sb_cap (q m : Nat) : Nat := if q ≤ m then m else if 2 * m + 2 < q then q else 2 * m + 2
def sb_Room (q m mc ms : Nat) : Prop := q ≤ m ∨ (1 ≤ mc ∧ sb_cap q m ≤ ms ∧ sb_cap q m ≤ 65536)
theorem sb_cap_ge (q m : Nat) : q ≤ sb_cap q m := by
  unfold sb_cap
  split
  · omega
  · split <;> omega
theorem sb_cap_gem (q m : Nat) : m ≤ sb_cap q m := by
  unfold sb_cap
  split
  · omega
  · split <;> omega
theorem sb_cap_le {q m mc ms : Nat} (hm : m ≤ 65536) (hr : sb_Room q m mc ms) : sb_cap q m ≤ 65536 := by
  rcases hr with h | h
  · rw [sb_cap, if_pos h]
    exact hm
  · exact h.2.2
theorem sb_at {P : Int32 → Prop} {x y : Int32} (e : x = y) (h : P y) : P x := e ▸ h
def sb_dg (w : Nat) : Nat := if w < 10 then 1 else if w < 100 then 2 else if w < 1000 then 3 else if w < 10000 then 4 else if w < 100000 then 5 else if w < 1000000 then 6 else if w < 10000000 then 7 else if w < 100000000 then 8 else if w < 1000000000 then 9 else 10
def sb_dec (v : Nat) : Nat → Nat := fun i => 48 + v / 10 ^ (sb_dg v - 1 - i) % 10
theorem sb_dg_in (w : Nat) : 1 ≤ sb_dg w ∧ sb_dg w ≤ 10 := by
  unfold sb_dg
  constructor <;> (repeat' split) <;> omega
theorem sb_dg100 {w : Nat} (h : 100 ≤ w) (hw : w < 2 ^ 31) : sb_dg w = sb_dg (w / 100) + 2 := by
  rw [sb_dg, sb_dg, if_neg (show ¬ w < 10 by omega), if_neg (show ¬ w < 100 by omega)]
  by_cases h3 : w < 1000
  · rw [if_pos h3, if_pos (show w / 100 < 10 by omega)]
  rw [if_neg h3, if_neg (show ¬ w / 100 < 10 by omega)]
  by_cases h4 : w < 10000
  · rw [if_pos h4, if_pos (show w / 100 < 100 by omega)]
  rw [if_neg h4, if_neg (show ¬ w / 100 < 100 by omega)]
  by_cases h5 : w < 100000
  · rw [if_pos h5, if_pos (show w / 100 < 1000 by omega)]
  rw [if_neg h5, if_neg (show ¬ w / 100 < 1000 by omega)]
  by_cases h6 : w < 1000000
  · rw [if_pos h6, if_pos (show w / 100 < 10000 by omega)]
  rw [if_neg h6, if_neg (show ¬ w / 100 < 10000 by omega)]
  by_cases h7 : w < 10000000
  · rw [if_pos h7, if_pos (show w / 100 < 100000 by omega)]
  rw [if_neg h7, if_neg (show ¬ w / 100 < 100000 by omega)]
  by_cases h8 : w < 100000000
  · rw [if_pos h8, if_pos (show w / 100 < 1000000 by omega)]
  rw [if_neg h8, if_neg (show ¬ w / 100 < 1000000 by omega)]
  by_cases h9 : w < 1000000000
  · rw [if_pos h9, if_pos (show w / 100 < 10000000 by omega)]
  rw [if_neg h9, if_neg (show ¬ w / 100 < 10000000 by omega)]
  rw [if_pos (show w / 100 < 100000000 by omega)]
theorem sb_negT {w : Nat} (h : w < 2 ^ 31) : (-nI w).toInt = -(w : Int) := by
  rw [Int32.toInt_neg, nI_toInt h]
  exact Int.bmod_eq_of_le (by omega) (by omega)
theorem sb_nle {a b : Nat} (ha : a < 2 ^ 31) (hb : b < 2 ^ 31) : -nI a ≤ -nI b ↔ b ≤ a := by
  rw [Int32.le_iff_toInt_le, sb_negT ha, sb_negT hb]
  omega
theorem sb_nlt {a b : Nat} (ha : a < 2 ^ 31) (hb : b < 2 ^ 31) : -nI a < -nI b ↔ b < a := by
  rw [Int32.lt_iff_toInt_lt, sb_negT ha, sb_negT hb]
  omega
theorem sb_cmp {A B : Prop} {x : Int32} (v c : Nat) (f : c ≤ v → A) (g : v < c → B) (hv : v < 2 ^ 31) (hx : x = -nI c := by rfl) (hc : c < 2 ^ 31 := by omega) : (-nI v ≤ x → A) ∧ (¬ -nI v ≤ x → B) := by
  subst hx
  rw [sb_nle hv hc]
  exact ⟨f, fun z => g (by omega)⟩
theorem sb_ndiv {w : Nat} (hw : w < 2 ^ 31) : (-nI w) / 100 = -nI (w / 100) := by
  apply Int32.toInt_inj.mp
  have h100 : (100 : Int32).toInt = 100 := by decide
  rw [Int32.toInt_div, sb_negT hw, h100, sb_negT (by omega), Int.neg_tdiv, Int.tdiv_eq_ediv_of_nonneg (by omega), Int.bmod_eq_of_le (by omega) (by omega)]
  omega
theorem sb_nrem {w : Nat} (hw : w < 2 ^ 31) : (-nI (w / 100)) * 100 - (-nI w) = nI (w % 100) := by
  have h := pk_rem (a := w) (d := 100) hw (by decide) (by decide)
  rw [pk_div hw (by decide) (by decide)] at h
  rw [← h]
  show (-nI (w / 100)) * nI 100 - (-nI w) = nI w - nI (w / 100) * nI 100
  rw [Int32.neg_mul, Int32.sub_neg, Int32.add_comm, ← Int32.sub_eq_add_neg]
end
section
/-! rows on bits, shifts and unsigned numbers, to paste: each family out of a closed proof of our own, whole with what it rests on; each by itself clean at Lean in its own claim (generation 39, form 5). Take a family whole -/
/-! ===== Int32 by its bits: bt x i ===== -/
def bt (x : Int32) (i : Nat) : Bool := x.toBitVec.getLsbD i
theorem b_ext {x y : Int32} (h : ∀ i, i < 32 → bt x i = bt y i) : x = y := Int32.toBitVec_inj.mp (BitVec.eq_of_getLsbD_eq (fun i hi => h i hi))
theorem b_or (x y : Int32) (i : Nat) : bt (x ||| y) i = (bt x i || bt y i) := by unfold bt; rw [Int32.toBitVec_or, BitVec.getLsbD_or]
theorem b_and (x y : Int32) (i : Nat) : bt (x &&& y) i = (bt x i && bt y i) := by unfold bt; rw [Int32.toBitVec_and, BitVec.getLsbD_and]
theorem b_xor (x y : Int32) (i : Nat) : bt (x ^^^ y) i = (bt x i ^^ bt y i) := by unfold bt; rw [Int32.toBitVec_xor, BitVec.getLsbD_xor]
theorem b_big {x : Int32} {i : Nat} (h : 32 ≤ i) : bt x i = false := BitVec.getLsbD_of_ge _ _ h
theorem b_255 (i : Nat) : bt 255 i = decide (i < 8) := by
  rcases Nat.lt_or_ge i 32 with h | h
  · exact (by decide +kernel : ∀ i, i < 32 → bt 255 i = decide (i < 8)) i h
  · rw [b_big h, decide_eq_false (by omega)]
theorem b_65535 (i : Nat) : bt 65535 i = decide (i < 16) := by
  rcases Nat.lt_or_ge i 32 with h | h
  · exact (by decide +kernel : ∀ i, i < 32 → bt 65535 i = decide (i < 16)) i h
  · rw [b_big h, decide_eq_false (by omega)]
theorem b_m1 : ∀ i, i < 32 → bt (-1) i = true := by decide +kernel
theorem b_0 (i : Nat) : bt 0 i = false := BitVec.getLsbD_zero
theorem s_l : ∀ n, n < 32 → ((nI n &&& 31).toBitVec.smod 32).toNat = n := by decide +kernel
theorem s_u : ∀ n, n < 32 → (((nI n).toUInt32 &&& Int32.toUInt32 31).toBitVec % 32).toNat = n := by decide +kernel
theorem b_shl (n : Nat) (hn : n < 32) (x : Int32) {i : Nat} (hi : i < 32) : bt (x <<< (nI n &&& 31)) i = (decide (n ≤ i) && bt x (i - n)) := by
  unfold bt
  rw [Int32.toBitVec_shiftLeft]
  show (x.toBitVec <<< ((nI n &&& 31).toBitVec.smod 32).toNat).getLsbD i = _
  rw [s_l n hn, BitVec.getLsbD_shiftLeft]
  rcases Nat.lt_or_ge i n with h | h
  · simp [h, Nat.not_le.mpr h]
  · simp [hi, h, Nat.not_lt.mpr h]
theorem b_ushr (n : Nat) (hn : n < 32) (x : Int32) (i : Nat) : bt ((x.toUInt32 >>> ((nI n).toUInt32 &&& Int32.toUInt32 31)).toInt32) i = bt x (n + i) := by
  show (x.toUInt32 >>> ((nI n).toUInt32 &&& Int32.toUInt32 31)).toBitVec.getLsbD i = x.toUInt32.toBitVec.getLsbD (n + i)
  rw [UInt32.toBitVec_shiftRight]
  show (x.toUInt32.toBitVec >>> (((nI n).toUInt32 &&& Int32.toUInt32 31).toBitVec % 32).toNat).getLsbD i = _
  rw [s_u n hn, BitVec.getLsbD_ushiftRight]
theorem b_sshr (n : Nat) (hn : n < 32) (x : Int32) {i : Nat} (hi : i < 32) : bt (x >>> (nI n &&& 31)) i = if n + i < 32 then bt x (n + i) else bt x 31 := by
  unfold bt
  rw [Int32.toBitVec_shiftRight]
  show (x.toBitVec.sshiftRight ((nI n &&& 31).toBitVec.smod 32).toNat).getLsbD i = _
  rw [s_l n hn, BitVec.getLsbD_sshiftRight, BitVec.msb_eq_getLsbD_last]
  simp [hi]
theorem b_shl8 (x : Int32) {i : Nat} (hi : i < 32) : bt (x <<< ((8 : Int32) &&& 31)) i = (decide (8 ≤ i) && bt x (i - 8)) := b_shl 8 (by omega) x hi
theorem b_shl16 (x : Int32) {i : Nat} (hi : i < 32) : bt (x <<< ((16 : Int32) &&& 31)) i = (decide (16 ≤ i) && bt x (i - 16)) := b_shl 16 (by omega) x hi
theorem b_shl24 (x : Int32) {i : Nat} (hi : i < 32) : bt (x <<< ((24 : Int32) &&& 31)) i = (decide (24 ≤ i) && bt x (i - 24)) := b_shl 24 (by omega) x hi
theorem b_sshr8 (x : Int32) {i : Nat} (hi : i < 32) : bt (x >>> ((8 : Int32) &&& 31)) i = if 8 + i < 32 then bt x (8 + i) else bt x 31 := b_sshr 8 (by omega) x hi
/-! ===== nI under and, xor, >>>, one bit, 65535 ===== -/
theorem nx_and (a b : Nat) : nI a &&& nI b = nI (a &&& b) := by
  apply Int32.toBitVec_inj.1
  show BitVec.ofNat 32 a &&& BitVec.ofNat 32 b = BitVec.ofNat 32 (a &&& b)
  apply BitVec.eq_of_getLsbD_eq
  intro i hi
  simp [hi]
theorem nx_xor (a b : Nat) : nI a ^^^ nI b = nI (a ^^^ b) := by
  apply Int32.toBitVec_inj.1
  show BitVec.ofNat 32 a ^^^ BitVec.ofNat 32 b = BitVec.ofNat 32 (a ^^^ b)
  apply BitVec.eq_of_getLsbD_eq
  intro i hi
  simp [hi]
theorem nx_cnt : ∀ j : Fin 32, (UInt32.ofNat j.val &&& Int32.toUInt32 31).toNat % 32 = j.val := by decide +kernel
theorem nx_ush {k j : Nat} (hk : k < 65536) (hj : j < 32) : ((nI k).toUInt32 >>> ((nI j).toUInt32 &&& Int32.toUInt32 31)).toInt32 = nI (k >>> j) := by
  have hs : k >>> j ≤ k := by
    rw [Nat.shiftRight_eq_div_pow]
    exact Nat.div_le_self _ _
  have e2 : UInt32.ofNat k >>> (UInt32.ofNat j &&& Int32.toUInt32 31) = UInt32.ofNat (k >>> j) := by
    apply UInt32.toNat_inj.1
    have h1 : (UInt32.ofNat k).toNat = k := Nat.mod_eq_of_lt (by omega)
    have h2 : (UInt32.ofNat (k >>> j)).toNat = k >>> j := Nat.mod_eq_of_lt (by omega)
    rw [UInt32.toNat_shiftRight, nx_cnt ⟨j, hj⟩, h1, h2]
  show (UInt32.ofNat k >>> (UInt32.ofNat j &&& Int32.toUInt32 31)).toInt32 = _
  rw [e2]
  rfl
theorem nx_bit {k j : Nat} (hk : k < 65536) (hj : j < 16) : (((nI k).toUInt32 >>> ((nI j).toUInt32 &&& Int32.toUInt32 31)).toInt32 &&& 1) = 0 ↔ k.testBit j = false := by
  rw [nx_ush hk (by omega)]
  show nI (k >>> j) &&& nI 1 = 0 ↔ _
  rw [nx_and, Nat.and_one_is_mod, ← nI_0, nI_eq (by omega) (by omega), Nat.testBit_eq_decide_div_mod_eq, Nat.shiftRight_eq_div_pow, decide_eq_false_iff_not]
  generalize k / 2 ^ j = z
  omega
theorem nx_mod (k : Nat) : nI k &&& 65535 = nI (k % 65536) := by
  show nI k &&& nI 65535 = _
  rw [nx_and, show (65535 : Nat) = 2 ^ 16 - 1 from rfl, Nat.and_two_pow_sub_one_eq_mod]
theorem nx_m16 {k : Nat} (h : k < 65536) : nI k &&& 65535 = nI k := by rw [nx_mod, Nat.mod_eq_of_lt h]
theorem nx_mask (x : Int32) : ∃ k, k < 65536 ∧ x &&& 65535 = nI k := by
  have e : x = nI x.toBitVec.toNat := by
    apply Int32.toBitVec_inj.1
    show x.toBitVec = BitVec.ofNat 32 x.toBitVec.toNat
    simp
  refine ⟨x.toBitVec.toNat % 65536, Nat.mod_lt _ (by omega), ?_⟩
  rw [← nx_mod, ← e]
/-! ===== Int32 as a set of bits: test, set ===== -/
def nf_M (m : Int32) : Nat := 4294967296 - m.toBitVec.toNat
theorem nf_sh : ∀ l, l < 32 → ((1 : Int32) <<< (nI l &&& 31)).toBitVec = BitVec.twoPow 32 l := by decide +kernel
theorem nf_sl : ∀ l, l < 32 → (((nI l).toUInt32 &&& Int32.toUInt32 31).toBitVec % 32).toNat = l := by decide +kernel
theorem nf_tp : ∀ l, l < 32 → BitVec.twoPow 32 l ≠ 0#32 := by decide +kernel
theorem nf_bit (m : Int32) (l : Nat) (hl : l < 32) : ((m.toUInt32 >>> ((nI l).toUInt32 &&& Int32.toUInt32 31)).toInt32 &&& 1) = 0 ↔ (m &&& ((1 : Int32) <<< (nI l &&& 31))) = 0 := by
  have e : ((m.toUInt32 >>> ((nI l).toUInt32 &&& Int32.toUInt32 31)).toInt32).toBitVec = m.toBitVec >>> l := by
    show m.toBitVec >>> (((nI l).toUInt32 &&& Int32.toUInt32 31).toBitVec % 32) = m.toBitVec >>> l
    rw [BitVec.ushiftRight_eq', nf_sl l hl]
  rw [← Int32.toBitVec_inj, ← Int32.toBitVec_inj, Int32.toBitVec_and, Int32.toBitVec_and, nf_sh l hl, e, BitVec.and_twoPow]
  show (m.toBitVec >>> l &&& 1#32) = 0#32 ↔ _ = 0#32
  rw [BitVec.and_one_eq_setWidth_ofBool_getLsbD, BitVec.getLsbD_ushiftRight, Nat.add_zero]
  cases hb : m.toBitVec.getLsbD l
  · exact ⟨fun _ => by simp, fun _ => by decide⟩
  · exact ⟨fun z => absurd z (by decide), fun z => absurd ((if_pos rfl).symm.trans z) (nf_tp l hl)⟩
theorem nf_gr (m k : Int32) (h : m &&& k = 0) (hk : k ≠ 0) : nf_M (m ||| k) < nf_M m := by
  have hm := m.toBitVec.isLt
  have hm' := (m ||| k).toBitVec.isLt
  have h1 : m.toBitVec.toNat ≤ (m ||| k).toBitVec.toNat := by
    rw [Int32.toBitVec_or, BitVec.toNat_or]
    exact Nat.left_le_or
  have h2 : m.toBitVec.toNat ≠ (m ||| k).toBitVec.toNat := by
    intro e
    have e2 : m = m ||| k := Int32.toBitVec_inj.mp (BitVec.eq_of_toNat_eq e)
    apply hk
    apply Int32.toBitVec_inj.mp
    show k.toBitVec = 0#32
    apply BitVec.eq_of_getLsbD_eq
    intro i hi
    have a : m.toBitVec.getLsbD i = (m.toBitVec.getLsbD i || k.toBitVec.getLsbD i) := by rw [← BitVec.getLsbD_or, ← Int32.toBitVec_or, ← e2]
    have b : (m.toBitVec.getLsbD i && k.toBitVec.getLsbD i) = false := by
      rw [← BitVec.getLsbD_and, ← Int32.toBitVec_and, h]
      exact BitVec.getLsbD_zero
    rw [BitVec.getLsbD_zero]
    revert a b
    cases m.toBitVec.getLsbD i <;> cases k.toBitVec.getLsbD i <;> simp
  unfold nf_M
  omega
/-! ===== a byte read unsigned ===== -/
theorem bp_b (x : Int32) : x.toInt8.toInt32 &&& 255 = x &&& 255 := by
  apply Int32.toBitVec_inj.mp
  rw [Int32.toBitVec_and, Int32.toBitVec_and, Int8.toBitVec_toInt32, Int32.toBitVec_toInt8]
  apply BitVec.eq_of_getLsbD_eq
  intro i hi
  rw [BitVec.getLsbD_and, BitVec.getLsbD_and]
  have hm : ∀ i < 32, 8 ≤ i → (255 : Int32).toBitVec.getLsbD i = false := by decide
  rcases Nat.lt_or_ge i 8 with z | z
  · rw [BitVec.getLsbD_signExtend, BitVec.getLsbD_signExtend, if_pos z, if_pos hi]
    simp only [z, hi, decide_true, Bool.true_and]
  · rw [hm i hi z]; simp
/-! ===== the char cast and 65535 ===== -/
theorem em_w (v : Int32) : ∃ w : Nat, w < 65536 ∧ (v.toUInt32 % 65536).toInt32 = nI w ∧ v &&& 65535 = nI w := by
  have hr := lw_u16_r v
  have h0 : (0 : Int32).toInt = 0 := by decide
  obtain ⟨w, h1, h2⟩ := nI_of (x := lw_u16 v) (by rw [Int32.lt_iff_toInt_lt]; omega)
  have h3 : (v.toUInt32 % 65536).toInt32 = nI w := h2
  rw [h2, nI_toInt h1] at hr
  exact ⟨w, by omega, h3, by rw [← lg_i2c_mask, ← lg_i2c_nf, h3]⟩
/-! ===== Int64 as a set of bits: test, set, clear ===== -/
theorem ts_nf {x : Bool} (h : ¬ x = false) : x = true := by cases x <;> first | rfl | exact absurd rfl h
theorem ts_nt {x : Bool} (h : ¬ x = true) : x = false := by cases x <;> first | rfl | exact absurd rfl h
theorem ts_bit {w : Int64} {s : UInt64} {j : Nat} (hj : j < 64) (hs : s.toNat = j) : ((w.toUInt64 >>> s).toInt64 &&& 1) = 0 ↔ w.toBitVec.getLsbD j = false := by
  have e : (w.toUInt64 >>> s).toInt64.toBitVec = w.toBitVec >>> j := by
    apply BitVec.eq_of_toNat_eq
    show (w.toUInt64 >>> s).toNat = _
    rw [UInt64.toNat_shiftRight, hs, Nat.mod_eq_of_lt hj, BitVec.toNat_ushiftRight]
    rfl
  rw [← Int64.toBitVec_inj, Int64.toBitVec_and, e]
  show w.toBitVec >>> j &&& 1#64 = 0#64 ↔ _
  constructor
  · intro h
    have t := congrArg (fun x => x.getLsbD 0) h
    simpa using t
  · intro h
    apply BitVec.eq_of_getLsbD_eq
    intro i hi
    cases i with
    | zero => simp [h]
    | succ i => simp
theorem ts_or {w m : Int64} {j : Nat} (hj : j < 64) (hm : m.toBitVec = BitVec.twoPow 64 j) : (w ||| m) = w ↔ w.toBitVec.getLsbD j = true := by
  rw [← Int64.toBitVec_inj, Int64.toBitVec_or, hm]
  constructor
  · intro h
    have t := congrArg (fun x => x.getLsbD j) h
    simp only [BitVec.getLsbD_or, BitVec.getLsbD_twoPow] at t
    simpa [hj] using t.symm
  · intro h
    apply BitVec.eq_of_getLsbD_eq
    intro i hi
    rw [BitVec.getLsbD_or, BitVec.getLsbD_twoPow]
    by_cases e : j = i
    · subst e; rw [h, Bool.true_or]
    · simp [e]
theorem ts_and {w m : Int64} {j : Nat} (hj : j < 64) (hm : m.toBitVec = BitVec.twoPow 64 j) : (w &&& (m ^^^ (-1))) = w ↔ w.toBitVec.getLsbD j = false := by
  have ha : (-1 : Int64).toBitVec = BitVec.allOnes 64 := by decide
  rw [← Int64.toBitVec_inj, Int64.toBitVec_and, Int64.toBitVec_xor, hm, ha]
  constructor
  · intro h
    have t := congrArg (fun x => x.getLsbD j) h
    simp only [BitVec.getLsbD_and, BitVec.getLsbD_xor, BitVec.getLsbD_twoPow, BitVec.getLsbD_allOnes] at t
    simpa [hj] using t.symm
  · intro h
    apply BitVec.eq_of_getLsbD_eq
    intro i hi
    rw [BitVec.getLsbD_and, BitVec.getLsbD_xor, BitVec.getLsbD_twoPow, BitVec.getLsbD_allOnes]
    by_cases e : j = i
    · subst e; rw [h, Bool.false_and]
    · simp [e, hi]
/-! ===== lN n to 2^64: shifts, and, or, masks, one bit ===== -/
theorem wb_tb (n : Nat) : (lN n).toBitVec = BitVec.ofNat 64 n := rfl
theorem wb_inj {a b : Int64} (h : a.toBitVec = b.toBitVec) : a = b := Int64.toBitVec_inj.mp h
theorem wb_tn {n : Nat} (h : n < 2 ^ 64) : (lN n).toBitVec.toNat = n := by rw [wb_tb, BitVec.toNat_ofNat, Nat.mod_eq_of_lt h]
theorem wb_of (x : Int64) : ∃ n, n < 2 ^ 64 ∧ x = lN n := ⟨x.toBitVec.toNat, x.toBitVec.isLt, wb_inj (by rw [wb_tb]; simp)⟩
theorem wb_of32 (x : Int32) : ∃ n, n < 2 ^ 32 ∧ x = nI n := ⟨x.toBitVec.toNat, x.toBitVec.isLt, Int32.toBitVec_inj.mp (by show _ = BitVec.ofNat 32 _; simp)⟩
theorem wb_c : ∀ k, k < 64 → ((nI k).toInt64 &&& 63) = lN k := by decide +kernel
theorem wb_cu : ∀ k, k < 64 → ((nI k).toInt64.toUInt64 &&& Int64.toUInt64 63) = UInt64.ofNat k := by decide +kernel
theorem wb_sm : ∀ k, k < 64 → (BitVec.ofNat 64 k).smod 64 = BitVec.ofNat 64 k := by decide +kernel
theorem wb_pw {a b : Nat} (h : a ≤ b) : 2 ^ b = 2 ^ a * 2 ^ (b - a) := by rw [← Nat.pow_add]; congr 1; omega
theorem wb_lt2 {a b : Nat} (h : a < b) : 2 ^ a < 2 ^ b := Nat.pow_lt_pow_right (by decide) h
theorem wb_mod (n : Nat) : lN n = lN (n % 2 ^ 64) := wb_inj (by rw [wb_tb, wb_tb]; apply BitVec.eq_of_toNat_eq; rw [BitVec.toNat_ofNat, BitVec.toNat_ofNat, Nat.mod_mod])
theorem wb_shr {n k : Nat} (hn : n < 2 ^ 64) (hk : k < 64) : ((lN n).toUInt64 >>> ((nI k).toInt64.toUInt64 &&& Int64.toUInt64 63)).toInt64 = lN (n / 2 ^ k) := by
  rw [wb_cu k hk]
  apply wb_inj
  apply BitVec.eq_of_toNat_eq
  show ((lN n).toUInt64 >>> UInt64.ofNat k).toNat = (BitVec.ofNat 64 _).toNat
  have h1 : (UInt64.ofNat k).toNat = k := by
    show (BitVec.ofNat 64 k).toNat = k
    rw [BitVec.toNat_ofNat, Nat.mod_eq_of_lt (by omega)]
  have h2 : (lN n).toUInt64.toNat = n := wb_tn hn
  rw [UInt64.toNat_shiftRight, h1, h2, Nat.mod_eq_of_lt hk, Nat.shiftRight_eq_div_pow, BitVec.toNat_ofNat, Nat.mod_eq_of_lt (Nat.lt_of_le_of_lt (Nat.div_le_self _ _) hn)]
theorem wb_shl (n : Nat) {k : Nat} (hk : k < 64) : lN n <<< ((nI k).toInt64 &&& 63) = lN (n * 2 ^ k) := by
  rw [wb_c k hk]
  apply wb_inj
  rw [Int64.toBitVec_shiftLeft, wb_tb, wb_tb, wb_tb, wb_sm k hk]
  apply BitVec.eq_of_toNat_eq
  rw [BitVec.shiftLeft_eq', BitVec.toNat_shiftLeft, BitVec.toNat_ofNat, BitVec.toNat_ofNat, BitVec.toNat_ofNat, Nat.mod_eq_of_lt (show k < 2 ^ 64 by omega), Nat.shiftLeft_eq, Nat.mul_mod, Nat.mod_mod, ← Nat.mul_mod]
theorem wb_and {a b : Nat} (ha : a < 2 ^ 64) (hb : b < 2 ^ 64) : lN a &&& lN b = lN (a &&& b) := by
  apply wb_inj
  rw [Int64.toBitVec_and, wb_tb, wb_tb, wb_tb]
  apply BitVec.eq_of_toNat_eq
  rw [BitVec.toNat_and, BitVec.toNat_ofNat, BitVec.toNat_ofNat, BitVec.toNat_ofNat, Nat.mod_eq_of_lt ha, Nat.mod_eq_of_lt hb, Nat.mod_eq_of_lt (Nat.and_lt_two_pow _ hb)]
theorem wb_or {a b : Nat} (ha : a < 2 ^ 64) (hb : b < 2 ^ 64) : lN a ||| lN b = lN (a ||| b) := by
  apply wb_inj
  rw [Int64.toBitVec_or, wb_tb, wb_tb, wb_tb]
  apply BitVec.eq_of_toNat_eq
  rw [BitVec.toNat_or, BitVec.toNat_ofNat, BitVec.toNat_ofNat, BitVec.toNat_ofNat, Nat.mod_eq_of_lt ha, Nat.mod_eq_of_lt hb, Nat.mod_eq_of_lt (Nat.or_lt_two_pow ha hb)]
theorem wb_mask {n k : Nat} (hn : n < 2 ^ 64) (hk : k < 64) : lN n &&& lN (2 ^ k - 1) = lN (n % 2 ^ k) := by
  rw [wb_and hn (by have := wb_lt2 hk; omega), Nat.and_two_pow_sub_one_eq_mod]
theorem wb_a1 {n : Nat} (hn : n < 2 ^ 64) : lN n &&& 1 = lN (n % 2) := wb_mask (k := 1) hn (by decide)
theorem wb_bit {n k : Nat} (hn : n < 2 ^ 64) (hk : k < 64) : ((lN n).toUInt64 >>> ((nI k).toInt64.toUInt64 &&& Int64.toUInt64 63)).toInt64 &&& 1 = lN (n / 2 ^ k % 2) := by
  rw [wb_shr hn hk, wb_a1 (Nat.lt_of_le_of_lt (Nat.div_le_self _ _) hn)]
theorem wb_xor {q k : Nat} (hk : k < 63) (h : 2 ^ k ≤ q) (h2 : q < 2 ^ (k + 1)) : lN q ^^^ lN (2 ^ k) = lN (q - 2 ^ k) := by
  obtain ⟨r, rfl⟩ : ∃ r, q = 2 ^ k + r := ⟨q - 2 ^ k, by omega⟩
  have hr : r < 2 ^ k := by rw [Nat.pow_succ] at h2; omega
  have hx : (2 ^ k + r) ^^^ 2 ^ k = r := by
    apply Nat.eq_of_testBit_eq
    intro i
    rw [Nat.testBit_xor, Nat.testBit_two_pow]
    rcases Nat.lt_trichotomy i k with h | h | h
    · rw [Nat.testBit_two_pow_add_gt h]
      simp [show ¬ k = i by omega]
    · subst h
      rw [Nat.testBit_two_pow_add_eq]
      simp
    · have a1 : 2 ^ (k + 1) ≤ 2 ^ i := Nat.pow_le_pow_right (by decide) h
      rw [Nat.testBit_lt_two_pow (show 2 ^ k + r < 2 ^ i by omega), Nat.testBit_lt_two_pow (show r < 2 ^ i by omega)]
      simp [show ¬ k = i by omega]
  have b1 := wb_lt2 (show k + 1 < 64 by omega)
  have b2 := wb_lt2 (show k < 64 by omega)
  apply wb_inj
  rw [Int64.toBitVec_xor, wb_tb, wb_tb, wb_tb]
  apply BitVec.eq_of_toNat_eq
  rw [BitVec.toNat_xor, BitVec.toNat_ofNat, BitVec.toNat_ofNat, BitVec.toNat_ofNat, Nat.mod_eq_of_lt (by omega : 2 ^ k + r < 2 ^ 64), Nat.mod_eq_of_lt b2, hx, Nat.add_sub_cancel_left, Nat.mod_eq_of_lt (by omega)]
/-! ===== lN: masks, 'or' of parts that don't overlap is a sum ===== -/
theorem u_tn {n : Nat} (h : n < 2 ^ 64) : (UInt64.ofNat n).toNat = n := Nat.mod_eq_of_lt h
theorem g_and {a b c : Nat} (ha : a < 2 ^ 64) (hb : b < 2 ^ 64) (hc : a &&& b = c) : lN a &&& lN b = lN c := by
  subst hc
  have h : UInt64.ofNat a &&& UInt64.ofNat b = UInt64.ofNat (a &&& b) := UInt64.toNat_inj.mp (by rw [UInt64.toNat_and, u_tn ha, u_tn hb, u_tn (Nat.and_lt_two_pow a hb)])
  have h2 := congrArg UInt64.toInt64 h
  exact h2
theorem g_and1 {a : Nat} (ha : a < 2 ^ 64) : lN a &&& 1 = lN (a % 2) := g_and (b := 1) ha (by decide) (Nat.and_two_pow_sub_one_eq_mod a 1)
theorem g_mask {a s p : Nat} (hp : 2 ^ s = p) (hs : s < 64) (ha : a < 2 ^ 64) : lN a &&& lN (p - 1) = lN (a % p) := by
  subst hp
  have := Nat.pow_lt_pow_right (show 1 < 2 by decide) hs
  exact g_and ha (by omega) (Nat.and_two_pow_sub_one_eq_mod a s)
theorem g_or {k p a b : Nat} (hp : 2 ^ k = p) (ha : a < p) (h : b * p + a < 2 ^ 64) : lN (b * p) ||| lN a = lN (b * p + a) := by
  subst hp
  have h1 : b * 2 ^ k ||| a = b * 2 ^ k + a := by rw [← Nat.shiftLeft_eq, Nat.shiftLeft_add_eq_or_of_lt ha]
  have h3 : UInt64.ofNat (b * 2 ^ k) ||| UInt64.ofNat a = UInt64.ofNat (b * 2 ^ k + a) := UInt64.toNat_inj.mp (by rw [UInt64.toNat_or, u_tn (by omega), u_tn (by omega), u_tn h, h1])
  have h2 := congrArg UInt64.toInt64 h3
  exact h2
theorem g_or' {k p a b : Nat} (hp : 2 ^ k = p) (ha : a < p) (h : a + b * p < 2 ^ 64) : lN a ||| lN (b * p) = lN (a + b * p) := by
  rw [Int64.or_comm, g_or hp ha (by omega), Nat.add_comm]
theorem g_ushr {a k p : Nat} {y : UInt64} (hy : y = UInt64.ofNat k) (hk : k < 64) (hp : 2 ^ k = p) (ha : a < 2 ^ 64) : ((lN a).toUInt64 >>> y).toInt64 = lN (a / p) := by
  subst hy hp
  have h : UInt64.ofNat a >>> UInt64.ofNat k = UInt64.ofNat (a / 2 ^ k) := UInt64.toNat_inj.mp (by rw [UInt64.toNat_shiftRight, u_tn ha, u_tn (by omega), u_tn (Nat.lt_of_le_of_lt (Nat.div_le_self _ _) ha), Nat.mod_eq_of_lt hk, Nat.shiftRight_eq_div_pow])
  have h2 := congrArg UInt64.toInt64 h
  exact h2
theorem g_shl {a k p : Nat} {y : Int64} (hy : y.toBitVec.smod 64 = BitVec.ofNat 64 k) (hk : k < 64) (hp : 2 ^ k = p) (ha : a < 2 ^ 64) : lN a <<< y = lN (a * p) := by
  subst hp
  apply Int64.toBitVec_inj.mp
  rw [Int64.toBitVec_shiftLeft, hy]
  apply BitVec.eq_of_toNat_eq
  have hb : (lN a).toBitVec.toNat = a := Nat.mod_eq_of_lt ha
  have hk' : (BitVec.ofNat 64 k).toNat = k := Nat.mod_eq_of_lt (by omega)
  have h : ((lN a).toBitVec <<< BitVec.ofNat 64 k).toNat = (a * 2 ^ k) % 2 ^ 64 := by simp only [BitVec.shiftLeft_eq', BitVec.toNat_shiftLeft, hb, hk', Nat.shiftLeft_eq]
  exact h
/-! ===== lN to 2^62 under >> and >>> ===== -/
theorem pf_lI {a : Nat} (h : a < 2 ^ 63) : (lN a).toInt = (a : Int) := lg_ofNat_toInt h
theorem pf_shr {a d : Nat} {D : Int64} (hD : (D.toBitVec.smod 64).toNat = d) (h : a < 2 ^ 62) : lN a >>> D = lN (a / 2 ^ d) := by
  have hd : a / 2 ^ d ≤ a := Nat.div_le_self _ _
  apply Int64.toInt_inj.mp
  have e : (lN a >>> D).toInt = (lN a).toInt >>> d := by
    rw [← hD]
    exact BitVec.toInt_sshiftRight ..
  rw [e, Int.shiftRight_eq_div_pow, pf_lI (by omega), pf_lI (by omega)]
  rfl
theorem pf_ushr {a d : Nat} {D : UInt64} (hD : D.toNat % 64 = d) (h : a < 2 ^ 62) : ((lN a).toUInt64 >>> D).toInt64 = lN (a / 2 ^ d) := by
  have hd : a / 2 ^ d ≤ a := Nat.div_le_self _ _
  have e : (lN a).toUInt64 >>> D = UInt64.ofNat (a / 2 ^ d) := UInt64.toNat_inj.mp (by
    rw [UInt64.toNat_shiftRight, hD, Nat.shiftRight_eq_div_pow, UInt64.toNat_ofNat']
    show (UInt64.ofNat a).toNat / 2 ^ d = _
    rw [UInt64.toNat_ofNat', Nat.mod_eq_of_lt (by omega), Nat.mod_eq_of_lt (by omega)])
  rw [e]
  rfl
theorem pf_andw (x : Int64) : ∃ m, m < 2 ^ 32 ∧ x &&& 4294967295 = lN m := ⟨x.toBitVec.toNat % 2 ^ 32, Nat.mod_lt _ (by decide), Int64.toBitVec_inj.mp (BitVec.eq_of_toNat_eq (by
  show (x.toBitVec &&& 4294967295#64).toNat = (BitVec.ofNat 64 (x.toBitVec.toNat % 2 ^ 32)).toNat
  rw [BitVec.toNat_and, show (4294967295#64).toNat = 2 ^ 32 - 1 from by decide, Nat.and_two_pow_sub_one_eq_mod, BitVec.toNat_ofNat]
  omega))⟩
/-! ===== Int64 as an unsigned number: uN x ===== -/
def uN (x : Int64) : Nat := x.toUInt64.toNat
theorem uN_lt (x : Int64) : uN x < 18446744073709551616 := x.toUInt64.toNat_lt
theorem uN_inj {x y : Int64} (h : uN x = uN y) : x = y := congrArg UInt64.toInt64 (UInt64.toNat_inj.mp h)
theorem uN_add (x y : Int64) : uN (x + y) = (uN x + uN y) % 18446744073709551616 := by
  show (x.toUInt64 + y.toUInt64).toNat = _
  exact UInt64.toNat_add _ _
theorem uN_mul (x y : Int64) : uN (x * y) = (uN x * uN y) % 18446744073709551616 := by
  show (x.toUInt64 * y.toUInt64).toNat = _
  exact UInt64.toNat_mul _ _
theorem uN_shl (x : Int64) : uN (x <<< ((1 : Int32).toInt64 &&& 63)) = (2 * uN x) % 18446744073709551616 := by
  have h : (((1 : Int32).toInt64 &&& 63).toBitVec.smod 64).toNat = 1 := by decide
  show (x.toBitVec <<< (((1 : Int32).toInt64 &&& 63).toBitVec.smod 64).toNat).toNat = _
  rw [h, BitVec.toNat_shiftLeft, Nat.shiftLeft_eq, Nat.mul_comm]
  rfl
theorem uN_shr (x : Int64) (s : UInt64) : uN (x.toUInt64 >>> s).toInt64 = uN x / 2 ^ (s.toNat % 64) := by
  show (x.toUInt64 >>> s).toNat = _
  rw [UInt64.toNat_shiftRight, Nat.shiftRight_eq_div_pow]
  rfl
theorem uN_s32 (x : Int64) : uN (x.toUInt64 >>> ((32 : Int32).toInt64.toUInt64 &&& Int64.toUInt64 63)).toInt64 = uN x / 4294967296 := by
  have h : ((32 : Int32).toInt64.toUInt64 &&& Int64.toUInt64 63).toNat % 64 = 32 := by decide
  rw [uN_shr, h]
theorem uN_s63 (x : Int64) : uN (x.toUInt64 >>> ((63 : Int32).toInt64.toUInt64 &&& Int64.toUInt64 63)).toInt64 = uN x / 9223372036854775808 := by
  have h : ((63 : Int32).toInt64.toUInt64 &&& Int64.toUInt64 63).toNat % 64 = 63 := by decide
  rw [uN_shr, h]
theorem uN_lo (x : Int64) : uN (x &&& 4294967295) = uN x % 4294967296 := by
  show (x.toUInt64 &&& Int64.toUInt64 4294967295).toNat = _
  rw [UInt64.toNat_and]
  exact Nat.and_two_pow_sub_one_eq_mod _ 32
theorem uN_bit (x : Int64) : (x &&& 1) = 0 ↔ uN x % 2 = 0 := by
  have h : uN (x &&& 1) = uN x % 2 := by
    show (x.toUInt64 &&& Int64.toUInt64 1).toNat = _
    rw [UInt64.toNat_and]
    exact Nat.and_two_pow_sub_one_eq_mod _ 1
  rw [← h]
  exact ⟨fun z => by rw [z]; rfl, fun z => uN_inj (z.trans rfl)⟩
theorem uN_or {x y : Int64} (hy : uN y < 2) : uN ((x <<< ((1 : Int32).toInt64 &&& 63)) ||| y) = (2 * uN x) % 18446744073709551616 + uN y := by
  have h1 : uN ((x <<< ((1 : Int32).toInt64 &&& 63)) ||| y) = uN (x <<< ((1 : Int32).toInt64 &&& 63)) ||| uN y := UInt64.toNat_or _ _
  have h2 : (2 * uN x) % 18446744073709551616 = 2 ^ 1 * (uN x % 9223372036854775808) := by omega
  rw [h1, uN_shl, h2]
  exact (Nat.two_pow_add_eq_or_of_lt (i := 1) hy _).symm
theorem nat_xor {a : Nat} (h : a < 18446744073709551616) : a ^^^ 2 ^ 63 = (a + 9223372036854775808) % 18446744073709551616 := by
  have h1 : (a ^^^ 2 ^ 63) % 2 ^ 63 = a % 2 ^ 63 := by rw [Nat.xor_mod_two_pow, Nat.mod_self, Nat.xor_zero]
  have h2 : (a ^^^ 2 ^ 63) / 2 ^ 63 = (a / 2 ^ 63) ^^^ 1 := by rw [Nat.xor_div_two_pow, Nat.div_self (Nat.two_pow_pos 63)]
  have h3 : a / 2 ^ 63 = 0 ∨ a / 2 ^ 63 = 1 := by omega
  generalize a ^^^ 2 ^ 63 = t at h1 h2
  rcases h3 with h3 | h3
  · rw [h3] at h2
    have h2 : t / 2 ^ 63 = 1 := h2
    omega
  · rw [h3] at h2
    have h2 : t / 2 ^ 63 = 0 := h2
    omega
theorem uN_xor (x : Int64) : uN (x ^^^ (-9223372036854775808)) = (uN x + 9223372036854775808) % 18446744073709551616 := by
  rw [← nat_xor (uN_lt x)]
  exact UInt64.toNat_xor _ _
theorem uN_int (x : Int64) : x.toInt = if 2 * uN x < 18446744073709551616 then (uN x : Int) else (uN x : Int) - 18446744073709551616 := BitVec.toInt_eq_toNat_cond _
theorem uN_le (x y : Int64) : (x ^^^ (-9223372036854775808)) ≤ (y ^^^ (-9223372036854775808)) ↔ uN x ≤ uN y := by
  have hx := uN_lt x
  have hy := uN_lt y
  rw [Int64.le_iff_toInt_le, uN_int, uN_int, uN_xor, uN_xor]
  omega
theorem uN_sk (x : Int64) {k : Nat} (hk : k < 64) : uN (x.toUInt64 >>> ((nI k).toInt64.toUInt64 &&& Int64.toUInt64 63)).toInt64 = uN x / 2 ^ k := by
  have h : ((nI k).toInt64.toUInt64 &&& Int64.toUInt64 63).toNat % 64 = k := by
    rw [nI_l (by omega), UInt64.toNat_and]
    have e : (lN k).toUInt64.toNat = k % 2 ^ 64 := rfl
    have e2 : (Int64.toUInt64 63).toNat = 2 ^ 6 - 1 := by decide
    rw [e, e2, Nat.and_two_pow_sub_one_eq_mod]
    omega
  rw [uN_shr, h]
/-! ===== unsigned comparison by xor with the least ===== -/
theorem lN_bv (n : Nat) : (lN n).toBitVec = BitVec.ofNat 64 n := rfl
theorem lN_nat {n : Nat} (h : n < 2 ^ 64) : (lN n).toBitVec.toNat = n := by rw [lN_bv, BitVec.toNat_ofNat]; exact Nat.mod_eq_of_lt h
theorem lN_xor (a b : Nat) : lN a ^^^ lN b = lN (a ^^^ b) := by
  apply Int64.toBitVec_inj.mp; rw [Int64.toBitVec_xor, lN_bv, lN_bv, lN_bv]; apply BitVec.eq_of_getLsbD_eq; intro i hi; simp [BitVec.getLsbD_ofNat, Nat.testBit_xor, hi]
theorem lN_ti {m : Nat} (h : m < 2 ^ 64) : (lN m).toInt = if m < 2 ^ 63 then (m : Int) else (m : Int) - 2 ^ 64 := by
  have c := BitVec.toInt_eq_toNat_cond (lN m).toBitVec
  rw [lN_nat h] at c
  show (lN m).toBitVec.toInt = _
  rw [c]
  split <;> split <;> omega
theorem xor63 {x : Nat} (h : x < 2 ^ 63) : x ^^^ 2 ^ 63 = 2 ^ 63 + x := by
  apply Nat.eq_of_testBit_eq
  intro i
  rw [Nat.testBit_xor, Nat.testBit_two_pow]
  rcases Nat.lt_trichotomy i 63 with z | z | z
  · rw [Nat.testBit_two_pow_add_gt z, decide_eq_false (by omega)]; simp
  · subst z; rw [Nat.testBit_two_pow_add_eq]; simp
  · have hp : 2 ^ 64 ≤ 2 ^ i := Nat.pow_le_pow_right (by decide) z
    rw [Nat.testBit_lt_two_pow (show x < 2 ^ i by omega), Nat.testBit_lt_two_pow (show 2 ^ 63 + x < 2 ^ i by omega), decide_eq_false (by omega)]; rfl
theorem xorS {a : Nat} (h : a < 2 ^ 64) : (lN a ^^^ (-9223372036854775808)).toInt = (a : Int) - 2 ^ 63 := by
  rw [show (-9223372036854775808 : Int64) = lN (2 ^ 63) from by decide +kernel, lN_xor]
  rcases Nat.lt_or_ge a (2 ^ 63) with z | z
  · rw [xor63 z, lN_ti (by omega), if_neg (by omega)]; omega
  · obtain ⟨x, rfl⟩ : ∃ x, a = 2 ^ 63 + x := ⟨a - 2 ^ 63, by omega⟩
    rw [← xor63 (by omega), Nat.xor_assoc, Nat.xor_self, Nat.xor_zero, lN_ti (by omega), if_pos (by omega), xor63 (by omega)]; omega
theorem ultL {a b : Nat} (ha : a < 2 ^ 64) (hb : b < 2 ^ 64) : ((lN b ^^^ (-9223372036854775808)) ≤ (lN a ^^^ (-9223372036854775808))) ↔ b ≤ a := by
  rw [Int64.le_iff_toInt_le, xorS ha, xorS hb]; omega
/-! ===== Int64 masks of n low bits ===== -/
theorem cr_bits (W U M : BitVec 64) : ((W &&& U) &&& (U &&& (M ^^^ BitVec.allOnes 64))) = 0#64 ↔ (W &&& U) &&& M = W &&& U := by
  constructor
  · intro h
    apply BitVec.eq_of_getLsbD_eq
    intro i hi
    have e := congrArg (fun x => BitVec.getLsbD x i) h
    simp only [BitVec.getLsbD_and, BitVec.getLsbD_xor, BitVec.getLsbD_allOnes, BitVec.getLsbD_zero, hi, decide_true] at e ⊢
    revert e
    cases W.getLsbD i <;> cases U.getLsbD i <;> cases M.getLsbD i <;> decide
  · intro h
    apply BitVec.eq_of_getLsbD_eq
    intro i hi
    have e := congrArg (fun x => BitVec.getLsbD x i) h
    simp only [BitVec.getLsbD_and, BitVec.getLsbD_xor, BitVec.getLsbD_allOnes, BitVec.getLsbD_zero, hi, decide_true] at e ⊢
    revert e
    cases W.getLsbD i <;> cases U.getLsbD i <;> cases M.getLsbD i <;> decide
theorem cr_mask (w U m : Int64) (n : Nat) (hm : m.toBitVec.toNat = 2 ^ n - 1) : ((w &&& U) &&& (U &&& (m ^^^ (-1)))) = 0 ↔ (w &&& U).toBitVec.toNat < 2 ^ n := by
  have e0 : (-1 : Int64).toBitVec = BitVec.allOnes 64 := by decide
  have z0 : (0 : Int64).toBitVec = 0#64 := by decide
  rw [← Int64.toBitVec_inj, z0, Int64.toBitVec_and, Int64.toBitVec_and, Int64.toBitVec_and, Int64.toBitVec_xor, e0, cr_bits]
  generalize w.toBitVec &&& U.toBitVec = T
  rw [← BitVec.toNat_inj, BitVec.toNat_and, hm, Nat.and_two_pow_sub_one_eq_mod]
  constructor
  · intro h
    have t := Nat.mod_lt T.toNat (Nat.two_pow_pos n)
    rw [h] at t
    exact t
  · exact Nat.mod_eq_of_lt
theorem cr_shr (t : Int64) (x : UInt64) (n : Nat) (hx : x.toNat % 64 = n) : (t.toUInt64 >>> x).toInt64 = 0 ↔ t.toBitVec.toNat < 2 ^ n := by
  rw [← Int64.toBitVec_inj, ← BitVec.toNat_inj]
  show (t.toUInt64 >>> x).toNat = 0 ↔ t.toUInt64.toNat < 2 ^ n
  rw [UInt64.toNat_shiftRight, hx, Nat.shiftRight_eq_div_pow]
  constructor
  · intro h
    have d : t.toUInt64.toNat / 2 ^ n < 1 := by
      rw [h]
      decide
    have e := (Nat.div_lt_iff_lt_mul (Nat.two_pow_pos n)).mp d
    rw [Nat.one_mul] at e
    exact e
  · exact Nat.div_eq_of_lt
theorem cr_amt (s : Int64) : ∃ n, n < 64 ∧ s &&& 63 = lN n ∧ (s.toUInt64 &&& Int64.toUInt64 63).toNat % 64 = n := by
  have e : (s.toUInt64 &&& Int64.toUInt64 63).toNat = s.toUInt64.toNat % 2 ^ 6 := by
    rw [UInt64.toNat_and, show (Int64.toUInt64 63).toNat = 2 ^ 6 - 1 from by decide, Nat.and_two_pow_sub_one_eq_mod]
  refine ⟨s.toUInt64.toNat % 2 ^ 6, by omega, ?_, by omega⟩
  rw [← Int64.toBitVec_inj, ← BitVec.toNat_inj]
  show (s.toUInt64 &&& Int64.toUInt64 63).toNat = (BitVec.ofNat 64 (s.toUInt64.toNat % 2 ^ 6)).toNat
  rw [e, BitVec.toNat_ofNat]
  omega
end
section
/-! ===== planes: bit k of a long, nibbles of four planes ===== -/
def zb (w : Int64) (k : Nat) : Bool := w.toBitVec.getLsbD k
theorem zb_ext {x y : Int64} (h : ∀ k, k < 64 → zb x k = zb y k) : x = y := Int64.toBitVec_inj.mp (BitVec.eq_of_getLsbD_eq (fun i hi => h i hi))
theorem zb_or (x y : Int64) (k : Nat) : zb (x ||| y) k = (zb x k || zb y k) := by unfold zb; rw [Int64.toBitVec_or, BitVec.getLsbD_or]
theorem zb_and (x y : Int64) (k : Nat) : zb (x &&& y) k = (zb x k && zb y k) := by unfold zb; rw [Int64.toBitVec_and, BitVec.getLsbD_and]
theorem zb_xor (x y : Int64) (k : Nat) : zb (x ^^^ y) k = (zb x k ^^ zb y k) := by unfold zb; rw [Int64.toBitVec_xor, BitVec.getLsbD_xor]
theorem zb_0 (k : Nat) : zb 0 k = false := BitVec.getLsbD_zero
theorem zb_m1 : ∀ k, k < 64 → zb (-1) k = true := by decide +kernel
theorem zb_not (x : Int64) {k : Nat} (hk : k < 64) : zb (x ^^^ (-1)) k = !zb x k := by rw [zb_xor, zb_m1 k hk, Bool.xor_true]
theorem zb_eq0 (x : Int64) : x = 0 ↔ ∀ k, k < 64 → zb x k = false :=
  ⟨fun h k _ => by rw [h, zb_0], fun h => zb_ext (fun k hk => by rw [h k hk, zb_0])⟩
theorem zb_eqm1 (x : Int64) : x = (-1) ↔ ∀ k, k < 64 → zb x k = true :=
  ⟨fun h k hk => by rw [h, zb_m1 k hk], fun h => zb_ext (fun k hk => by rw [h k hk, zb_m1 k hk])⟩
theorem zb_ne0 {x : Int64} (h : ¬ x = 0) : ∃ k, k < 64 ∧ zb x k = true := by
  apply Classical.byContradiction
  intro hn
  apply h
  rw [zb_eq0]
  intro k hk
  cases hb : zb x k with
  | false => rfl
  | true => exact absurd ⟨k, hk, hb⟩ hn
theorem zb_nem1 {x : Int64} (h : ¬ x = (-1)) : ∃ k, k < 64 ∧ zb x k = false := by
  apply Classical.byContradiction
  intro hn
  apply h
  rw [zb_eqm1]
  intro k hk
  cases hb : zb x k with
  | true => rfl
  | false => exact absurd ⟨k, hk, hb⟩ hn
def zn (a b c d : Bool) : Nat := a.toNat + 2 * b.toNat + 4 * c.toNat + 8 * d.toNat
def z4 (f : Nat → Int64) (i k : Nat) : Nat := zn (zb (f i) k) (zb (f (i + 1)) k) (zb (f (i + 2)) k) (zb (f (i + 3)) k)
def zs (a b c d e g : Bool) : Nat := a.toNat + 2 * b.toNat + 4 * c.toNat + 8 * d.toNat + 16 * e.toNat + 32 * g.toNat
def z6 (f : Nat → Int64) (k : Nat) : Nat := zs (zb (f 0) k) (zb (f 1) k) (zb (f 2) k) (zb (f 3) k) (zb (f 4) k) (zb (f 5) k)
def zq (a b c d e : Bool) : Nat := a.toNat + 2 * b.toNat + 4 * c.toNat + 8 * d.toNat + 16 * e.toNat
def z5 (f : Nat → Int64) (k : Nat) : Nat := zq (zb (f 0) k) (zb (f 1) k) (zb (f 2) k) (zb (f 3) k) (zb (f 4) k)
theorem zn_lt (a b c d : Bool) : zn a b c d < 16 := by revert a b c d; decide +kernel
theorem z4_lt (f : Nat → Int64) (i k : Nat) : z4 f i k < 16 := zn_lt _ _ _ _
theorem zs_lt (a b c d e g : Bool) : zs a b c d e g < 64 := by revert a b c d e g; decide +kernel
theorem z6_lt (f : Nat → Int64) (k : Nat) : z6 f k < 64 := zs_lt _ _ _ _ _ _
theorem zn_bits : ∀ n, n < 16 → zn (n.testBit 0) (n.testBit 1) (n.testBit 2) (n.testBit 3) = n := by decide +kernel
theorem zn_tb : ∀ a b c d : Bool, (zn a b c d).testBit 0 = a ∧ (zn a b c d).testBit 1 = b ∧ (zn a b c d).testBit 2 = c ∧ (zn a b c d).testBit 3 = d := by decide +kernel
theorem zn_ne0 : ∀ a b c d : Bool, (((a || b) || c) || d) = decide (zn a b c d ≠ 0) := by decide +kernel
theorem zn_inj : ∀ a b c d a' b' c' d' : Bool, zn a b c d = zn a' b' c' d' ↔ (a = a' ∧ b = b' ∧ c = c' ∧ d = d') := by decide +kernel
theorem z4_tb {f : Nat → Int64} {i k j : Nat} (hj : j < 4) : (z4 f i k).testBit j = zb (f (i + j)) k := by
  have h := zn_tb (zb (f i) k) (zb (f (i + 1)) k) (zb (f (i + 2)) k) (zb (f (i + 3)) k)
  match j, hj with
  | 0, _ => exact h.1
  | 1, _ => exact h.2.1
  | 2, _ => exact h.2.2.1
  | 3, _ => exact h.2.2.2
theorem z4_eq {f g : Nat → Int64} {i i' k k' : Nat} (h : ∀ j, j < 4 → zb (f (i + j)) k = zb (g (i' + j)) k') : z4 f i k = z4 g i' k' := by
  unfold z4
  rw [show zb (f i) k = zb (g i') k' from h 0 (by decide), h 1 (by decide), h 2 (by decide), h 3 (by decide)]
theorem z4_of {f : Nat → Int64} {i k v : Nat} (hv : v < 16) (h : ∀ j, j < 4 → zb (f (i + j)) k = v.testBit j) : z4 f i k = v := by
  unfold z4
  rw [show zb (f i) k = v.testBit 0 from h 0 (by decide), h 1 (by decide), h 2 (by decide), h 3 (by decide), zn_bits v hv]
/-! the adders -/
def fa_s (x y c : Bool) : Bool := (x ^^ y) ^^ c
def fa_c (x y c : Bool) : Bool := (x && y) || ((x ^^ y) && c)
def fa_b (x y c : Bool) : Bool := ((!x) && y) || ((!(x ^^ y)) && c)
def wa_s (x y c : Int64) : Int64 := (x ^^^ y) ^^^ c
def wa_c (x y c : Int64) : Int64 := (x &&& y) ||| ((x ^^^ y) &&& c)
def wa_b (x y c : Int64) : Int64 := ((x ^^^ (-1)) &&& y) ||| (((x ^^^ y) ^^^ (-1)) &&& c)
theorem zb_s (x y c : Int64) (k : Nat) : zb (wa_s x y c) k = fa_s (zb x k) (zb y k) (zb c k) := by unfold wa_s fa_s; rw [zb_xor, zb_xor]
theorem zb_c (x y c : Int64) (k : Nat) : zb (wa_c x y c) k = fa_c (zb x k) (zb y k) (zb c k) := by unfold wa_c fa_c; rw [zb_or, zb_and, zb_and, zb_xor]
theorem zb_b (x y c : Int64) {k : Nat} (hk : k < 64) : zb (wa_b x y c) k = fa_b (zb x k) (zb y k) (zb c k) := by unfold wa_b fa_b; rw [zb_or, zb_and, zb_and, zb_not _ hk, zb_not _ hk, zb_xor]
theorem tb_add : ∀ a b c d p q r s : Bool, zn (fa_s a p false) (fa_s b q (fa_c a p false)) (fa_s c r (fa_c b q (fa_c a p false))) (fa_s d s (fa_c c r (fa_c b q (fa_c a p false)))) = (zn a b c d + zn p q r s) % 16 := by decide +kernel
theorem tb_sub : ∀ a b c d p q r s : Bool, zn (fa_s a p false) (fa_s b q (fa_b a p false)) (fa_s c r (fa_b b q (fa_b a p false))) (fa_s d s (fa_b c r (fa_b b q (fa_b a p false)))) = (zn a b c d + 16 - zn p q r s) % 16 := by decide +kernel
theorem tb_less : ∀ a b c d p q r s : Bool, fa_b d s (fa_b c r (fa_b b q (fa_b a p false))) = decide (zn a b c d < zn p q r s) := by decide +kernel
theorem tb_5s : ∀ a b c d e p q r s : Bool, zq (fa_s a p false) (fa_s b q (fa_b a p false)) (fa_s c r (fa_b b q (fa_b a p false))) (fa_s d s (fa_b c r (fa_b b q (fa_b a p false)))) (fa_s e false (fa_b d s (fa_b c r (fa_b b q (fa_b a p false))))) = (zq a b c d e + 32 - zn p q r s) % 32 := by decide +kernel
theorem tb_5b : ∀ a b c d e p q r s : Bool, fa_b e false (fa_b d s (fa_b c r (fa_b b q (fa_b a p false)))) = decide (zq a b c d e < zn p q r s) := by decide +kernel
/-! counting a step: six planes -/
theorem tb_inc : ∀ a b c d e g : Bool, zs a b c d e g < 63 → zs (a ^^ true) (b ^^ (a && true)) (c ^^ (b && (a && true))) (d ^^ (c && (b && (a && true)))) (e ^^ (d && (c && (b && (a && true))))) (g ^^ (e && (d && (c && (b && (a && true)))))) = zs a b c d e g + 1 := by decide +kernel
theorem tb_inc0 : ∀ a b c d e g : Bool, zs (a ^^ false) (b ^^ (a && false)) (c ^^ (b && (a && false))) (d ^^ (c && (b && (a && false)))) (e ^^ (d && (c && (b && (a && false))))) (g ^^ (e && (d && (c && (b && (a && false)))))) = zs a b c d e g := by decide +kernel
end
section
/-! ===== small facts on nI against literals ===== -/
theorem hi4 {i : Nat} (h : i < 4) : ¬ (4 : Int32) ≤ nI i := nI_ge (a := i) (b := 4) h (by decide)
theorem hi5 {i : Nat} (h : i < 5) : ¬ (5 : Int32) ≤ nI i := nI_ge (a := i) (b := 5) h (by decide)
theorem hi6 {i : Nat} (h : i < 6) : ¬ (6 : Int32) ≤ nI i := nI_ge (a := i) (b := 6) h (by decide)
theorem hi12 {i : Nat} (h : i < 12) : ¬ (12 : Int32) ≤ nI i := nI_ge (a := i) (b := 12) h (by decide)
theorem hi16 {i : Nat} (h : i < 16) : ¬ (16 : Int32) ≤ nI i := nI_ge (a := i) (b := 16) h (by decide)
theorem hi64 {i : Nat} (h : i < 64) : ¬ (64 : Int32) ≤ nI i := nI_ge (a := i) (b := 64) h (by decide)
theorem ni4 {i j : Nat} : nI i * 4 + nI j = nI (i * 4 + j) := by
  show nI i * nI 4 + nI j = _
  rw [pk_mul, nI_add]
/-- bit j of a small number, as Java asks for it -/
theorem sh_tb {b j : Nat} (hb : b < 2 ^ 31) (hj : j < 31) : ((nI b >>> (nI j &&& 31)) &&& 1) = 0 ↔ b.testBit j = false := by
  rw [pk_shrN hb (nI j &&& 31) j (s_l j (by omega))]
  have h1 : b / 2 ^ j < 2 ^ 31 := Nat.lt_of_le_of_lt (Nat.div_le_self _ _) hb
  rw [pk_andN (by omega) (m := 1) 1 (by decide), show (0 : Int32) = nI 0 from rfl, nI_eq (by omega) (by decide)]
  rw [Nat.testBit_eq_decide_div_mod_eq, decide_eq_false_iff_not]
  have h2 : b / 2 ^ j % 2 ^ 1 = b / 2 ^ j % 2 := rfl
  rw [h2]
  omega
theorem sh_bt {x : Int32} {j : Nat} (hj : j < 31) : ((x >>> (nI j &&& 31)) &&& 1) = if bt x j = true then 1 else 0 := by
  apply b_ext
  intro i hi
  rw [b_and, b_sshr j (by omega) x hi]
  have h1 : bt 1 i = decide (i = 0) := (by decide +kernel : ∀ i, i < 32 → bt 1 i = decide (i = 0)) i hi
  rw [h1]
  by_cases h0 : i = 0
  · subst h0
    rw [if_pos (by omega)]
    cases bt x (j + 0) with
    | true => rfl
    | false => rfl
  · rw [decide_eq_false h0, Bool.and_false]
    cases bt x j with
    | true => rw [if_pos rfl, h1, decide_eq_false h0]
    | false => rw [if_neg (by decide), b_0]
end
section
/-! ===== X's arithmetic on planes ===== -/
section
variable {fL fS fJ fK : Int32} {op aa ab : Nat → Int32} {rg sp ep ft vi wt xx yy zz rs ls kf kv : Nat → Int64}
theorem z4_u (f : Nat → Int64) (a b c d : Int64) (k : Nat) : z4 (vp_updL (vp_updL (vp_updL (vp_updL f 0 a) 1 b) 2 c) 3 d) 0 k = zn (zb a k) (zb b k) (zb c k) (zb d k) := rfl
theorem xa_add_s {post : SX → Prop} {n : Nat} {c : Int64} (i : Nat) (hi : i < 4) (h : wX_add_4 post fL fS fJ fK n (wa_c (xx i) (yy i) c) (nI (i + 1)) op aa ab rg sp ep ft vi wt xx yy (vp_updL zz i (wa_s (xx i) (yy i) c)) rs ls kf kv) : wX_add_4 post fL fS fJ fK (n + 1) c (nI i) op aa ab rg sp ep ft vi wt xx yy zz rs ls kf kv := by
  refine br_f (hi4 hi) ?_
  rw [nI_clamp (n := i) (by omega)]
  have hv : vp_in (nI i) 4 := vp_in_nI hi (by decide)
  exact ⟨hv, hv, nm_e ⟨hv, nm_e ⟨hv, hv, nm_e (nm_r (nI_1 i) h)⟩⟩⟩
theorem xa_add {post : SX → Prop} (H : ∀ z', (∀ k, k < 64 → z4 z' 0 k = (z4 xx 0 k + z4 yy 0 k) % 16) → post (fL, fS, fJ, fK, op, aa, ab, rg, sp, ep, ft, vi, wt, xx, yy, z', rs, ls, kf, kv)) : wpX_add post (fL, fS, fJ, fK, op, aa, ab, rg, sp, ep, ft, vi, wt, xx, yy, zz, rs, ls, kf, kv) := by
  refine Exists.intro 5 (xa_add_s 0 (by decide) (xa_add_s 1 (by decide) (xa_add_s 2 (by decide) (xa_add_s 3 (by decide) (br_t (by decide) (H _ ?_))))))
  intro k hk
  rw [z4_u]
  simp only [zb_s, zb_c, zb_0]
  exact tb_add _ _ _ _ _ _ _ _
theorem xa_sub_s {post : Int64 → SX → Prop} {n : Nat} {c : Int64} (i : Nat) (hi : i < 4) (h : wX_subtract_4 post fL fS fJ fK n (wa_b (xx i) (yy i) c) (nI (i + 1)) op aa ab rg sp ep ft vi wt xx yy (vp_updL zz i (wa_s (xx i) (yy i) c)) rs ls kf kv) : wX_subtract_4 post fL fS fJ fK (n + 1) c (nI i) op aa ab rg sp ep ft vi wt xx yy zz rs ls kf kv := by
  refine br_f (hi4 hi) ?_
  rw [nI_clamp (n := i) (by omega)]
  have hv : vp_in (nI i) 4 := vp_in_nI hi (by decide)
  exact ⟨hv, hv, nm_e ⟨hv, nm_e ⟨hv, hv, nm_e (nm_r (nI_1 i) h)⟩⟩⟩
theorem xa_sub {post : Int64 → SX → Prop} (H : ∀ b z', (∀ k, k < 64 → zb b k = decide (z4 xx 0 k < z4 yy 0 k)) → (∀ k, k < 64 → z4 z' 0 k = (z4 xx 0 k + 16 - z4 yy 0 k) % 16) → post b (fL, fS, fJ, fK, op, aa, ab, rg, sp, ep, ft, vi, wt, xx, yy, z', rs, ls, kf, kv)) : wpX_subtract post (fL, fS, fJ, fK, op, aa, ab, rg, sp, ep, ft, vi, wt, xx, yy, zz, rs, ls, kf, kv) := by
  refine Exists.intro 5 (xa_sub_s 0 (by decide) (xa_sub_s 1 (by decide) (xa_sub_s 2 (by decide) (xa_sub_s 3 (by decide) (br_t (by decide) (H _ _ ?_ ?_))))))
  · intro k hk
    simp only [zb_b _ _ _ hk, zb_0]
    exact tb_less _ _ _ _ _ _ _ _
  · intro k hk
    rw [z4_u]
    simp only [zb_s, zb_b _ _ _ hk, zb_0]
    exact tb_sub _ _ _ _ _ _ _ _
/-! multiply -/
theorem tb_m0 : ∀ a b c d x y z w q : Bool, zn (fa_s a (x && q) false) (fa_s b (y && q) (fa_c a (x && q) false)) (fa_s c (z && q) (fa_c b (y && q) (fa_c a (x && q) false))) (fa_s d (w && q) (fa_c c (z && q) (fa_c b (y && q) (fa_c a (x && q) false)))) = (zn a b c d + 1 * (q.toNat * zn x y z w)) % 16 := by decide +kernel
theorem tb_m1 : ∀ a b c d x y z w q : Bool, zn a (fa_s b (x && q) false) (fa_s c (y && q) (fa_c b (x && q) false)) (fa_s d (z && q) (fa_c c (y && q) (fa_c b (x && q) false))) = (zn a b c d + 2 * (q.toNat * zn x y z w)) % 16 := by decide +kernel
theorem tb_m2 : ∀ a b c d x y z w q : Bool, zn a b (fa_s c (x && q) false) (fa_s d (y && q) (fa_c c (x && q) false)) = (zn a b c d + 4 * (q.toNat * zn x y z w)) % 16 := by decide +kernel
theorem tb_m3 : ∀ a b c d x y z w q : Bool, zn a b c (fa_s d (x && q) false) = (zn a b c d + 8 * (q.toNat * zn x y z w)) % 16 := by decide +kernel
theorem tb_mul : ∀ x y z w p q r s : Bool, ((((0 + 1 * (p.toNat * zn x y z w)) % 16 + 2 * (q.toNat * zn x y z w)) % 16 + 4 * (r.toNat * zn x y z w)) % 16 + 8 * (s.toNat * zn x y z w)) % 16 = zn x y z w * zn p q r s % 16 := by decide +kernel
theorem xm_s {post : SX → Prop} {J : Int32 → (Nat → Int32) → (Nat → Int32) → (Nat → Int32) → (Nat → Int64) → (Nat → Int64) → (Nat → Int64) → (Nat → Int64) → (Nat → Int64) → (Nat → Int64) → (Nat → Int64) → (Nat → Int64) → (Nat → Int64) → (Nat → Int64) → (Nat → Int64) → (Nat → Int64) → (Nat → Int64) → Prop} {n : Nat} {c : Int64} (i j l : Nat) (hj : j < 4) (hl : l + i = j) (h : wX_multiply_32 post J (nI i) fL fS fJ fK n (wa_c (zz j) (xx l &&& yy i) c) (nI (j + 1)) op aa ab rg sp ep ft vi wt xx yy (vp_updL zz j (wa_s (zz j) (xx l &&& yy i) c)) rs ls kf kv) : wX_multiply_32 post J (nI i) fL fS fJ fK (n + 1) c (nI j) op aa ab rg sp ep ft vi wt xx yy zz rs ls kf kv := by
  refine br_f (hi4 hj) ?_
  have e : nI j - nI i = nI l := by rw [pk_sub (by omega)]; congr 1; omega
  rw [e, nI_clamp (n := i) (by omega), nI_clamp (n := j) (by omega), nI_clamp (n := l) (by omega)]
  have hv : vp_in (nI i) 4 := vp_in_nI (by omega) (by decide)
  have hw : vp_in (nI j) 4 := vp_in_nI (by omega) (by decide)
  have hu : vp_in (nI l) 4 := vp_in_nI (by omega) (by decide)
  exact ⟨hu, hv, nm_e ⟨hw, nm_e ⟨hw, nm_e ⟨hw, nm_e (nm_r (nI_1 j) h)⟩⟩⟩⟩
theorem xm_z {post : SX → Prop} {n : Nat} (i : Nat) (hi : i < 4) (h : wX_multiply_2 post fL fS fJ fK n (nI (i + 1)) op aa ab rg sp ep ft vi wt xx yy (vp_updL zz i 0) rs ls kf kv) : wX_multiply_2 post fL fS fJ fK (n + 1) (nI i) op aa ab rg sp ep ft vi wt xx yy zz rs ls kf kv := by
  refine br_f (hi4 hi) ?_
  rw [nI_clamp (n := i) (by omega)]
  exact ⟨vp_in_nI hi (by decide), nm_e (nm_r (nI_1 i) h)⟩
theorem xm_p0 {post : SX → Prop} {n : Nat} (H : ∀ z', (∀ k, k < 64 → z4 z' 0 k = (z4 zz 0 k + 1 * ((zb (yy 0) k).toNat * z4 xx 0 k)) % 16) → wX_multiply_22 post fL fS fJ fK n (nI 1) op aa ab rg sp ep ft vi wt xx yy z' rs ls kf kv) : wX_multiply_22 post fL fS fJ fK (n + 1) (nI 0) op aa ab rg sp ep ft vi wt xx yy zz rs ls kf kv := by
  refine br_f (hi4 (by decide)) (Exists.intro 5 (xm_s 0 0 0 (by decide) rfl (xm_s 0 1 1 (by decide) rfl (xm_s 0 2 2 (by decide) rfl (xm_s 0 3 3 (by decide) rfl (br_t (by decide) (nm_r (nI_1 0) (H _ ?_))))))))
  intro k hk
  rw [z4_u]
  simp only [zb_s, zb_c, zb_0, zb_and]
  exact tb_m0 _ _ _ _ _ _ _ _ _
theorem xm_p1 {post : SX → Prop} {n : Nat} (H : ∀ z', (∀ k, k < 64 → z4 z' 0 k = (z4 zz 0 k + 2 * ((zb (yy 1) k).toNat * z4 xx 0 k)) % 16) → wX_multiply_22 post fL fS fJ fK n (nI 2) op aa ab rg sp ep ft vi wt xx yy z' rs ls kf kv) : wX_multiply_22 post fL fS fJ fK (n + 1) (nI 1) op aa ab rg sp ep ft vi wt xx yy zz rs ls kf kv := by
  refine br_f (hi4 (by decide)) (Exists.intro 4 (xm_s 1 1 0 (by decide) rfl (xm_s 1 2 1 (by decide) rfl (xm_s 1 3 2 (by decide) rfl (br_t (by decide) (nm_r (nI_1 1) (H _ ?_)))))))
  intro k hk
  show zn (zb (zz 0) k) (zb (wa_s (zz 1) (xx 0 &&& yy 1) 0) k) (zb (wa_s (zz 2) (xx 1 &&& yy 1) (wa_c (zz 1) (xx 0 &&& yy 1) 0)) k) (zb (wa_s (zz 3) (xx 2 &&& yy 1) (wa_c (zz 2) (xx 1 &&& yy 1) (wa_c (zz 1) (xx 0 &&& yy 1) 0))) k) = _
  simp only [zb_s, zb_c, zb_0, zb_and]
  exact tb_m1 _ _ _ _ _ _ _ _ _
theorem xm_p2 {post : SX → Prop} {n : Nat} (H : ∀ z', (∀ k, k < 64 → z4 z' 0 k = (z4 zz 0 k + 4 * ((zb (yy 2) k).toNat * z4 xx 0 k)) % 16) → wX_multiply_22 post fL fS fJ fK n (nI 3) op aa ab rg sp ep ft vi wt xx yy z' rs ls kf kv) : wX_multiply_22 post fL fS fJ fK (n + 1) (nI 2) op aa ab rg sp ep ft vi wt xx yy zz rs ls kf kv := by
  refine br_f (hi4 (by decide)) (Exists.intro 3 (xm_s 2 2 0 (by decide) rfl (xm_s 2 3 1 (by decide) rfl (br_t (by decide) (nm_r (nI_1 2) (H _ ?_))))))
  intro k hk
  show zn (zb (zz 0) k) (zb (zz 1) k) (zb (wa_s (zz 2) (xx 0 &&& yy 2) 0) k) (zb (wa_s (zz 3) (xx 1 &&& yy 2) (wa_c (zz 2) (xx 0 &&& yy 2) 0)) k) = _
  simp only [zb_s, zb_c, zb_0, zb_and]
  exact tb_m2 _ _ _ _ _ _ _ _ _
theorem xm_p3 {post : SX → Prop} {n : Nat} (H : ∀ z', (∀ k, k < 64 → z4 z' 0 k = (z4 zz 0 k + 8 * ((zb (yy 3) k).toNat * z4 xx 0 k)) % 16) → wX_multiply_22 post fL fS fJ fK n (nI 4) op aa ab rg sp ep ft vi wt xx yy z' rs ls kf kv) : wX_multiply_22 post fL fS fJ fK (n + 1) (nI 3) op aa ab rg sp ep ft vi wt xx yy zz rs ls kf kv := by
  refine br_f (hi4 (by decide)) (Exists.intro 2 (xm_s 3 3 0 (by decide) rfl (br_t (by decide) (nm_r (nI_1 3) (H _ ?_)))))
  intro k hk
  show zn (zb (zz 0) k) (zb (zz 1) k) (zb (zz 2) k) (zb (wa_s (zz 3) (xx 0 &&& yy 3) 0) k) = _
  simp only [zb_s, zb_c, zb_0, zb_and]
  exact tb_m3 _ _ _ _ _ _ _ _ _
theorem xa_mul {post : SX → Prop} (H : ∀ z', (∀ k, k < 64 → z4 z' 0 k = z4 xx 0 k * z4 yy 0 k % 16) → post (fL, fS, fJ, fK, op, aa, ab, rg, sp, ep, ft, vi, wt, xx, yy, z', rs, ls, kf, kv)) : wpX_multiply post (fL, fS, fJ, fK, op, aa, ab, rg, sp, ep, ft, vi, wt, xx, yy, zz, rs, ls, kf, kv) := by
  refine Exists.intro 5 (xm_z 0 (by decide) (xm_z 1 (by decide) (xm_z 2 (by decide) (xm_z 3 (by decide) (br_t (by decide) (Exists.intro 5 (xm_p0 ?_)))))))
  intro z0 h0
  refine xm_p1 ?_
  intro z1 h1
  refine xm_p2 ?_
  intro z2 h2
  refine xm_p3 ?_
  intro z3 h3
  refine br_t (by decide) (H z3 ?_)
  intro k hk
  have e : z4 (vp_updL (vp_updL (vp_updL (vp_updL zz 0 0) 1 0) 2 0) 3 0) 0 k = 0 := by
    rw [z4_u, zb_0]; rfl
  rw [h3 k hk, h2 k hk, h1 k hk, h0 k hk, e]
  exact tb_mul _ _ _ _ _ _ _ _
end
end
section
/-! ===== X's division, bitwise, load, store, compute ===== -/
def dv_s (r : Nat) (b : Bool) : Nat := (2 * r + b.toNat) % 32
def dv_r (y r : Nat) (b : Bool) : Nat := if dv_s r b < y then dv_s r b else (dv_s r b + 32 - y) % 32
def dv_b (y r : Nat) (b : Bool) : Bool := !decide (dv_s r b < y)
theorem tb_div : ∀ x y z w p q r s : Bool, zn p q r s ≠ 0 → zn (dv_b (zn p q r s) (dv_r (zn p q r s) (dv_r (zn p q r s) (dv_r (zn p q r s) 0 w) z) y) x) (dv_b (zn p q r s) (dv_r (zn p q r s) (dv_r (zn p q r s) 0 w) z) y) (dv_b (zn p q r s) (dv_r (zn p q r s) 0 w) z) (dv_b (zn p q r s) 0 w) = zn x y z w / zn p q r s := by decide +kernel
theorem tb_sh : ∀ a b c d e x : Bool, zq x a b c d = dv_s (zq a b c d e) x := by decide +kernel
theorem zq_if (t a b c d e a' b' c' d' e' : Bool) : zq ((a && !t) || (a' && t)) ((b && !t) || (b' && t)) ((c && !t) || (c' && t)) ((d && !t) || (d' && t)) ((e && !t) || (e' && t)) = if t = true then zq a' b' c' d' e' else zq a b c d e := by
  cases t <;> simp
section
variable {fL fS fJ fK : Int32} {op aa ab : Nat → Int32} {rg sp ep ft vi wt xx yy zz rs ls kf kv : Nat → Int64}
theorem z5_u (f : Nat → Int64) (a b c d e : Int64) (k : Nat) : z5 (vp_updL (vp_updL (vp_updL (vp_updL (vp_updL f 0 a) 1 b) 2 c) 3 d) 4 e) k = zq (zb a k) (zb b k) (zb c k) (zb d k) (zb e k) := rfl
theorem xr_s {post : Int64 → SX → Prop} {n : Nat} {c : Int64} (i : Nat) (hi : i < 4) (h : wX_restMinusY_4 post fL fS fJ fK n (wa_b (rs i) (yy i) c) (nI (i + 1)) op aa ab rg sp ep ft vi wt xx yy zz rs (vp_updL ls i (wa_s (rs i) (yy i) c)) kf kv) : wX_restMinusY_4 post fL fS fJ fK (n + 1) c (nI i) op aa ab rg sp ep ft vi wt xx yy zz rs ls kf kv := by
  have hv : vp_in (nI i) 4 := vp_in_nI hi (by decide)
  have hw : vp_in (nI i) 5 := vp_in_nI (by omega) (by decide)
  refine br_f (hi5 (by omega)) (br_f (hi4 hi) ⟨hv, ?_⟩)
  unfold wX_restMinusY_24
  rw [nI_clamp (n := i) (by omega)]
  exact ⟨hw, nm_e ⟨hw, nm_e ⟨hw, nm_e (nm_r (nI_1 i) h)⟩⟩⟩
theorem xr_4 {post : Int64 → SX → Prop} {n : Nat} {c : Int64} (h : wX_restMinusY_4 post fL fS fJ fK n (wa_b (rs 4) 0 c) (nI 5) op aa ab rg sp ep ft vi wt xx yy zz rs (vp_updL ls 4 (wa_s (rs 4) 0 c)) kf kv) : wX_restMinusY_4 post fL fS fJ fK (n + 1) c (nI 4) op aa ab rg sp ep ft vi wt xx yy zz rs ls kf kv := by
  have hw : vp_in (nI 4) 5 := vp_in_nI (by omega) (by decide)
  refine br_f (hi5 (by omega)) (br_t (by decide) ?_)
  unfold wX_restMinusY_24
  rw [nI_clamp (n := 4) (by omega)]
  exact ⟨hw, nm_e ⟨hw, nm_e ⟨hw, nm_e (nm_r (nI_1 4) h)⟩⟩⟩
theorem xa_rmy {post : Int64 → SX → Prop} (H : ∀ b l', (∀ k, k < 64 → zb b k = decide (z5 rs k < z4 yy 0 k)) → (∀ k, k < 64 → z5 l' k = (z5 rs k + 32 - z4 yy 0 k) % 32) → post b (fL, fS, fJ, fK, op, aa, ab, rg, sp, ep, ft, vi, wt, xx, yy, zz, rs, l', kf, kv)) : wpX_restMinusY post (fL, fS, fJ, fK, op, aa, ab, rg, sp, ep, ft, vi, wt, xx, yy, zz, rs, ls, kf, kv) := by
  refine Exists.intro 6 (xr_s 0 (by decide) (xr_s 1 (by decide) (xr_s 2 (by decide) (xr_s 3 (by decide) (xr_4 (br_t (by decide) (H _ _ ?_ ?_)))))))
  · intro k hk
    simp only [zb_b _ _ _ hk, zb_0]
    exact tb_5b _ _ _ _ _ _ _ _ _
  · intro k hk
    rw [z5_u]
    simp only [zb_s, zb_b _ _ _ hk, zb_0]
    exact tb_5s _ _ _ _ _ _ _ _ _
theorem xd_z {post : SX → Prop} {n : Nat} (i : Nat) (hi : i < 5) (h : wX_divide_2 post fL fS fJ fK n (nI (i + 1)) op aa ab rg sp ep ft vi wt xx yy zz (vp_updL rs i 0) ls kf kv) : wX_divide_2 post fL fS fJ fK (n + 1) (nI i) op aa ab rg sp ep ft vi wt xx yy zz rs ls kf kv := by
  refine br_f (hi5 hi) ?_
  rw [nI_clamp (n := i) (by omega)]
  exact ⟨vp_in_nI hi (by decide), nm_e (nm_r (nI_1 i) h)⟩
/-- the shift, j = 4 down to 1 -/
theorem xd_j {post : SX → Prop} {J : Int32 → Int32 → Int32 → Int32 → Int32 → (Nat → Int32) → (Nat → Int32) → (Nat → Int32) → (Nat → Int64) → (Nat → Int64) → (Nat → Int64) → (Nat → Int64) → (Nat → Int64) → (Nat → Int64) → (Nat → Int64) → (Nat → Int64) → (Nat → Int64) → (Nat → Int64) → (Nat → Int64) → (Nat → Int64) → (Nat → Int64) → Prop} {i : Int32} {n : Nat} (j : Nat) (hj : j < 4) (h : wX_divide_28 post J i fL fS fJ fK n (nI j) op aa ab rg sp ep ft vi wt xx yy zz (vp_updL rs (j + 1) (rs j)) ls kf kv) : wX_divide_28 post J i fL fS fJ fK (n + 1) (nI (j + 1)) op aa ab rg sp ep ft vi wt xx yy zz rs ls kf kv := by
  refine br_f (nI_nle (by omega) (by omega)) ?_
  rw [nI_pred j, nI_clamp (n := j) (by omega), nI_clamp (n := j + 1) (by omega)]
  exact ⟨vp_in_nI (by omega) (by decide), vp_in_nI (by omega) (by decide), nm_e (nm_r (pk_m1 j) h)⟩
/-- the choice of the rest, j = 0 to 4 -/
theorem xd_c {post : SX → Prop} {J : Int32 → Int32 → Int32 → Int32 → Int32 → (Nat → Int32) → (Nat → Int32) → (Nat → Int32) → (Nat → Int64) → (Nat → Int64) → (Nat → Int64) → (Nat → Int64) → (Nat → Int64) → (Nat → Int64) → (Nat → Int64) → (Nat → Int64) → (Nat → Int64) → (Nat → Int64) → (Nat → Int64) → (Nat → Int64) → (Nat → Int64) → Prop} {i : Int32} {w : Int64} {n : Nat} (j : Nat) (hj : j < 5) (h : wX_divide_83 post J i w fL fS fJ fK n (nI (j + 1)) op aa ab rg sp ep ft vi wt xx yy zz (vp_updL rs j ((rs j &&& (w ^^^ (-1))) ||| (ls j &&& w))) ls kf kv) : wX_divide_83 post J i w fL fS fJ fK (n + 1) (nI j) op aa ab rg sp ep ft vi wt xx yy zz rs ls kf kv := by
  refine br_f (hi5 hj) ?_
  rw [nI_clamp (n := j) (by omega)]
  have hv : vp_in (nI j) 5 := vp_in_nI hj (by decide)
  exact ⟨hv, hv, hv, nm_e (nm_r (nI_1 j) h)⟩
theorem xd_cc {post : SX → Prop} {J : Int32 → Int32 → Int32 → Int32 → Int32 → (Nat → Int32) → (Nat → Int32) → (Nat → Int32) → (Nat → Int64) → (Nat → Int64) → (Nat → Int64) → (Nat → Int64) → (Nat → Int64) → (Nat → Int64) → (Nat → Int64) → (Nat → Int64) → (Nat → Int64) → (Nat → Int64) → (Nat → Int64) → (Nat → Int64) → (Nat → Int64) → Prop} {i : Int32} {w : Int64} (H : ∀ r', (∀ k, k < 64 → z5 r' k = if zb w k = true then z5 ls k else z5 rs k) → J (i + (-1)) fL fS fJ fK op aa ab rg sp ep ft vi wt xx yy zz r' ls kf kv) : ∃ n, wX_divide_83 post J i w fL fS fJ fK n 0 op aa ab rg sp ep ft vi wt xx yy zz rs ls kf kv := by
  refine ⟨6, xd_c 0 (by decide) (xd_c 1 (by decide) (xd_c 2 (by decide) (xd_c 3 (by decide) (xd_c 4 (by decide) (br_t (by decide) (nm_e (H _ ?_)))))))⟩
  intro k hk
  rw [z5_u]
  simp only [vp_updL]
  simp only [zb_or, zb_and, zb_not _ hk]
  exact zq_if _ _ _ _ _ _ _ _ _ _ _
theorem xd_pass {post : SX → Prop} {n : Nat} (i : Nat) (hi : i < 4) (H : ∀ r' l' w, (∀ k, k < 64 → z5 r' k = dv_r (z4 yy 0 k) (z5 rs k) (zb (xx i) k)) → (∀ k, k < 64 → zb w k = dv_b (z4 yy 0 k) (z5 rs k) (zb (xx i) k)) → wX_divide_22 post n (nI i + (-1)) fL fS fJ fK op aa ab rg sp ep ft vi wt xx yy (vp_updL zz i w) r' l' kf kv) : wX_divide_22 post (n + 1) (nI i) fL fS fJ fK op aa ab rg sp ep ft vi wt xx yy zz rs ls kf kv := by
  refine br_f (nI_pos (by omega)) (Exists.intro 5 (xd_j 3 (by decide) (xd_j 2 (by decide) (xd_j 1 (by decide) (xd_j 0 (by decide) (br_t (by decide) ?_))))))
  rw [nI_clamp (n := i) (by omega)]
  have hv : vp_in (nI i) 4 := vp_in_nI hi (by decide)
  refine ⟨hv, nm_e (xa_rmy ?_)⟩
  intro b l' hb hl
  have es : ∀ k, k < 64 → z5 (vp_updL (vp_updL (vp_updL (vp_updL (vp_updL rs 4 (rs 3)) 3 (rs 2)) 2 (rs 1)) 1 (rs 0)) 0 (xx i)) k = dv_s (z5 rs k) (zb (xx i) k) := by
    intro k hk
    exact tb_sh _ _ _ _ _ _
  refine nm_e ⟨hv, nm_e (xd_cc ?_)⟩
  intro r' hr
  refine H r' l' _ ?_ ?_
  · intro k hk
    have h1 := hr k hk
    have h2 : zb b k = decide (dv_s (z5 rs k) (zb (xx i) k) < z4 yy 0 k) := by rw [← es k hk]; exact hb k hk
    have h3 : z5 l' k = (dv_s (z5 rs k) (zb (xx i) k) + 32 - z4 yy 0 k) % 32 := by rw [← es k hk]; exact hl k hk
    rw [zb_not _ hk, h2, h3] at h1
    rw [h1]
    unfold dv_r
    by_cases hc : dv_s (z5 rs k) (zb (xx i) k) < z4 yy 0 k
    · rw [if_pos hc, decide_eq_true hc, if_neg (by decide)]
      exact es k hk
    · rw [if_neg hc, decide_eq_false hc, if_pos (by decide)]
  · intro k hk
    have h2 : zb b k = decide (dv_s (z5 rs k) (zb (xx i) k) < z4 yy 0 k) := by rw [← es k hk]; exact hb k hk
    rw [zb_not _ hk, h2]
    rfl
theorem xa_div {post : SX → Prop} (H : ∀ z' r' l', (∀ k, k < 64 → z4 yy 0 k ≠ 0 → z4 z' 0 k = z4 xx 0 k / z4 yy 0 k) → post (fL, fS, fJ, fK, op, aa, ab, rg, sp, ep, ft, vi, wt, xx, yy, z', r', l', kf, kv)) : wpX_divide post (fL, fS, fJ, fK, op, aa, ab, rg, sp, ep, ft, vi, wt, xx, yy, zz, rs, ls, kf, kv) := by
  refine Exists.intro 6 (xd_z 0 (by decide) (xd_z 1 (by decide) (xd_z 2 (by decide) (xd_z 3 (by decide) (xd_z 4 (by decide) (br_t (by decide) (Exists.intro 5 (xd_pass 3 (by decide) ?_))))))))
  intro r3 l3 w3 h3 g3
  refine xd_pass 2 (by decide) ?_
  intro r2 l2 w2 h2 g2
  refine xd_pass 1 (by decide) ?_
  intro r1 l1 w1 h1 g1
  refine xd_pass 0 (by decide) ?_
  intro r0 l0 w0 h0 g0
  refine br_t (by decide) (H _ r0 l0 ?_)
  intro k hk hy
  have e : z5 (vp_updL (vp_updL (vp_updL (vp_updL (vp_updL rs 0 0) 1 0) 2 0) 3 0) 4 0) k = 0 := by
    rw [z5_u, zb_0]; rfl
  show zn (zb w0 k) (zb w1 k) (zb w2 k) (zb w3 k) = _
  rw [g0 k hk, g1 k hk, g2 k hk, g3 k hk, h1 k hk, h2 k hk, h3 k hk, e]
  exact tb_div _ _ _ _ _ _ _ _ hy
end
end
section
/-! ===== X's bitwise, compute, load, store ===== -/
def ln_val (o x y : Nat) : Nat := if o = 1 then y else if o = 2 then (x + y) % 16 else if o = 3 then (x + 16 - y) % 16 else if o = 4 then x * y % 16 else if o = 5 then x / y else if o = 6 then x &&& y else if o = 7 then x ^^^ y else if x < y then 1 else 0
def ln_cv (o b x y : Nat) : Nat := if o = 0 then b else ln_val o x y
def bwv (o b : Nat) (x y : Int64) (j : Nat) : Int64 := if o = 0 then (if b.testBit j = true then (-1) else 0) else if o = 1 then y else if o = 6 then x &&& y else x ^^^ y
theorem tb_and : ∀ a b c d p q r s : Bool, zn (a && p) (b && q) (c && r) (d && s) = zn a b c d &&& zn p q r s := by decide +kernel
theorem tb_xor : ∀ a b c d p q r s : Bool, zn (a ^^ p) (b ^^ q) (c ^^ r) (d ^^ s) = zn a b c d ^^^ zn p q r s := by decide +kernel
theorem bwv_0 (b j : Nat) (x y : Int64) {k : Nat} (hk : k < 64) : zb (bwv 0 b x y j) k = b.testBit j := by
  unfold bwv
  rw [if_pos rfl]
  cases b.testBit j with
  | true => rw [if_pos rfl, zb_m1 k hk]
  | false => rw [if_neg (by decide), zb_0]
theorem nI_eqL {o : Nat} (ho : o < 2 ^ 31) {c : Nat} (hc : c < 2 ^ 31) : nI o = nI c ↔ o = c := nI_eq ho hc
section
variable {fL fS fJ fK : Int32} {op aa ab : Nat → Int32} {rg sp ep ft vi wt xx yy zz rs ls kf kv : Nat → Int64}
theorem xb_s {post : SX → Prop} {n : Nat} (o b : Nat) (ho : o < 12) (hb : b < 16) (i : Nat) (hi : i < 4) (h : wX_bitwise_2 post (nI o) (nI b) fL fS fJ fK n (nI (i + 1)) op aa ab rg sp ep ft vi wt xx yy (vp_updL zz i (bwv o b (xx i) (yy i) i)) rs ls kf kv) : wX_bitwise_2 post (nI o) (nI b) fL fS fJ fK (n + 1) (nI i) op aa ab rg sp ep ft vi wt xx yy zz rs ls kf kv := by
  have hv : vp_in (nI i) 4 := vp_in_nI hi (by decide)
  refine br_f (hi4 hi) ?_
  rw [nI_clamp (n := i) (by omega)]
  unfold bwv at h
  by_cases h0 : o = 0
  · rw [if_pos h0] at h
    refine br_t (by rw [h0]; rfl) ?_
    cases hbit : b.testBit i with
    | false =>
      rw [hbit, if_neg (by decide)] at h
      exact br_t ((sh_tb (by omega) (by omega)).mpr hbit) ⟨hv, nm_e (nm_r (nI_1 i) h)⟩
    | true =>
      rw [hbit, if_pos rfl] at h
      refine br_f (fun hx => ?_) ⟨hv, nm_e (nm_r (nI_1 i) h)⟩
      rw [sh_tb (by omega) (by omega), hbit] at hx
      exact Bool.noConfusion hx
  · rw [if_neg h0] at h
    refine br_f (fun hx => h0 ((nI_eq (by omega) (by decide)).mp (show nI o = nI 0 from hx))) ?_
    by_cases h1 : o = 1
    · rw [if_pos h1] at h
      exact br_t (by rw [h1]; rfl) ⟨hv, hv, nm_e (nm_r (nI_1 i) h)⟩
    · rw [if_neg h1] at h
      refine br_f (fun hx => h1 ((nI_eq (by omega) (by decide)).mp (show nI o = nI 1 from hx))) ?_
      by_cases h6 : o = 6
      · rw [if_pos h6] at h
        exact br_t (by rw [h6]; rfl) ⟨hv, hv, hv, nm_e (nm_r (nI_1 i) h)⟩
      · rw [if_neg h6] at h
        exact br_f (fun hx => h6 ((nI_eq (by omega) (by decide)).mp (show nI o = nI 6 from hx))) ⟨hv, hv, hv, nm_e (nm_r (nI_1 i) h)⟩
theorem xa_bw {post : SX → Prop} (o b : Nat) (ho : o = 0 ∨ o = 1 ∨ o = 6 ∨ o = 7) (hb : b < 16) (H : ∀ z', (∀ k, k < 64 → z4 z' 0 k = ln_cv o b (z4 xx 0 k) (z4 yy 0 k)) → post (fL, fS, fJ, fK, op, aa, ab, rg, sp, ep, ft, vi, wt, xx, yy, z', rs, ls, kf, kv)) : wpX_bitwise post (fL, fS, fJ, fK, op, aa, ab, rg, sp, ep, ft, vi, wt, xx, yy, zz, rs, ls, kf, kv) (nI o) (nI b) := by
  have ho' : o < 12 := by omega
  refine Exists.intro 5 (xb_s o b ho' hb 0 (by decide) (xb_s o b ho' hb 1 (by decide) (xb_s o b ho' hb 2 (by decide) (xb_s o b ho' hb 3 (by decide) (br_t (by decide) (H _ ?_))))))
  intro k hk
  rw [z4_u]
  rcases ho with h | h | h | h
  · subst h
    rw [bwv_0 _ _ _ _ hk, bwv_0 _ _ _ _ hk, bwv_0 _ _ _ _ hk, bwv_0 _ _ _ _ hk, zn_bits b hb]
    rfl
  · subst h
    rfl
  · subst h
    show zn (zb (xx 0 &&& yy 0) k) (zb (xx 1 &&& yy 1) k) (zb (xx 2 &&& yy 2) k) (zb (xx 3 &&& yy 3) k) = _
    rw [zb_and, zb_and, zb_and, zb_and]
    exact tb_and _ _ _ _ _ _ _ _
  · subst h
    show zn (zb (xx 0 ^^^ yy 0) k) (zb (xx 1 ^^^ yy 1) k) (zb (xx 2 ^^^ yy 2) k) (zb (xx 3 ^^^ yy 3) k) = _
    rw [zb_xor, zb_xor, zb_xor, zb_xor]
    exact tb_xor _ _ _ _ _ _ _ _
theorem xa_comp {post : SX → Prop} (o b : Nat) (ho : o < 9) (h5 : o ≠ 5) (hb : b < 16) (H : ∀ z', (∀ k, k < 64 → z4 z' 0 k = ln_cv o b (z4 xx 0 k) (z4 yy 0 k)) → post (fL, fS, fJ, fK, op, aa, ab, rg, sp, ep, ft, vi, wt, xx, yy, z', rs, ls, kf, kv)) : wpX_compute post (fL, fS, fJ, fK, op, aa, ab, rg, sp, ep, ft, vi, wt, xx, yy, zz, rs, ls, kf, kv) (nI o) (nI b) := by
  unfold wpX_compute
  dsimp only
  have ne : ∀ c : Nat, c < 12 → o ≠ c → ¬ nI o = nI c := fun c hc hn hx => hn ((nI_eq (by omega) (by omega)).mp hx)
  by_cases h2 : o = 2
  · subst h2
    exact br_t rfl (xa_add (fun z' hz => H z' hz))
  refine br_f (ne 2 (by decide) h2) ?_
  by_cases h3 : o = 3
  · subst h3
    exact br_t rfl (xa_sub (fun b z' _ hz => H z' hz))
  refine br_f (ne 3 (by decide) h3) ?_
  by_cases h4 : o = 4
  · subst h4
    exact br_t rfl (xa_mul (fun z' hz => H z' hz))
  refine br_f (ne 4 (by decide) h4) ?_
  by_cases h8 : o = 8
  · subst h8
    refine br_t rfl (xa_sub (fun w z' hw hz => nm_e (nm_e (nm_e (nm_e (H _ ?_))))))
    intro k hk
    rw [z4_u, hw k hk, zb_0]
    show zn (decide (z4 xx 0 k < z4 yy 0 k)) false false false = if z4 xx 0 k < z4 yy 0 k then 1 else 0
    by_cases hc : z4 xx 0 k < z4 yy 0 k
    · rw [decide_eq_true hc, if_pos hc]; rfl
    · rw [decide_eq_false hc, if_neg hc]; rfl
  refine br_f (ne 8 (by decide) h8) ?_
  exact xa_bw o b (by omega) hb (fun z' hz => H z' hz)
/-! load and store -/
theorem xl_s {post : SX → Prop} {n : Nat} (a b : Nat) (ha : a < 4) (hb : b < 4) (i : Nat) (hi : i < 4) (h : wX_load_2 post (nI a) (nI b) fL fS fJ fK n (nI (i + 1)) op aa ab rg sp ep ft vi wt (vp_updL xx i (rg (a * 4 + i))) (vp_updL yy i (rg (b * 4 + i))) zz rs ls kf kv) : wX_load_2 post (nI a) (nI b) fL fS fJ fK (n + 1) (nI i) op aa ab rg sp ep ft vi wt xx yy zz rs ls kf kv := by
  refine br_f (hi4 hi) ?_
  rw [ni4, ni4, nI_clamp (n := i) (by omega), nI_clamp (n := a * 4 + i) (by omega), nI_clamp (n := b * 4 + i) (by omega)]
  have hv : vp_in (nI i) 4 := vp_in_nI hi (by decide)
  exact ⟨vp_in_nI (by omega) (by decide), hv, nm_e ⟨vp_in_nI (by omega) (by decide), hv, nm_e (nm_r (nI_1 i) h)⟩⟩
theorem xa_load {post : SX → Prop} (a b : Nat) (ha : a < 4) (hb : b < 4) (H : ∀ x' y', (∀ k, z4 x' 0 k = z4 rg (a * 4) k) → (∀ k, z4 y' 0 k = z4 rg (b * 4) k) → post (fL, fS, fJ, fK, op, aa, ab, rg, sp, ep, ft, vi, wt, x', y', zz, rs, ls, kf, kv)) : wpX_load post (fL, fS, fJ, fK, op, aa, ab, rg, sp, ep, ft, vi, wt, xx, yy, zz, rs, ls, kf, kv) (nI a) (nI b) := by
  refine Exists.intro 5 (xl_s a b ha hb 0 (by decide) (xl_s a b ha hb 1 (by decide) (xl_s a b ha hb 2 (by decide) (xl_s a b ha hb 3 (by decide) (br_t (by decide) (H _ _ ?_ ?_))))))
  · intro k
    rw [z4_u]
    rfl
  · intro k
    rw [z4_u]
    rfl
def stv (r z l : Int64) : Int64 := (r &&& (l ^^^ (-1))) ||| (z &&& l)
theorem zb_stv (r z l : Int64) {k : Nat} (hk : k < 64) : zb (stv r z l) k = if zb l k = true then zb z k else zb r k := by
  unfold stv
  rw [zb_or, zb_and, zb_and, zb_not _ hk]
  cases zb l k <;> simp
theorem xs_s {post : SX → Prop} {n : Nat} (a : Nat) (l : Int64) (ha : a < 4) (i : Nat) (hi : i < 4) (h : wX_store_3 post (nI a) l fL fS fJ fK n (nI (i + 1)) op aa ab (vp_updL rg (a * 4 + i) (stv (rg (a * 4 + i)) (zz i) l)) sp ep ft vi wt xx yy zz rs ls kf kv) : wX_store_3 post (nI a) l fL fS fJ fK (n + 1) (nI i) op aa ab rg sp ep ft vi wt xx yy zz rs ls kf kv := by
  refine br_f (hi4 hi) ?_
  rw [ni4, nI_clamp (n := i) (by omega)]
  have hv : vp_in (nI i) 4 := vp_in_nI hi (by decide)
  have hw : vp_in (nI (a * 4 + i)) 16 := vp_in_nI (by omega) (by decide)
  refine nm_e ?_
  rw [nI_clamp (n := a * 4 + i) (by omega)]
  exact ⟨hw, hv, hw, nm_e (nm_r (nI_1 i) h)⟩
theorem xa_store {post : SX → Prop} (a : Nat) (l : Int64) (ha : a < 4) (H : ∀ r', (∀ k, k < 64 → ∀ i, i < 4 → z4 r' (i * 4) k = if zb l k = true ∧ i = a then z4 zz 0 k else z4 rg (i * 4) k) → post (fL, fS, fJ, fK, op, aa, ab, r', sp, ep, ft, vi, wt, xx, yy, zz, rs, ls, kf, kv)) : wpX_store post (fL, fS, fJ, fK, op, aa, ab, rg, sp, ep, ft, vi, wt, xx, yy, zz, rs, ls, kf, kv) (nI a) l := by
  refine Exists.intro 5 (xs_s a l ha 0 (by decide) (xs_s a l ha 1 (by decide) (xs_s a l ha 2 (by decide) (xs_s a l ha 3 (by decide) (br_t (by decide) (H _ ?_))))))
  intro k hk i hi
  have n1 : ¬ a * 4 + 1 = a * 4 + 0 := by omega
  have n2 : ¬ a * 4 + 2 = a * 4 + 0 := by omega
  have n3 : ¬ a * 4 + 2 = a * 4 + 1 := by omega
  have n4 : ¬ a * 4 + 3 = a * 4 + 0 := by omega
  have n5 : ¬ a * 4 + 3 = a * 4 + 1 := by omega
  have n6 : ¬ a * 4 + 3 = a * 4 + 2 := by omega
  by_cases hia : i = a
  · subst hia
    by_cases hl : zb l k = true
    · rw [if_pos ⟨hl, rfl⟩]
      apply z4_eq
      intro j hj
      match j, hj with
      | 0, _ =>
        rw [pk_uLn (by omega), pk_uLn (by omega), pk_uLn (by omega), pk_uLs, zb_stv _ _ _ hk, if_pos hl]
      | 1, _ =>
        rw [pk_uLn (by omega), pk_uLn (by omega), pk_uLs, zb_stv _ _ _ hk, if_pos hl]
      | 2, _ =>
        rw [pk_uLn (by omega), pk_uLs, zb_stv _ _ _ hk, if_pos hl]
      | 3, _ =>
        rw [pk_uLs, zb_stv _ _ _ hk, if_pos hl]
    · rw [if_neg (fun h => hl h.1)]
      apply z4_eq
      intro j hj
      match j, hj with
      | 0, _ =>
        rw [pk_uLn (by omega), pk_uLn (by omega), pk_uLn (by omega), pk_uLs, zb_stv _ _ _ hk, if_neg hl]
      | 1, _ =>
        rw [pk_uLn (by omega), pk_uLn (by omega), pk_uLs, zb_stv _ _ _ hk, if_neg hl, pk_uLn (by omega)]
      | 2, _ =>
        rw [pk_uLn (by omega), pk_uLs, zb_stv _ _ _ hk, if_neg hl, pk_uLn (by omega), pk_uLn (by omega)]
      | 3, _ =>
        rw [pk_uLs, zb_stv _ _ _ hk, if_neg hl, pk_uLn (by omega), pk_uLn (by omega), pk_uLn (by omega)]
  · rw [if_neg (fun h => hia h.2)]
    apply z4_eq
    intro j hj
    rw [pk_uLn (by omega), pk_uLn (by omega), pk_uLn (by omega), pk_uLn (by omega)]
end
end
section
/-! ===== X: settle, send, leastWaiting, atLimit, countStep, reset ===== -/
/-- lane k shows: it has ended with e at p, or (e = 4) it waits at p -/
def Zd (wt ft ep : Nat → Int64) (k e p : Nat) : Prop := (∀ q, q < 12 → zb (wt q) k = decide (e = 4 ∧ q = p)) ∧ (∀ j, j < 4 → zb (ft j) k = decide (j = e)) ∧ (∀ j, j < 4 → zb (ep j) k = (decide (e ≠ 4) && p.testBit j))
/-- lane k is in hand: it neither waits nor has ended -/
def Zh (wt ft ep : Nat → Int64) (k : Nat) : Prop := (∀ q, q < 12 → zb (wt q) k = false) ∧ (∀ j, j < 4 → zb (ft j) k = false) ∧ (∀ j, j < 4 → zb (ep j) k = false)
/-- lane k is as it was -/
def Zm (wt ft ep wt' ft' ep' : Nat → Int64) (k : Nat) : Prop := (∀ q, q < 12 → zb (wt' q) k = zb (wt q) k) ∧ (∀ j, j < 4 → zb (ft' j) k = zb (ft j) k) ∧ (∀ j, j < 4 → zb (ep' j) k = zb (ep j) k)
theorem Zm_d {wt ft ep wt' ft' ep' : Nat → Int64} {k e p : Nat} (h : Zm wt ft ep wt' ft' ep' k) (d : Zd wt ft ep k e p) : Zd wt' ft' ep' k e p :=
  ⟨fun q hq => (h.1 q hq).trans (d.1 q hq), fun j hj => (h.2.1 j hj).trans (d.2.1 j hj), fun j hj => (h.2.2 j hj).trans (d.2.2 j hj)⟩
theorem Zm_h {wt ft ep wt' ft' ep' : Nat → Int64} {k : Nat} (h : Zm wt ft ep wt' ft' ep' k) (d : Zh wt ft ep k) : Zh wt' ft' ep' k :=
  ⟨fun q hq => (h.1 q hq).trans (d.1 q hq), fun j hj => (h.2.1 j hj).trans (d.2.1 j hj), fun j hj => (h.2.2 j hj).trans (d.2.2 j hj)⟩
theorem Zm_t {wt ft ep wt' ft' ep' wt2 ft2 ep2 : Nat → Int64} {k : Nat} (h : Zm wt ft ep wt' ft' ep' k) (g : Zm wt' ft' ep' wt2 ft2 ep2 k) : Zm wt ft ep wt2 ft2 ep2 k :=
  ⟨fun q hq => (g.1 q hq).trans (h.1 q hq), fun j hj => (g.2.1 j hj).trans (h.2.1 j hj), fun j hj => (g.2.2 j hj).trans (h.2.2 j hj)⟩
/-- the lanes l of those in hand are put to (e, p), all others stay -/
def Zp (l : Int64) (e p : Nat) (wt ft ep wt' ft' ep' : Nat → Int64) : Prop := ∀ k, k < 64 → (zb l k = false → Zm wt ft ep wt' ft' ep' k) ∧ (zb l k = true → Zh wt ft ep k → Zd wt' ft' ep' k e p)
theorem upd_self (f : Nat → Int64) (i : Nat) : vp_updL f i (f i) = f := by
  funext j
  unfold vp_updL
  by_cases h : j = i
  · rw [if_pos h, h]
  · rw [if_neg h]
def sev (p : Nat) (l e : Int64) (j : Nat) : Int64 := if p.testBit j = true then e ||| l else e
theorem zb_sev (p : Nat) (l e : Int64) (j k : Nat) : zb (sev p l e j) k = (zb e k || (p.testBit j && zb l k)) := by
  unfold sev
  cases p.testBit j with
  | true => rw [if_pos rfl, zb_or, Bool.true_and]
  | false => rw [if_neg (by decide), Bool.false_and, Bool.or_false]
theorem se_u (f : Nat → Int64) (a b c d : Int64) (g : Nat → Int64) (h0 : g 0 = a) (h1 : g 1 = b) (h2 : g 2 = c) (h3 : g 3 = d) : ∀ j, j < 4 → vp_updL (vp_updL (vp_updL (vp_updL f 0 a) 1 b) 2 c) 3 d j = g j := by
  intro j hj
  match j, hj with
  | 0, _ => exact h0.symm
  | 1, _ => exact h1.symm
  | 2, _ => exact h2.symm
  | 3, _ => exact h3.symm
section
variable {fL fS fJ fK : Int32} {op aa ab : Nat → Int32} {rg sp ep ft vi wt xx yy zz rs ls kf kv : Nat → Int64}
theorem xt_s {post : SX → Prop} {n : Nat} (l : Int64) (p : Nat) (hp : p < 16) (i : Nat) (hi : i < 4) (h : wX_settle_13 post l (nI p) fL fS fJ fK n (nI (i + 1)) op aa ab rg sp (vp_updL ep i (sev p l (ep i) i)) ft vi wt xx yy zz rs ls kf kv) : wX_settle_13 post l (nI p) fL fS fJ fK (n + 1) (nI i) op aa ab rg sp ep ft vi wt xx yy zz rs ls kf kv := by
  have hv : vp_in (nI i) 4 := vp_in_nI hi (by decide)
  refine br_f (hi4 hi) ?_
  rw [nI_clamp (n := i) (by omega)]
  unfold sev at h
  cases hbit : p.testBit i with
  | false =>
    rw [hbit, if_neg (by decide), upd_self] at h
    exact br_t ((sh_tb (by omega) (by omega)).mpr hbit) (nm_r (nI_1 i) h)
  | true =>
    rw [hbit, if_pos rfl] at h
    refine br_f (fun hx => ?_) ⟨hv, hv, nm_e (nm_r (nI_1 i) h)⟩
    rw [sh_tb (by omega) (by omega), hbit] at hx
    exact Bool.noConfusion hx
theorem xt_settle {post : SX → Prop} (l : Int64) (f p : Nat) (hf : f < 4) (hp : p < 16) (H : ∀ ft' ep', Zp l f p wt ft ep wt ft' ep' → post (fL, fS, fJ, fK, op, aa, ab, rg, sp, ep', ft', vi, wt, xx, yy, zz, rs, ls, kf, kv)) : wpX_settle post (fL, fS, fJ, fK, op, aa, ab, rg, sp, ep, ft, vi, wt, xx, yy, zz, rs, ls, kf, kv) l (nI f) (nI p) := by
  have hv : vp_in (nI f) 4 := vp_in_nI hf (by decide)
  refine And.intro hv ?_
  rw [nI_clamp (n := f) (by omega)]
  refine ⟨hv, nm_e (Exists.intro 5 (xt_s l p hp 0 (by decide) (xt_s l p hp 1 (by decide) (xt_s l p hp 2 (by decide) (xt_s l p hp 3 (by decide) (br_t (by decide) (H _ _ ?_)))))))⟩
  have he := se_u ep (sev p l (ep 0) 0) (sev p l (ep 1) 1) (sev p l (ep 2) 2) (sev p l (ep 3) 3) (fun j => sev p l (ep j) j) rfl rfl rfl rfl
  intro k hk
  refine ⟨fun hl => ⟨fun _ _ => rfl, ?_, ?_⟩, fun hl hh => ⟨?_, ?_, ?_⟩⟩
  · intro j hj
    by_cases hjf : j = f
    · subst hjf
      rw [pk_uLs, zb_or, hl, Bool.or_false]
    · rw [pk_uLn hjf]
  · intro j hj
    refine (congrArg (fun w => zb w k) (he j hj)).trans ?_
    show zb (sev p l (ep j) j) k = _
    rw [zb_sev, hl, Bool.and_false, Bool.or_false]
  · intro q hq
    rw [hh.1 q hq, decide_eq_false (by omega)]
  · intro j hj
    by_cases hjf : j = f
    · subst hjf
      rw [pk_uLs, zb_or, hl, Bool.or_true, decide_eq_true rfl]
    · rw [pk_uLn hjf, hh.2.1 j hj, decide_eq_false hjf]
  · intro j hj
    refine (congrArg (fun w => zb w k) (he j hj)).trans ?_
    show zb (sev p l (ep j) j) k = _
    rw [zb_sev, hl, hh.2.2 j hj, decide_eq_true (show f ≠ 4 by omega), Bool.and_true, Bool.false_or, Bool.true_and]
theorem xt_send {post : SX → Prop} (l : Int64) (n q : Nat) (hn : n ≤ 12) (hq : q < 16) (H : ∀ wt' ft' ep', Zp l (if q < n then 4 else 0) q wt ft ep wt' ft' ep' → post (fL, nI n, fJ, fK, op, aa, ab, rg, sp, ep', ft', vi, wt', xx, yy, zz, rs, ls, kf, kv)) : wpX_send post (fL, nI n, fJ, fK, op, aa, ab, rg, sp, ep, ft, vi, wt, xx, yy, zz, rs, ls, kf, kv) l (nI q) := by
  unfold wpX_send
  dsimp only
  by_cases h : q < n
  · rw [if_pos h] at H
    refine br_t (nI_lt h (by omega)) ?_
    rw [nI_clamp (n := q) (by omega)]
    have hv : vp_in (nI q) 12 := vp_in_nI (by omega) (by decide)
    refine ⟨hv, hv, nm_e (H _ ft ep ?_)⟩
    intro k hk
    refine ⟨fun hl => ⟨?_, fun _ _ => rfl, fun _ _ => rfl⟩, fun hl hh => ⟨?_, ?_, ?_⟩⟩
    · intro j hj
      by_cases hjq : j = q
      · subst hjq
        rw [pk_uLs, zb_or, hl, Bool.or_false]
      · rw [pk_uLn hjq]
    · intro j hj
      by_cases hjq : j = q
      · subst hjq
        rw [pk_uLs, zb_or, hl, Bool.or_true, decide_eq_true ⟨rfl, rfl⟩]
      · rw [pk_uLn hjq, hh.1 j hj, decide_eq_false (fun hx => hjq hx.2)]
    · intro j hj
      rw [hh.2.1 j hj, decide_eq_false (by omega)]
    · intro j hj
      rw [hh.2.2 j hj, decide_eq_false (by omega), Bool.false_and]
  · rw [if_neg h] at H
    refine br_f (nI_nlt (by omega) (by omega)) ?_
    exact xt_settle l 0 q (by decide) hq (fun ft' ep' hz => H wt ft' ep' hz)
/-! leastWaiting -/
theorem xw_l {post : Int32 → Prop} (n : Nat) (hn : n ≤ 12) (H1 : ∀ p, p < n → ¬ wt p = 0 → post (nI p)) (H2 : (∀ q, q < n → wt q = 0) → post (-1)) : ∀ d i, i + d = n → (∀ q, q < i → wt q = 0) → wX_leastWaiting_2 post fL (nI n) fJ fK op aa ab rg sp ep ft vi wt xx yy zz rs ls kf kv (d + 1) (nI i) := by
  intro d
  induction d with
  | zero =>
    intro i hi hq
    have e : i = n := by omega
    subst e
    exact br_t (nI_le (Nat.le_refl _) (by omega)) (H2 hq)
  | succ d ih =>
    intro i hi hq
    refine br_f (nI_ge (by omega) (by omega)) ?_
    rw [nI_clamp (n := i) (by omega)]
    refine ⟨vp_in_nI (by omega) (by decide), br_c (fun h0 => nm_r (nI_1 i) (ih (i + 1) (by omega) ?_)) (fun h0 => H1 i (by omega) h0)⟩
    intro q hq'
    by_cases hqi : q = i
    · rw [hqi]; exact h0
    · exact hq q (by omega)
theorem xw_least {post : Int32 → Prop} (n : Nat) (hn : n ≤ 12) (H1 : ∀ p, p < n → ¬ wt p = 0 → post (nI p)) (H2 : (∀ q, q < n → wt q = 0) → post (-1)) : wpX_leastWaiting post (fL, nI n, fJ, fK, op, aa, ab, rg, sp, ep, ft, vi, wt, xx, yy, zz, rs, ls, kf, kv) :=
  Exists.intro (n + 1) (xw_l n hn H1 H2 n 0 (by omega) (fun q hq => absurd hq (Nat.not_lt_zero q)))
/-! atLimit -/
def alv (L : Nat) (x s : Int64) (j : Nat) : Int64 := if L.testBit j = true then x &&& s else x &&& (s ^^^ (-1))
theorem zb_alv (L : Nat) (x s : Int64) (j : Nat) {k : Nat} (hk : k < 64) : zb (alv L x s j) k = (zb x k && (zb s k == L.testBit j)) := by
  unfold alv
  cases L.testBit j with
  | true => rw [if_pos rfl, zb_and]; cases zb s k <;> rfl
  | false => rw [if_neg (by decide), zb_and, zb_not _ hk]; cases zb s k <;> rfl
theorem zs_inj : ∀ a b c d e g a' b' c' d' e' g' : Bool, (((((((true && (a == a')) && (b == b')) && (c == c')) && (d == d')) && (e == e')) && (g == g'))) = decide (zs a b c d e g = zs a' b' c' d' e' g') := by decide +kernel
theorem zs_bits : ∀ n, n < 64 → zs (n.testBit 0) (n.testBit 1) (n.testBit 2) (n.testBit 3) (n.testBit 4) (n.testBit 5) = n := by decide +kernel
theorem xl_al {post : Int64 → Prop} {n : Nat} {x : Int64} (L : Nat) (hL : L < 64) (i : Nat) (hi : i < 6) (h : wX_atLimit_6 post (nI L) fS fJ fK op aa ab rg sp ep ft vi wt xx yy zz rs ls kf kv n (alv L x (sp i) i) (nI (i + 1))) : wX_atLimit_6 post (nI L) fS fJ fK op aa ab rg sp ep ft vi wt xx yy zz rs ls kf kv (n + 1) x (nI i) := by
  have hv : vp_in (nI i) 6 := vp_in_nI hi (by decide)
  refine br_f (hi6 hi) ?_
  unfold alv at h
  unfold wX_atLimit_28
  rw [nI_clamp (n := i) (by omega)]
  cases hbit : L.testBit i with
  | false =>
    rw [hbit, if_neg (by decide)] at h
    exact br_t ((sh_tb (by omega) (by omega)).mpr hbit) (br_t rfl ⟨hv, nm_e (nm_r (nI_1 i) h)⟩)
  | true =>
    rw [hbit, if_pos rfl] at h
    refine br_f (fun hx => ?_) (br_f (by decide) ⟨hv, nm_e (nm_r (nI_1 i) h)⟩)
    rw [sh_tb (by omega) (by omega), hbit] at hx
    exact Bool.noConfusion hx
theorem xl_atLimit {post : Int64 → Prop} (L : Nat) (hL : L < 64) (H : ∀ w, (∀ k, k < 64 → zb w k = decide (z6 sp k = L)) → post w) : wpX_atLimit post (nI L, fS, fJ, fK, op, aa, ab, rg, sp, ep, ft, vi, wt, xx, yy, zz, rs, ls, kf, kv) := by
  refine Exists.intro 7 (xl_al L hL 0 (by decide) (xl_al L hL 1 (by decide) (xl_al L hL 2 (by decide) (xl_al L hL 3 (by decide) (xl_al L hL 4 (by decide) (xl_al L hL 5 (by decide) (br_t (by decide) (H _ ?_))))))))
  intro k hk
  simp only [zb_alv _ _ _ _ hk, zb_m1 k hk]
  refine (zs_inj _ _ _ _ _ _ _ _ _ _ _ _).trans ?_
  rw [zs_bits L hL]
  rfl
/-! countStep -/
theorem z6_u (f : Nat → Int64) (a b c d e g : Int64) (k : Nat) : z6 (vp_updL (vp_updL (vp_updL (vp_updL (vp_updL (vp_updL f 0 a) 1 b) 2 c) 3 d) 4 e) 5 g) k = zs (zb a k) (zb b k) (zb c k) (zb d k) (zb e k) (zb g k) := rfl
theorem xc_s {post : SX → Prop} {n : Nat} {c : Int64} (i : Nat) (hi : i < 6) (h : wX_countStep_5 post fL fS fJ fK n (sp i &&& c) (nI (i + 1)) op aa ab rg (vp_updL sp i (sp i ^^^ c)) ep ft vi wt xx yy zz rs ls kf kv) : wX_countStep_5 post fL fS fJ fK (n + 1) c (nI i) op aa ab rg sp ep ft vi wt xx yy zz rs ls kf kv := by
  have hv : vp_in (nI i) 6 := vp_in_nI hi (by decide)
  refine br_f (hi6 hi) ?_
  rw [nI_clamp (n := i) (by omega)]
  exact ⟨hv, nm_e ⟨hv, hv, nm_e (nm_r (nI_1 i) h)⟩⟩
theorem xc_count {post : SX → Prop} (l : Int64) (H : ∀ sp', (∀ k, k < 64 → (zb l k = false → z6 sp' k = z6 sp k) ∧ (zb l k = true → z6 sp k < 63 → z6 sp' k = z6 sp k + 1)) → post (fL, fS, fJ, fK, op, aa, ab, rg, sp', ep, ft, vi, wt, xx, yy, zz, rs, ls, kf, kv)) : wpX_countStep post (fL, fS, fJ, fK, op, aa, ab, rg, sp, ep, ft, vi, wt, xx, yy, zz, rs, ls, kf, kv) l := by
  refine Exists.intro 7 (xc_s 0 (by decide) (xc_s 1 (by decide) (xc_s 2 (by decide) (xc_s 3 (by decide) (xc_s 4 (by decide) (xc_s 5 (by decide) (br_t (by decide) (H _ ?_))))))))
  intro k hk
  rw [z6_u]
  refine ⟨fun hl => ?_, fun hl hs => ?_⟩
  · refine Eq.trans ?_ (tb_inc0 (zb (sp 0) k) (zb (sp 1) k) (zb (sp 2) k) (zb (sp 3) k) (zb (sp 4) k) (zb (sp 5) k))
    simp only [zb_xor, zb_and, vp_updL, hl]
    rfl
  · refine Eq.trans ?_ (tb_inc (zb (sp 0) k) (zb (sp 1) k) (zb (sp 2) k) (zb (sp 3) k) (zb (sp 4) k) (zb (sp 5) k) hs)
    simp only [zb_xor, zb_and, vp_updL, hl]
    rfl
end
end
section
/-! ===== X: indexPlane, reset ===== -/
def ipw (i : Nat) : Int64 := if i = 0 then (-6148914691236517206) else if i = 1 then (-3689348814741910324) else if i = 2 then (-1085102592571150096) else if i = 3 then (-71777214294589696) else if i = 4 then (-281470681808896) else (-4294967296)
theorem zb_ip0 : ∀ k, k < 64 → zb (ipw 0) k = k.testBit 0 := by decide +kernel
theorem zb_ip1 : ∀ k, k < 64 → zb (ipw 1) k = k.testBit 1 := by decide +kernel
theorem zb_ip2 : ∀ k, k < 64 → zb (ipw 2) k = k.testBit 2 := by decide +kernel
theorem zb_ip3 : ∀ k, k < 64 → zb (ipw 3) k = k.testBit 3 := by decide +kernel
theorem zb_ip4 : ∀ k, k < 64 → zb (ipw 4) k = k.testBit 4 := by decide +kernel
theorem zb_ip5 : ∀ k, k < 64 → zb (ipw 5) k = k.testBit 5 := by decide +kernel
theorem zb_ip {i : Nat} (hi : i < 6) {k : Nat} (hk : k < 64) : zb (ipw i) k = k.testBit i := by
  match i, hi with
  | 0, _ => exact zb_ip0 k hk
  | 1, _ => exact zb_ip1 k hk
  | 2, _ => exact zb_ip2 k hk
  | 3, _ => exact zb_ip3 k hk
  | 4, _ => exact zb_ip4 k hk
  | 5, _ => exact zb_ip5 k hk
theorem xi_ip {post : Int64 → Prop} {i : Nat} (hi : i < 6) (h : post (ipw i)) : wpX_indexPlane post (nI i) := by
  match i, hi with
  | 0, _ => exact br_f (by decide) (br_f (by decide) (br_t (by decide) h))
  | 1, _ => exact br_f (by decide) (br_f (by decide) (br_f (by decide) (br_t (by decide) h)))
  | 2, _ => exact br_f (by decide) (br_f (by decide) (br_f (by decide) (br_f (by decide) (br_t (by decide) h))))
  | 3, _ => exact br_f (by decide) (br_f (by decide) (br_f (by decide) (br_f (by decide) (br_f (by decide) (br_t (by decide) h)))))
  | 4, _ => exact br_f (by decide) (br_f (by decide) (br_f (by decide) (br_f (by decide) (br_f (by decide) (br_f (by decide) (br_t (by decide) h))))))
  | 5, _ => exact br_f (by decide) (br_t (by decide) h)
theorem upd_z {f : Nat → Int64} {i : Nat} (h : ∀ j, j < i → f j = 0) : ∀ j, j < i + 1 → vp_updL f i 0 j = 0 := by
  intro j hj
  by_cases hji : j = i
  · rw [hji, pk_uLs]
  · rw [pk_uLn hji]; exact h j (by omega)
section
variable {fL fS fJ fK : Int32} {op aa ab : Nat → Int32} {rg sp ep ft vi wt xx yy zz rs ls kf kv : Nat → Int64}
theorem xz_124 {post : SX → Prop} (H : ∀ vi' wt', (∀ j, j < 12 → vi' j = 0) → (∀ j, j < 12 → wt' j = 0) → post (fL, fS, fJ, fK, op, aa, ab, rg, sp, ep, ft, vi', wt', xx, yy, zz, rs, ls, kf, kv)) : ∀ d i vi wt, i + d = 12 → (∀ j, j < i → vi j = 0) → (∀ j, j < i → wt j = 0) → wX_reset_124 post fL fS fJ fK (d + 1) (nI i) op aa ab rg sp ep ft vi wt xx yy zz rs ls kf kv := by
  intro d
  induction d with
  | zero =>
    intro i vi wt hi h1 h2
    have e : i = 12 := by omega
    subst e
    exact br_t (by decide) (H vi wt h1 h2)
  | succ d ih =>
    intro i vi wt hi h1 h2
    refine br_f (hi12 (by omega)) ?_
    rw [nI_clamp (n := i) (by omega)]
    have hv : vp_in (nI i) 12 := vp_in_nI (by omega) (by decide)
    exact ⟨hv, nm_e ⟨hv, nm_e (nm_r (nI_1 i) (ih (i + 1) _ _ (by omega) (upd_z h1) (upd_z h2)))⟩⟩
theorem xz_97 {post : SX → Prop} (H : ∀ ep' ft', (∀ j, j < 4 → ep' j = 0) → (∀ j, j < 4 → ft' j = 0) → ∃ n, wX_reset_124 post fL fS fJ fK n 0 op aa ab rg sp ep' ft' vi wt xx yy zz rs ls kf kv) : ∀ d i ep ft, i + d = 4 → (∀ j, j < i → ep j = 0) → (∀ j, j < i → ft j = 0) → wX_reset_97 post fL fS fJ fK (d + 1) (nI i) op aa ab rg sp ep ft vi wt xx yy zz rs ls kf kv := by
  intro d
  induction d with
  | zero =>
    intro i ep ft hi h1 h2
    have e : i = 4 := by omega
    subst e
    exact br_t (by decide) (H ep ft h1 h2)
  | succ d ih =>
    intro i ep ft hi h1 h2
    refine br_f (hi4 (by omega)) ?_
    rw [nI_clamp (n := i) (by omega)]
    have hv : vp_in (nI i) 4 := vp_in_nI (by omega) (by decide)
    exact ⟨hv, nm_e ⟨hv, nm_e (nm_r (nI_1 i) (ih (i + 1) _ _ (by omega) (upd_z h1) (upd_z h2)))⟩⟩
theorem xz_76 {post : SX → Prop} (H : ∀ sp', (∀ j, j < 6 → sp' j = 0) → ∃ n, wX_reset_97 post fL fS fJ fK n 0 op aa ab rg sp' ep ft vi wt xx yy zz rs ls kf kv) : ∀ d i sp, i + d = 6 → (∀ j, j < i → sp j = 0) → wX_reset_76 post fL fS fJ fK (d + 1) (nI i) op aa ab rg sp ep ft vi wt xx yy zz rs ls kf kv := by
  intro d
  induction d with
  | zero =>
    intro i sp hi h1
    have e : i = 6 := by omega
    subst e
    exact br_t (by decide) (H sp h1)
  | succ d ih =>
    intro i sp hi h1
    refine br_f (hi6 (by omega)) ?_
    rw [nI_clamp (n := i) (by omega)]
    have hv : vp_in (nI i) 6 := vp_in_nI (by omega) (by decide)
    exact ⟨hv, nm_e (nm_r (nI_1 i) (ih (i + 1) _ (by omega) (upd_z h1)))⟩
theorem xz_55 {post : SX → Prop} {g : Nat → Int64} (H : ∀ rg', (∀ j, j < 16 → rg' j = if j < 8 then g j else 0) → ∃ n, wX_reset_76 post fL fS fJ fK n 0 op aa ab rg' sp ep ft vi wt xx yy zz rs ls kf kv) : ∀ d i rg, i + d = 16 → 8 ≤ i → (∀ j, j < i → rg j = if j < 8 then g j else 0) → wX_reset_55 post fL fS fJ fK (d + 1) (nI i) op aa ab rg sp ep ft vi wt xx yy zz rs ls kf kv := by
  intro d
  induction d with
  | zero =>
    intro i rg hi h8 h1
    have e : i = 16 := by omega
    subst e
    exact br_t (by decide) (H rg h1)
  | succ d ih =>
    intro i rg hi h8 h1
    refine br_f (hi16 (by omega)) ?_
    rw [nI_clamp (n := i) (by omega)]
    have hv : vp_in (nI i) 16 := vp_in_nI (by omega) (by decide)
    refine ⟨hv, nm_e (nm_r (nI_1 i) (ih (i + 1) _ (by omega) (by omega) ?_))⟩
    intro j hj
    by_cases hji : j = i
    · rw [hji, pk_uLs, if_neg (by omega)]
    · rw [pk_uLn hji]; exact h1 j (by omega)
theorem xz_2 {post : SX → Prop} {n : Nat} (i : Nat) (hi : i < 3) (h : wX_reset_2 post fL fS fJ fK n (nI (i + 1)) op aa ab (vp_updL (vp_updL rg i (ipw i)) (4 + i) (ipw (3 + i))) sp ep ft vi wt xx yy zz rs ls kf kv) : wX_reset_2 post fL fS fJ fK (n + 1) (nI i) op aa ab rg sp ep ft vi wt xx yy zz rs ls kf kv := by
  refine br_f (nI_ge (a := i) (b := 3) hi (by decide)) ?_
  have e4 : (4 : Int32) + nI i = nI (4 + i) := nI_add 4 i
  have e3 : (3 : Int32) + nI i = nI (3 + i) := nI_add 3 i
  rw [e4, e3, nI_clamp (n := i) (by omega), nI_clamp (n := 4 + i) (by omega)]
  refine xi_ip (by omega) ⟨vp_in_nI (by omega) (by decide), nm_e (xi_ip (by omega) ⟨vp_in_nI (by omega) (by decide), nm_e (nm_r (nI_1 i) h)⟩)⟩
def c0r (k i : Nat) : Nat := if i = 0 then k % 8 else if i = 1 then k / 8 else 0
theorem tb_k8 : ∀ k, k < 64 → zn (k.testBit 0) (k.testBit 1) (k.testBit 2) false = k % 8 := by decide +kernel
theorem tb_k9 : ∀ k, k < 64 → zn (k.testBit 3) (k.testBit 4) (k.testBit 5) false = k / 8 := by decide +kernel
theorem xz_reset {post : SX → Prop} (H : ∀ rg' sp' ep' ft' vi' wt', (∀ k, k < 64 → ∀ i, i < 4 → z4 rg' (i * 4) k = c0r k i) → (∀ k, z6 sp' k = 0) → (∀ k, Zh wt' ft' ep' k) → (∀ k j, j < 12 → zb (vi' j) k = false) → post (fL, fS, fJ, fK, op, aa, ab, rg', sp', ep', ft', vi', wt', xx, yy, zz, rs, ls, kf, kv)) : wpX_reset post (fL, fS, fJ, fK, op, aa, ab, rg, sp, ep, ft, vi, wt, xx, yy, zz, rs, ls, kf, kv) := by
  refine Exists.intro 4 (xz_2 0 (by decide) (xz_2 1 (by decide) (xz_2 2 (by decide) (br_t (by decide) (nm_e (nm_e (Exists.intro 9 (xz_55 ?_ 8 8 _ rfl (by decide) (fun j hj => (if_pos hj).symm)))))))))
  intro rg' hr
  refine ⟨7, xz_76 ?_ 6 0 sp rfl (fun j hj => absurd hj (Nat.not_lt_zero j))⟩
  intro sp' hs
  refine ⟨5, xz_97 ?_ 4 0 ep ft rfl (fun j hj => absurd hj (Nat.not_lt_zero j)) (fun j hj => absurd hj (Nat.not_lt_zero j))⟩
  intro ep' ft' he hf
  refine ⟨13, xz_124 ?_ 12 0 vi wt rfl (fun j hj => absurd hj (Nat.not_lt_zero j)) (fun j hj => absurd hj (Nat.not_lt_zero j))⟩
  intro vi' wt' hv hw
  refine H rg' sp' ep' ft' vi' wt' ?_ ?_ ?_ ?_
  · intro k hk i hi
    match i, hi with
    | 0, _ =>
      show zn (zb (rg' 0) k) (zb (rg' 1) k) (zb (rg' 2) k) (zb (rg' 3) k) = k % 8
      rw [hr 0 (by decide), hr 1 (by decide), hr 2 (by decide), hr 3 (by decide)]
      show zn (zb (ipw 0) k) (zb (ipw 1) k) (zb (ipw 2) k) (zb 0 k) = k % 8
      rw [zb_ip0 k hk, zb_ip1 k hk, zb_ip2 k hk, zb_0, tb_k8 k hk]
    | 1, _ =>
      show zn (zb (rg' 4) k) (zb (rg' 5) k) (zb (rg' 6) k) (zb (rg' 7) k) = k / 8
      rw [hr 4 (by decide), hr 5 (by decide), hr 6 (by decide), hr 7 (by decide)]
      show zn (zb (ipw 3) k) (zb (ipw 4) k) (zb (ipw 5) k) (zb 0 k) = k / 8
      rw [zb_ip3 k hk, zb_ip4 k hk, zb_ip5 k hk, zb_0, tb_k9 k hk]
    | 2, _ =>
      show zn (zb (rg' 8) k) (zb (rg' 9) k) (zb (rg' 10) k) (zb (rg' 11) k) = 0
      rw [hr 8 (by decide), hr 9 (by decide), hr 10 (by decide), hr 11 (by decide)]
      show zn (zb 0 k) (zb 0 k) (zb 0 k) (zb 0 k) = 0
      rw [zb_0]; rfl
    | 3, _ =>
      show zn (zb (rg' 12) k) (zb (rg' 13) k) (zb (rg' 14) k) (zb (rg' 15) k) = 0
      rw [hr 12 (by decide), hr 13 (by decide), hr 14 (by decide), hr 15 (by decide)]
      show zn (zb 0 k) (zb 0 k) (zb 0 k) (zb 0 k) = 0
      rw [zb_0]; rfl
  · intro k
    unfold z6
    rw [hs 0 (by decide), hs 1 (by decide), hs 2 (by decide), hs 3 (by decide), hs 4 (by decide), hs 5 (by decide), zb_0]
    rfl
  · intro k
    exact ⟨fun q hq => by rw [hw q hq, zb_0], fun j hj => by rw [hf j hj, zb_0], fun j hj => by rw [he j hj, zb_0]⟩
  · intro k j hj
    rw [hv j hj, zb_0]
end
end
section
/-! ===== the pure run of one lane: c = (registers, position, steps done, visited, end), end 4: it still runs ===== -/
abbrev LnS : Type := (Nat → Nat) × Nat × Nat × (Nat → Bool) × Nat
/-- one instruction: (registers, end, next position) -/
def ln_ex (o a b p : Nat) (r : Nat → Nat) : (Nat → Nat) × Nat × Nat :=
  if o = 11 then (r, 0, p)
  else if o = 10 ∧ r a = 0 then (r, 3, p)
  else if o = 5 ∧ r (b % 4) = 0 then (r, 2, p)
  else if o = 9 ∧ ¬ r a = 0 then (r, 4, b)
  else if o < 9 then (fun i => if i = a then ln_cv o b (r a) (r (b % 4)) else r i, 4, p + 1)
  else (r, 4, p + 1)
def ln_st (n L : Nat) (o a b : Nat → Nat) (c : LnS) : LnS :=
  if c.2.2.2.2 = 4 then
    (if n ≤ c.2.1 then (c.1, c.2.1, c.2.2.1, c.2.2.2.1, 0)
     else if L ≤ c.2.2.1 then (c.1, c.2.1, c.2.2.1, c.2.2.2.1, 1)
     else ((ln_ex (o c.2.1) (a c.2.1) (b c.2.1) c.2.1 c.1).1, (ln_ex (o c.2.1) (a c.2.1) (b c.2.1) c.2.1 c.1).2.2, c.2.2.1 + 1, (fun j => c.2.2.2.1 j || decide (j = c.2.1)), (ln_ex (o c.2.1) (a c.2.1) (b c.2.1) c.2.1 c.1).2.1))
  else c
def ln_it (n L : Nat) (o a b : Nat → Nat) : Nat → LnS → LnS
  | 0, c => c
  | m + 1, c => ln_st n L o a b (ln_it n L o a b m c)
def ln_c0 (k : Nat) : LnS := (c0r k, 0, 0, (fun _ => false), 4)
def ln_fin (n L : Nat) (o a b : Nat → Nat) (k : Nat) : LnS := ln_it n L o a b 41 (ln_c0 k)
/-- the program is well formed -/
def ln_PG (n L : Nat) (o a b : Nat → Nat) : Prop := n ≤ 12 ∧ 1 ≤ L ∧ L ≤ 40 ∧ ∀ p, o p ≤ 11 ∧ a p ≤ 3 ∧ b p ≤ 15 ∧ (o p = 9 → b p ≤ 12)
def ln_B (L : Nat) (c : LnS) : Prop := c.2.1 ≤ 12 ∧ c.2.2.1 ≤ L ∧ c.2.2.2.2 ≤ 4 ∧ ∀ i, i < 4 → c.1 i < 16
theorem ln_val_lt : ∀ o x y, x < 16 → y < 16 → ln_val o x y < 16 := by
  intro o x y hx hy
  unfold ln_val
  have h6 : x &&& y < 16 := Nat.lt_of_le_of_lt Nat.and_le_left hx
  have h7 : x ^^^ y < 2 ^ 4 := Nat.xor_lt_two_pow hx hy
  have h5 : x / y < 16 := Nat.lt_of_le_of_lt (Nat.div_le_self _ _) hx
  repeat' split
  all_goals omega
theorem ln_cv_lt {o b x y : Nat} (hb : b ≤ 15) (hx : x < 16) (hy : y < 16) : ln_cv o b x y < 16 := by
  unfold ln_cv
  split
  · omega
  · exact ln_val_lt o x y hx hy
theorem ln_ex_B {o a b p : Nat} {r : Nat → Nat} (ho : o ≤ 11) (ha : a ≤ 3) (hb : b ≤ 15) (h9 : o = 9 → b ≤ 12) (hp : p < 12) (hr : ∀ i, i < 4 → r i < 16) : (ln_ex o a b p r).2.2 ≤ 12 ∧ (ln_ex o a b p r).2.1 ≤ 4 ∧ ∀ i, i < 4 → (ln_ex o a b p r).1 i < 16 := by
  unfold ln_ex
  by_cases h1 : o = 11
  · rw [if_pos h1]; exact ⟨by show p ≤ 12; omega, by show 0 ≤ 4; omega, hr⟩
  rw [if_neg h1]
  by_cases h2 : o = 10 ∧ r a = 0
  · rw [if_pos h2]; exact ⟨by show p ≤ 12; omega, by show 3 ≤ 4; omega, hr⟩
  rw [if_neg h2]
  by_cases h3 : o = 5 ∧ r (b % 4) = 0
  · rw [if_pos h3]; exact ⟨by show p ≤ 12; omega, by show 2 ≤ 4; omega, hr⟩
  rw [if_neg h3]
  by_cases h4 : o = 9 ∧ ¬ r a = 0
  · rw [if_pos h4]; exact ⟨h9 h4.1, by show 4 ≤ 4; omega, hr⟩
  rw [if_neg h4]
  by_cases h5 : o < 9
  · rw [if_pos h5]
    refine ⟨by show p + 1 ≤ 12; omega, by show 4 ≤ 4; omega, ?_⟩
    intro i hi
    show (if i = a then ln_cv o b (r a) (r (b % 4)) else r i) < 16
    split
    · exact ln_cv_lt hb (hr a (by omega)) (hr _ (by omega))
    · exact hr i hi
  · rw [if_neg h5]; exact ⟨by show p + 1 ≤ 12; omega, by show 4 ≤ 4; omega, hr⟩
section
variable {n L : Nat} {o a b : Nat → Nat}
theorem ln_st_e {c : LnS} (h : ¬ c.2.2.2.2 = 4) : ln_st n L o a b c = c := by unfold ln_st; rw [if_neg h]
theorem ln_st_h {c : LnS} (h : c.2.2.2.2 = 4) (hp : n ≤ c.2.1) : ln_st n L o a b c = (c.1, c.2.1, c.2.2.1, c.2.2.2.1, 0) := by unfold ln_st; rw [if_pos h, if_pos hp]
theorem ln_st_t {c : LnS} (h : c.2.2.2.2 = 4) (hp : ¬ n ≤ c.2.1) (hd : L ≤ c.2.2.1) : ln_st n L o a b c = (c.1, c.2.1, c.2.2.1, c.2.2.2.1, 1) := by unfold ln_st; rw [if_pos h, if_neg hp, if_pos hd]
theorem ln_st_x {c : LnS} (h : c.2.2.2.2 = 4) (hp : ¬ n ≤ c.2.1) (hd : ¬ L ≤ c.2.2.1) : ln_st n L o a b c = ((ln_ex (o c.2.1) (a c.2.1) (b c.2.1) c.2.1 c.1).1, (ln_ex (o c.2.1) (a c.2.1) (b c.2.1) c.2.1 c.1).2.2, c.2.2.1 + 1, (fun j => c.2.2.2.1 j || decide (j = c.2.1)), (ln_ex (o c.2.1) (a c.2.1) (b c.2.1) c.2.1 c.1).2.1) := by unfold ln_st; rw [if_pos h, if_neg hp, if_neg hd]
theorem ln_st_B (P : ln_PG n L o a b) {c : LnS} (hB : ln_B L c) : ln_B L (ln_st n L o a b c) := by
  by_cases h : c.2.2.2.2 = 4
  · by_cases hp : n ≤ c.2.1
    · rw [ln_st_h h hp]; exact ⟨hB.1, hB.2.1, by show 0 ≤ 4; omega, hB.2.2.2⟩
    · by_cases hd : L ≤ c.2.2.1
      · rw [ln_st_t h hp hd]; exact ⟨hB.1, hB.2.1, by show 1 ≤ 4; omega, hB.2.2.2⟩
      · rw [ln_st_x h hp hd]
        have hq := P.2.2.2 c.2.1
        have hn := P.1
        have hx := ln_ex_B (p := c.2.1) (r := c.1) hq.1 hq.2.1 hq.2.2.1 hq.2.2.2 (by omega) hB.2.2.2
        exact ⟨hx.1, by show c.2.2.1 + 1 ≤ L; omega, hx.2.1, hx.2.2⟩
  · rw [ln_st_e h]; exact hB
theorem ln_c0_B (k : Nat) (hk : k < 64) : ln_B L (ln_c0 k) := by
  refine ⟨Nat.zero_le _, Nat.zero_le _, Nat.le_refl 4, ?_⟩
  intro i hi
  show c0r k i < 16
  unfold c0r
  repeat' split
  all_goals omega
theorem ln_it_B (P : ln_PG n L o a b) {k : Nat} (hk : k < 64) (m : Nat) : ln_B L (ln_it n L o a b m (ln_c0 k)) := by
  induction m with
  | zero => exact ln_c0_B k hk
  | succ m ih => exact ln_st_B P ih
/-- a lane that still runs has done as many steps as passes -/
theorem ln_it_d (k : Nat) (m : Nat) : (ln_it n L o a b m (ln_c0 k)).2.2.2.2 = 4 → (ln_it n L o a b m (ln_c0 k)).2.2.1 = m := by
  induction m with
  | zero => intro _; rfl
  | succ m ih =>
    show (ln_st n L o a b (ln_it n L o a b m (ln_c0 k))).2.2.2.2 = 4 → (ln_st n L o a b (ln_it n L o a b m (ln_c0 k))).2.2.1 = m + 1
    generalize ln_it n L o a b m (ln_c0 k) = c at ih
    by_cases h : c.2.2.2.2 = 4
    · by_cases hp : n ≤ c.2.1
      · rw [ln_st_h h hp]; intro h0; exact absurd (show (0 : Nat) = 4 from h0) (by decide)
      · by_cases hd : L ≤ c.2.2.1
        · rw [ln_st_t h hp hd]; intro h0; exact absurd (show (1 : Nat) = 4 from h0) (by decide)
        · rw [ln_st_x h hp hd]; intro _
          show c.2.2.1 + 1 = m + 1
          rw [ih h]
    · rw [ln_st_e h]; intro h0; exact absurd h0 h
theorem ln_it_end (P : ln_PG n L o a b) {k i : Nat} (hk : k < 64) (hi : L < i) : ¬ (ln_it n L o a b i (ln_c0 k)).2.2.2.2 = 4 := by
  intro h
  have h1 := ln_it_d k i h
  have h2 := (ln_it_B P hk i).2.1
  omega
theorem ln_fin_B (P : ln_PG n L o a b) {k : Nat} (hk : k < 64) : ln_B L (ln_fin n L o a b k) := by
  unfold ln_fin
  exact ln_it_B P hk 41
theorem ln_fin_e (P : ln_PG n L o a b) {k : Nat} (hk : k < 64) : (ln_fin n L o a b k).2.2.2.2 < 4 := by
  have h3 := P.2.2.1
  have h1 := ln_it_end P (i := 41) hk (by omega)
  have h2 := (ln_fin_B P hk).2.2.1
  unfold ln_fin at h2 ⊢
  omega
theorem ln_it_stay {c : LnS} {m : Nat} (h : ¬ (ln_it n L o a b m c).2.2.2.2 = 4) : ∀ d, ln_it n L o a b (m + d) c = ln_it n L o a b m c := by
  intro d
  induction d with
  | zero => rfl
  | succ d ih =>
    show ln_st n L o a b (ln_it n L o a b (m + d) c) = _
    rw [ih, ln_st_e h]
theorem ln_it_two {c : LnS} {m M : Nat} (h : ¬ (ln_it n L o a b m c).2.2.2.2 = 4) (hM : ¬ (ln_it n L o a b M c).2.2.2.2 = 4) : ln_it n L o a b m c = ln_it n L o a b M c := by
  rcases Nat.le_total m M with hm | hm
  · have h1 := ln_it_stay h (M - m)
    rw [show m + (M - m) = M by omega] at h1
    exact h1.symm
  · have h1 := ln_it_stay hM (m - M)
    rw [show M + (m - M) = m by omega] at h1
    exact h1
theorem ln_it_fin (P : ln_PG n L o a b) {k m : Nat} (hk : k < 64) (h : ¬ (ln_it n L o a b m (ln_c0 k)).2.2.2.2 = 4) : ln_it n L o a b m (ln_c0 k) = ln_fin n L o a b k := by
  have h3 := P.2.2.1
  unfold ln_fin
  exact ln_it_two h (ln_it_end P hk (by omega))
end
/-! sums over lanes -/
def ln_sm (f : Nat → Nat) : Nat → Nat
  | 0 => 0
  | m + 1 => ln_sm f m + f m
theorem ln_sm_le {f g : Nat → Nat} : ∀ m, (∀ k, k < m → f k ≤ g k) → ln_sm f m ≤ ln_sm g m := by
  intro m
  induction m with
  | zero => intro _; exact Nat.le_refl 0
  | succ m ih =>
    intro h
    have h1 := ih (fun k hk => h k (by omega))
    have h2 := h m (by omega)
    show ln_sm f m + f m ≤ ln_sm g m + g m
    omega
theorem ln_sm_lt {f g : Nat → Nat} : ∀ m, (∀ k, k < m → f k ≤ g k) → ∀ j, j < m → f j < g j → ln_sm f m < ln_sm g m := by
  intro m
  induction m with
  | zero => intro _ j hj; exact absurd hj (Nat.not_lt_zero j)
  | succ m ih =>
    intro h j hj hlt
    show ln_sm f m + f m < ln_sm g m + g m
    by_cases hjm : j = m
    · have h1 := ln_sm_le m (fun k hk => h k (by omega))
      rw [hjm] at hlt
      omega
    · have h1 := ih (fun k hk => h k (by omega)) j (by omega) hlt
      have h2 := h m (by omega)
      omega
theorem ln_sm_c (c : Nat) : ∀ m, ln_sm (fun _ => c) m = c * m := by
  intro m
  induction m with
  | zero => rfl
  | succ m ih =>
    show ln_sm (fun _ => c) m + c = c * (m + 1)
    rw [ih, Nat.mul_succ]
def ln_mu (c : LnS) : Nat := if c.2.2.2.2 = 4 then 41 - c.2.2.1 else 0
end
section
/-! ===== X: one instruction on all lanes of l ===== -/
/-- what a lane that ran on to (e, q) shows: it waits at q, or has ended behind the program -/
def ln_ee (n e q : Nat) : Nat := if e = 4 ∧ n ≤ q then 0 else e
def xk_C (n o a b p : Nat) (l : Int64) (rg ep ft wt rg' ep' ft' wt' : Nat → Int64) : Prop := ∀ k, k < 64 →
  (zb l k = false → (∀ i, i < 4 → z4 rg' (i * 4) k = z4 rg (i * 4) k) ∧ Zm wt ft ep wt' ft' ep' k) ∧
  (zb l k = true → Zh wt ft ep k → (∀ i, i < 4 → z4 rg' (i * 4) k = (ln_ex o a b p (fun i => z4 rg (i * 4) k)).1 i) ∧ Zd wt' ft' ep' k (ln_ee n (ln_ex o a b p (fun i => z4 rg (i * 4) k)).2.1 (ln_ex o a b p (fun i => z4 rg (i * 4) k)).2.2) (ln_ex o a b p (fun i => z4 rg (i * 4) k)).2.2)
theorem ln_ee4 (n q : Nat) : ln_ee n 4 q = if q < n then 4 else 0 := by
  unfold ln_ee
  by_cases h : q < n
  · rw [if_pos h, if_neg (by omega)]
  · rw [if_neg h, if_pos ⟨rfl, by omega⟩]
theorem ln_eex {n e q : Nat} (h : e ≠ 4) : ln_ee n e q = e := by
  unfold ln_ee
  rw [if_neg (fun hx => h hx.1)]
theorem zb_any (l : Int64) (f : Nat → Int64) (k : Nat) : zb (l &&& (((f 0 ||| f 1) ||| f 2) ||| f 3)) k = (zb l k && decide (z4 f 0 k ≠ 0)) := by
  rw [zb_and, zb_or, zb_or, zb_or, zn_ne0]
  rfl
theorem zb_rest (l m : Int64) {k : Nat} (hk : k < 64) : zb (l &&& (m ^^^ (-1))) k = (zb l k && !zb m k) := by rw [zb_and, zb_not _ hk]
section
variable {o a b p : Nat} {r : Nat → Nat}
theorem ex_11 (h : o = 11) : ln_ex o a b p r = (r, 0, p) := by unfold ln_ex; rw [if_pos h]
theorem ex_10 (h : o = 10) (h0 : r a = 0) : ln_ex o a b p r = (r, 3, p) := by unfold ln_ex; rw [if_neg (by omega), if_pos ⟨h, h0⟩]
theorem ex_10n (h : o = 10) (h0 : ¬ r a = 0) : ln_ex o a b p r = (r, 4, p + 1) := by
  unfold ln_ex; rw [if_neg (by omega), if_neg (fun x => h0 x.2), if_neg (by omega), if_neg (by omega), if_neg (by omega)]
theorem ex_5 (h : o = 5) (h0 : r (b % 4) = 0) : ln_ex o a b p r = (r, 2, p) := by unfold ln_ex; rw [if_neg (by omega), if_neg (by omega), if_pos ⟨h, h0⟩]
theorem ex_9 (h : o = 9) (h0 : ¬ r a = 0) : ln_ex o a b p r = (r, 4, b) := by unfold ln_ex; rw [if_neg (by omega), if_neg (by omega), if_neg (by omega), if_pos ⟨h, h0⟩]
theorem ex_9z (h : o = 9) (h0 : r a = 0) : ln_ex o a b p r = (r, 4, p + 1) := by
  unfold ln_ex; rw [if_neg (by omega), if_neg (by omega), if_neg (by omega), if_neg (fun x => x.2 h0), if_neg (by omega)]
theorem ex_c (h : o < 9) (h0 : o = 5 → ¬ r (b % 4) = 0) : ln_ex o a b p r = (fun i => if i = a then ln_cv o b (r a) (r (b % 4)) else r i, 4, p + 1) := by
  unfold ln_ex; rw [if_neg (by omega), if_neg (by omega), if_neg (fun x => h0 x.1 x.2), if_neg (by omega), if_pos h]
end
section
variable {rg ep ft wt xx yy : Nat → Int64} {n o a b p : Nat} {l : Int64}
theorem kc_11 {f1 e1 : Nat → Int64} (ho : o = 11) (h1 : Zp l 0 p wt ft ep wt f1 e1) : xk_C n o a b p l rg ep ft wt rg e1 f1 wt := by
  intro k hk
  have h := h1 k hk
  refine ⟨fun hl => ⟨fun _ _ => rfl, h.1 hl⟩, fun hl hh => ?_⟩
  rw [ex_11 (a := a) (r := fun i => z4 rg (i * 4) k) ho]
  exact ⟨fun _ _ => rfl, by rw [ln_eex (e := 0) (by decide)]; exact h.2 hl hh⟩
theorem kc_9 {w1 f1 e1 w2 f2 e2 : Nat → Int64} (ho : o = 9) (hx : ∀ k, z4 xx 0 k = z4 rg (a * 4) k) (h1 : Zp (l &&& (((xx 0 ||| xx 1) ||| xx 2) ||| xx 3)) (if b < n then 4 else 0) b wt ft ep w1 f1 e1) (h2 : Zp (l &&& ((l &&& (((xx 0 ||| xx 1) ||| xx 2) ||| xx 3)) ^^^ (-1))) (if p + 1 < n then 4 else 0) (p + 1) w1 f1 e1 w2 f2 e2) : xk_C n o a b p l rg ep ft wt rg e2 f2 w2 := by
  intro k hk
  have g1 := h1 k hk
  have g2 := h2 k hk
  rw [zb_rest _ _ hk] at g2
  rw [zb_any, hx k] at g1 g2
  refine ⟨fun hl => ⟨fun _ _ => rfl, ?_⟩, fun hl hh => ?_⟩
  · rw [hl] at g1 g2
    exact Zm_t (g1.1 rfl) (g2.1 rfl)
  · rw [hl] at g1 g2
    by_cases h0 : z4 rg (a * 4) k = 0
    · rw [decide_eq_false (fun x => x h0)] at g1 g2
      rw [ex_9z (a := a) (r := fun i => z4 rg (i * 4) k) ho h0]
      refine ⟨fun _ _ => rfl, ?_⟩
      rw [ln_ee4]
      exact g2.2 rfl (Zm_h (g1.1 rfl) hh)
    · rw [decide_eq_true h0] at g1 g2
      rw [ex_9 (a := a) (r := fun i => z4 rg (i * 4) k) ho h0]
      refine ⟨fun _ _ => rfl, ?_⟩
      rw [ln_ee4]
      exact Zm_d (g2.1 rfl) (g1.2 rfl hh)
theorem kc_10 {f1 e1 w2 f2 e2 : Nat → Int64} (ho : o = 10) (hx : ∀ k, z4 xx 0 k = z4 rg (a * 4) k) (h1 : Zp (l &&& ((l &&& (((xx 0 ||| xx 1) ||| xx 2) ||| xx 3)) ^^^ (-1))) 3 p wt ft ep wt f1 e1) (h2 : Zp (l &&& (((xx 0 ||| xx 1) ||| xx 2) ||| xx 3)) (if p + 1 < n then 4 else 0) (p + 1) wt f1 e1 w2 f2 e2) : xk_C n o a b p l rg ep ft wt rg e2 f2 w2 := by
  intro k hk
  have g1 := h1 k hk
  have g2 := h2 k hk
  rw [zb_rest _ _ hk] at g1
  rw [zb_any, hx k] at g1 g2
  refine ⟨fun hl => ⟨fun _ _ => rfl, ?_⟩, fun hl hh => ?_⟩
  · rw [hl] at g1 g2
    exact Zm_t (g1.1 rfl) (g2.1 rfl)
  · rw [hl] at g1 g2
    by_cases h0 : z4 rg (a * 4) k = 0
    · rw [decide_eq_false (fun x => x h0)] at g1 g2
      rw [ex_10 (a := a) (r := fun i => z4 rg (i * 4) k) ho h0]
      refine ⟨fun _ _ => rfl, ?_⟩
      rw [ln_eex (e := 3) (by decide)]
      exact Zm_d (g2.1 rfl) (g1.2 rfl hh)
    · rw [decide_eq_true h0] at g1 g2
      rw [ex_10n (a := a) (r := fun i => z4 rg (i * 4) k) ho h0]
      refine ⟨fun _ _ => rfl, ?_⟩
      rw [ln_ee4]
      exact g2.2 rfl (Zm_h (g1.1 rfl) hh)
theorem kc_5 {f1 e1 z1 rg1 w2 f2 e2 : Nat → Int64} (ho : o = 5) (hx : ∀ k, z4 xx 0 k = z4 rg (a * 4) k) (hy : ∀ k, z4 yy 0 k = z4 rg (b % 4 * 4) k) (h1 : Zp (l &&& ((l &&& (((yy 0 ||| yy 1) ||| yy 2) ||| yy 3)) ^^^ (-1))) 2 p wt ft ep wt f1 e1)
  (hd : ∀ k, k < 64 → z4 yy 0 k ≠ 0 → z4 z1 0 k = z4 xx 0 k / z4 yy 0 k)
  (hs : ∀ k, k < 64 → ∀ i, i < 4 → z4 rg1 (i * 4) k = if zb (l &&& (((yy 0 ||| yy 1) ||| yy 2) ||| yy 3)) k = true ∧ i = a then z4 z1 0 k else z4 rg (i * 4) k)
  (h2 : Zp (l &&& (((yy 0 ||| yy 1) ||| yy 2) ||| yy 3)) (if p + 1 < n then 4 else 0) (p + 1) wt f1 e1 w2 f2 e2) : xk_C n o a b p l rg ep ft wt rg1 e2 f2 w2 := by
  intro k hk
  have g1 := h1 k hk
  have g2 := h2 k hk
  have gs := hs k hk
  have gd := hd k hk
  rw [zb_rest _ _ hk] at g1
  rw [zb_any, hy k] at g1 g2 gs
  rw [hx k, hy k] at gd
  refine ⟨fun hl => ⟨fun i hi => ?_, ?_⟩, fun hl hh => ?_⟩
  · rw [gs i hi, hl, Bool.false_and, if_neg (fun x => Bool.noConfusion x.1)]
  · rw [hl] at g1 g2
    exact Zm_t (g1.1 rfl) (g2.1 rfl)
  · rw [hl] at g1 g2 gs
    by_cases h0 : z4 rg (b % 4 * 4) k = 0
    · rw [decide_eq_false (fun x => x h0)] at g1 g2 gs
      rw [ex_5 (a := a) (r := fun i => z4 rg (i * 4) k) ho h0]
      refine ⟨fun i hi => ?_, ?_⟩
      · rw [gs i hi, if_neg (fun x => Bool.noConfusion x.1)]
      · rw [ln_eex (e := 2) (by decide)]
        exact Zm_d (g2.1 rfl) (g1.2 rfl hh)
    · rw [decide_eq_true h0] at g1 g2 gs
      rw [ex_c (a := a) (r := fun i => z4 rg (i * 4) k) (by omega) (fun _ => h0)]
      refine ⟨fun i hi => ?_, ?_⟩
      · rw [gs i hi]
        by_cases hia : i = a
        · rw [if_pos ⟨rfl, hia⟩]
          show _ = if i = a then _ else _
          rw [if_pos hia, gd h0, ho]
          rfl
        · rw [if_neg (fun x => hia x.2)]
          show _ = if i = a then _ else _
          rw [if_neg hia]
      · rw [ln_ee4]
        exact g2.2 rfl (Zm_h (g1.1 rfl) hh)
theorem kc_c {z1 rg1 w2 f2 e2 : Nat → Int64} (ho : o < 9) (h5 : o ≠ 5) (hx : ∀ k, z4 xx 0 k = z4 rg (a * 4) k) (hy : ∀ k, z4 yy 0 k = z4 rg (b % 4 * 4) k)
  (hd : ∀ k, k < 64 → z4 z1 0 k = ln_cv o b (z4 xx 0 k) (z4 yy 0 k))
  (hs : ∀ k, k < 64 → ∀ i, i < 4 → z4 rg1 (i * 4) k = if zb l k = true ∧ i = a then z4 z1 0 k else z4 rg (i * 4) k)
  (h2 : Zp l (if p + 1 < n then 4 else 0) (p + 1) wt ft ep w2 f2 e2) : xk_C n o a b p l rg ep ft wt rg1 e2 f2 w2 := by
  intro k hk
  have g2 := h2 k hk
  have gs := hs k hk
  have gd := hd k hk
  rw [hx k, hy k] at gd
  refine ⟨fun hl => ⟨fun i hi => ?_, g2.1 hl⟩, fun hl hh => ?_⟩
  · rw [gs i hi, hl, if_neg (fun x => Bool.noConfusion x.1)]
  · rw [ex_c (a := a) (r := fun i => z4 rg (i * 4) k) ho (fun h => absurd h h5)]
    refine ⟨fun i hi => ?_, ?_⟩
    · rw [gs i hi]
      by_cases hia : i = a
      · rw [if_pos ⟨hl, hia⟩]
        show _ = if i = a then _ else _
        rw [if_pos hia, gd]
      · rw [if_neg (fun x => hia x.2)]
        show _ = if i = a then _ else _
        rw [if_neg hia]
    · rw [ln_ee4]
      exact g2.2 hl hh
end
section
variable {fL fS fJ fK : Int32} {op aa ab : Nat → Int32} {rg sp ep ft vi wt xx yy zz rs ls kf kv : Nat → Int64}
theorem xk_carry {post : SX → Prop} (n o a b p : Nat) (l : Int64) (hn : n ≤ 12) (hp : p < 12) (eo : op p = nI o) (ea : aa p = nI a) (eb : ab p = nI b) (ho : o ≤ 11) (ha : a ≤ 3) (hb : b ≤ 15) (h9 : o = 9 → b ≤ 12)
  (H : ∀ rg' ep' ft' wt' xx' yy' zz' rs' ls', xk_C n o a b p l rg ep ft wt rg' ep' ft' wt' → post (fL, nI n, fJ, fK, op, aa, ab, rg', sp, ep', ft', vi, wt', xx', yy', zz', rs', ls', kf, kv)) : wpX_carry post (fL, nI n, fJ, fK, op, aa, ab, rg, sp, ep, ft, vi, wt, xx, yy, zz, rs, ls, kf, kv) (nI p) l := by
  have hv : vp_in (nI p) 12 := vp_in_nI hp (by decide)
  have hc : (nI p).toNatClampNeg = p := nI_clamp (by omega)
  refine And.intro hv ?_
  rw [hc, nI_1 p]
  refine nm_r eo ⟨hv, hv, ?_⟩
  rw [ea, eb, pk_andN (m := 3) (by omega) 2 (by decide)]
  refine xa_load a (b % 2 ^ 2) (by omega) (Nat.mod_lt _ (by decide)) ?_
  intro x' y' hx hy
  dsimp only
  have ne : ∀ c : Nat, c < 12 → o ≠ c → ¬ nI o = nI c := fun c hc hn hx => hn ((nI_eq (by omega) (by omega)).mp hx)
  by_cases h11 : o = 11
  · refine br_t (by rw [h11]; rfl) (xt_settle l 0 p (by decide) (by omega) ?_)
    intro f1 e1 h1
    exact H rg e1 f1 wt x' y' zz rs ls (kc_11 h11 h1)
  refine br_f (ne 11 (by decide) h11) ?_
  by_cases e9 : o = 9
  · have hb12 := h9 e9
    refine br_t (by rw [e9]; rfl) (nm_e ⟨hv, ?_⟩)
    rw [eb]
    refine xt_send _ n b hn (by omega) ?_
    intro w1 f1 e1 h1
    refine xt_send _ n (p + 1) hn (by omega) ?_
    intro w2 f2 e2 h2
    exact H rg e2 f2 w2 x' y' zz rs ls (kc_9 e9 hx h1 h2)
  refine br_f (ne 9 (by decide) e9) ?_
  by_cases e10 : o = 10
  · refine br_t (by rw [e10]; rfl) (nm_e (xt_settle _ 3 p (by decide) (by omega) ?_))
    intro f1 e1 h1
    refine xt_send _ n (p + 1) hn (by omega) ?_
    intro w2 f2 e2 h2
    exact H rg e2 f2 w2 x' y' zz rs ls (kc_10 e10 hx h1 h2)
  refine br_f (ne 10 (by decide) e10) ?_
  by_cases e5 : o = 5
  · refine br_t (by rw [e5]; rfl) (nm_e (xt_settle _ 2 p (by decide) (by omega) ?_))
    intro f1 e1 h1
    refine xa_div ?_
    intro z1 r1 l1 hd
    refine And.intro hv ?_
    dsimp only
    rw [ea]
    refine xa_store a _ (by omega) ?_
    intro rg1 hs
    refine xt_send _ n (p + 1) hn (by omega) ?_
    intro w2 f2 e2 h2
    exact H rg1 e2 f2 w2 x' y' z1 r1 l1 (kc_5 e5 hx hy h1 hd hs h2)
  refine br_f (ne 5 (by decide) e5) ⟨hv, ?_⟩
  rw [eb]
  refine xa_comp o b (by omega) e5 (by omega) ?_
  intro z1 hd
  refine And.intro hv ?_
  dsimp only
  rw [ea]
  refine xa_store a _ (by omega) ?_
  intro rg1 hs
  refine xt_send _ n (p + 1) hn (by omega) ?_
  intro w2 f2 e2 h2
  exact H rg1 e2 f2 w2 x' y' z1 rs ls (kc_c (by omega) e5 hx hy hd hs h2)
end
end
section
/-! ===== X: judge ===== -/
/-- lane k of the planes shows c -/
def LI (n : Nat) (rg sp ep ft vi wt : Nat → Int64) (k : Nat) (c : LnS) : Prop := (∀ i, i < 4 → z4 rg (i * 4) k = c.1 i) ∧ z6 sp k = c.2.2.1 ∧ (∀ q, q < 12 → zb (vi q) k = c.2.2.2.1 q) ∧ Zd wt ft ep k c.2.2.2.2 c.2.1 ∧ (c.2.2.2.2 = 4 → c.2.1 < n)
/-- all lanes have ended as the pure run does -/
def JD (n L : Nat) (o a b : Nat → Nat) (rg sp ep ft vi : Nat → Int64) : Prop := ∀ k, k < 64 → (∀ i, i < 4 → z4 rg (i * 4) k = (ln_fin n L o a b k).1 i) ∧ z6 sp k = (ln_fin n L o a b k).2.2.1 ∧ (∀ q, q < 12 → zb (vi q) k = (ln_fin n L o a b k).2.2.2.1 q) ∧ (∀ j, j < 4 → zb (ft j) k = decide (j = (ln_fin n L o a b k).2.2.2.2)) ∧ z4 ep 0 k = (ln_fin n L o a b k).2.1
theorem ex_congr {o a b p : Nat} {r r' : Nat → Nat} (ha : a ≤ 3) (h : ∀ i, i < 4 → r i = r' i) : (ln_ex o a b p r).2 = (ln_ex o a b p r').2 ∧ ∀ i, i < 4 → (ln_ex o a b p r).1 i = (ln_ex o a b p r').1 i := by
  have e1 : r a = r' a := h a (by omega)
  have e2 : r (b % 4) = r' (b % 4) := h _ (by omega)
  unfold ln_ex
  rw [e1, e2]
  by_cases h1 : o = 11
  · rw [if_pos h1, if_pos h1]; exact ⟨rfl, h⟩
  rw [if_neg h1, if_neg h1]
  by_cases h2 : o = 10 ∧ r' a = 0
  · rw [if_pos h2, if_pos h2]; exact ⟨rfl, h⟩
  rw [if_neg h2, if_neg h2]
  by_cases h3 : o = 5 ∧ r' (b % 4) = 0
  · rw [if_pos h3, if_pos h3]; exact ⟨rfl, h⟩
  rw [if_neg h3, if_neg h3]
  by_cases h4 : o = 9 ∧ ¬ r' a = 0
  · rw [if_pos h4, if_pos h4]; exact ⟨rfl, h⟩
  rw [if_neg h4, if_neg h4]
  by_cases h5 : o < 9
  · rw [if_pos h5, if_pos h5]
    refine ⟨rfl, fun i hi => ?_⟩
    show (if i = a then _ else r i) = (if i = a then _ else r' i)
    rw [h i hi]
  · rw [if_neg h5, if_neg h5]; exact ⟨rfl, h⟩
section
variable {n L : Nat} {o a b : Nat → Nat} {rg sp ep ft vi wt : Nat → Int64}
theorem lr_same {rg' sp' ep' ft' vi' wt' : Nat → Int64} {k : Nat} {c : LnS} (I : LI n rg sp ep ft vi wt k c) (h1 : ∀ i, i < 4 → z4 rg' (i * 4) k = z4 rg (i * 4) k) (h2 : z6 sp' k = z6 sp k) (h3 : ∀ q, q < 12 → zb (vi' q) k = zb (vi q) k) (h4 : Zm wt ft ep wt' ft' ep' k) : LI n rg' sp' ep' ft' vi' wt' k c :=
  ⟨fun i hi => (h1 i hi).trans (I.1 i hi), h2.trans I.2.1, fun q hq => (h3 q hq).trans (I.2.2.1 q hq), Zm_d h4 I.2.2.2.1, I.2.2.2.2⟩
theorem lr_lane (P : ln_PG n L o a b) {k : Nat} (hk : k < 64) {c : LnS} (hB : ln_B L c) (I : LI n rg sp ep ft vi wt k c) {p : Nat} (hp : p < n) {w : Int64} {rg' sp' vi' f1 e1 w2 f2 e2 : Nat → Int64}
  (hw : zb w k = decide (z6 sp k = L))
  (h1 : (zb (wt p &&& w) k = false → Zm (vp_updL wt p 0) ft ep (vp_updL wt p 0) f1 e1 k) ∧ (zb (wt p &&& w) k = true → Zh (vp_updL wt p 0) ft ep k → Zd (vp_updL wt p 0) f1 e1 k 1 p))
  (h2 : zb (wt p &&& ((wt p &&& w) ^^^ (-1))) k = false → z6 sp' k = z6 sp k ∧ (∀ q, q < 12 → zb (vi' q) k = zb (vi q) k) ∧ (∀ i, i < 4 → z4 rg' (i * 4) k = z4 rg (i * 4) k) ∧ Zm (vp_updL wt p 0) f1 e1 w2 f2 e2 k)
  (h3 : zb (wt p &&& ((wt p &&& w) ^^^ (-1))) k = true → (z6 sp k < 63 → z6 sp' k = z6 sp k + 1) ∧ (∀ q, q < 12 → zb (vi' q) k = (zb (vi q) k || decide (q = p))) ∧ (Zh (vp_updL wt p 0) f1 e1 k → (∀ i, i < 4 → z4 rg' (i * 4) k = (ln_ex (o p) (a p) (b p) p (fun i => z4 rg (i * 4) k)).1 i) ∧ Zd w2 f2 e2 k (ln_ee n (ln_ex (o p) (a p) (b p) p (fun i => z4 rg (i * 4) k)).2.1 (ln_ex (o p) (a p) (b p) p (fun i => z4 rg (i * 4) k)).2.2) (ln_ex (o p) (a p) (b p) p (fun i => z4 rg (i * 4) k)).2.2)) :
  ∃ c', (c' = c ∨ c' = ln_st n L o a b c ∨ c' = ln_st n L o a b (ln_st n L o a b c)) ∧ LI n rg' sp' e2 f2 vi' w2 k c' ∧ ln_mu c' ≤ ln_mu c ∧ (zb (wt p) k = true → ln_mu c' < ln_mu c) := by
  have hn := P.1
  have hL := P.2.2.1
  have hZ := I.2.2.2.1
  have hwp := hZ.1 p (by omega)
  rw [zb_rest _ _ hk] at h2 h3
  rw [zb_and] at h1 h2 h3
  cases hl : zb (wt p) k with
  | false =>
    rw [hl] at h1 h2
    have g2 := h2 rfl
    refine ⟨c, Or.inl rfl, lr_same I g2.2.2.1 g2.1 g2.2.1 (Zm_t (Zm_t ?_ (h1.1 rfl)) g2.2.2.2), Nat.le_refl _, fun h => Bool.noConfusion h⟩
    refine ⟨fun q hq => ?_, fun _ _ => rfl, fun _ _ => rfl⟩
    by_cases hqp : q = p
    · rw [hqp, pk_uLs, zb_0, hl]
    · rw [pk_uLn hqp]
  | true =>
    rw [hl] at h1 h2 h3 hwp
    have hd : c.2.2.2.2 = 4 ∧ p = c.2.1 := of_decide_eq_true hwp.symm
    have hcp : c.2.1 < n := I.2.2.2.2 hd.1
    have hB2 := hB.2.1
    have hh : Zh (vp_updL wt p 0) ft ep k := by
      refine ⟨fun q hq => ?_, fun j hj => ?_, fun j hj => ?_⟩
      · by_cases hqp : q = p
        · rw [hqp, pk_uLs, zb_0]
        · rw [pk_uLn hqp, hZ.1 q hq, decide_eq_false (fun h => hqp (h.2.trans hd.2.symm))]
      · rw [hZ.2.1 j hj, decide_eq_false (by omega)]
      · rw [hZ.2.2 j hj, decide_eq_false (fun h => h hd.1), Bool.false_and]
    have hmu : ln_mu c = 41 - c.2.2.1 := by unfold ln_mu; rw [if_pos hd.1]
    rw [hw, I.2.1] at h1 h2 h3
    by_cases hc : c.2.2.1 = L
    · rw [decide_eq_true hc] at h1 h2
      have g2 := h2 rfl
      have g1 := h1.2 rfl hh
      have es := ln_st_t (n := n) (L := L) (o := o) (a := a) (b := b) hd.1 (by omega) (by omega)
      refine ⟨ln_st n L o a b c, Or.inr (Or.inl rfl), ?_, ?_, ?_⟩
      · rw [es]
        refine ⟨fun i hi => (g2.2.2.1 i hi).trans (I.1 i hi), g2.1, fun q hq => (g2.2.1 q hq).trans (I.2.2.1 q hq), ?_, fun h => absurd (show (1 : Nat) = 4 from h) (by decide)⟩
        have g3 := Zm_d g2.2.2.2 g1
        rw [hd.2] at g3
        exact g3
      · rw [es]; exact Nat.zero_le _
      · intro _
        rw [es, hmu]
        show 0 < _
        omega
    · rw [decide_eq_false hc] at h1 h3
      have g3 := h3 rfl
      have gx := g3.2.2 (Zm_h (h1.1 rfl) hh)
      have gs := g3.1 (by omega)
      have hq := P.2.2.2 p
      have ec := ex_congr (o := o p) (a := a p) (b := b p) (p := p) (r := fun i => z4 rg (i * 4) k) (r' := c.1) hq.2.1 I.1
      have es := ln_st_x (n := n) (L := L) (o := o) (a := a) (b := b) hd.1 (by omega) (by omega)
      rw [← hd.2] at es
      rw [ec.1] at gx
      have hE := (ln_ex_B (p := p) (r := c.1) hq.1 hq.2.1 hq.2.2.1 hq.2.2.2 (by omega) hB.2.2.2).2.1
      by_cases hend : (ln_ex (o p) (a p) (b p) p c.1).2.1 = 4 ∧ n ≤ (ln_ex (o p) (a p) (b p) p c.1).2.2
      · have gz := gx.2
        unfold ln_ee at gz
        rw [if_pos hend] at gz
        have es2 := ln_st_h (n := n) (L := L) (o := o) (a := a) (b := b) (c := ln_st n L o a b c) (by rw [es]; exact hend.1) (by rw [es]; exact hend.2)
        refine ⟨ln_st n L o a b (ln_st n L o a b c), Or.inr (Or.inr rfl), ?_, ?_, ?_⟩
        · rw [es2, es]
          refine ⟨fun i hi => (gx.1 i hi).trans (ec.2 i hi), gs, fun q hq' => ?_, gz, fun h => absurd (show (0 : Nat) = 4 from h) (by decide)⟩
          show zb (vi' q) k = (c.2.2.2.1 q || decide (q = p))
          rw [g3.2.1 q hq', I.2.2.1 q hq']
        · rw [es2]; exact Nat.zero_le _
        · intro _
          rw [es2, hmu]
          show 0 < _
          omega
      · have gz := gx.2
        unfold ln_ee at gz
        rw [if_neg hend] at gz
        have hlt : ln_mu (ln_st n L o a b c) < ln_mu c := by
          rw [hmu, es]
          unfold ln_mu
          split
          · show 41 - (c.2.2.1 + 1) < 41 - c.2.2.1
            omega
          · omega
        refine ⟨ln_st n L o a b c, Or.inr (Or.inl rfl), ?_, Nat.le_of_lt hlt, fun _ => hlt⟩
        rw [es]
        refine ⟨fun i hi => (gx.1 i hi).trans (ec.2 i hi), gs, fun q hq' => ?_, gz, fun h => ?_⟩
        · show zb (vi' q) k = (c.2.2.2.1 q || decide (q = p))
          rw [g3.2.1 q hq', I.2.2.1 q hq']
        · rcases Nat.lt_or_ge (ln_ex (o p) (a p) (b p) p c.1).2.2 n with h' | h'
          · exact h'
          · exact absurd ⟨h, h'⟩ hend
/-- the planes at the end -/
theorem lr_end (P : ln_PG n L o a b) (m : Nat → Nat) (I : ∀ k, k < 64 → LI n rg sp ep ft vi wt k (ln_it n L o a b (m k) (ln_c0 k))) (hq : ∀ q, q < n → wt q = 0) : JD n L o a b rg sp ep ft vi := by
  intro k hk
  have h := I k hk
  have hn := P.1
  have hB := ln_it_B P hk (m k)
  have he : ¬ (ln_it n L o a b (m k) (ln_c0 k)).2.2.2.2 = 4 := by
    intro h4
    have h5 := h.2.2.2.2 h4
    have h6 := h.2.2.2.1.1 _ (Nat.lt_of_lt_of_le h5 hn)
    rw [hq _ h5, zb_0, decide_eq_true ⟨h4, rfl⟩] at h6
    exact Bool.noConfusion h6
  have ef := ln_it_fin P hk he
  rw [ef] at h hB he
  refine ⟨h.1, h.2.1, h.2.2.1, h.2.2.2.1.2.1, z4_of ?_ ?_⟩
  · exact Nat.lt_of_le_of_lt hB.1 (by decide)
  · intro j hj
    rw [Nat.zero_add, h.2.2.2.1.2.2 j hj, decide_eq_true he, Bool.true_and]
end
end
section
/-! ===== X: the walk of judge ===== -/
section
variable {fJ fK : Int32} {op aa ab : Nat → Int32} {kf kv : Nat → Int64} {n L : Nat} {o a b : Nat → Nat}
theorem xj_round (P : ln_PG n L o a b) (eo : ∀ p, op p = nI (o p)) (ea : ∀ p, aa p = nI (a p)) (eb : ∀ p, ab p = nI (b p)) {post : SX → Prop}
  (H : ∀ rg sp ep ft vi wt xx yy zz rs ls, JD n L o a b rg sp ep ft vi → post (nI L, nI n, fJ, fK, op, aa, ab, rg, sp, ep, ft, vi, wt, xx, yy, zz, rs, ls, kf, kv))
  (N i : Nat) (hi : i < 2700) (m : Nat → Nat) (rg sp ep ft vi wt xx yy zz rs ls : Nat → Int64)
  (I : ∀ k, k < 64 → LI n rg sp ep ft vi wt k (ln_it n L o a b (m k) (ln_c0 k)))
  (K : ∀ (m' : Nat → Nat) (rg' sp' ep' ft' vi' wt' xx' yy' zz' rs' ls' : Nat → Int64), (∀ k, k < 64 → LI n rg' sp' ep' ft' vi' wt' k (ln_it n L o a b (m' k) (ln_c0 k))) → ln_sm (fun k => ln_mu (ln_it n L o a b (m' k) (ln_c0 k))) 64 < ln_sm (fun k => ln_mu (ln_it n L o a b (m k) (ln_c0 k))) 64 → wX_judge_27 post N (nI (i + 1)) (nI L) (nI n) fJ fK op aa ab rg' sp' ep' ft' vi' wt' xx' yy' zz' rs' ls' kf kv) :
  wX_judge_27 post (N + 1) (nI i) (nI L) (nI n) fJ fK op aa ab rg sp ep ft vi wt xx yy zz rs ls kf kv := by
  have hn := P.1
  have hL := P.2.2.1
  refine br_f (nI_ge (a := i) (b := 2700) hi (by decide)) (xw_least n hn ?_ ?_)
  · intro p hp hne
    have hv : vp_in (nI p) 12 := vp_in_nI (by omega) (by decide)
    refine br_t (nI_pos' (by omega)) ?_
    rw [nI_clamp (n := p) (by omega)]
    have hq := P.2.2.2 p
    have KK : ∀ w f1 e1 rg' sp' e2 f2 vi' w2 xx' yy' zz' rs' ls', (∀ k, k < 64 → zb w k = decide (z6 sp k = L)) → Zp (wt p &&& w) 1 p (vp_updL wt p 0) ft ep (vp_updL wt p 0) f1 e1 →
      (∀ k, k < 64 → zb (wt p &&& ((wt p &&& w) ^^^ (-1))) k = false → z6 sp' k = z6 sp k ∧ (∀ q, q < 12 → zb (vi' q) k = zb (vi q) k) ∧ (∀ i, i < 4 → z4 rg' (i * 4) k = z4 rg (i * 4) k) ∧ Zm (vp_updL wt p 0) f1 e1 w2 f2 e2 k) →
      (∀ k, k < 64 → zb (wt p &&& ((wt p &&& w) ^^^ (-1))) k = true → (z6 sp k < 63 → z6 sp' k = z6 sp k + 1) ∧ (∀ q, q < 12 → zb (vi' q) k = (zb (vi q) k || decide (q = p))) ∧ (Zh (vp_updL wt p 0) f1 e1 k → (∀ i, i < 4 → z4 rg' (i * 4) k = (ln_ex (o p) (a p) (b p) p (fun i => z4 rg (i * 4) k)).1 i) ∧ Zd w2 f2 e2 k (ln_ee n (ln_ex (o p) (a p) (b p) p (fun i => z4 rg (i * 4) k)).2.1 (ln_ex (o p) (a p) (b p) p (fun i => z4 rg (i * 4) k)).2.2) (ln_ex (o p) (a p) (b p) p (fun i => z4 rg (i * 4) k)).2.2)) →
      wX_judge_27 post N (nI (i + 1)) (nI L) (nI n) fJ fK op aa ab rg' sp' e2 f2 vi' w2 xx' yy' zz' rs' ls' kf kv := by
      intro w f1 e1 rg' sp' e2 f2 vi' w2 xx' yy' zz' rs' ls' hw h1 h2 h3
      have hx : ∀ k, ∃ j, k < 64 → LI n rg' sp' e2 f2 vi' w2 k (ln_it n L o a b j (ln_c0 k)) ∧ ln_mu (ln_it n L o a b j (ln_c0 k)) ≤ ln_mu (ln_it n L o a b (m k) (ln_c0 k)) ∧ (zb (wt p) k = true → ln_mu (ln_it n L o a b j (ln_c0 k)) < ln_mu (ln_it n L o a b (m k) (ln_c0 k))) := by
        intro k
        by_cases hk : k < 64
        · obtain ⟨c', hc, hI⟩ := lr_lane P hk (ln_it_B P hk (m k)) (I k hk) hp (hw k hk) (h1 k hk) (h2 k hk) (h3 k hk)
          rcases hc with hc | hc | hc
          · subst hc
            exact ⟨m k, fun _ => hI⟩
          · subst hc
            exact ⟨m k + 1, fun _ => hI⟩
          · subst hc
            exact ⟨m k + 2, fun _ => hI⟩
        · exact ⟨0, fun h => absurd h hk⟩
      obtain ⟨m', hm⟩ := Classical.axiomOfChoice hx
      obtain ⟨j, hj, hjb⟩ := zb_ne0 hne
      exact K m' rg' sp' e2 f2 vi' w2 xx' yy' zz' rs' ls' (fun k hk => (hm k hk).1) (ln_sm_lt 64 (fun k hk => (hm k hk).2.1) j hj ((hm j hj).2.2 hjb))
    refine ⟨hv, nm_e ⟨hv, nm_e (xl_atLimit L (by omega) ?_)⟩⟩
    intro w hw
    refine nm_e (xt_settle _ 1 p (by decide) (by omega) ?_)
    intro f1 e1 h1
    refine nm_e (br_c (fun hz => ?_) (fun hz => ?_))
    · refine nm_r (nI_1 i) (KK w f1 e1 rg sp e1 f1 vi (vp_updL wt p 0) xx yy zz rs ls hw h1 ?_ ?_)
      · intro k hk _
        exact ⟨rfl, fun _ _ => rfl, fun _ _ => rfl, fun _ _ => rfl, fun _ _ => rfl, fun _ _ => rfl⟩
      · intro k hk ht
        rw [(zb_eq0 _).mp hz k hk] at ht
        exact Bool.noConfusion ht
    · refine ⟨hv, hv, nm_e (xc_count _ ?_)⟩
      intro sp' hs
      refine xk_carry n (o p) (a p) (b p) p _ hn (by omega) (eo p) (ea p) (eb p) hq.1 hq.2.1 hq.2.2.1 hq.2.2.2 ?_
      intro rg' e2 f2 w2 xx' yy' zz' rs' ls' hC
      refine nm_r (nI_1 i) (KK w f1 e1 rg' sp' e2 f2 _ w2 xx' yy' zz' rs' ls' hw h1 ?_ ?_)
      · intro k hk hf
        have g := (hC k hk).1 hf
        refine ⟨(hs k hk).1 hf, fun q hq' => ?_, g.1, g.2⟩
        by_cases hqp : q = p
        · rw [hqp, pk_uLs, zb_or, hf, Bool.or_false]
        · rw [pk_uLn hqp]
      · intro k hk ht
        refine ⟨(hs k hk).2 ht, fun q hq' => ?_, (hC k hk).2 ht⟩
        by_cases hqp : q = p
        · rw [hqp, pk_uLs, zb_or, ht, decide_eq_true rfl]
        · rw [pk_uLn hqp, decide_eq_false hqp, Bool.or_false]
  · intro hq
    exact br_f (by decide) (H rg sp ep ft vi wt xx yy zz rs ls (lr_end P m I hq))
theorem xj_loop (P : ln_PG n L o a b) (eo : ∀ p, op p = nI (o p)) (ea : ∀ p, aa p = nI (a p)) (eb : ∀ p, ab p = nI (b p)) {post : SX → Prop}
  (H : ∀ rg sp ep ft vi wt xx yy zz rs ls, JD n L o a b rg sp ep ft vi → post (nI L, nI n, fJ, fK, op, aa, ab, rg, sp, ep, ft, vi, wt, xx, yy, zz, rs, ls, kf, kv)) :
  ∀ (N i : Nat) (m : Nat → Nat) (rg sp ep ft vi wt xx yy zz rs ls : Nat → Int64), N + i ≤ 2624 →
  (∀ k, k < 64 → LI n rg sp ep ft vi wt k (ln_it n L o a b (m k) (ln_c0 k))) → ln_sm (fun k => ln_mu (ln_it n L o a b (m k) (ln_c0 k))) 64 ≤ N →
  wX_judge_27 post (N + 1) (nI i) (nI L) (nI n) fJ fK op aa ab rg sp ep ft vi wt xx yy zz rs ls kf kv := by
  intro N
  induction N with
  | zero =>
    intro i m rg sp ep ft vi wt xx yy zz rs ls hi I hs
    refine xj_round P eo ea eb H 0 i (by omega) m rg sp ep ft vi wt xx yy zz rs ls I ?_
    intro m' rg' sp' ep' ft' vi' wt' xx' yy' zz' rs' ls' _ hlt
    exact absurd hlt (by omega)
  | succ N ih =>
    intro i m rg sp ep ft vi wt xx yy zz rs ls hi I hs
    refine xj_round P eo ea eb H (N + 1) i (by omega) m rg sp ep ft vi wt xx yy zz rs ls I ?_
    intro m' rg' sp' ep' ft' vi' wt' xx' yy' zz' rs' ls' I' hlt
    exact ih (i + 1) m' rg' sp' ep' ft' vi' wt' xx' yy' zz' rs' ls' (by omega) I' (by omega)
theorem ln_mu_le (c : LnS) : ln_mu c ≤ 41 := by
  unfold ln_mu
  split
  · omega
  · omega
theorem xj_judge (P : ln_PG n L o a b) (eo : ∀ p, op p = nI (o p)) (ea : ∀ p, aa p = nI (a p)) (eb : ∀ p, ab p = nI (b p)) {post : SX → Prop} {rg sp ep ft vi wt xx yy zz rs ls : Nat → Int64}
  (hj : fJ = 0 ∨ (fJ = 1 ∧ JD n L o a b rg sp ep ft vi))
  (H : ∀ rg sp ep ft vi wt xx yy zz rs ls, JD n L o a b rg sp ep ft vi → post (nI L, nI n, 1, fK, op, aa, ab, rg, sp, ep, ft, vi, wt, xx, yy, zz, rs, ls, kf, kv)) :
  wpX_judge post (nI L, nI n, fJ, fK, op, aa, ab, rg, sp, ep, ft, vi, wt, xx, yy, zz, rs, ls, kf, kv) := by
  unfold wpX_judge
  dsimp only
  rcases hj with hj | ⟨hj, hJ⟩
  · refine br_t hj (xz_reset ?_)
    intro rg' sp' ep' ft' vi' wt' hr hs hh hv
    refine xt_send _ n 0 P.1 (by decide) ?_
    intro w1 f1 e1 hz
    refine Exists.intro (2624 + 1) (xj_loop P eo ea eb H 2624 0 (fun _ => if 0 < n then 0 else 1) rg' sp' e1 f1 vi' w1 xx yy zz rs ls (by decide) ?_ ?_)
    · intro k hk
      have hz' := (hz k hk).2 (zb_m1 k hk) (hh k)
      by_cases h0 : 0 < n
      · rw [if_pos h0] at hz'
        rw [if_pos h0]
        exact ⟨fun i hi => hr k hk i hi, hs k, fun q hq => hv k q hq, hz', fun _ => h0⟩
      · rw [if_neg h0] at hz'
        rw [if_neg h0]
        show LI n rg' sp' e1 f1 vi' w1 k (ln_st n L o a b (ln_c0 k))
        rw [ln_st_h rfl (by show n ≤ 0; omega)]
        exact ⟨fun i hi => hr k hk i hi, hs k, fun q hq => hv k q hq, hz', fun h => absurd (show (0 : Nat) = 4 from h) (by decide)⟩
    · refine Nat.le_trans (ln_sm_le (g := fun _ => 41) 64 (fun k _ => ln_mu_le _)) ?_
      rw [ln_sm_c]
      decide
  · rw [hj]
    exact br_f (by decide) (H rg sp ep ft vi wt xx yy zz rs ls hJ)
end
end
section
/-! ===== counting the bits of a long ===== -/
def ln_cn (f : Nat → Bool) : Nat → Nat
  | 0 => 0
  | m + 1 => ln_cn f m + (f m).toNat
theorem cn_congr {f g : Nat → Bool} : ∀ m, (∀ k, k < m → f k = g k) → ln_cn f m = ln_cn g m := by
  intro m
  induction m with
  | zero => intro _; rfl
  | succ m ih =>
    intro h
    show ln_cn f m + (f m).toNat = ln_cn g m + (g m).toNat
    rw [ih (fun k hk => h k (by omega)), h m (by omega)]
theorem cn_add (f : Nat → Bool) (a : Nat) : ∀ b, ln_cn f (a + b) = ln_cn f a + ln_cn (fun j => f (a + j)) b := by
  intro b
  induction b with
  | zero => rfl
  | succ b ih =>
    show ln_cn f (a + b) + (f (a + b)).toNat = ln_cn f a + (ln_cn (fun j => f (a + j)) b + (f (a + b)).toNat)
    rw [ih, Nat.add_assoc]
theorem cn_le (f : Nat → Bool) : ∀ m, ln_cn f m ≤ m := by
  intro m
  induction m with
  | zero => exact Nat.le_refl 0
  | succ m ih =>
    show ln_cn f m + (f m).toNat ≤ m + 1
    have h : (f m).toNat ≤ 1 := by cases f m <;> decide
    omega
theorem cn_lt (j : Nat) : ∀ m, ln_cn (fun i => decide (i < j)) m = if m ≤ j then m else j := by
  intro m
  induction m with
  | zero => rw [if_pos (Nat.zero_le _)]; rfl
  | succ m ih =>
    show ln_cn (fun i => decide (i < j)) m + (decide (m < j)).toNat = _
    rw [ih]
    by_cases h : m < j
    · rw [decide_eq_true h, if_pos (by omega), if_pos (by omega)]; rfl
    · rw [decide_eq_false h, if_neg (show ¬ m + 1 ≤ j by omega)]
      by_cases h2 : m ≤ j
      · rw [if_pos h2]; show m + 0 = j; omega
      · rw [if_neg h2]; rfl
/-! masks by bytes -/
def pm (c : Nat) : Nat → Nat
  | 0 => 0
  | m + 1 => c + 256 * pm c m
theorem pm_and {d e : Nat} (hd : d < 256) (he : e < 256) (X Y : Nat) : (d + 256 * X) &&& (e + 256 * Y) = (d &&& e) + 256 * (X &&& Y) := by
  have h3 : d &&& e < 2 ^ 8 := Nat.and_lt_two_pow d (show e < 2 ^ 8 from he)
  rw [Nat.add_comm d, Nat.add_comm e, Nat.add_comm (d &&& e)]
  show (2 ^ 8 * X + d) &&& (2 ^ 8 * Y + e) = 2 ^ 8 * (X &&& Y) + (d &&& e)
  apply Nat.eq_of_testBit_eq
  intro i
  rw [Nat.testBit_and, Nat.testBit_two_pow_mul_add X (show d < 2 ^ 8 from hd), Nat.testBit_two_pow_mul_add Y (show e < 2 ^ 8 from he), Nat.testBit_two_pow_mul_add (X &&& Y) h3]
  by_cases h : i < 8
  · rw [if_pos h, if_pos h, if_pos h, Nat.testBit_and]
  · rw [if_neg h, if_neg h, if_neg h, Nat.testBit_and]
theorem and_low {e t : Nat} (x : Nat) (he : e < 2 ^ t) : x &&& e = (x % 2 ^ t) &&& e := by
  apply Nat.eq_of_testBit_eq
  intro i
  rw [Nat.testBit_and, Nat.testBit_and, Nat.testBit_mod_two_pow]
  by_cases h : i < t
  · rw [decide_eq_true h, Bool.true_and]
  · have h1 : e.testBit i = false := Nat.testBit_lt_two_pow (Nat.lt_of_lt_of_le he (Nat.pow_le_pow_right (by decide) (by omega)))
    rw [h1, Bool.and_false, Bool.and_false]
theorem pm_sh1 {d e : Nat} (hd : d < 256) (he : e < 128) (X Y : Nat) : ((d + 256 * X) / 2) &&& (e + 256 * Y) = ((d / 2) &&& e) + 256 * ((X / 2) &&& Y) := by
  have h1 : (d + 256 * X) / 2 = (d / 2 + 128 * (X % 2)) + 256 * (X / 2) := by omega
  rw [h1, pm_and (by omega) (by omega), and_low (t := 7) _ he]
  have h2 : (d / 2 + 128 * (X % 2)) % 2 ^ 7 = d / 2 := by
    show (d / 2 + 128 * (X % 2)) % 128 = d / 2
    omega
  rw [h2]
theorem pm_sh2 {d e : Nat} (hd : d < 256) (he : e < 64) (X Y : Nat) : ((d + 256 * X) / 4) &&& (e + 256 * Y) = ((d / 4) &&& e) + 256 * ((X / 4) &&& Y) := by
  have h1 : (d + 256 * X) / 4 = (d / 4 + 64 * (X % 4)) + 256 * (X / 4) := by omega
  rw [h1, pm_and (by omega) (by omega), and_low (t := 6) _ he]
  have h2 : (d / 4 + 64 * (X % 4)) % 2 ^ 6 = d / 4 := by
    show (d / 4 + 64 * (X % 4)) % 64 = d / 4
    omega
  rw [h2]
def pA (m w : Nat) : Nat := w - ((w / 2) &&& pm 85 m)
def pB (m w : Nat) : Nat := (w &&& pm 51 m) + ((w / 4) &&& pm 51 m)
def pC (m w : Nat) : Nat := (w + w / 16) &&& pm 15 m
def pA8 (d : Nat) : Nat := d - ((d / 2) &&& 85)
def pB8 (d : Nat) : Nat := (d &&& 51) + ((d / 4) &&& 51)
def pc8 (d : Nat) : Nat := (pB8 (pA8 d) + pB8 (pA8 d) / 16) % 16
theorem pA_s {d : Nat} (hd : d < 256) (m X : Nat) : pA (m + 1) (d + 256 * X) = pA8 d + 256 * pA m X := by
  show (d + 256 * X) - (((d + 256 * X) / 2) &&& (85 + 256 * pm 85 m)) = _
  rw [pm_sh1 hd (by decide)]
  unfold pA8 pA
  have h1 : (d / 2) &&& 85 ≤ d / 2 := Nat.and_le_left
  have h2 : (X / 2) &&& pm 85 m ≤ X / 2 := Nat.and_le_left
  generalize (d / 2) &&& 85 = p at h1
  generalize (X / 2) &&& pm 85 m = q at h2
  omega
theorem pB_s {d : Nat} (hd : d < 256) (m X : Nat) : pB (m + 1) (d + 256 * X) = pB8 d + 256 * pB m X := by
  show ((d + 256 * X) &&& (51 + 256 * pm 51 m)) + (((d + 256 * X) / 4) &&& (51 + 256 * pm 51 m)) = _
  rw [pm_and hd (by decide), pm_sh2 hd (by decide)]
  unfold pB8 pB
  omega
theorem pC_s {d : Nat} (hd : d % 16 ≤ 4) (hd2 : d / 16 ≤ 4) (m X : Nat) (hX : X % 16 ≤ 4) : pC (m + 1) (d + 256 * X) = (d + d / 16) % 16 + 256 * pC m X := by
  show ((d + 256 * X) + (d + 256 * X) / 16) &&& (15 + 256 * pm 15 m) = _
  have h1 : (d + 256 * X) + (d + 256 * X) / 16 = (d + d / 16 + 16 * (X % 16)) + 256 * (X + X / 16) := by omega
  rw [h1, pm_and (by omega) (by decide)]
  have h2 : (d + d / 16 + 16 * (X % 16)) &&& 15 = (d + d / 16) % 16 := by
    rw [show (15 : Nat) = 2 ^ 4 - 1 from rfl, Nat.and_two_pow_sub_one_eq_mod]
    show (d + d / 16 + 16 * (X % 16)) % 16 = _
    omega
  rw [h2]
  rfl
theorem tb_p8 : ∀ d, d < 256 → pA8 d < 256 ∧ pB8 (pA8 d) % 16 ≤ 4 ∧ pB8 (pA8 d) / 16 ≤ 4 ∧ pc8 d = ln_cn (fun i => d.testBit i) 8 := by decide +kernel
def pS (m w : Nat) : Nat := match m with
  | 0 => 0
  | m + 1 => pc8 (w % 256) + 256 * pS m (w / 256)
def pT (m w : Nat) : Nat := match m with
  | 0 => 0
  | m + 1 => pc8 (w % 256) + pT m (w / 256)
theorem pm_z (w : Nat) : w &&& pm 51 0 = 0 := Nat.and_zero w
theorem p_all : ∀ m w, w < 256 ^ m → pB m (pA m w) % 16 ≤ 4 ∧ pC m (pB m (pA m w)) = pS m w := by
  intro m
  induction m with
  | zero =>
    intro w hw
    have h0 : w = 0 := by
      have : w < 1 := hw
      omega
    subst h0
    exact ⟨by decide, by decide⟩
  | succ m ih =>
    intro w hw
    have hw2 : w / 256 < 256 ^ m := by
      rw [Nat.pow_succ] at hw
      exact Nat.div_lt_of_lt_mul (by rw [Nat.mul_comm]; exact hw)
    have h1 := ih (w / 256) hw2
    have h2 := tb_p8 (w % 256) (Nat.mod_lt _ (by decide))
    have e : pB (m + 1) (pA (m + 1) w) = pB8 (pA8 (w % 256)) + 256 * pB m (pA m (w / 256)) := by
      have e1 : w = w % 256 + 256 * (w / 256) := (Nat.mod_add_div w 256).symm
      have e2 : pA (m + 1) w = pA8 (w % 256) + 256 * pA m (w / 256) := by
        have e3 := pA_s (Nat.mod_lt w (show 0 < 256 by decide)) m (w / 256)
        rw [← e1] at e3
        exact e3
      rw [e2, pB_s h2.1]
    rw [e]
    refine ⟨?_, ?_⟩
    · have := h2.2.1
      omega
    · rw [pC_s h2.2.1 h2.2.2.1 m _ h1.1, h1.2]
      rfl
theorem pT_cn : ∀ m w, ln_cn (fun i => w.testBit i) (8 * m) = pT m w := by
  intro m
  induction m with
  | zero => intro w; rfl
  | succ m ih =>
    intro w
    have h2 := (tb_p8 (w % 256) (Nat.mod_lt _ (by decide))).2.2.2
    show _ = pc8 (w % 256) + pT m (w / 256)
    rw [show 8 * (m + 1) = 8 + 8 * m by omega, cn_add, ← ih, h2]
    have e1 : ln_cn (fun i => w.testBit i) 8 = ln_cn (fun i => (w % 256).testBit i) 8 := by
      apply cn_congr
      intro k hk
      show w.testBit k = (w % 2 ^ 8).testBit k
      rw [Nat.testBit_mod_two_pow, decide_eq_true hk, Bool.true_and]
    have e2 : ln_cn (fun j => w.testBit (8 + j)) (8 * m) = ln_cn (fun i => (w / 256).testBit i) (8 * m) := by
      apply cn_congr
      intro k hk
      show w.testBit (8 + k) = (w / 2 ^ 8).testBit k
      rw [Nat.testBit_div_two_pow, Nat.add_comm]
    rw [e1, e2]
theorem p_mul (a b c d e f g h : Nat) (ha : a ≤ 8) (hb : b ≤ 8) (hc : c ≤ 8) (hd : d ≤ 8) (he : e ≤ 8) (hf : f ≤ 8) (hg : g ≤ 8) (hh : h ≤ 8) : ((a + 256 * (b + 256 * (c + 256 * (d + 256 * (e + 256 * (f + 256 * (g + 256 * (h + 256 * 0)))))))) * 72340172838076673) % 18446744073709551616 / 72057594037927936 = a + (b + (c + (d + (e + (f + (g + (h + 0))))))) := by
  have e : (a + 256 * (b + 256 * (c + 256 * (d + 256 * (e + 256 * (f + 256 * (g + 256 * (h + 256 * 0)))))))) * 72340172838076673 = ((1 * (a) + 256 * (a + b) + 65536 * (a + b + c) + 16777216 * (a + b + c + d) + 4294967296 * (a + b + c + d + e) + 1099511627776 * (a + b + c + d + e + f) + 281474976710656 * (a + b + c + d + e + f + g)) + 72057594037927936 * (a + (b + (c + (d + (e + (f + (g + (h + 0))))))))) + 18446744073709551616 * (1 * (b + c + d + e + f + g + h) + 256 * (c + d + e + f + g + h) + 65536 * (d + e + f + g + h) + 16777216 * (e + f + g + h) + 4294967296 * (f + g + h) + 1099511627776 * (g + h) + 281474976710656 * (h)) := by omega
  rw [e, Nat.add_mul_mod_self_left, Nat.mod_eq_of_lt (by omega), Nat.add_mul_div_left _ _ (by decide), Nat.div_eq_of_lt (by omega), Nat.zero_add]
theorem pc8_le (d : Nat) (hd : d < 256) : pc8 d ≤ 8 := by
  rw [(tb_p8 d hd).2.2.2]
  exact cn_le _ 8
theorem p_fin (w : Nat) : (pS 8 w * 72340172838076673) % 18446744073709551616 / 72057594037927936 = pT 8 w :=
  p_mul _ _ _ _ _ _ _ _ (pc8_le _ (Nat.mod_lt _ (by decide))) (pc8_le _ (Nat.mod_lt _ (by decide))) (pc8_le _ (Nat.mod_lt _ (by decide))) (pc8_le _ (Nat.mod_lt _ (by decide))) (pc8_le _ (Nat.mod_lt _ (by decide))) (pc8_le _ (Nat.mod_lt _ (by decide))) (pc8_le _ (Nat.mod_lt _ (by decide))) (pc8_le _ (Nat.mod_lt _ (by decide)))
theorem uN_and (x y : Int64) : uN (x &&& y) = uN x &&& uN y := UInt64.toNat_and _ _
theorem uN_sub {x y : Int64} (h : uN y ≤ uN x) : uN (x - y) = uN x - uN y := by
  show (x.toUInt64 - y.toUInt64).toNat = _
  exact UInt64.toNat_sub_of_le _ _ (UInt64.le_iff_toNat_le.mpr h)
theorem uN_lN {m : Nat} (h : m < 2 ^ 64) : uN (lN m) = m := by
  show m % 2 ^ 64 = m
  exact Nat.mod_eq_of_lt h
theorem zb_uN (x : Int64) (k : Nat) : zb x k = (uN x).testBit k := rfl
theorem xo_ones {post : Int32 → Prop} (x : Int64) (h : post (nI (ln_cn (zb x) 64))) : wpX_ones post x := by
  have hx := uN_lt x
  have hall := p_all 8 (uN x) (by exact hx)
  refine nm_e (nm_e (nm_e ?_))
  have e1 : uN (x - (((x.toUInt64 >>> ((1 : Int32).toInt64.toUInt64 &&& Int64.toUInt64 63)).toInt64) &&& 6148914691236517205)) = pA 8 (uN x) := by
    have s1 : uN (((x.toUInt64 >>> ((1 : Int32).toInt64.toUInt64 &&& Int64.toUInt64 63)).toInt64) &&& 6148914691236517205) = (uN x / 2) &&& pm 85 8 := by
      rw [uN_and]
      exact congrArg (fun t => t &&& pm 85 8) (uN_sk x (k := 1) (by decide))
    rw [uN_sub, s1]
    · rfl
    · rw [s1]
      exact Nat.le_trans Nat.and_le_left (Nat.div_le_self _ _)
  generalize x - (((x.toUInt64 >>> ((1 : Int32).toInt64.toUInt64 &&& Int64.toUInt64 63)).toInt64) &&& 6148914691236517205) = v1 at e1
  rw [← e1] at hall
  have e2 : uN ((v1 &&& 3689348814741910323) + (((v1.toUInt64 >>> ((2 : Int32).toInt64.toUInt64 &&& Int64.toUInt64 63)).toInt64) &&& 3689348814741910323)) = pB 8 (uN v1) := by
    have s1 : uN (((v1.toUInt64 >>> ((2 : Int32).toInt64.toUInt64 &&& Int64.toUInt64 63)).toInt64) &&& 3689348814741910323) = (uN v1 / 4) &&& pm 51 8 := by
      rw [uN_and]
      exact congrArg (fun t => t &&& pm 51 8) (uN_sk v1 (k := 2) (by decide))
    have s2 : uN (v1 &&& 3689348814741910323) = uN v1 &&& pm 51 8 := uN_and _ _
    have s3 : uN v1 &&& pm 51 8 ≤ pm 51 8 := Nat.and_le_right
    have s4 : (uN v1 / 4) &&& pm 51 8 ≤ pm 51 8 := Nat.and_le_right
    have s5 : pm 51 8 = 3689348814741910323 := by decide
    rw [uN_add, s1, s2, Nat.mod_eq_of_lt (by omega)]
    rfl
  generalize (v1 &&& 3689348814741910323) + (((v1.toUInt64 >>> ((2 : Int32).toInt64.toUInt64 &&& Int64.toUInt64 63)).toInt64) &&& 3689348814741910323) = v2 at e2
  rw [← e2] at hall
  have e3 : uN ((v2 + ((v2.toUInt64 >>> ((4 : Int32).toInt64.toUInt64 &&& Int64.toUInt64 63)).toInt64)) &&& 1085102592571150095) = pC 8 (uN v2) := by
    have s1 : uN ((v2.toUInt64 >>> ((4 : Int32).toInt64.toUInt64 &&& Int64.toUInt64 63)).toInt64) = uN v2 / 16 := uN_sk v2 (k := 4) (by decide)
    have s5 : pm 51 8 = 3689348814741910323 := by decide
    have s3 : uN v1 &&& pm 51 8 ≤ pm 51 8 := Nat.and_le_right
    have s4 : (uN v1 / 4) &&& pm 51 8 ≤ pm 51 8 := Nat.and_le_right
    have s6 : uN v2 ≤ 2 * 3689348814741910323 := by
      rw [e2]
      unfold pB
      omega
    rw [uN_and, uN_add, s1, Nat.mod_eq_of_lt (by omega)]
    rfl
  generalize (v2 + ((v2.toUInt64 >>> ((4 : Int32).toInt64.toUInt64 &&& Int64.toUInt64 63)).toInt64)) &&& 1085102592571150095 = v3 at e3
  rw [← e3] at hall
  have e4 : ((v3 * 72340172838076673).toUInt64 >>> ((56 : Int32).toInt64.toUInt64 &&& Int64.toUInt64 63)).toInt64 = lN (ln_cn (zb x) 64) := by
    apply uN_inj
    have s1 : uN (((v3 * 72340172838076673).toUInt64 >>> ((56 : Int32).toInt64.toUInt64 &&& Int64.toUInt64 63)).toInt64) = uN (v3 * 72340172838076673) / 2 ^ 56 := uN_sk _ (k := 56) (by decide)
    have s2 : uN (v3 * 72340172838076673) = (uN v3 * 72340172838076673) % 18446744073709551616 := uN_mul _ _
    have s3 : ln_cn (zb x) 64 ≤ 64 := cn_le _ 64
    have s4 : ln_cn (zb x) 64 = pT 8 (uN x) := pT_cn 8 (uN x)
    rw [uN_lN (by omega), s1, s2, hall.2, s4]
    exact p_fin (uN x)
  rw [e4, lN_i]
  exact h
theorem xo_low0 {post : Int32 → Prop} {x : Int64} (hx : x = 0) (h : post (-1)) : wpX_lowest post x := br_t hx h
theorem xo_low {post : Int32 → Prop} {x : Int64} {j : Nat} (hj : j < 64) (h1 : zb x j = true) (h2 : ∀ i, i < j → zb x i = false) (h : post (nI j)) : wpX_lowest post x := by
  have hne : ¬ x = 0 := by
    intro h0
    rw [h0, zb_0] at h1
    exact Bool.noConfusion h1
  refine br_f hne (nm_e (xo_ones _ ?_))
  have e1 : (x &&& (-x)).toBitVec = BitVec.twoPow 64 j := by
    rw [Int64.toBitVec_and, Int64.toBitVec_neg]
    apply BitVec.eq_of_getLsbD_eq
    intro i hi
    rw [BitVec.getLsbD_and, BitVec.getLsbD_neg, BitVec.getLsbD_twoPow]
    show (zb x i && (zb x i ^^ (decide (i < 64) && decide (∃ j, j < i ∧ zb x j = true)))) = _
    rw [decide_eq_true hi, decide_eq_true hj, Bool.true_and, Bool.true_and]
    by_cases hij : i < j
    · rw [h2 i hij, decide_eq_false (p := j = i) (by omega)]; rfl
    · by_cases hij2 : i = j
      · subst hij2
        rw [h1, decide_eq_false (p := ∃ j, j < i ∧ zb x j = true) (fun hx => by
          obtain ⟨q, hq, hq2⟩ := hx
          rw [h2 q hq] at hq2
          exact Bool.noConfusion hq2), decide_eq_true rfl]
        rfl
      · rw [decide_eq_true (p := ∃ j, j < i ∧ zb x j = true) ⟨j, by omega, h1⟩, decide_eq_false (fun hx => hij2 hx.symm)]
        cases zb x i <;> rfl
  have e2 : uN (x &&& (-x)) = 2 ^ j := by
    show (x &&& (-x)).toBitVec.toNat = 2 ^ j
    rw [e1, BitVec.toNat_twoPow_of_lt hj]
  have e3 : uN ((x &&& (-x)) - 1) = 2 ^ j - 1 := by
    have h0 : uN 1 = 1 := by decide
    have hp : 0 < 2 ^ j := Nat.two_pow_pos j
    rw [uN_sub (by rw [h0, e2]; exact hp), e2, h0]
  have e4 : ln_cn (zb ((x &&& (-x)) - 1)) 64 = j := by
    rw [cn_congr (g := fun i => decide (i < j)) 64 (fun k _ => by rw [zb_uN, e3, Nat.testBit_two_pow_sub_one]), cn_lt]
    by_cases h : 64 ≤ j
    · omega
    · rw [if_neg h]
  rw [e4]
  exact h
end
section
/-! ===== Y: one run ===== -/
def ye (e : Nat) : Int32 := if e = 4 then (-1) else nI e
theorem yt_2 : ∀ x, x < 16 → ∀ y, y < 16 → (nI x + nI y) - (nI x + nI y) / 16 * 16 = nI ((x + y) % 16) := by decide +kernel
theorem yt_3 : ∀ x, x < 16 → ∀ y, y < 16 → ((nI x - nI y) + 16) - ((nI x - nI y) + 16) / 16 * 16 = nI ((x + 16 - y) % 16) := by decide +kernel
theorem yt_4 : ∀ x, x < 16 → ∀ y, y < 16 → (nI x * nI y) - (nI x * nI y) / 16 * 16 = nI (x * y % 16) := by decide +kernel
theorem yt_5 : ∀ x, x < 16 → ∀ y, y < 16 → nI x / nI y = nI (x / y) := by decide +kernel
section
variable {gL gS gK gP gD gE gV : Int32} {po pa pb qf qv rr : Nat → Int32}
theorem yv_val {post : Int32 → Prop} (o x y : Nat) (ho : 1 ≤ o) (ho2 : o < 9) (hx : x < 16) (hy : y < 16) (h : post (nI (ln_val o x y))) : wpY_value post (gL, gS, gK, gP, gD, gE, gV, po, pa, pb, qf, qv, rr) (nI o) (nI x) (nI y) := by
  unfold ln_val at h
  have ne : ∀ c : Nat, c < 12 → o ≠ c → ¬ nI o = nI c := fun c hc hn hx => hn ((nI_eq (by omega) (by omega)).mp hx)
  by_cases h1 : o = 1
  · rw [if_pos h1] at h
    exact br_t (by rw [h1]; rfl) h
  rw [if_neg h1] at h
  refine br_f (ne 1 (by decide) h1) ?_
  by_cases h2 : o = 2
  · rw [if_pos h2, ← yt_2 x hx y hy] at h
    exact br_t (by rw [h2]; rfl) ⟨by decide, h⟩
  rw [if_neg h2] at h
  refine br_f (ne 2 (by decide) h2) ?_
  by_cases h3 : o = 3
  · rw [if_pos h3, ← yt_3 x hx y hy] at h
    exact br_t (by rw [h3]; rfl) ⟨by decide, h⟩
  rw [if_neg h3] at h
  refine br_f (ne 3 (by decide) h3) ?_
  by_cases h4 : o = 4
  · rw [if_pos h4, ← yt_4 x hx y hy] at h
    exact br_t (by rw [h4]; rfl) ⟨by decide, h⟩
  rw [if_neg h4] at h
  refine br_f (ne 4 (by decide) h4) ?_
  by_cases h5 : o = 5
  · rw [if_pos h5] at h
    refine br_t (by rw [h5]; rfl) ?_
    by_cases hy0 : y = 0
    · subst hy0
      rw [Nat.div_zero] at h
      exact br_t rfl h
    · have hn : ¬ nI y = 0 := nI_ne0 (by omega) (by omega)
      rw [← yt_5 x hx y hy] at h
      exact br_f hn ⟨hn, h⟩
  rw [if_neg h5] at h
  refine br_f (ne 5 (by decide) h5) ?_
  by_cases h6 : o = 6
  · rw [if_pos h6, ← nx_and] at h
    exact br_t (by rw [h6]; rfl) h
  rw [if_neg h6] at h
  refine br_f (ne 6 (by decide) h6) ?_
  by_cases h7 : o = 7
  · rw [if_pos h7, ← nx_xor] at h
    exact br_t (by rw [h7]; rfl) h
  rw [if_neg h7] at h
  refine br_f (ne 7 (by decide) h7) ?_
  by_cases hc : x < y
  · rw [if_pos hc] at h
    exact br_f (nI_ge hc (by omega)) h
  · rw [if_neg hc] at h
    exact br_t (nI_le (by omega) (by omega)) h
theorem y84_hi {post : SY → Prop} {bi : Int32} (o a p : Nat) (ho : 9 ≤ o) (ho2 : o < 12) (h : post (gL, gS, gK, nI (p + 1), gD, gE, gV, po, pa, pb, qf, qv, rr)) : wY_carryOut_84 post (nI o) (nI a) bi gL gS gK (nI p) gD gE gV po pa pb qf qv rr := by
  unfold wY_carryOut_84
  exact nm_r (nI_1 p) (br_t (nI_le (a := 9) ho (by omega)) h)
theorem y84_lo {post : SY → Prop} (o a b p : Nat) (r : Nat → Nat) (ho : o < 9) (ha : a ≤ 3) (hb : b ≤ 15) (hr : ∀ i, i < 4 → rr i = nI (r i)) (hr2 : ∀ i, i < 4 → r i < 16) (H : ∀ rr', (∀ i, i < 4 → rr' i = nI (if i = a then ln_cv o b (r a) (r (b % 4)) else r i)) → post (gL, gS, gK, nI (p + 1), gD, gE, gV, po, pa, pb, qf, qv, rr')) : wY_carryOut_84 post (nI o) (nI a) (nI b) gL gS gK (nI p) gD gE gV po pa pb qf qv rr := by
  unfold wY_carryOut_84
  have hv : vp_in (nI a) 4 := vp_in_nI (by omega) (by decide)
  refine nm_r (nI_1 p) (br_f (nI_ge (b := 9) ho (by decide)) ?_)
  rw [nI_clamp (n := a) (by omega)]
  have fin : ∀ v : Nat, v = ln_cv o b (r a) (r (b % 4)) → post (gL, gS, gK, nI (p + 1), gD, gE, gV, po, pa, pb, qf, qv, upd rr a (nI v)) := by
    intro v hv
    refine H _ ?_
    intro i hi
    by_cases hia : i = a
    · rw [hia, pk_us, if_pos rfl, hv]
    · rw [pk_un hia, if_neg hia, hr i hi]
  by_cases h0 : o = 0
  · refine br_t (by rw [h0]; rfl) ⟨hv, nm_e (fin b ?_)⟩
    unfold ln_cv
    rw [if_pos h0]
  · refine br_f (fun hx => h0 ((nI_eq (by omega) (by decide)).mp (show nI o = nI 0 from hx))) ?_
    rw [pk_andN (m := 3) (by omega) 2 (by decide), nI_clamp (n := b % 2 ^ 2) (by omega), hr a (by omega), hr (b % 2 ^ 2) (by omega)]
    refine ⟨hv, vp_in_nI (by omega) (by decide), yv_val o (r a) (r (b % 4)) (by omega) ho (hr2 a (by omega)) (hr2 _ (by omega)) ⟨hv, nm_e (fin _ ?_)⟩⟩
    unfold ln_cv
    rw [if_neg h0]
theorem yc_co {post : SY → Prop} {bi : Int32} (o a b p : Nat) (r : Nat → Nat) (ho : o ≤ 11) (ha : a ≤ 3) (hb : b ≤ 15) (hbi : o ≤ 9 → bi = nI b) (hr : ∀ i, i < 4 → rr i = nI (r i)) (hr2 : ∀ i, i < 4 → r i < 16) (H : ∀ rr', (∀ i, i < 4 → rr' i = nI ((ln_ex o a b p r).1 i)) → post (gL, gS, gK, nI (ln_ex o a b p r).2.2, gD, ye (ln_ex o a b p r).2.1, gV, po, pa, pb, qf, qv, rr')) : wpY_carryOut post (gL, gS, gK, nI p, gD, (-1), gV, po, pa, pb, qf, qv, rr) (nI o) (nI a) bi := by
  have hv : vp_in (nI a) 4 := vp_in_nI (by omega) (by decide)
  have hca : (nI a).toNatClampNeg = a := nI_clamp (by omega)
  have ne : ∀ c : Nat, c < 12 → o ≠ c → ¬ nI o = nI c := fun c hc hn hx => hn ((nI_eq (by omega) (by omega)).mp hx)
  have z0 : ∀ i, i < 4 → (rr i = 0 ↔ r i = 0) := by
    intro i hi
    have := hr2 i hi
    rw [hr i hi, show (0 : Int32) = nI 0 from rfl, nI_eq (by omega) (by decide)]
  have za := z0 a (by omega)
  by_cases h11 : o = 11
  · rw [ex_11 h11] at H
    exact br_t (by rw [h11]; rfl) (H rr hr)
  refine br_f (ne 11 (by decide) h11) ?_
  rw [hca]
  by_cases h10 : o = 10
  · refine br_t (by rw [h10]; rfl) ⟨hv, ?_⟩
    by_cases hz : r a = 0
    · rw [ex_10 h10 hz] at H
      exact br_t (za.mpr hz) (H rr hr)
    · rw [ex_10n h10 hz] at H
      refine br_f (fun h => hz (za.mp h)) ?_
      unfold wY_carryOut_37
      refine br_f (ne 5 (by decide) (by omega)) ?_
      unfold wY_carryOut_61
      exact br_f (ne 9 (by decide) (by omega)) (y84_hi o a p (by omega) (by omega) (H rr hr))
  refine br_f (ne 10 (by decide) h10) ?_
  have hbe := hbi (by omega)
  subst hbe
  unfold wY_carryOut_37 wY_carryOut_61
  rw [hca, pk_andN (m := 3) (by omega) 2 (by decide), nI_clamp (n := b % 2 ^ 2) (by omega)]
  have zb4 := z0 (b % 4) (by omega)
  by_cases h5 : o = 5
  · refine br_t (by rw [h5]; rfl) ⟨vp_in_nI (by omega) (by decide), ?_⟩
    by_cases hz : r (b % 4) = 0
    · rw [ex_5 h5 hz] at H
      exact br_t (zb4.mpr hz) (H rr hr)
    · rw [ex_c (by omega) (fun _ => hz)] at H
      refine br_f (fun h => hz (zb4.mp h)) (br_f (ne 9 (by decide) (by omega)) ?_)
      exact y84_lo o a b p r (by omega) ha hb hr hr2 H
  refine br_f (ne 5 (by decide) h5) ?_
  by_cases h9 : o = 9
  · refine br_t (by rw [h9]; rfl) ⟨hv, ?_⟩
    by_cases hz : r a = 0
    · rw [ex_9z h9 hz] at H
      exact br_t (za.mpr hz) (y84_hi o a p (by omega) (by omega) (H rr hr))
    · rw [ex_9 h9 hz] at H
      exact br_f (fun h => hz (za.mp h)) (H rr hr)
  refine br_f (ne 9 (by decide) h9) ?_
  rw [ex_c (by omega) (fun h => absurd h h5)] at H
  exact y84_lo o a b p r (by omega) ha hb hr hr2 H
theorem yr_bit {v : Int32} {p q : Nat} (hp : p < 12) (hq : q < 12) : bt (v ||| ((1 : Int32) <<< (nI p &&& 31))) q = (bt v q || decide (q = p)) := by
  rw [b_or, b_shl p (by omega) 1 (by omega)]
  have h1 : bt 1 (q - p) = decide (q - p = 0) := (by decide +kernel : ∀ i, i < 32 → bt 1 i = decide (i = 0)) _ (by omega)
  rw [h1]
  congr 1
  by_cases h : q = p
  · rw [decide_eq_true h, decide_eq_true (by omega), decide_eq_true (by omega)]; rfl
  · rw [decide_eq_false h]
    by_cases h2 : p ≤ q
    · rw [decide_eq_false (show ¬ q - p = 0 by omega), Bool.and_false]
    · rw [decide_eq_false h2, Bool.false_and]
theorem yr_loop {n L : Nat} {o a b : Nat → Nat} (P : ln_PG n L o a b) (eo : ∀ p, po p = nI (o p)) (ea : ∀ p, pa p = nI (a p)) (eb : ∀ p, o p ≤ 9 → pb p = nI (b p)) {post : SY → Prop} {k : Nat} (hk : k < 64)
  (H : ∀ gV rr, (∀ q, q < 12 → bt gV q = (ln_fin n L o a b k).2.2.2.1 q) → (∀ i, i < 4 → rr i = nI ((ln_fin n L o a b k).1 i)) → post (nI L, nI n, gK, nI (ln_fin n L o a b k).2.1, nI (ln_fin n L o a b k).2.2.1, nI (ln_fin n L o a b k).2.2.2.2, gV, po, pa, pb, qf, qv, rr)) :
  ∀ (d i : Nat) (c : LnS) (gV : Int32) (rr : Nat → Int32), i + d = 41 → c = ln_it n L o a b i (ln_c0 k) → (∀ q, q < 12 → bt gV q = c.2.2.2.1 q) → (∀ i, i < 4 → rr i = nI (c.1 i)) → wY_run_56 post (d + 1) (nI i) (nI L) (nI n) gK (nI c.2.1) (nI c.2.2.1) (ye c.2.2.2.2) gV po pa pb qf qv rr := by
  have hn := P.1
  have hL := P.2.2.1
  have out : ∀ (i : Nat) (c : LnS) (gV : Int32) (rr : Nat → Int32), c = ln_it n L o a b i (ln_c0 k) → ¬ c.2.2.2.2 = 4 → (∀ q, q < 12 → bt gV q = c.2.2.2.1 q) → (∀ i, i < 4 → rr i = nI (c.1 i)) → post (nI L, nI n, gK, nI c.2.1, nI c.2.2.1, ye c.2.2.2.2, gV, po, pa, pb, qf, qv, rr) := by
    intro i c gV rr hc he hv hr
    have e := ln_it_fin P hk (m := i) (by rw [← hc]; exact he)
    rw [← hc] at e
    unfold ye
    rw [if_neg he]
    rw [e] at hv hr ⊢
    exact H gV rr hv hr
  intro d
  induction d with
  | zero =>
    intro i c gV rr hi hc hv hr
    have e : i = 41 := by omega
    subst e
    exact br_t (by decide) (out 41 c gV rr hc (by rw [hc]; exact ln_it_end P hk (by omega)) hv hr)
  | succ d ih =>
    intro i c gV rr hi hc hv hr
    refine br_f (nI_nlt (a := 40) (b := i) (by omega) (by decide)) ?_
    have hB : ln_B L c := by rw [hc]; exact ln_it_B P hk i
    have hB1 := hB.1
    have hB2 := hB.2.1
    by_cases he : c.2.2.2.2 = 4
    · have hye : ye c.2.2.2.2 = (-1) := by unfold ye; rw [if_pos he]
      rw [hye]
      refine br_f (by decide) ?_
      by_cases hp : n ≤ c.2.1
      · refine br_t (nI_le hp (by omega)) (nm_r (nI_1 i) ?_)
        have es := ln_st_h (n := n) (L := L) (o := o) (a := a) (b := b) he hp
        have := ih (i + 1) (ln_st n L o a b c) gV rr (by omega) (by rw [hc]; rfl) (by rw [es]; exact hv) (by rw [es]; exact hr)
        rw [es] at this
        exact this
      · refine br_f (nI_ge (by omega) (by omega)) (br_t (nI_pos' (by omega)) ?_)
        by_cases hd : L ≤ c.2.2.1
        · refine br_f (nI_nlt hd (by omega)) (nm_r (nI_1 i) ?_)
          have es := ln_st_t (n := n) (L := L) (o := o) (a := a) (b := b) he hp hd
          have := ih (i + 1) (ln_st n L o a b c) gV rr (by omega) (by rw [hc]; rfl) (by rw [es]; exact hv) (by rw [es]; exact hr)
          rw [es] at this
          exact this
        · have hq := P.2.2.2 c.2.1
          have hin : vp_in (nI c.2.1) 12 := vp_in_nI (by omega) (by decide)
          have ha3 : (nI (a c.2.1)) &&& 3 = nI (a c.2.1) := by
            rw [pk_andN (m := 3) (by omega) 2 (by decide)]
            exact congrArg nI (Nat.mod_eq_of_lt (by omega))
          refine br_t (nI_lt (by omega) (by omega)) (nm_r (nI_1 c.2.2.1) (nm_e ⟨hin, hin, hin, ?_⟩))
          rw [nI_clamp (n := c.2.1) (by omega), eo, ea, ha3]
          have es := ln_st_x (n := n) (L := L) (o := o) (a := a) (b := b) he hp hd
          refine yc_co (o c.2.1) (a c.2.1) (b c.2.1) c.2.1 c.1 hq.1 hq.2.1 hq.2.2.1 (eb _) hr hB.2.2.2 ?_
          intro rr' hr'
          refine nm_r (nI_1 i) ?_
          have := ih (i + 1) (ln_st n L o a b c) (gV ||| ((1 : Int32) <<< (nI c.2.1 &&& 31))) rr' (by omega) (by rw [hc]; rfl) (by
            rw [es]
            intro q hq'
            show _ = (c.2.2.2.1 q || decide (q = c.2.1))
            rw [yr_bit (by omega) hq', hv q hq']) (by rw [es]; exact hr')
          rw [es] at this
          exact this
    · have hE := hB.2.2.1
      have hye : ye c.2.2.2.2 = nI c.2.2.2.2 := by unfold ye; rw [if_neg he]
      refine br_t ?_ (out i c gV rr hc he hv hr)
      rw [hye]
      exact nI_pos' (by omega)
theorem yr_run {n L : Nat} {o a b : Nat → Nat} (P : ln_PG n L o a b) (eo : ∀ p, po p = nI (o p)) (ea : ∀ p, pa p = nI (a p)) (eb : ∀ p, o p ≤ 9 → pb p = nI (b p)) {post : SY → Prop} {k : Nat} (hk : k < 64)
  (H : ∀ gV rr, (∀ q, q < 12 → bt gV q = (ln_fin n L o a b k).2.2.2.1 q) → (∀ i, i < 4 → rr i = nI ((ln_fin n L o a b k).1 i)) → post (nI L, nI n, gK, nI (ln_fin n L o a b k).2.1, nI (ln_fin n L o a b k).2.2.1, nI (ln_fin n L o a b k).2.2.2.2, gV, po, pa, pb, qf, qv, rr)) : wpY_run post (nI L, nI n, gK, gP, gD, gE, gV, po, pa, pb, qf, qv, rr) (nI k) := by
  unfold wpY_run
  dsimp only
  refine ⟨by decide, nm_e ⟨by decide, nm_e (nm_e (nm_e (Exists.intro 42 (yr_loop P eo ea eb hk H 41 0 (ln_c0 k) 0 _ rfl rfl ?_ ?_))))⟩⟩
  · intro q hq
    exact b_0 q
  · intro i hi
    match i, hi with
    | 0, _ =>
      show nI k - nI k / nI 8 * nI 8 = nI (k % 8)
      exact pk_rem (by omega) (by decide) (by decide)
    | 1, _ =>
      show nI k / nI 8 = nI (k / 8)
      exact pk_div (by omega) (by decide) (by decide)
    | 2, _ => rfl
    | 3, _ => rfl
end
end
section
/-! ===== X: reading the planes ===== -/
theorem xq_bit (w : Int64) {k : Nat} (hk : k < 64) : (((w.toUInt64 >>> ((nI k).toInt64.toUInt64 &&& Int64.toUInt64 63)).toInt64) &&& 1) = lN (zb w k).toNat := by
  obtain ⟨n, hn, rfl⟩ := wb_of w
  rw [wb_bit hn hk, zb_uN, uN_lN hn, Nat.toNat_testBit]
theorem xq_bitOf {post : Int32 → Prop} (w : Int64) {k : Nat} (hk : k < 64) (h : post (nI (zb w k).toNat)) : wpX_bitOf post w (nI k) := by
  unfold wpX_bitOf
  rw [xq_bit w hk, lN_i]
  exact h
theorem xq_z {w : Int64} {k : Nat} (hk : k < 64) : (((w.toUInt64 >>> ((nI k).toInt64.toUInt64 &&& Int64.toUInt64 63)).toInt64) &&& 1) = 0 ↔ zb w k = false := by
  rw [xq_bit w hk]
  cases zb w k with
  | false => exact ⟨fun _ => rfl, fun _ => rfl⟩
  | true => exact ⟨fun h => absurd h (by decide), fun h => Bool.noConfusion h⟩
theorem zb_shr (w : Int64) {s : Nat} (hs : s < 64) (k : Nat) : zb ((w.toUInt64 >>> ((nI s).toInt64.toUInt64 &&& Int64.toUInt64 63)).toInt64) k = zb w (k + s) := by
  rw [zb_uN, uN_sk w hs, Nat.testBit_div_two_pow, zb_uN]
def bs1 (x : Int32) (b : Bool) (j : Nat) : Int32 := x ||| (nI b.toNat <<< (nI j &&& 31))
theorem tb_b4 : ∀ a b c d : Bool, bs1 (bs1 (bs1 (bs1 0 a 0) b 1) c 2) d 3 = nI (zn a b c d) := by decide +kernel
theorem tb_b6 : ∀ a b c d e g : Bool, bs1 (bs1 (bs1 (bs1 (bs1 (bs1 0 a 0) b 1) c 2) d 3) e 4) g 5 = nI (zs a b c d e g) := by decide +kernel
section
variable {fL fS fJ fK : Int32} {op aa ab : Nat → Int32} {rg sp ep ft vi wt xx yy zz rs ls kf kv : Nat → Int64}
theorem xq_fate_s {post : Int32 → SX → Prop} {n k : Nat} {x : Int32} (hk : k < 64) (j : Nat) (hj : j < 4) (h : wX_fate_20 post (nI k) fL fS fJ fK op aa ab rg sp ep ft vi wt xx yy zz rs ls kf kv n (if zb (ft j) k = true then nI j else x) (nI (j + 1))) : wX_fate_20 post (nI k) fL fS fJ fK op aa ab rg sp ep ft vi wt xx yy zz rs ls kf kv (n + 1) x (nI j) := by
  refine br_f (hi4 hj) ?_
  rw [nI_clamp (n := j) (by omega)]
  refine ⟨vp_in_nI hj (by decide), ?_⟩
  cases hb : zb (ft j) k with
  | false =>
    rw [hb, if_neg (by decide)] at h
    exact br_t ((xq_z hk).mpr hb) (nm_r (nI_1 j) h)
  | true =>
    rw [hb, if_pos rfl] at h
    refine br_f (fun hx => ?_) (nm_r (nI_1 j) h)
    rw [xq_z hk, hb] at hx
    exact Bool.noConfusion hx
theorem xq_fate {post : Int32 → SX → Prop} {k e : Nat} (hk : k < 64) (he : e < 4) (hf : ∀ j, j < 4 → zb (ft j) k = decide (j = e)) (h : post (nI e) (fL, fS, fJ, fK, op, aa, ab, rg, sp, ep, ft, vi, wt, xx, yy, zz, rs, ls, kf, kv)) : ∃ n, wX_fate_20 post (nI k) fL fS fJ fK op aa ab rg sp ep ft vi wt xx yy zz rs ls kf kv n (-1) 0 := by
  refine ⟨5, xq_fate_s hk 0 (by decide) (xq_fate_s hk 1 (by decide) (xq_fate_s hk 2 (by decide) (xq_fate_s hk 3 (by decide) (br_t (by decide) ?_))))⟩
  rw [hf 0 (by decide), hf 1 (by decide), hf 2 (by decide), hf 3 (by decide)]
  match e, he with
  | 0, _ => exact h
  | 1, _ => exact h
  | 2, _ => exact h
  | 3, _ => exact h
theorem xq_steps_s {post : Int32 → SX → Prop} {n k : Nat} {x : Int32} (hk : k < 64) (j : Nat) (hj : j < 6) (h : wX_steps_20 post (nI k) fL fS fJ fK op aa ab rg sp ep ft vi wt xx yy zz rs ls kf kv n (bs1 x (zb (sp j) k) j) (nI (j + 1))) : wX_steps_20 post (nI k) fL fS fJ fK op aa ab rg sp ep ft vi wt xx yy zz rs ls kf kv (n + 1) x (nI j) := by
  refine br_f (hi6 hj) ?_
  rw [nI_clamp (n := j) (by omega)]
  exact ⟨vp_in_nI hj (by decide), xq_bitOf _ hk (nm_e (nm_r (nI_1 j) h))⟩
theorem xq_steps {post : Int32 → SX → Prop} {k : Nat} (hk : k < 64) (h : post (nI (z6 sp k)) (fL, fS, fJ, fK, op, aa, ab, rg, sp, ep, ft, vi, wt, xx, yy, zz, rs, ls, kf, kv)) : ∃ n, wX_steps_20 post (nI k) fL fS fJ fK op aa ab rg sp ep ft vi wt xx yy zz rs ls kf kv n 0 0 := by
  refine ⟨7, xq_steps_s hk 0 (by decide) (xq_steps_s hk 1 (by decide) (xq_steps_s hk 2 (by decide) (xq_steps_s hk 3 (by decide) (xq_steps_s hk 4 (by decide) (xq_steps_s hk 5 (by decide) (br_t (by decide) ?_))))))⟩
  rw [tb_b6]
  exact h
theorem xq_endAt_s {post : Int32 → SX → Prop} {n k : Nat} {x : Int32} (hk : k < 64) (j : Nat) (hj : j < 4) (h : wX_endAt_20 post (nI k) fL fS fJ fK op aa ab rg sp ep ft vi wt xx yy zz rs ls kf kv n (bs1 x (zb (ep j) k) j) (nI (j + 1))) : wX_endAt_20 post (nI k) fL fS fJ fK op aa ab rg sp ep ft vi wt xx yy zz rs ls kf kv (n + 1) x (nI j) := by
  refine br_f (hi4 hj) ?_
  rw [nI_clamp (n := j) (by omega)]
  exact ⟨vp_in_nI hj (by decide), xq_bitOf _ hk (nm_e (nm_r (nI_1 j) h))⟩
theorem xq_endAt {post : Int32 → SX → Prop} {k : Nat} (hk : k < 64) (h : post (nI (z4 ep 0 k)) (fL, fS, fJ, fK, op, aa, ab, rg, sp, ep, ft, vi, wt, xx, yy, zz, rs, ls, kf, kv)) : ∃ n, wX_endAt_20 post (nI k) fL fS fJ fK op aa ab rg sp ep ft vi wt xx yy zz rs ls kf kv n 0 0 := by
  refine ⟨5, xq_endAt_s hk 0 (by decide) (xq_endAt_s hk 1 (by decide) (xq_endAt_s hk 2 (by decide) (xq_endAt_s hk 3 (by decide) (br_t (by decide) ?_))))⟩
  rw [tb_b4]
  exact h
theorem xq_reg_s {post : Int32 → SX → Prop} {n k i : Nat} {x : Int32} (hk : k < 64) (hi : i < 4) (j : Nat) (hj : j < 4) (h : wX_register_30 post (nI k) (nI i) fL fS fJ fK op aa ab rg sp ep ft vi wt xx yy zz rs ls kf kv n (bs1 x (zb (rg (i * 4 + j)) k) j) (nI (j + 1))) : wX_register_30 post (nI k) (nI i) fL fS fJ fK op aa ab rg sp ep ft vi wt xx yy zz rs ls kf kv (n + 1) x (nI j) := by
  refine br_f (hi4 hj) ?_
  rw [ni4, nI_clamp (n := i * 4 + j) (by omega)]
  exact ⟨vp_in_nI (by omega) (by decide), xq_bitOf _ hk (nm_e (nm_r (nI_1 j) h))⟩
theorem xq_reg {post : Int32 → SX → Prop} {k i : Nat} (hk : k < 64) (hi : i < 4) (h : post (nI (z4 rg (i * 4) k)) (fL, fS, fJ, fK, op, aa, ab, rg, sp, ep, ft, vi, wt, xx, yy, zz, rs, ls, kf, kv)) : ∃ n, wX_register_30 post (nI k) (nI i) fL fS fJ fK op aa ab rg sp ep ft vi wt xx yy zz rs ls kf kv n 0 0 := by
  refine ⟨5, xq_reg_s hk hi 0 (by decide) (xq_reg_s hk hi 1 (by decide) (xq_reg_s hk hi 2 (by decide) (xq_reg_s hk hi 3 (by decide) (br_t (by decide) ?_))))⟩
  rw [tb_b4]
  exact h
/-! always -/
theorem cst_of {w : Int64} (h : ∀ k, k < 64 → zb w k = zb w 0) : w = 0 ∨ w = (-1) := by
  cases hb : zb w 0 with
  | false => exact Or.inl ((zb_eq0 w).mpr (fun k hk => (h k hk).trans hb))
  | true => exact Or.inr ((zb_eqm1 w).mpr (fun k hk => (h k hk).trans hb))
theorem cst_to {w : Int64} (h : w = 0 ∨ w = (-1)) : ∀ k, k < 64 → zb w k = zb w 0 := by
  intro k hk
  rcases h with h | h
  · rw [h, zb_0, zb_0]
  · rw [h, zb_m1 k hk, zb_m1 0 (by decide)]
def bs2 (x : Int32) (b : Bool) (j : Nat) : Int32 := if b = true then x ||| ((1 : Int32) <<< (nI j &&& 31)) else x
theorem tb_c4 : ∀ a b c d : Bool, bs2 (bs2 (bs2 (bs2 0 a 0) b 1) c 2) d 3 = nI (zn a b c d) := by decide +kernel
theorem xq_al_s {post : Int32 → SX → Prop} {n i : Nat} {x : Int32} (hi : i < 4) (j : Nat) (hj : j < 4) (hc : rg (i * 4 + j) = 0 ∨ rg (i * 4 + j) = (-1)) (h : wX_always_19 post (nI i) fL fS fJ fK op aa ab rg sp ep ft vi wt xx yy zz rs ls kf kv n (bs2 x (zb (rg (i * 4 + j)) 0) j) (nI (j + 1))) : wX_always_19 post (nI i) fL fS fJ fK op aa ab rg sp ep ft vi wt xx yy zz rs ls kf kv (n + 1) x (nI j) := by
  refine br_f (hi4 hj) ?_
  rw [ni4, nI_clamp (n := i * 4 + j) (by omega)]
  refine ⟨vp_in_nI (by omega) (by decide), nm_e ?_⟩
  unfold wX_always_54
  rcases hc with hc | hc
  · rw [hc, zb_0] at h
    rw [hc]
    exact br_t rfl (br_t rfl (nm_r (nI_1 j) h))
  · rw [hc, zb_m1 0 (by decide)] at h
    rw [hc]
    exact br_f (by decide) (br_t rfl (br_f (by decide) (nm_e (nm_r (nI_1 j) h))))
theorem xq_al_x {post : Int32 → SX → Prop} {n i : Nat} {x : Int32} (hi : i < 4) (j : Nat) (hj : j < 4) (hc : ¬ (rg (i * 4 + j) = 0 ∨ rg (i * 4 + j) = (-1))) (h : post (-1) (fL, fS, fJ, fK, op, aa, ab, rg, sp, ep, ft, vi, wt, xx, yy, zz, rs, ls, kf, kv)) : wX_always_19 post (nI i) fL fS fJ fK op aa ab rg sp ep ft vi wt xx yy zz rs ls kf kv (n + 1) x (nI j) := by
  refine br_f (hi4 hj) ?_
  rw [ni4, nI_clamp (n := i * 4 + j) (by omega)]
  exact ⟨vp_in_nI (by omega) (by decide), nm_e (br_f (fun h0 => hc (Or.inl h0)) (br_f (fun h0 => hc (Or.inr h0)) h))⟩
theorem al_cst {i j : Nat} (hj : j < 4) (h : ∀ k, k < 64 → z4 rg (i * 4) k = z4 rg (i * 4) 0) : rg (i * 4 + j) = 0 ∨ rg (i * 4 + j) = (-1) := by
  apply cst_of
  intro k hk
  rw [← z4_tb (f := rg) (i := i * 4) (k := k) hj, ← z4_tb (f := rg) (i := i * 4) (k := 0) hj, h k hk]
theorem xq_always {post : Int32 → SX → Prop} {i : Nat} (hi : i < 4) (H1 : (∀ k, k < 64 → z4 rg (i * 4) k = z4 rg (i * 4) 0) → post (nI (z4 rg (i * 4) 0)) (fL, fS, fJ, fK, op, aa, ab, rg, sp, ep, ft, vi, wt, xx, yy, zz, rs, ls, kf, kv)) (H2 : ¬ (∀ k, k < 64 → z4 rg (i * 4) k = z4 rg (i * 4) 0) → post (-1) (fL, fS, fJ, fK, op, aa, ab, rg, sp, ep, ft, vi, wt, xx, yy, zz, rs, ls, kf, kv)) : ∃ n, wX_always_19 post (nI i) fL fS fJ fK op aa ab rg sp ep ft vi wt xx yy zz rs ls kf kv n 0 0 := by
  refine ⟨5, ?_⟩
  have no : ∀ j, j < 4 → ¬ (rg (i * 4 + j) = 0 ∨ rg (i * 4 + j) = (-1)) → post (-1) (fL, fS, fJ, fK, op, aa, ab, rg, sp, ep, ft, vi, wt, xx, yy, zz, rs, ls, kf, kv) := fun j hj hc => H2 (fun h => hc (al_cst hj h))
  by_cases c0 : rg (i * 4 + 0) = 0 ∨ rg (i * 4 + 0) = (-1)
  · refine xq_al_s hi 0 (by decide) c0 ?_
    by_cases c1 : rg (i * 4 + 1) = 0 ∨ rg (i * 4 + 1) = (-1)
    · refine xq_al_s hi 1 (by decide) c1 ?_
      by_cases c2 : rg (i * 4 + 2) = 0 ∨ rg (i * 4 + 2) = (-1)
      · refine xq_al_s hi 2 (by decide) c2 ?_
        by_cases c3 : rg (i * 4 + 3) = 0 ∨ rg (i * 4 + 3) = (-1)
        · refine xq_al_s hi 3 (by decide) c3 (br_t (by decide) ?_)
          rw [tb_c4]
          refine H1 ?_
          intro k hk
          apply z4_eq
          intro j hj
          match j, hj with
          | 0, _ => exact cst_to c0 k hk
          | 1, _ => exact cst_to c1 k hk
          | 2, _ => exact cst_to c2 k hk
          | 3, _ => exact cst_to c3 k hk
        · exact xq_al_x hi 3 (by decide) c3 (no 3 (by decide) c3)
      · exact xq_al_x hi 2 (by decide) c2 (no 2 (by decide) c2)
    · exact xq_al_x hi 1 (by decide) c1 (no 1 (by decide) c1)
  · exact xq_al_x hi 0 (by decide) c0 (no 0 (by decide) c0)
/-! depends -/
theorem one_sh : ∀ b, b < 6 → (1 : Int32) <<< (nI b &&& 31) = nI (2 ^ b) := by decide +kernel
theorem pw_lt : ∀ b, b < 6 → 2 ^ b < 64 := by decide
theorem pw_in : ∀ b, b < 6 → ∀ k, k < 64 → k.testBit b = false → k + 2 ^ b < 64 := by decide +kernel
def dfv (x w : Int64) (s : Nat) : Int64 := x ||| (w ^^^ ((w.toUInt64 >>> ((nI s).toInt64.toUInt64 &&& Int64.toUInt64 63)).toInt64))
theorem zb_dfv (x w : Int64) {s : Nat} (hs : s < 64) (k : Nat) : zb (dfv x w s) k = (zb x k || (zb w k ^^ zb w (k + s))) := by
  unfold dfv
  rw [zb_or, zb_xor, zb_shr w hs]
theorem tb_df : ∀ a b c d a' b' c' d' : Bool, ((((false || (a ^^ a')) || (b ^^ b')) || (c ^^ c')) || (d ^^ d')) = decide (zn a b c d ≠ zn a' b' c' d') := by decide +kernel
theorem xq_dp_s {post : Int32 → SX → Prop} {n i b : Nat} {x : Int64} (hi : i < 4) (hb : b < 6) (j : Nat) (hj : j < 4) (h : wX_depends_29 post (nI i) (nI b) fL fS fJ fK op aa ab rg sp ep ft vi wt xx yy zz rs ls kf kv n (dfv x (rg (i * 4 + j)) (2 ^ b)) (nI (j + 1))) : wX_depends_29 post (nI i) (nI b) fL fS fJ fK op aa ab rg sp ep ft vi wt xx yy zz rs ls kf kv (n + 1) x (nI j) := by
  refine br_f (hi4 hj) ?_
  rw [ni4, nI_clamp (n := i * 4 + j) (by omega), one_sh b hb]
  exact ⟨vp_in_nI (by omega) (by decide), nm_e (nm_e (nm_r (nI_1 j) h))⟩
theorem xq_depends {post : Int32 → SX → Prop} {i b : Nat} (hi : i < 4) (hb : b < 6) (h : post (nI (ln_cn (fun k => !k.testBit b && decide (z4 rg (i * 4) k ≠ z4 rg (i * 4) (k + 2 ^ b))) 64)) (fL, fS, fJ, fK, op, aa, ab, rg, sp, ep, ft, vi, wt, xx, yy, zz, rs, ls, kf, kv)) : ∃ n, wX_depends_29 post (nI i) (nI b) fL fS fJ fK op aa ab rg sp ep ft vi wt xx yy zz rs ls kf kv n 0 0 := by
  refine ⟨5, xq_dp_s hi hb 0 (by decide) (xq_dp_s hi hb 1 (by decide) (xq_dp_s hi hb 2 (by decide) (xq_dp_s hi hb 3 (by decide) (br_t (by decide) (xi_ip hb (nm_e (xo_ones _ ?_)))))))⟩
  have e : ∀ k, k < 64 → zb ((dfv (dfv (dfv (dfv 0 (rg (i * 4 + 0)) (2 ^ b)) (rg (i * 4 + 1)) (2 ^ b)) (rg (i * 4 + 2)) (2 ^ b)) (rg (i * 4 + 3)) (2 ^ b)) &&& (ipw b ^^^ (-1))) k = (!k.testBit b && decide (z4 rg (i * 4) k ≠ z4 rg (i * 4) (k + 2 ^ b))) := by
    intro k hk
    have hs := pw_lt b hb
    rw [zb_and, zb_not _ hk, zb_ip hb hk, Bool.and_comm, zb_dfv _ _ hs, zb_dfv _ _ hs, zb_dfv _ _ hs, zb_dfv _ _ hs, zb_0, tb_df]
    rfl
  rw [cn_congr 64 e]
  exact h
/-! agreement -/
def agv (x r v : Int64) : Int64 := x &&& ((r ^^^ v) ^^^ (-1))
theorem zb_agv (x r v : Int64) {k : Nat} (hk : k < 64) : zb (agv x r v) k = (zb x k && !(zb r k ^^ zb v k)) := by
  unfold agv
  rw [zb_and, zb_not _ hk, zb_xor]
theorem tb_ag : ∀ a b c d a' b' c' d' : Bool, ((((true && !(a ^^ a')) && !(b ^^ b')) && !(c ^^ c')) && !(d ^^ d')) = decide (zn a b c d = zn a' b' c' d') := by decide +kernel
theorem xq_ag_s {post : Int64 → SX → Prop} {n : Nat} {x : Int64} (j : Nat) (hj : j < 4) (h : wX_agreement_10 post fL fS fJ fK op aa ab rg sp ep ft vi wt xx yy zz rs ls kf kv n (agv x (rg j) (kv j)) (nI (j + 1))) : wX_agreement_10 post fL fS fJ fK op aa ab rg sp ep ft vi wt xx yy zz rs ls kf kv (n + 1) x (nI j) := by
  refine br_f (hi4 hj) ?_
  rw [nI_clamp (n := j) (by omega)]
  exact ⟨vp_in_nI (by omega) (by decide), vp_in_nI (by omega) (by decide), nm_e (nm_r (nI_1 j) h)⟩
theorem xq_ag_t {post : Int64 → SX → Prop} {n : Nat} {x : Int64} (j : Nat) (hj : j < 4) (h : wX_agreement_60 post fL fS fJ fK op aa ab rg sp ep ft vi wt xx yy zz rs ls kf kv n (x ||| (ft j &&& kf j)) (nI (j + 1))) : wX_agreement_60 post fL fS fJ fK op aa ab rg sp ep ft vi wt xx yy zz rs ls kf kv (n + 1) x (nI j) := by
  refine br_f (hi4 hj) ?_
  rw [nI_clamp (n := j) (by omega)]
  exact ⟨vp_in_nI (by omega) (by decide), vp_in_nI (by omega) (by decide), nm_e (nm_r (nI_1 j) h)⟩
theorem tb_fe : ∀ e, e < 4 → ∀ e', e' < 4 → ∀ s : Bool, (((((decide (0 = e) && decide (0 = e')) && s) || (decide (1 = e) && decide (1 = e'))) || (decide (2 = e) && decide (2 = e'))) || (decide (3 = e) && decide (3 = e'))) = (decide (e = e') && (!decide (e = 0) || s)) := by decide +kernel
theorem xq_agree {post : Int64 → SX → Prop} (E E' : Nat → Nat) (hE : ∀ k, k < 64 → E k < 4 ∧ E' k < 4 ∧ (∀ j, j < 4 → zb (ft j) k = decide (j = E k)) ∧ (∀ j, j < 4 → zb (kf j) k = decide (j = E' k))) (H : ∀ w, (∀ k, k < 64 → zb w k = (decide (E k = E' k) && (!decide (E k = 0) || decide (z4 rg 0 k = z4 kv 0 k)))) → post w (fL, fS, fJ, fK, op, aa, ab, rg, sp, ep, ft, vi, wt, xx, yy, zz, rs, ls, kf, kv)) : ∃ n, wX_agreement_10 post fL fS fJ fK op aa ab rg sp ep ft vi wt xx yy zz rs ls kf kv n (-1) 0 := by
  refine ⟨5, xq_ag_s 0 (by decide) (xq_ag_s 1 (by decide) (xq_ag_s 2 (by decide) (xq_ag_s 3 (by decide) (br_t (by decide) (nm_e (Exists.intro 4 (xq_ag_t 1 (by decide) (xq_ag_t 2 (by decide) (xq_ag_t 3 (by decide) (br_t (by decide) (H _ ?_)))))))))))⟩
  intro k hk
  have h := hE k hk
  simp only [zb_or, zb_and, zb_agv _ _ _ hk, zb_m1 k hk]
  rw [h.2.2.1 0 (by decide), h.2.2.1 1 (by decide), h.2.2.1 2 (by decide), h.2.2.1 3 (by decide), h.2.2.2 0 (by decide), h.2.2.2 1 (by decide), h.2.2.2 2 (by decide), h.2.2.2 3 (by decide)]
  have e : ((((true && !(zb (rg 0) k ^^ zb (kv 0) k)) && !(zb (rg 1) k ^^ zb (kv 1) k)) && !(zb (rg 2) k ^^ zb (kv 2) k)) && !(zb (rg 3) k ^^ zb (kv 3) k)) = decide (z4 rg 0 k = z4 kv 0 k) := tb_ag _ _ _ _ _ _ _ _
  rw [e]
  exact tb_fe (E k) h.1 (E' k) h.2.1 _
/-! keep -/
theorem xq_kp_s {post : SX → Prop} {n : Nat} (j : Nat) (hj : j < 4) (h : wX_keep_11 post fL fS fJ fK n (nI (j + 1)) op aa ab rg sp ep ft vi wt xx yy zz rs ls (vp_updL kf j (ft j)) (vp_updL kv j (rg j))) : wX_keep_11 post fL fS fJ fK (n + 1) (nI j) op aa ab rg sp ep ft vi wt xx yy zz rs ls kf kv := by
  refine br_f (hi4 hj) ?_
  rw [nI_clamp (n := j) (by omega)]
  exact ⟨vp_in_nI (by omega) (by decide), vp_in_nI (by omega) (by decide), nm_e ⟨vp_in_nI (by omega) (by decide), vp_in_nI (by omega) (by decide), nm_e (nm_r (nI_1 j) h)⟩⟩
theorem xq_keep {post : SX → Prop} (H : ∀ kf' kv', (∀ j, j < 4 → kf' j = ft j) → (∀ k, z4 kv' 0 k = z4 rg 0 k) → post (fL, fS, fJ, fK, op, aa, ab, rg, sp, ep, ft, vi, wt, xx, yy, zz, rs, ls, kf', kv')) : ∃ n, wX_keep_11 post fL fS fJ fK n 0 op aa ab rg sp ep ft vi wt xx yy zz rs ls kf kv := by
  refine ⟨5, xq_kp_s 0 (by decide) (xq_kp_s 1 (by decide) (xq_kp_s 2 (by decide) (xq_kp_s 3 (by decide) (br_t (by decide) (H _ _ ?_ ?_)))))⟩
  · exact se_u kf (ft 0) (ft 1) (ft 2) (ft 3) ft rfl rfl rfl rfl
  · intro k
    rw [z4_u]
    rfl
end
end
section
/-! ===== Y: the questions ===== -/
def YP (o a b : Nat → Nat) (po pa pb : Nat → Int32) : Prop := (∀ p, po p = nI (o p)) ∧ (∀ p, pa p = nI (a p)) ∧ (∀ p, o p ≤ 9 → pb p = nI (b p))
section
variable {gK gP gD gE gV : Int32} {po pa pb qf qv rr : Nat → Int32} {n L : Nat} {o a b : Nat → Nat}
theorem yq_in {post : Int32 → Prop} {k : Nat} (hk : k < 64) (h : post 1) : wpY_input post (nI L, nI n, gK, gP, gD, gE, gV, po, pa, pb, qf, qv, rr) (nI k) :=
  br_f (nI_pos (by omega)) (br_f (nI_nlt (a := 63) (b := k) (by omega) (by decide)) h)
theorem yq_out {post : Int32 → Prop} {x : Int32} (hx : x < 0 ∨ 63 < x) (h : post 0) : wpY_input post (nI L, nI n, gK, gP, gD, gE, gV, po, pa, pb, qf, qv, rr) x :=
  br_c (fun _ => h) (fun h0 => br_t (hx.resolve_left h0) h)
theorem yq_reg (P : ln_PG n L o a b) (Q : YP o a b po pa pb) {post : Int32 → SY → Prop} {k i : Nat} (hk : k < 64) (hi : i < 4) (H : ∀ gP gD gE gV rr, post (nI ((ln_fin n L o a b k).1 i)) (nI L, nI n, gK, gP, gD, gE, gV, po, pa, pb, qf, qv, rr)) : wpY_register post (nI L, nI n, gK, gP, gD, gE, gV, po, pa, pb, qf, qv, rr) (nI k) (nI i) := by
  unfold wpY_register
  dsimp only
  refine yq_in hk (br_f (by decide) (br_f (nI_pos (by omega)) (br_t (nI_le (b := 3) (by omega) (by decide)) (yr_run P Q.1 Q.2.1 Q.2.2 hk ?_))))
  intro gV' rr' _ hr
  refine And.intro (vp_in_nI hi (by decide)) ?_
  dsimp only
  rw [nI_clamp (n := i) (by omega), hr i hi]
  exact H _ _ _ _ _
theorem yq_reg_o {post : Int32 → SY → Prop} {k : Nat} {x : Int32} (hk : k < 64) (hx : x < 0 ∨ ¬ x ≤ 3) (h : post (-1) (nI L, nI n, gK, gP, gD, gE, gV, po, pa, pb, qf, qv, rr)) : wpY_register post (nI L, nI n, gK, gP, gD, gE, gV, po, pa, pb, qf, qv, rr) (nI k) x := by
  unfold wpY_register
  dsimp only
  exact yq_in hk (br_f (by decide) (br_c (fun _ => h) (fun h0 => br_f (hx.resolve_left h0) h)))
/-! count, first, visits -/
theorem yq_count_l (P : ln_PG n L o a b) (Q : YP o a b po pa pb) {post : Int32 → SY → Prop} {x : Int32} {D : Nat → Bool} (hD : ∀ k, k < 64 → (nI (ln_fin n L o a b k).2.2.2.2 = x ↔ D k = true)) (H : ∀ gP gD gE gV rr, post (nI (ln_cn D 64)) (nI L, nI n, gK, gP, gD, gE, gV, po, pa, pb, qf, qv, rr)) : ∀ (d i : Nat) (gP gD gE gV : Int32) (rr : Nat → Int32), i + d = 64 → wY_count_4 post x (d + 1) (nI (ln_cn D i)) (nI i) (nI L) (nI n) gK gP gD gE gV po pa pb qf qv rr := by
  intro d
  induction d with
  | zero =>
    intro i gP gD gE gV rr hi
    have e : i = 64 := by omega
    subst e
    exact br_t (by decide) (H gP gD gE gV rr)
  | succ d ih =>
    intro i gP gD gE gV rr hi
    refine br_f (hi64 (by omega)) (yr_run P Q.1 Q.2.1 Q.2.2 (by omega) ?_)
    intro gV' rr' _ _
    have h := hD i (by omega)
    have e : ln_cn D (i + 1) = ln_cn D i + (D i).toNat := rfl
    cases hd : D i with
    | true =>
      rw [hd] at e
      refine br_t (h.mpr hd) (nm_r (nI_1 _) (nm_r (nI_1 i) ?_))
      have := ih (i + 1) (nI (ln_fin n L o a b i).2.1) (nI (ln_fin n L o a b i).2.2.1) (nI (ln_fin n L o a b i).2.2.2.2) gV' rr' (by omega)
      rw [e] at this
      exact this
    | false =>
      rw [hd] at e
      refine br_f (fun hx => ?_) (nm_r (nI_1 i) ?_)
      · rw [h, hd] at hx
        exact Bool.noConfusion hx
      · have := ih (i + 1) (nI (ln_fin n L o a b i).2.1) (nI (ln_fin n L o a b i).2.2.1) (nI (ln_fin n L o a b i).2.2.2.2) gV' rr' (by omega)
        rw [e] at this
        exact this
theorem yq_count (P : ln_PG n L o a b) (Q : YP o a b po pa pb) {post : Int32 → SY → Prop} {x : Int32} (D : Nat → Bool) (hD : ∀ k, k < 64 → (nI (ln_fin n L o a b k).2.2.2.2 = x ↔ D k = true)) (H : ∀ gP gD gE gV rr, post (nI (ln_cn D 64)) (nI L, nI n, gK, gP, gD, gE, gV, po, pa, pb, qf, qv, rr)) : wpY_count post (nI L, nI n, gK, gP, gD, gE, gV, po, pa, pb, qf, qv, rr) x :=
  Exists.intro 65 (yq_count_l P Q hD H 64 0 gP gD gE gV rr rfl)
theorem yq_first_l (P : ln_PG n L o a b) (Q : YP o a b po pa pb) {post : Int32 → SY → Prop} {x : Int32} {D : Nat → Bool} (hD : ∀ k, k < 64 → (nI (ln_fin n L o a b k).2.2.2.2 = x ↔ D k = true)) (H1 : ∀ gP gD gE gV rr j, j < 64 → D j = true → (∀ i, i < j → D i = false) → post (nI j) (nI L, nI n, gK, gP, gD, gE, gV, po, pa, pb, qf, qv, rr)) (H2 : ∀ gP gD gE gV rr, (∀ j, j < 64 → D j = false) → post (-1) (nI L, nI n, gK, gP, gD, gE, gV, po, pa, pb, qf, qv, rr)) : ∀ (d i : Nat) (gP gD gE gV : Int32) (rr : Nat → Int32), i + d = 64 → (∀ j, j < i → D j = false) → wY_first_2 post x (d + 1) (nI i) (nI L) (nI n) gK gP gD gE gV po pa pb qf qv rr := by
  intro d
  induction d with
  | zero =>
    intro i gP gD gE gV rr hi hb
    have e : i = 64 := by omega
    subst e
    exact br_t (by decide) (H2 gP gD gE gV rr hb)
  | succ d ih =>
    intro i gP gD gE gV rr hi hb
    refine br_f (hi64 (by omega)) (yr_run P Q.1 Q.2.1 Q.2.2 (by omega) ?_)
    intro gV' rr' _ _
    have h := hD i (by omega)
    cases hd : D i with
    | true => exact br_t (h.mpr hd) (H1 _ _ _ _ _ i (by omega) hd hb)
    | false =>
      refine br_f (fun hx => ?_) (nm_r (nI_1 i) (ih (i + 1) _ _ _ gV' rr' (by omega) (fun j hj => ?_)))
      · rw [h, hd] at hx
        exact Bool.noConfusion hx
      · by_cases hji : j = i
        · rw [hji]; exact hd
        · exact hb j (by omega)
theorem yq_first (P : ln_PG n L o a b) (Q : YP o a b po pa pb) {post : Int32 → SY → Prop} {x : Int32} (D : Nat → Bool) (hD : ∀ k, k < 64 → (nI (ln_fin n L o a b k).2.2.2.2 = x ↔ D k = true)) (H1 : ∀ gP gD gE gV rr j, j < 64 → D j = true → (∀ i, i < j → D i = false) → post (nI j) (nI L, nI n, gK, gP, gD, gE, gV, po, pa, pb, qf, qv, rr)) (H2 : ∀ gP gD gE gV rr, (∀ j, j < 64 → D j = false) → post (-1) (nI L, nI n, gK, gP, gD, gE, gV, po, pa, pb, qf, qv, rr)) : wpY_first post (nI L, nI n, gK, gP, gD, gE, gV, po, pa, pb, qf, qv, rr) x :=
  Exists.intro 65 (yq_first_l P Q hD H1 H2 64 0 gP gD gE gV rr rfl (fun j hj => absurd hj (Nat.not_lt_zero j)))
theorem yq_vis_l (P : ln_PG n L o a b) (Q : YP o a b po pa pb) {post : Int32 → SY → Prop} {p : Nat} (hp : p < 12) (H : ∀ gP gD gE gV rr, post (nI (ln_cn (fun k => (ln_fin n L o a b k).2.2.2.1 p) 64)) (nI L, nI n, gK, gP, gD, gE, gV, po, pa, pb, qf, qv, rr)) : ∀ (d i : Nat) (gP gD gE gV : Int32) (rr : Nat → Int32), i + d = 64 → wY_visits_16 post (nI p) (d + 1) (nI (ln_cn (fun k => (ln_fin n L o a b k).2.2.2.1 p) i)) (nI i) (nI L) (nI n) gK gP gD gE gV po pa pb qf qv rr := by
  intro d
  induction d with
  | zero =>
    intro i gP gD gE gV rr hi
    have e : i = 64 := by omega
    subst e
    exact br_t (by decide) (H gP gD gE gV rr)
  | succ d ih =>
    intro i gP gD gE gV rr hi
    refine br_f (hi64 (by omega)) (yr_run P Q.1 Q.2.1 Q.2.2 (by omega) ?_)
    intro gV' rr' hv _
    have e : nI (ln_cn (fun k => (ln_fin n L o a b k).2.2.2.1 p) i) + ((gV' >>> (nI p &&& 31)) &&& 1) = nI (ln_cn (fun k => (ln_fin n L o a b k).2.2.2.1 p) (i + 1)) := by
      rw [sh_bt (by omega), hv p hp]
      show _ = nI (ln_cn (fun k => (ln_fin n L o a b k).2.2.2.1 p) i + ((ln_fin n L o a b i).2.2.2.1 p).toNat)
      cases (ln_fin n L o a b i).2.2.2.1 p with
      | true => rw [if_pos rfl, nI_1]; rfl
      | false => rw [if_neg (by decide)]; exact nI_add _ 0
    exact nm_r e (nm_r (nI_1 i) (ih (i + 1) _ _ _ gV' rr' (by omega)))
theorem yq_visits (P : ln_PG n L o a b) (Q : YP o a b po pa pb) {post : Int32 → SY → Prop} {p : Nat} (hp : p < n) (H : ∀ gP gD gE gV rr, post (nI (ln_cn (fun k => (ln_fin n L o a b k).2.2.2.1 p) 64)) (nI L, nI n, gK, gP, gD, gE, gV, po, pa, pb, qf, qv, rr)) : wpY_visits post (nI L, nI n, gK, gP, gD, gE, gV, po, pa, pb, qf, qv, rr) (nI p) := by
  have hn := P.1
  exact br_f (nI_pos (by omega)) (br_f (nI_ge hp (by omega)) (Exists.intro 65 (yq_vis_l P Q (by omega) H 64 0 gP gD gE gV rr rfl)))
/-! always -/
theorem yq_alw_o {post : Int32 → SY → Prop} {x : Int32} (hx : x < 0 ∨ ¬ x ≤ 3) (h : post (-1) (nI L, nI n, gK, gP, gD, gE, gV, po, pa, pb, qf, qv, rr)) : wpY_always post (nI L, nI n, gK, gP, gD, gE, gV, po, pa, pb, qf, qv, rr) x := by
  have lp : ∀ d i, i + d = 64 → wY_always_9 post x (-1) (d + 1) (nI i) (nI L) (nI n) gK gP gD gE gV po pa pb qf qv rr := by
    intro d
    induction d with
    | zero =>
      intro i hi
      have e : i = 64 := by omega
      subst e
      exact br_t (by decide) h
    | succ d ih =>
      intro i hi
      exact br_f (hi64 (by omega)) (yq_reg_o (by omega) hx (br_t rfl (nm_r (nI_1 i) (ih (i + 1) (by omega)))))
  unfold wpY_always
  dsimp only
  exact yq_reg_o (k := 0) (by decide) hx (Exists.intro 64 (lp 63 1 rfl))
theorem yq_always (P : ln_PG n L o a b) (Q : YP o a b po pa pb) {post : Int32 → SY → Prop} {i : Nat} (hi : i < 4) (H1 : ∀ gP gD gE gV rr, (∀ k, k < 64 → (ln_fin n L o a b k).1 i = (ln_fin n L o a b 0).1 i) → post (nI ((ln_fin n L o a b 0).1 i)) (nI L, nI n, gK, gP, gD, gE, gV, po, pa, pb, qf, qv, rr)) (H2 : ∀ gP gD gE gV rr, ¬ (∀ k, k < 64 → (ln_fin n L o a b k).1 i = (ln_fin n L o a b 0).1 i) → post (-1) (nI L, nI n, gK, gP, gD, gE, gV, po, pa, pb, qf, qv, rr)) : wpY_always post (nI L, nI n, gK, gP, gD, gE, gV, po, pa, pb, qf, qv, rr) (nI i) := by
  have bd : ∀ k, k < 64 → (ln_fin n L o a b k).1 i < 16 := fun k hk => (ln_fin_B P hk).2.2.2 i hi
  have lp : ∀ (d j : Nat) (gP gD gE gV : Int32) (rr : Nat → Int32), j + d = 64 → 0 < j → (∀ k, k < j → (ln_fin n L o a b k).1 i = (ln_fin n L o a b 0).1 i) → wY_always_9 post (nI i) (nI ((ln_fin n L o a b 0).1 i)) (d + 1) (nI j) (nI L) (nI n) gK gP gD gE gV po pa pb qf qv rr := by
    intro d
    induction d with
    | zero =>
      intro j gP gD gE gV rr hj _ hb
      have e : j = 64 := by omega
      subst e
      exact br_t (by decide) (H1 _ _ _ _ _ hb)
    | succ d ih =>
      intro j gP gD gE gV rr hj h0 hb
      refine br_f (hi64 (by omega)) (yq_reg P Q (by omega) hi ?_)
      intro gP' gD' gE' gV' rr'
      have b1 := bd j (by omega)
      have b2 := bd 0 (by decide)
      by_cases he : (ln_fin n L o a b j).1 i = (ln_fin n L o a b 0).1 i
      · refine br_t (congrArg nI he) (nm_r (nI_1 j) (ih (j + 1) _ _ _ _ _ (by omega) (by omega) (fun k hk => ?_)))
        by_cases hkj : k = j
        · rw [hkj]; exact he
        · exact hb k (by omega)
      · exact br_f (fun hx => he ((nI_eq (by omega) (by omega)).mp hx)) (H2 _ _ _ _ _ (fun hx => he (hx j (by omega))))
  unfold wpY_always
  dsimp only
  refine yq_reg (k := 0) P Q (by decide) hi ?_
  intro gP' gD' gE' gV' rr'
  refine Exists.intro 64 (lp 63 1 _ _ _ _ _ rfl (by decide) (fun k hk => ?_))
  have e : k = 0 := by omega
  rw [e]
/-! depends -/
theorem yq_dep (P : ln_PG n L o a b) (Q : YP o a b po pa pb) {post : Int32 → SY → Prop} {i c : Nat} (hi : i < 4) (hc : c < 6) (H : ∀ gP gD gE gV rr, post (nI (ln_cn (fun k => !k.testBit c && decide ((ln_fin n L o a b k).1 i ≠ (ln_fin n L o a b (k + 2 ^ c)).1 i)) 64)) (nI L, nI n, gK, gP, gD, gE, gV, po, pa, pb, qf, qv, rr)) : wpY_depends post (nI L, nI n, gK, gP, gD, gE, gV, po, pa, pb, qf, qv, rr) (nI i) (nI c) := by
  have bd : ∀ k, k < 64 → (ln_fin n L o a b k).1 i < 16 := fun k hk => (ln_fin_B P hk).2.2.2 i hi
  have lp : ∀ (d j : Nat) (gP gD gE gV : Int32) (rr : Nat → Int32), j + d = 64 → wY_depends_25 post (nI i) (nI c) (d + 1) (nI (ln_cn (fun k => !k.testBit c && decide ((ln_fin n L o a b k).1 i ≠ (ln_fin n L o a b (k + 2 ^ c)).1 i)) j)) (nI j) (nI L) (nI n) gK gP gD gE gV po pa pb qf qv rr := by
    intro d
    induction d with
    | zero =>
      intro j gP gD gE gV rr hj
      have e : j = 64 := by omega
      subst e
      exact br_t (by decide) (H _ _ _ _ _)
    | succ d ih =>
      intro j gP gD gE gV rr hj
      refine br_f (hi64 (by omega)) ?_
      have e : ln_cn (fun k => !k.testBit c && decide ((ln_fin n L o a b k).1 i ≠ (ln_fin n L o a b (k + 2 ^ c)).1 i)) (j + 1) = ln_cn (fun k => !k.testBit c && decide ((ln_fin n L o a b k).1 i ≠ (ln_fin n L o a b (k + 2 ^ c)).1 i)) j + (!j.testBit c && decide ((ln_fin n L o a b j).1 i ≠ (ln_fin n L o a b (j + 2 ^ c)).1 i)).toNat := rfl
      have tb := sh_tb (b := j) (j := c) (by omega) (by omega)
      cases hb : j.testBit c with
      | false =>
        have hj2 := pw_in c hc j (by omega) hb
        refine br_t (tb.mpr hb) (yq_reg P Q (by omega) hi ?_)
        intro gP1 gD1 gE1 gV1 rr1
        dsimp only
        rw [one_sh c hc, nI_add]
        refine yq_reg P Q hj2 hi ?_
        intro gP2 gD2 gE2 gV2 rr2
        have b1 := bd j (by omega)
        have b2 := bd (j + 2 ^ c) hj2
        have ih' := ih (j + 1) gP2 gD2 gE2 gV2 rr2 (by omega)
        rw [e, hb] at ih'
        by_cases he : (ln_fin n L o a b j).1 i = (ln_fin n L o a b (j + 2 ^ c)).1 i
        · rw [decide_eq_false (fun hx => hx he)] at ih'
          exact br_t (congrArg nI he) (nm_r (nI_add _ 0) (nm_r (nI_1 j) ih'))
        · rw [decide_eq_true he] at ih'
          exact br_f (fun hx => he ((nI_eq (by omega) (by omega)).mp hx)) (nm_r (nI_1 _) (nm_r (nI_1 j) ih'))
      | true =>
        have ih' := ih (j + 1) gP gD gE gV rr (by omega)
        rw [e, hb] at ih'
        refine br_f (fun hx => ?_) (nm_r (nI_1 j) ih')
        rw [tb, hb] at hx
        exact Bool.noConfusion hx
  exact br_f (nI_pos (by omega)) (br_f (nI_nlt (a := 3) (b := i) (by omega) (by decide)) (br_f (nI_pos (by omega)) (br_t (nI_le (b := 5) (by omega) (by decide)) (Exists.intro 65 (lp 64 0 _ _ _ _ _ rfl)))))
/-! keep -/
theorem yq_keep (P : ln_PG n L o a b) (Q : YP o a b po pa pb) {post : SY → Prop} (H : ∀ gP gD gE gV qf qv rr, (∀ k, k < 64 → qf k = nI (ln_fin n L o a b k).2.2.2.2 ∧ qv k = nI ((ln_fin n L o a b k).1 0)) → post (nI L, nI n, 1, gP, gD, gE, gV, po, pa, pb, qf, qv, rr)) : wpY_keep post (nI L, nI n, gK, gP, gD, gE, gV, po, pa, pb, qf, qv, rr) := by
  have lp : ∀ (d j : Nat) (gP gD gE gV : Int32) (qf qv rr : Nat → Int32), j + d = 64 → (∀ k, k < j → qf k = nI (ln_fin n L o a b k).2.2.2.2 ∧ qv k = nI ((ln_fin n L o a b k).1 0)) → wY_keep_7 post (d + 1) (nI j) (nI L) (nI n) 1 gP gD gE gV po pa pb qf qv rr := by
    intro d
    induction d with
    | zero =>
      intro j gP gD gE gV qf qv rr hj hb
      have e : j = 64 := by omega
      subst e
      exact br_t (by decide) (H _ _ _ _ _ _ _ hb)
    | succ d ih =>
      intro j gP gD gE gV qf qv rr hj hb
      refine br_f (hi64 (by omega)) (yr_run P Q.1 Q.2.1 Q.2.2 (by omega) ?_)
      intro gV' rr' _ hr
      dsimp only
      rw [nI_clamp (n := j) (by omega), hr 0 (by decide)]
      have hv : vp_in (nI j) 64 := vp_in_nI (by omega) (by decide)
      refine ⟨hv, nm_e ⟨hv, nm_e (nm_r (nI_1 j) (ih (j + 1) _ _ _ gV' _ _ rr' (by omega) (fun k hk => ?_)))⟩⟩
      by_cases hkj : k = j
      · rw [hkj, pk_us, pk_us]; exact ⟨rfl, rfl⟩
      · rw [pk_un hkj, pk_un hkj]; exact hb k (by omega)
  exact Exists.intro 65 (lp 64 0 _ _ _ _ _ _ _ rfl (fun k hk => absurd hk (Nat.not_lt_zero k)))
/-! agrees -/
def ag_D (n L : Nat) (o a b : Nat → Nat) (E W : Nat → Nat) (k : Nat) : Bool := decide ((ln_fin n L o a b k).2.2.2.2 = E k) && (!decide ((ln_fin n L o a b k).2.2.2.2 = 0) || decide ((ln_fin n L o a b k).1 0 = W k))
def b01 (x : Bool) : Int32 := if x = true then 1 else 0
theorem yq_agrees (P : ln_PG n L o a b) (Q : YP o a b po pa pb) {E W : Nat → Nat} (hE : ∀ k, k < 64 → E k < 4 ∧ W k < 16 ∧ qf k = nI (E k) ∧ qv k = nI (W k)) {post : Int32 → SY → Prop} {k : Nat} (hk : k < 64) (H : ∀ gP gD gE gV rr, post (b01 (ag_D n L o a b E W k)) (nI L, nI n, gK, gP, gD, gE, gV, po, pa, pb, qf, qv, rr)) : wpY_agrees post (nI L, nI n, gK, gP, gD, gE, gV, po, pa, pb, qf, qv, rr) (nI k) := by
  have h := hE k hk
  have he := ln_fin_e P hk
  have hr0 : (ln_fin n L o a b k).1 0 < 16 := (ln_fin_B P hk).2.2.2 0 (by decide)
  have hv : vp_in (nI k) 64 := vp_in_nI (by omega) (by decide)
  unfold wpY_agrees
  dsimp only
  refine yr_run P Q.1 Q.2.1 Q.2.2 hk ?_
  intro gV' rr' _ hr
  dsimp only
  rw [nI_clamp (n := k) (by omega), hr 0 (by decide), h.2.2.1, h.2.2.2]
  have H' := H (nI (ln_fin n L o a b k).2.1) (nI (ln_fin n L o a b k).2.2.1) (nI (ln_fin n L o a b k).2.2.2.2) gV' rr'
  unfold ag_D at H'
  refine ⟨hv, ?_⟩
  by_cases h1 : (ln_fin n L o a b k).2.2.2.2 = E k
  · refine br_t (congrArg nI h1) ?_
    rw [decide_eq_true h1] at H'
    by_cases h2 : (ln_fin n L o a b k).2.2.2.2 = 0
    · refine br_t (congrArg nI h2) ⟨hv, ?_⟩
      rw [decide_eq_true h2] at H'
      by_cases h3 : (ln_fin n L o a b k).1 0 = W k
      · rw [decide_eq_true h3] at H'
        exact br_t (congrArg nI h3) H'
      · rw [decide_eq_false h3] at H'
        exact br_f (fun hx => h3 ((nI_eq (by omega) (by omega)).mp hx)) H'
    · rw [decide_eq_false h2] at H'
      exact br_f (fun hx => h2 ((nI_eq (by omega) (by decide)).mp (show nI _ = nI 0 from hx))) H'
  · rw [decide_eq_false h1] at H'
    exact br_f (fun hx => h1 ((nI_eq (by omega) (by omega)).mp hx)) H'
theorem yq_agreeing (P : ln_PG n L o a b) (Q : YP o a b po pa pb) {E W : Nat → Nat} (hE : ∀ k, k < 64 → E k < 4 ∧ W k < 16 ∧ qf k = nI (E k) ∧ qv k = nI (W k)) {post : Int32 → SY → Prop} (H : ∀ gP gD gE gV rr, post (nI (ln_cn (ag_D n L o a b E W) 64)) (nI L, nI n, 1, gP, gD, gE, gV, po, pa, pb, qf, qv, rr)) : wpY_agreeing post (nI L, nI n, 1, gP, gD, gE, gV, po, pa, pb, qf, qv, rr) := by
  have lp : ∀ (d j : Nat) (gP gD gE gV : Int32) (rr : Nat → Int32), j + d = 64 → wY_agreeing_13 post (d + 1) (nI (ln_cn (ag_D n L o a b E W) j)) (nI j) (nI L) (nI n) 1 gP gD gE gV po pa pb qf qv rr := by
    intro d
    induction d with
    | zero =>
      intro j gP gD gE gV rr hj
      have e : j = 64 := by omega
      subst e
      exact br_t (by decide) (H _ _ _ _ _)
    | succ d ih =>
      intro j gP gD gE gV rr hj
      refine br_f (hi64 (by omega)) (yq_agrees P Q hE (by omega) ?_)
      intro gP' gD' gE' gV' rr'
      have e : ln_cn (ag_D n L o a b E W) (j + 1) = ln_cn (ag_D n L o a b E W) j + (ag_D n L o a b E W j).toNat := rfl
      have ih' := ih (j + 1) gP' gD' gE' gV' rr' (by omega)
      rw [e] at ih'
      cases hd : ag_D n L o a b E W j with
      | false =>
        rw [hd] at ih'
        exact br_t rfl (nm_r (nI_1 j) ih')
      | true =>
        rw [hd] at ih'
        exact br_f (by decide) (nm_r (nI_1 _) (nm_r (nI_1 j) ih'))
  exact br_f (by decide) (Exists.intro 65 (lp 64 0 _ _ _ _ _ rfl))
theorem yq_difference (P : ln_PG n L o a b) (Q : YP o a b po pa pb) {E W : Nat → Nat} (hE : ∀ k, k < 64 → E k < 4 ∧ W k < 16 ∧ qf k = nI (E k) ∧ qv k = nI (W k)) {post : Int32 → SY → Prop} (H1 : ∀ gP gD gE gV rr j, j < 64 → ag_D n L o a b E W j = false → (∀ i, i < j → ag_D n L o a b E W i = true) → post (nI j) (nI L, nI n, 1, gP, gD, gE, gV, po, pa, pb, qf, qv, rr)) (H2 : ∀ gP gD gE gV rr, (∀ j, j < 64 → ag_D n L o a b E W j = true) → post (-1) (nI L, nI n, 1, gP, gD, gE, gV, po, pa, pb, qf, qv, rr)) : wpY_difference post (nI L, nI n, 1, gP, gD, gE, gV, po, pa, pb, qf, qv, rr) := by
  have lp : ∀ (d j : Nat) (gP gD gE gV : Int32) (rr : Nat → Int32), j + d = 64 → (∀ i, i < j → ag_D n L o a b E W i = true) → wY_difference_2 post (d + 1) (nI j) (nI L) (nI n) 1 gP gD gE gV po pa pb qf qv rr := by
    intro d
    induction d with
    | zero =>
      intro j gP gD gE gV rr hj hb
      have e : j = 64 := by omega
      subst e
      exact br_t (by decide) (H2 _ _ _ _ _ hb)
    | succ d ih =>
      intro j gP gD gE gV rr hj hb
      refine br_f (hi64 (by omega)) (br_f (by decide) (yq_agrees P Q hE (by omega) ?_))
      intro gP' gD' gE' gV' rr'
      cases hd : ag_D n L o a b E W j with
      | false => exact br_t rfl (H1 _ _ _ _ _ j (by omega) hd hb)
      | true =>
        refine br_f (by decide) (nm_r (nI_1 j) (ih (j + 1) _ _ _ _ _ (by omega) (fun i hi => ?_)))
        by_cases hij : i = j
        · rw [hij]; exact hd
        · exact hb i (by omega)
  exact Exists.intro 65 (lp 64 0 _ _ _ _ _ rfl (fun i hi => absurd hi (Nat.not_lt_zero i)))
end
end
section
/-! ===== the relation ===== -/
def XP (o a b : Nat → Nat) (op aa ab : Nat → Int32) : Prop := (∀ p, op p = nI (o p)) ∧ (∀ p, aa p = nI (a p)) ∧ (∀ p, ab p = nI (b p))
/-- what was kept: lane by lane the same fate and value -/
def KD (kf kv : Nat → Int64) (qf qv : Nat → Int32) : Prop := ∃ E W : Nat → Nat, ∀ k, k < 64 → E k < 4 ∧ W k < 16 ∧ qf k = nI (E k) ∧ qv k = nI (W k) ∧ (∀ j, j < 4 → zb (kf j) k = decide (j = E k)) ∧ z4 kv 0 k = W k
def zz_R (fL fS fJ fK : Int32) (op aa ab : Nat → Int32) (rg sp ep ft vi wt xx yy zz rs ls kf kv : Nat → Int64) (gL gS gK gP gD gE gV : Int32) (po pa pb qf qv rr : Nat → Int32) : Prop := ∃ (L n : Nat) (o a b : Nat → Nat), (fL = nI L ∧ fS = nI n ∧ gL = nI L ∧ gS = nI n ∧ gK = fK) ∧ ln_PG n L o a b ∧ XP o a b op aa ab ∧ YP o a b po pa pb ∧ (fJ = 0 ∨ (fJ = 1 ∧ JD n L o a b rg sp ep ft vi)) ∧ (fK = 0 ∨ (fK = 1 ∧ KD kf kv qf qv))
def i_Rel (_ : Nat) (u : SX) (v : SY) : Prop := match u, v with
  | (fL, fS, fJ, fK, op, aa, ab, rg, sp, ep, ft, vi, wt, xx, yy, zz, rs, ls, kf, kv), (gL, gS, gK, gP, gD, gE, gV, po, pa, pb, qf, qv, rr) => zz_R fL fS fJ fK op aa ab rg sp ep ft vi wt xx yy zz rs ls kf kv gL gS gK gP gD gE gV po pa pb qf qv rr
theorem i_up {k : Nat} {u : SX} {v : SY} (h : i_Rel k u v) : i_Rel (k + 5) u v := h
theorem zz_in {k : Nat} {fJ fK : Int32} {op aa ab : Nat → Int32} {rg sp ep ft vi wt xx yy zz rs ls kf kv : Nat → Int64} {gP gD gE gV : Int32} {po pa pb qf qv rr : Nat → Int32} {L n : Nat} {o a b : Nat → Nat} (P : ln_PG n L o a b) (X : XP o a b op aa ab) (Y : YP o a b po pa pb) (J : fJ = 0 ∨ (fJ = 1 ∧ JD n L o a b rg sp ep ft vi)) (K : fK = 0 ∨ (fK = 1 ∧ KD kf kv qf qv)) : i_Rel k (nI L, nI n, fJ, fK, op, aa, ab, rg, sp, ep, ft, vi, wt, xx, yy, zz, rs, ls, kf, kv) (nI L, nI n, fK, gP, gD, gE, gV, po, pa, pb, qf, qv, rr) := by
  show zz_R (nI L) (nI n) fJ fK op aa ab rg sp ep ft vi wt xx yy zz rs ls kf kv (nI L) (nI n) fK gP gD gE gV po pa pb qf qv rr
  exact ⟨L, n, o, a, b, ⟨rfl, rfl, rfl, rfl, rfl⟩, P, X, Y, J, K⟩
theorem zz_el {k : Nat} {R : SX → SY → Prop} (h : ∀ (fJ fK : Int32) (op aa ab : Nat → Int32) (rg sp ep ft vi wt xx yy zz rs ls kf kv : Nat → Int64) (gP gD gE gV : Int32) (po pa pb qf qv rr : Nat → Int32) (L n : Nat) (o a b : Nat → Nat), ln_PG n L o a b → XP o a b op aa ab → YP o a b po pa pb → (fJ = 0 ∨ (fJ = 1 ∧ JD n L o a b rg sp ep ft vi)) → (fK = 0 ∨ (fK = 1 ∧ KD kf kv qf qv)) → R (nI L, nI n, fJ, fK, op, aa, ab, rg, sp, ep, ft, vi, wt, xx, yy, zz, rs, ls, kf, kv) (nI L, nI n, fK, gP, gD, gE, gV, po, pa, pb, qf, qv, rr)) {u : SX} {v : SY} (I : i_Rel k u v) : R u v := by
  match u, v, I with
  | (fL, fS, fJ, fK, op, aa, ab, rg, sp, ep, ft, vi, wt, xx, yy, zz, rs, ls, kf, kv), (gL, gS, gK, gP, gD, gE, gV, po, pa, pb, qf, qv, rr), I =>
    obtain ⟨L, n, o, a, b, ⟨rfl, rfl, rfl, rfl, rfl⟩, P, X, Y, J, K⟩ := I
    exact h _ _ _ _ _ _ _ _ _ _ _ _ _ _ _ _ _ _ _ _ _ _ _ _ _ _ _ _ L n o a b P X Y J K
theorem i_vc0 (k0 : Int32) : wpX_init (fun u => wpY_init (fun v => i_Rel 1 u v) k0) k0 := by
  have X : XP (fun _ => 0) (fun _ => 0) (fun _ => 0) (fun _ => 0) (fun _ => 0) (fun _ => 0) := ⟨fun _ => rfl, fun _ => rfl, fun _ => rfl⟩
  have Y : YP (fun _ => 0) (fun _ => 0) (fun _ => 0) (fun _ => 0) (fun _ => 0) (fun _ => 0) := ⟨fun _ => rfl, fun _ => rfl, fun _ _ => rfl⟩
  have P : ∀ L, 1 ≤ L → L ≤ 40 → ln_PG 0 L (fun _ => 0) (fun _ => 0) (fun _ => 0) := fun L h1 h2 => ⟨by decide, h1, h2, fun _ => ⟨Nat.zero_le 11, Nat.zero_le 3, Nat.zero_le 15, fun _ => Nat.zero_le 12⟩⟩
  by_cases h1 : 1 ≤ k0
  · by_cases h2 : k0 ≤ 40
    · have h0 : ¬ k0 < 0 := fun h => by
        rw [Int32.le_iff_toInt_le] at h1
        rw [Int32.lt_iff_toInt_lt] at h
        have e1 : (1 : Int32).toInt = 1 := by decide
        have e0 : (0 : Int32).toInt = 0 := by decide
        omega
      obtain ⟨L, hL, rfl⟩ := nI_of2 (M := 40) (n := 40) (by decide) h0 h2
      have hL1 : 1 ≤ L := (nI_leI (a := 1) (by decide) (by omega)).mp h1
      exact br_t h1 (br_t h2 (br_t h1 (br_t h2 (zz_in (P L hL1 hL) X Y (Or.inl rfl) (Or.inl rfl)))))
    · exact br_t h1 (br_f h2 (br_t h1 (br_f h2 (zz_in (L := 40) (P 40 (by decide) (by decide)) X Y (Or.inl rfl) (Or.inl rfl)))))
  · exact br_f h1 (br_f h1 (zz_in (L := 1) (P 1 (by decide) (by decide)) X Y (Or.inl rfl) (Or.inl rfl)))
end
section
/-! ===== the program: emit, patch, clear, length ===== -/
theorem fo_top {b : Int32} {t : Int32} {tn : Nat} (ht : t = nI tn) (htn : tn < 16) {gL gS gK gP gD gE gV : Int32} {po pa pb qf qv rr : Nat → Int32} : ∃ r : Int32, (∀ post : Int32 → Prop, post r → ((t < 0 → post 0) ∧ (¬ t < 0 → ((b < 0 → post (-4)) ∧ (¬ b < 0 → ((b ≤ t → post 0) ∧ (¬ b ≤ t → post (-4)))))))) ∧ (∀ post : Int32 → Prop, post r → wY_complaint_54 post b t gL gS gK gP gD gE gV po pa pb qf qv rr) ∧ (r = 0 → ∃ bn : Nat, bn ≤ tn ∧ b = nI bn) := by
  have h0 : ¬ t < 0 := by rw [ht]; exact nI_pos (by omega)
  by_cases hb : b < 0
  · exact ⟨-4, fun post h => br_f h0 (br_t hb h), fun post h => br_t hb h, fun h => absurd h (by decide)⟩
  · by_cases hb2 : b ≤ t
    · refine ⟨0, fun post h => br_f h0 (br_f hb (br_t hb2 h)), fun post h => br_f hb (br_t hb2 h), fun _ => ?_⟩
      obtain ⟨bn, h1, h2⟩ := nI_of2 (M := t) (n := tn) (by rw [ht]; exact nI_toInt (by omega)) hb hb2
      exact ⟨bn, h1, h2⟩
    · exact ⟨-4, fun post h => br_f h0 (br_f hb (br_f hb2 h)), fun post h => br_f hb (br_f hb2 h), fun h => absurd h (by decide)⟩
theorem fo_b15 {b : Int32} {bn : Nat} (h : bn ≤ 15) (e : b = nI bn) : b &&& 15 = nI bn := by
  rw [e, pk_andN (m := 15) (by omega) 4 (by decide)]
  exact congrArg nI (Nat.mod_eq_of_lt (by omega))
theorem fo_all (o a b : Int32) {gL gS gK gP gD gE gV : Int32} {po pa pb qf qv rr : Nat → Int32} : ∃ r : Int32, (∀ post : Int32 → Prop, post r → wpX_faultOf post o a b) ∧ (∀ post : Int32 → Prop, post r → wpY_complaint post (gL, gS, gK, gP, gD, gE, gV, po, pa, pb, qf, qv, rr) o a b) ∧ (r = 0 → ∃ on an bn : Nat, o = nI on ∧ on ≤ 11 ∧ a = nI an ∧ an ≤ 3 ∧ bn ≤ 15 ∧ (on = 9 → bn ≤ 12) ∧ b &&& 15 = nI bn ∧ (on ≤ 9 → b = nI bn)) := by
  by_cases ho : o < 0
  · exact ⟨-2, fun post h => br_t ho h, fun post h => br_t ho h, fun h => absurd h (by decide)⟩
  by_cases ho2 : o ≤ 11
  case neg => exact ⟨-2, fun post h => br_f ho (br_f ho2 h), fun post h => br_f ho (br_f ho2 h), fun h => absurd h (by decide)⟩
  by_cases ha : a < 0
  · exact ⟨-3, fun post h => br_f ho (br_t ho2 (br_t ha h)), fun post h => br_f ho (br_t ho2 (br_t ha h)), fun h => absurd h (by decide)⟩
  by_cases ha2 : a ≤ 3
  case neg => exact ⟨-3, fun post h => br_f ho (br_t ho2 (br_f ha (br_f ha2 h))), fun post h => br_f ho (br_t ho2 (br_f ha (br_f ha2 h))), fun h => absurd h (by decide)⟩
  obtain ⟨on, hon, rfl⟩ := nI_of2 (M := 11) (n := 11) (by decide) ho ho2
  obtain ⟨an, han, rfl⟩ := nI_of2 (M := 3) (n := 3) (by decide) ha ha2
  have ne : ∀ c : Nat, c < 12 → on ≠ c → ¬ nI on = nI c := fun c hc hn hx => hn ((nI_eq (by omega) (by omega)).mp hx)
  by_cases h0 : on = 0
  · obtain ⟨r, hX, hY, hr⟩ := fo_top (b := b) (t := 15) (tn := 15) rfl (by decide) (gL := gL) (gS := gS) (gK := gK) (gP := gP) (gD := gD) (gE := gE) (gV := gV) (po := po) (pa := pa) (pb := pb) (qf := qf) (qv := qv) (rr := rr)
    have e0 : nI on = 0 := by rw [h0]; rfl
    refine ⟨r, fun post h => br_f ho (br_t ho2 (br_f ha (br_t ha2 (br_t e0 (hX post h))))), fun post h => br_f ho (br_t ho2 (br_f ha (br_t ha2 (br_t (nI_lt (b := 10) (by omega) (by decide)) (br_t e0 (hY post h)))))), fun h => ?_⟩
    obtain ⟨bn, h1, h2⟩ := hr h
    exact ⟨on, an, bn, rfl, hon, rfl, han, h1, fun h9 => by omega, fo_b15 h1 h2, fun _ => h2⟩
  have n0 := ne 0 (by decide) h0
  by_cases h9 : on = 9
  · obtain ⟨r, hX, hY, hr⟩ := fo_top (b := b) (t := 12) (tn := 12) rfl (by decide) (gL := gL) (gS := gS) (gK := gK) (gP := gP) (gD := gD) (gE := gE) (gV := gV) (po := po) (pa := pa) (pb := pb) (qf := qf) (qv := qv) (rr := rr)
    have e9 : nI on = 9 := by rw [h9]; rfl
    refine ⟨r, fun post h => br_f ho (br_t ho2 (br_f ha (br_t ha2 (br_f n0 (br_t e9 (hX post h)))))), fun post h => br_f ho (br_t ho2 (br_f ha (br_t ha2 (br_t (nI_lt (b := 10) (by omega) (by decide)) (br_f n0 (br_t e9 (hY post h))))))), fun h => ?_⟩
    obtain ⟨bn, h1, h2⟩ := hr h
    exact ⟨on, an, bn, rfl, hon, rfl, han, by omega, fun _ => h1, fo_b15 (by omega) h2, fun _ => h2⟩
  have n9 := ne 9 (by decide) h9
  by_cases h8 : on ≤ 8
  · obtain ⟨r, hX, hY, hr⟩ := fo_top (b := b) (t := 3) (tn := 3) rfl (by decide) (gL := gL) (gS := gS) (gK := gK) (gP := gP) (gD := gD) (gE := gE) (gV := gV) (po := po) (pa := pa) (pb := pb) (qf := qf) (qv := qv) (rr := rr)
    refine ⟨r, fun post h => br_f ho (br_t ho2 (br_f ha (br_t ha2 (br_f n0 (br_f n9 (br_f (nI_nlt (a := 8) (by omega) (by decide)) (hX post h))))))), fun post h => br_f ho (br_t ho2 (br_f ha (br_t ha2 (br_t (nI_lt (b := 10) (by omega) (by decide)) (br_f n0 (br_f n9 (hY post h))))))), fun h => ?_⟩
    obtain ⟨bn, h1, h2⟩ := hr h
    exact ⟨on, an, bn, rfl, hon, rfl, han, by omega, fun h => absurd h h9, fo_b15 (by omega) h2, fun _ => h2⟩
  · refine ⟨0, fun post h => br_f ho (br_t ho2 (br_f ha (br_t ha2 (br_f n0 (br_f n9 (br_t (nI_lt (a := 8) (by omega) (by omega)) (br_t (by decide) h))))))), fun post h => br_f ho (br_t ho2 (br_f ha (br_t ha2 (br_f (nI_nlt (b := 10) (by omega) (by omega)) h)))), fun _ => ?_⟩
    obtain ⟨bn, h1, h2⟩ := pk_andE b (m := 15) 4 (by decide)
    exact ⟨on, an, bn, rfl, hon, rfl, han, by omega, fun h => absurd h h9, h2, fun h => by omega⟩
theorem nar_b : ∀ j, j < 16 → (nI j).toInt8.toInt32 = nI j := by decide +kernel
theorem nar_n {j : Nat} (h : j < 16) : vp_nar .byte (nI j).toInt8.toInt32 = nI j := by rw [pk_vb, nar_b j h]
theorem upd_fn {f : Nat → Int32} {g : Nat → Nat} {p x : Nat} (h : ∀ q, f q = nI (g q)) : ∀ q, upd f p (nI x) q = nI (if q = p then x else g q) := by
  intro q
  by_cases hq : q = p
  · rw [hq, pk_us, if_pos rfl]
  · rw [pk_un hq, if_neg hq, h q]
/-- one instruction is put at p on both sides -/
theorem pt_X {post : SX → Prop} {fL fS fJ fK : Int32} {op aa ab : Nat → Int32} {rg sp ep ft vi wt xx yy zz rs ls kf kv : Nat → Int64} (p on an bn : Nat) (b : Int32) (hp : p < 12) (ho : on ≤ 11) (ha : an ≤ 3) (hb : bn ≤ 15) (eb : b &&& 15 = nI bn) (h : post (fL, fS, 0, fK, upd op p (nI on), upd aa p (nI an), upd ab p (nI bn), rg, sp, ep, ft, vi, wt, xx, yy, zz, rs, ls, kf, kv)) : wpX_put post (fL, fS, fJ, fK, op, aa, ab, rg, sp, ep, ft, vi, wt, xx, yy, zz, rs, ls, kf, kv) (nI p) (nI on) (nI an) b := by
  have hv : vp_in (nI p) 12 := vp_in_nI hp (by decide)
  unfold wpX_put
  dsimp only
  rw [nI_clamp (n := p) (by omega), eb, nar_n (j := on) (by omega), nar_n (j := an) (by omega), nar_n (j := bn) (by omega)]
  exact ⟨hv, nm_e ⟨hv, nm_e ⟨hv, nm_e h⟩⟩⟩
theorem pt_Y {post : SY → Prop} {gL gS gK gP gD gE gV : Int32} {po pa pb qf qv rr : Nat → Int32} (p on an : Nat) (b : Int32) (hp : p < 12) (h : post (gL, gS, gK, gP, gD, gE, gV, upd po p (nI on), upd pa p (nI an), upd pb p b, qf, qv, rr)) : wpY_put post (gL, gS, gK, gP, gD, gE, gV, po, pa, pb, qf, qv, rr) (nI p) (nI on) (nI an) b := by
  have hv : vp_in (nI p) 12 := vp_in_nI hp (by decide)
  unfold wpY_put
  dsimp only
  rw [nI_clamp (n := p) (by omega)]
  exact ⟨hv, nm_e ⟨hv, nm_e ⟨hv, nm_e h⟩⟩⟩
theorem pt_R {k : Nat} {fK : Int32} {op aa ab : Nat → Int32} {rg sp ep ft vi wt xx yy zz rs ls kf kv : Nat → Int64} {gP gD gE gV : Int32} {po pa pb qf qv rr : Nat → Int32} {L n n' : Nat} {o a b : Nat → Nat} (P : ln_PG n L o a b) (X : XP o a b op aa ab) (Y : YP o a b po pa pb) (K : fK = 0 ∨ (fK = 1 ∧ KD kf kv qf qv)) {p on an bn : Nat} {bi : Int32} (hn : n' ≤ 12) (ho : on ≤ 11) (ha : an ≤ 3) (hb : bn ≤ 15) (h9 : on = 9 → bn ≤ 12) (ei : on ≤ 9 → bi = nI bn) : i_Rel k (nI L, nI n', 0, fK, upd op p (nI on), upd aa p (nI an), upd ab p (nI bn), rg, sp, ep, ft, vi, wt, xx, yy, zz, rs, ls, kf, kv) (nI L, nI n', fK, gP, gD, gE, gV, upd po p (nI on), upd pa p (nI an), upd pb p bi, qf, qv, rr) := by
  refine zz_in (o := fun q => if q = p then on else o q) (a := fun q => if q = p then an else a q) (b := fun q => if q = p then bn else b q) ⟨hn, P.2.1, P.2.2.1, fun q => ?_⟩ ⟨upd_fn X.1, upd_fn X.2.1, upd_fn X.2.2⟩ ⟨upd_fn Y.1, upd_fn Y.2.1, fun q hq => ?_⟩ (Or.inl rfl) K
  · by_cases hq : q = p
    · dsimp only
      rw [if_pos hq, if_pos hq, if_pos hq]
      exact ⟨ho, ha, hb, h9⟩
    · dsimp only
      rw [if_neg hq, if_neg hq, if_neg hq]
      exact P.2.2.2 q
  · by_cases hqp : q = p
    · dsimp only at hq ⊢
      rw [if_pos hqp] at hq ⊢
      rw [hqp, pk_us]
      exact ei hq
    · dsimp only at hq ⊢
      rw [if_neg hqp] at hq ⊢
      rw [pk_un hqp]
      exact Y.2.2 q hq
theorem i_vc_emit {k : Nat} {u : SX} {v : SY} (I : i_Rel k u v) (hk : k + 5 ≤ 2561) (v1 : Int32) (v2 : Int32) (v3 : Int32) : wpX_emit (fun r u' => wpY_emit (fun r' v' => r' = r ∧ i_Rel (k + 5) u' v') v v1 v2 v3) u v1 v2 v3 := by
  refine zz_el (R := fun u v => wpX_emit (fun r u' => wpY_emit (fun r' v' => r' = r ∧ i_Rel (k + 5) u' v') v v1 v2 v3) u v1 v2 v3) ?_ I
  intro fJ fK op aa ab rg sp ep ft vi wt xx yy zz rs ls kf kv gP gD gE gV po pa pb qf qv rr L n o a b P X Y J K
  have hn := P.1
  by_cases hs : n < 12
  · have hs' : nI n < 12 := nI_lt (b := 12) hs (by decide)
    obtain ⟨r, hX, hY, h0⟩ := fo_all v1 v2 v3 (gL := nI L) (gS := nI n) (gK := fK) (gP := gP) (gD := gD) (gE := gE) (gV := gV) (po := po) (pa := pa) (pb := pb) (qf := qf) (qv := qv) (rr := rr)
    refine br_t hs' (hX _ ?_)
    by_cases hr : r = 0
    · obtain ⟨on, an, bn, rfl, ho, rfl, ha, hb, h9, e15, ei⟩ := h0 hr
      refine br_t hr (nm_r (nI_1 n) ?_)
      rw [nI_pred]
      refine pt_X n on an bn v3 hs ho ha hb e15 ?_
      refine br_t hs' (hY _ (br_t hr (pt_Y n on an v3 hs (nm_r (nI_1 n) ⟨rfl, ?_⟩))))
      exact pt_R P X Y K (by omega) ho ha hb h9 ei
    · exact br_f hr (br_t hs' (hY _ (br_f hr ⟨rfl, zz_in P X Y J K⟩)))
  · have hs' : ¬ nI n < 12 := nI_nlt (b := 12) (by omega) (by omega)
    exact br_f hs' (br_f hs' ⟨rfl, zz_in P X Y J K⟩)
theorem i_vc_patch {k : Nat} {u : SX} {v : SY} (I : i_Rel k u v) (hk : k + 5 ≤ 2561) (v1 : Int32) (v2 : Int32) (v3 : Int32) (v4 : Int32) : wpX_patch (fun r u' => wpY_patch (fun r' v' => r' = r ∧ i_Rel (k + 5) u' v') v v1 v2 v3 v4) u v1 v2 v3 v4 := by
  refine zz_el (R := fun u v => wpX_patch (fun r u' => wpY_patch (fun r' v' => r' = r ∧ i_Rel (k + 5) u' v') v v1 v2 v3 v4) u v1 v2 v3 v4) ?_ I
  intro fJ fK op aa ab rg sp ep ft vi wt xx yy zz rs ls kf kv gP gD gE gV po pa pb qf qv rr L n o a b P X Y J K
  have hn := P.1
  by_cases h0 : v1 < 0
  · exact br_t h0 (br_t h0 ⟨rfl, zz_in P X Y J K⟩)
  by_cases h1 : v1 < nI n
  case neg => exact br_f h0 (br_f h1 (br_f h0 (br_f h1 ⟨rfl, zz_in P X Y J K⟩)))
  obtain ⟨p, hp31, rfl⟩ := nI_of h0
  have hp : p < n := (nI_ltI hp31 (by omega)).mp h1
  obtain ⟨r, hX, hY, hz⟩ := fo_all v2 v3 v4 (gL := nI L) (gS := nI n) (gK := fK) (gP := gP) (gD := gD) (gE := gE) (gV := gV) (po := po) (pa := pa) (pb := pb) (qf := qf) (qv := qv) (rr := rr)
  refine br_f h0 (br_t h1 (hX _ ?_))
  by_cases hr : r = 0
  · obtain ⟨on, an, bn, rfl, ho, rfl, ha, hb, h9, e15, ei⟩ := hz hr
    refine br_t hr (pt_X p on an bn v4 (by omega) ho ha hb e15 ?_)
    refine br_f h0 (br_t h1 (hY _ (br_t hr (pt_Y p on an v4 (by omega) ⟨rfl, ?_⟩))))
    exact pt_R P X Y K hn ho ha hb h9 ei
  · exact br_f hr (br_f h0 (br_t h1 (hY _ (br_f hr ⟨rfl, zz_in P X Y J K⟩))))
theorem i_vc_clear {k : Nat} {u : SX} {v : SY} (I : i_Rel k u v) (hk : k + 5 ≤ 2561) : wpX_clear (fun u' => wpY_clear (fun v' => i_Rel (k + 5) u' v') v) u := by
  refine zz_el (R := fun u v => wpX_clear (fun u' => wpY_clear (fun v' => i_Rel (k + 5) u' v') v) u) ?_ I
  intro fJ fK op aa ab rg sp ep ft vi wt xx yy zz rs ls kf kv gP gD gE gV po pa pb qf qv rr L n o a b P X Y J K
  unfold wpX_clear wpY_clear
  dsimp only
  exact zz_in (n := 0) ⟨by decide, P.2.1, P.2.2.1, P.2.2.2⟩ X Y (Or.inl rfl) K
theorem i_vc_length {k : Nat} {u : SX} {v : SY} (I : i_Rel k u v) (hk : k + 5 ≤ 2561) : wpX_length (fun r => wpY_length (fun r' => r' = r ∧ i_Rel (k + 5) u v) v) u := by
  have I' := i_up I
  revert I'
  refine zz_el (R := fun u v => i_Rel (k + 5) u v → wpX_length (fun r => wpY_length (fun r' => r' = r ∧ i_Rel (k + 5) u v) v) u) ?_ I
  intro fJ fK op aa ab rg sp ep ft vi wt xx yy zz rs ls kf kv gP gD gE gV po pa pb qf qv rr L n o a b P X Y J K I'
  exact And.intro rfl I'
end
section
/-! ===== questions about one input ===== -/
/-- the relation behind a question -/
theorem zz_q {k : Nat} {fK : Int32} {op aa ab : Nat → Int32} {rg sp ep ft vi wt xx yy zz rs ls kf kv : Nat → Int64} {gP gD gE gV : Int32} {po pa pb qf qv rr : Nat → Int32} {L n : Nat} {o a b : Nat → Nat} (P : ln_PG n L o a b) (X : XP o a b op aa ab) (Y : YP o a b po pa pb) (J : JD n L o a b rg sp ep ft vi) (K : fK = 0 ∨ (fK = 1 ∧ KD kf kv qf qv)) : i_Rel k (nI L, nI n, 1, fK, op, aa, ab, rg, sp, ep, ft, vi, wt, xx, yy, zz, rs, ls, kf, kv) (nI L, nI n, fK, gP, gD, gE, gV, po, pa, pb, qf, qv, rr) := zz_in P X Y (Or.inr ⟨rfl, J⟩) K
theorem i_vc_fate {k : Nat} {u : SX} {v : SY} (I : i_Rel k u v) (hk : k + 5 ≤ 2561) (v1 : Int32) : wpX_fate (fun r u' => wpY_fate (fun r' v' => r' = r ∧ i_Rel (k + 5) u' v') v v1) u v1 := by
  refine zz_el (R := fun u v => wpX_fate (fun r u' => wpY_fate (fun r' v' => r' = r ∧ i_Rel (k + 5) u' v') v v1) u v1) ?_ I
  intro fJ fK op aa ab rg sp ep ft vi wt xx yy zz rs ls kf kv gP gD gE gV po pa pb qf qv rr L n o a b P X Y J K
  by_cases h0 : v1 < 0
  · refine br_t h0 ?_
    unfold wpY_fate
    exact yq_out (Or.inl h0) (br_t rfl ⟨rfl, zz_in P X Y J K⟩)
  by_cases h1 : v1 ≤ 63
  case neg =>
    refine br_f h0 (br_f h1 ?_)
    unfold wpY_fate
    exact yq_out (Or.inr (Int32.not_le.mp h1)) (br_t rfl ⟨rfl, zz_in P X Y J K⟩)
  obtain ⟨q, hq, rfl⟩ := nI_of2 (M := 63) (n := 63) (by decide) h0 h1
  refine br_f h0 (br_t h1 (xj_judge P X.1 X.2.1 X.2.2 J ?_))
  intro rg' sp' ep' ft' vi' wt' xx' yy' zz' rs' ls' hJ
  have hJq := hJ q (by omega)
  refine xq_fate (by omega) (ln_fin_e P (by omega)) hJq.2.2.2.1 ?_
  unfold wpY_fate
  refine yq_in (by omega) (br_f (by decide) (yr_run P Y.1 Y.2.1 Y.2.2 (by omega) ?_))
  intro gV' rr' _ _
  exact And.intro rfl (zz_q P X Y hJ K)
theorem i_vc_steps {k : Nat} {u : SX} {v : SY} (I : i_Rel k u v) (hk : k + 5 ≤ 2561) (v1 : Int32) : wpX_steps (fun r u' => wpY_steps (fun r' v' => r' = r ∧ i_Rel (k + 5) u' v') v v1) u v1 := by
  refine zz_el (R := fun u v => wpX_steps (fun r u' => wpY_steps (fun r' v' => r' = r ∧ i_Rel (k + 5) u' v') v v1) u v1) ?_ I
  intro fJ fK op aa ab rg sp ep ft vi wt xx yy zz rs ls kf kv gP gD gE gV po pa pb qf qv rr L n o a b P X Y J K
  by_cases h0 : v1 < 0
  · refine br_t h0 ?_
    unfold wpY_steps
    exact yq_out (Or.inl h0) (br_t rfl ⟨rfl, zz_in P X Y J K⟩)
  by_cases h1 : v1 ≤ 63
  case neg =>
    refine br_f h0 (br_f h1 ?_)
    unfold wpY_steps
    exact yq_out (Or.inr (Int32.not_le.mp h1)) (br_t rfl ⟨rfl, zz_in P X Y J K⟩)
  obtain ⟨q, hq, rfl⟩ := nI_of2 (M := 63) (n := 63) (by decide) h0 h1
  refine br_f h0 (br_t h1 (xj_judge P X.1 X.2.1 X.2.2 J ?_))
  intro rg' sp' ep' ft' vi' wt' xx' yy' zz' rs' ls' hJ
  have hJq := hJ q (by omega)
  refine xq_steps (by omega) ?_
  rw [hJq.2.1]
  unfold wpY_steps
  refine yq_in (by omega) (br_f (by decide) (yr_run P Y.1 Y.2.1 Y.2.2 (by omega) ?_))
  intro gV' rr' _ _
  exact And.intro rfl (zz_q P X Y hJ K)
theorem i_vc_endAt {k : Nat} {u : SX} {v : SY} (I : i_Rel k u v) (hk : k + 5 ≤ 2561) (v1 : Int32) : wpX_endAt (fun r u' => wpY_endAt (fun r' v' => r' = r ∧ i_Rel (k + 5) u' v') v v1) u v1 := by
  refine zz_el (R := fun u v => wpX_endAt (fun r u' => wpY_endAt (fun r' v' => r' = r ∧ i_Rel (k + 5) u' v') v v1) u v1) ?_ I
  intro fJ fK op aa ab rg sp ep ft vi wt xx yy zz rs ls kf kv gP gD gE gV po pa pb qf qv rr L n o a b P X Y J K
  by_cases h0 : v1 < 0
  · refine br_t h0 ?_
    unfold wpY_endAt
    exact yq_out (Or.inl h0) (br_t rfl ⟨rfl, zz_in P X Y J K⟩)
  by_cases h1 : v1 ≤ 63
  case neg =>
    refine br_f h0 (br_f h1 ?_)
    unfold wpY_endAt
    exact yq_out (Or.inr (Int32.not_le.mp h1)) (br_t rfl ⟨rfl, zz_in P X Y J K⟩)
  obtain ⟨q, hq, rfl⟩ := nI_of2 (M := 63) (n := 63) (by decide) h0 h1
  refine br_f h0 (br_t h1 (xj_judge P X.1 X.2.1 X.2.2 J ?_))
  intro rg' sp' ep' ft' vi' wt' xx' yy' zz' rs' ls' hJ
  have hJq := hJ q (by omega)
  refine xq_endAt (by omega) ?_
  rw [hJq.2.2.2.2]
  unfold wpY_endAt
  refine yq_in (by omega) (br_f (by decide) (yr_run P Y.1 Y.2.1 Y.2.2 (by omega) ?_))
  intro gV' rr' _ _
  exact And.intro rfl (zz_q P X Y hJ K)
theorem i_vc_register {k : Nat} {u : SX} {v : SY} (I : i_Rel k u v) (hk : k + 5 ≤ 2561) (v1 : Int32) (v2 : Int32) : wpX_register (fun r u' => wpY_register (fun r' v' => r' = r ∧ i_Rel (k + 5) u' v') v v1 v2) u v1 v2 := by
  refine zz_el (R := fun u v => wpX_register (fun r u' => wpY_register (fun r' v' => r' = r ∧ i_Rel (k + 5) u' v') v v1 v2) u v1 v2) ?_ I
  intro fJ fK op aa ab rg sp ep ft vi wt xx yy zz rs ls kf kv gP gD gE gV po pa pb qf qv rr L n o a b P X Y J K
  by_cases h0 : v1 < 0
  · refine br_t h0 ?_
    unfold wpY_register
    exact yq_out (Or.inl h0) (br_t rfl ⟨rfl, zz_in P X Y J K⟩)
  by_cases h1 : 63 < v1
  · refine br_f h0 (br_t h1 ?_)
    unfold wpY_register
    exact yq_out (Or.inr h1) (br_t rfl ⟨rfl, zz_in P X Y J K⟩)
  obtain ⟨q, hq, rfl⟩ := nI_of2 (M := 63) (n := 63) (by decide) h0 (Int32.not_lt.mp h1)
  by_cases g0 : v2 < 0
  · exact br_f h0 (br_f h1 (br_t g0 (yq_reg_o (by omega) (Or.inl g0) ⟨rfl, zz_in P X Y J K⟩)))
  by_cases g1 : v2 ≤ 3
  case neg => exact br_f h0 (br_f h1 (br_f g0 (br_f g1 (yq_reg_o (by omega) (Or.inr g1) ⟨rfl, zz_in P X Y J K⟩))))
  obtain ⟨i, hi, rfl⟩ := nI_of2 (M := 3) (n := 3) (by decide) g0 g1
  refine br_f h0 (br_f h1 (br_f g0 (br_t g1 (xj_judge P X.1 X.2.1 X.2.2 J ?_))))
  intro rg' sp' ep' ft' vi' wt' xx' yy' zz' rs' ls' hJ
  have hJq := hJ q (by omega)
  refine xq_reg (by omega) (by omega) ?_
  rw [hJq.1 i (by omega)]
  refine yq_reg P Y (by omega) (by omega) ?_
  intro gP' gD' gE' gV' rr'
  exact And.intro rfl (zz_q P X Y hJ K)
end
section
/-! ===== questions over all inputs ===== -/
section
variable {n L : Nat} {o a b : Nat → Nat}
theorem cd_out (P : ln_PG n L o a b) {x : Int32} (hx : x < 0 ∨ ¬ x ≤ 3) : ∀ k, k < 64 → (nI (ln_fin n L o a b k).2.2.2.2 = x ↔ (fun _ : Nat => false) k = true) := by
  intro k hk
  have he := ln_fin_e P hk
  refine ⟨fun h => ?_, fun h => Bool.noConfusion h⟩
  rcases hx with hx | hx
  · rw [← h] at hx
    exact absurd hx (nI_pos (by omega))
  · rw [← h] at hx
    exact absurd (nI_le (b := 3) (by omega) (by decide)) hx
theorem cd_in (P : ln_PG n L o a b) {f : Nat} (hf : f < 4) : ∀ k, k < 64 → (nI (ln_fin n L o a b k).2.2.2.2 = nI f ↔ (fun k => decide (f = (ln_fin n L o a b k).2.2.2.2)) k = true) := by
  intro k hk
  have he := ln_fin_e P hk
  rw [nI_eq (by omega) (by omega)]
  exact ⟨fun h => decide_eq_true h.symm, fun h => (of_decide_eq_true h).symm⟩
end
theorem i_vc_count {k : Nat} {u : SX} {v : SY} (I : i_Rel k u v) (hk : k + 5 ≤ 2561) (v1 : Int32) : wpX_count (fun r u' => wpY_count (fun r' v' => r' = r ∧ i_Rel (k + 5) u' v') v v1) u v1 := by
  refine zz_el (R := fun u v => wpX_count (fun r u' => wpY_count (fun r' v' => r' = r ∧ i_Rel (k + 5) u' v') v v1) u v1) ?_ I
  intro fJ fK op aa ab rg sp ep ft vi wt xx yy zz rs ls kf kv gP gD gE gV po pa pb qf qv rr L n o a b P X Y J K
  by_cases h0 : v1 < 0
  · exact br_t h0 (yq_count P Y (fun _ => false) (cd_out P (Or.inl h0)) (fun gP gD gE gV rr => ⟨rfl, zz_in P X Y J K⟩))
  by_cases h1 : v1 ≤ 3
  case neg => exact br_f h0 (br_f h1 (yq_count P Y (fun _ => false) (cd_out P (Or.inr h1)) (fun gP gD gE gV rr => ⟨rfl, zz_in P X Y J K⟩)))
  obtain ⟨f, hf, rfl⟩ := nI_of2 (M := 3) (n := 3) (by decide) h0 h1
  refine br_f h0 (br_t h1 (xj_judge P X.1 X.2.1 X.2.2 J ?_))
  intro rg' sp' ep' ft' vi' wt' xx' yy' zz' rs' ls' hJ
  refine And.intro (vp_in_nI (by omega) (by decide)) ?_
  dsimp only
  rw [nI_clamp (n := f) (by omega)]
  refine xo_ones _ ?_
  rw [cn_congr 64 (fun k hk => (hJ k hk).2.2.2.1 f (by omega))]
  exact yq_count P Y _ (cd_in P (by omega)) (fun gP gD gE gV rr => ⟨rfl, zz_q P X Y hJ K⟩)
theorem i_vc_first {k : Nat} {u : SX} {v : SY} (I : i_Rel k u v) (hk : k + 5 ≤ 2561) (v1 : Int32) : wpX_first (fun r u' => wpY_first (fun r' v' => r' = r ∧ i_Rel (k + 5) u' v') v v1) u v1 := by
  refine zz_el (R := fun u v => wpX_first (fun r u' => wpY_first (fun r' v' => r' = r ∧ i_Rel (k + 5) u' v') v v1) u v1) ?_ I
  intro fJ fK op aa ab rg sp ep ft vi wt xx yy zz rs ls kf kv gP gD gE gV po pa pb qf qv rr L n o a b P X Y J K
  have nof : ∀ x : Int32, (x < 0 ∨ ¬ x ≤ 3) → wpY_first (fun r' v' => r' = (-1) ∧ i_Rel (k + 5) (nI L, nI n, fJ, fK, op, aa, ab, rg, sp, ep, ft, vi, wt, xx, yy, zz, rs, ls, kf, kv) v') (nI L, nI n, fK, gP, gD, gE, gV, po, pa, pb, qf, qv, rr) x := by
    intro x hx
    exact yq_first P Y (fun _ => false) (cd_out P hx) (fun gP gD gE gV rr j hj hd _ => Bool.noConfusion hd) (fun gP gD gE gV rr _ => ⟨rfl, zz_in P X Y J K⟩)
  by_cases h0 : v1 < 0
  · exact br_t h0 (nof v1 (Or.inl h0))
  by_cases h1 : v1 ≤ 3
  case neg => exact br_f h0 (br_f h1 (nof v1 (Or.inr h1)))
  obtain ⟨f, hf, rfl⟩ := nI_of2 (M := 3) (n := 3) (by decide) h0 h1
  refine br_f h0 (br_t h1 (xj_judge P X.1 X.2.1 X.2.2 J ?_))
  intro rg' sp' ep' ft' vi' wt' xx' yy' zz' rs' ls' hJ
  refine And.intro (vp_in_nI (by omega) (by decide)) ?_
  dsimp only
  rw [nI_clamp (n := f) (by omega)]
  have hz : ∀ k, k < 64 → zb (ft' f) k = decide (f = (ln_fin n L o a b k).2.2.2.2) := fun k hk => (hJ k hk).2.2.2.1 f (by omega)
  by_cases hw : ft' f = 0
  · refine xo_low0 hw ?_
    refine yq_first P Y _ (cd_in P (by omega)) ?_ (fun gP gD gE gV rr _ => ⟨rfl, zz_q P X Y hJ K⟩)
    intro gP gD gE gV rr j hj hd _
    rw [← hz j hj, hw, zb_0] at hd
    exact Bool.noConfusion hd
  · obtain ⟨q, ⟨hq, hqb⟩, hmin⟩ := pk_least (fun q => q < 64 ∧ zb (ft' f) q = true) (zb_ne0 hw)
    have hlow : ∀ i, i < q → zb (ft' f) i = false := by
      intro i hi
      cases hb : zb (ft' f) i with
      | false => rfl
      | true => exact absurd ⟨by omega, hb⟩ (hmin i hi)
    refine xo_low hq hqb hlow ?_
    refine yq_first P Y _ (cd_in P (by omega)) ?_ ?_
    · intro gP gD gE gV rr j hj hd hdl
      have e : j = q := by
        rcases Nat.lt_trichotomy j q with h | h | h
        · have := hlow j h
          rw [← hz j hj, this] at hd
          exact Bool.noConfusion hd
        · exact h
        · have := hdl q h
          rw [← hz q hq, hqb] at this
          exact Bool.noConfusion this
      rw [e]
      exact ⟨rfl, zz_q P X Y hJ K⟩
    · intro gP gD gE gV rr hd
      have := hd q hq
      rw [← hz q hq, hqb] at this
      exact Bool.noConfusion this
theorem i_vc_visits {k : Nat} {u : SX} {v : SY} (I : i_Rel k u v) (hk : k + 5 ≤ 2561) (v1 : Int32) : wpX_visits (fun r u' => wpY_visits (fun r' v' => r' = r ∧ i_Rel (k + 5) u' v') v v1) u v1 := by
  refine zz_el (R := fun u v => wpX_visits (fun r u' => wpY_visits (fun r' v' => r' = r ∧ i_Rel (k + 5) u' v') v v1) u v1) ?_ I
  intro fJ fK op aa ab rg sp ep ft vi wt xx yy zz rs ls kf kv gP gD gE gV po pa pb qf qv rr L n o a b P X Y J K
  have hn := P.1
  by_cases h0 : v1 < 0
  · exact br_t h0 (br_t h0 ⟨rfl, zz_in P X Y J K⟩)
  by_cases h1 : v1 < nI n
  case neg => exact br_f h0 (br_f h1 (br_f h0 (br_t (Int32.not_lt.mp h1) ⟨rfl, zz_in P X Y J K⟩)))
  obtain ⟨p, hp31, rfl⟩ := nI_of h0
  have hp : p < n := (nI_ltI hp31 (by omega)).mp h1
  refine br_f h0 (br_t h1 (xj_judge P X.1 X.2.1 X.2.2 J ?_))
  intro rg' sp' ep' ft' vi' wt' xx' yy' zz' rs' ls' hJ
  refine And.intro (vp_in_nI (by omega) (by decide)) ?_
  dsimp only
  rw [nI_clamp (n := p) (by omega)]
  refine xo_ones _ ?_
  rw [cn_congr 64 (fun k hk => (hJ k hk).2.2.1 p (by omega))]
  exact yq_visits P Y hp (fun gP gD gE gV rr => ⟨rfl, zz_q P X Y hJ K⟩)
theorem i_vc_always {k : Nat} {u : SX} {v : SY} (I : i_Rel k u v) (hk : k + 5 ≤ 2561) (v1 : Int32) : wpX_always (fun r u' => wpY_always (fun r' v' => r' = r ∧ i_Rel (k + 5) u' v') v v1) u v1 := by
  refine zz_el (R := fun u v => wpX_always (fun r u' => wpY_always (fun r' v' => r' = r ∧ i_Rel (k + 5) u' v') v v1) u v1) ?_ I
  intro fJ fK op aa ab rg sp ep ft vi wt xx yy zz rs ls kf kv gP gD gE gV po pa pb qf qv rr L n o a b P X Y J K
  by_cases h0 : v1 < 0
  · exact br_t h0 (yq_alw_o (Or.inl h0) ⟨rfl, zz_in P X Y J K⟩)
  by_cases h1 : v1 ≤ 3
  case neg => exact br_f h0 (br_f h1 (yq_alw_o (Or.inr h1) ⟨rfl, zz_in P X Y J K⟩))
  obtain ⟨i, hi, rfl⟩ := nI_of2 (M := 3) (n := 3) (by decide) h0 h1
  refine br_f h0 (br_t h1 (xj_judge P X.1 X.2.1 X.2.2 J ?_))
  intro rg' sp' ep' ft' vi' wt' xx' yy' zz' rs' ls' hJ
  have hz : ∀ k, k < 64 → z4 rg' (i * 4) k = (ln_fin n L o a b k).1 i := fun k hk => (hJ k hk).1 i (by omega)
  refine xq_always (by omega) ?_ ?_
  · intro hall
    rw [hz 0 (by decide)]
    refine yq_always P Y (by omega) (fun gP gD gE gV rr _ => ⟨rfl, zz_q P X Y hJ K⟩) ?_
    intro gP gD gE gV rr hno
    exact absurd (fun k hk => by rw [← hz k hk, ← hz 0 (by decide)]; exact hall k hk) hno
  · intro hno
    refine yq_always P Y (by omega) ?_ (fun gP gD gE gV rr _ => ⟨rfl, zz_q P X Y hJ K⟩)
    intro gP gD gE gV rr hall
    exact absurd (fun k hk => by rw [hz k hk, hz 0 (by decide)]; exact hall k hk) hno
theorem i_vc_depends {k : Nat} {u : SX} {v : SY} (I : i_Rel k u v) (hk : k + 5 ≤ 2561) (v1 : Int32) (v2 : Int32) : wpX_depends (fun r u' => wpY_depends (fun r' v' => r' = r ∧ i_Rel (k + 5) u' v') v v1 v2) u v1 v2 := by
  refine zz_el (R := fun u v => wpX_depends (fun r u' => wpY_depends (fun r' v' => r' = r ∧ i_Rel (k + 5) u' v') v v1 v2) u v1 v2) ?_ I
  intro fJ fK op aa ab rg sp ep ft vi wt xx yy zz rs ls kf kv gP gD gE gV po pa pb qf qv rr L n o a b P X Y J K
  by_cases h0 : v1 < 0
  · exact br_t h0 (br_t h0 ⟨rfl, zz_in P X Y J K⟩)
  by_cases h1 : 3 < v1
  · exact br_f h0 (br_t h1 (br_f h0 (br_t h1 ⟨rfl, zz_in P X Y J K⟩)))
  by_cases g0 : v2 < 0
  · exact br_f h0 (br_f h1 (br_t g0 (br_f h0 (br_f h1 (br_t g0 ⟨rfl, zz_in P X Y J K⟩)))))
  by_cases g1 : v2 ≤ 5
  case neg => exact br_f h0 (br_f h1 (br_f g0 (br_f g1 (br_f h0 (br_f h1 (br_f g0 (br_f g1 ⟨rfl, zz_in P X Y J K⟩)))))))
  obtain ⟨i, hi, rfl⟩ := nI_of2 (M := 3) (n := 3) (by decide) h0 (Int32.not_lt.mp h1)
  obtain ⟨c, hc, rfl⟩ := nI_of2 (M := 5) (n := 5) (by decide) g0 g1
  refine br_f h0 (br_f h1 (br_f g0 (br_t g1 (xj_judge P X.1 X.2.1 X.2.2 J ?_))))
  intro rg' sp' ep' ft' vi' wt' xx' yy' zz' rs' ls' hJ
  have hz : ∀ k, k < 64 → z4 rg' (i * 4) k = (ln_fin n L o a b k).1 i := fun k hk => (hJ k hk).1 i (by omega)
  refine xq_depends (by omega) (by omega) ?_
  have e : ∀ k, k < 64 → (!k.testBit c && decide (z4 rg' (i * 4) k ≠ z4 rg' (i * 4) (k + 2 ^ c))) = (!k.testBit c && decide ((ln_fin n L o a b k).1 i ≠ (ln_fin n L o a b (k + 2 ^ c)).1 i)) := by
    intro k hk
    cases hb : k.testBit c with
    | true => rw [Bool.not_true, Bool.false_and, Bool.false_and]
    | false => rw [hz k hk, hz (k + 2 ^ c) (pw_in c (by omega) k hk hb)]
  rw [cn_congr 64 e]
  exact yq_dep P Y (by omega) (by omega) (fun gP gD gE gV rr => ⟨rfl, zz_q P X Y hJ K⟩)
end
section
/-! ===== comparing with what was kept ===== -/
theorem i_vc_keep {k : Nat} {u : SX} {v : SY} (I : i_Rel k u v) (hk : k + 5 ≤ 2561) : wpX_keep (fun u' => wpY_keep (fun v' => i_Rel (k + 5) u' v') v) u := by
  refine zz_el (R := fun u v => wpX_keep (fun u' => wpY_keep (fun v' => i_Rel (k + 5) u' v') v) u) ?_ I
  intro fJ fK op aa ab rg sp ep ft vi wt xx yy zz rs ls kf kv gP gD gE gV po pa pb qf qv rr L n o a b P X Y J K
  unfold wpX_keep
  dsimp only
  refine xj_judge P X.1 X.2.1 X.2.2 J ?_
  intro rg' sp' ep' ft' vi' wt' xx' yy' zz' rs' ls' hJ
  refine xq_keep ?_
  intro kf' kv' hf hv
  refine yq_keep P Y ?_
  intro gP' gD' gE' gV' qf' qv' rr' hq
  refine zz_in P X Y (Or.inr ⟨rfl, hJ⟩) (Or.inr ⟨rfl, (fun k => (ln_fin n L o a b k).2.2.2.2), (fun k => (ln_fin n L o a b k).1 0), ?_⟩)
  intro k hk
  have h := hJ k hk
  refine ⟨ln_fin_e P hk, (ln_fin_B P hk).2.2.2 0 (by decide), (hq k hk).1, (hq k hk).2, ?_, ?_⟩
  · intro j hj
    rw [hf j hj]
    exact h.2.2.2.1 j hj
  · rw [hv k]
    exact h.1 0 (by decide)
/-- X's agreement, lane by lane -/
theorem ag_X {n L : Nat} {o a b : Nat → Nat} {fJ : Int32} {op aa ab : Nat → Int32} {rg sp ep ft vi wt xx yy zz rs ls kf kv : Nat → Int64} {qf qv : Nat → Int32} (P : ln_PG n L o a b) (X : XP o a b op aa ab) (J : fJ = 0 ∨ (fJ = 1 ∧ JD n L o a b rg sp ep ft vi)) {E W : Nat → Nat} (hE : ∀ k, k < 64 → E k < 4 ∧ W k < 16 ∧ qf k = nI (E k) ∧ qv k = nI (W k) ∧ (∀ j, j < 4 → zb (kf j) k = decide (j = E k)) ∧ z4 kv 0 k = W k) {post : Int64 → SX → Prop}
  (H : ∀ w rg sp ep ft vi wt xx yy zz rs ls, JD n L o a b rg sp ep ft vi → (∀ k, k < 64 → zb w k = ag_D n L o a b E W k) → post w (nI L, nI n, 1, 1, op, aa, ab, rg, sp, ep, ft, vi, wt, xx, yy, zz, rs, ls, kf, kv)) : wpX_agreement post (nI L, nI n, fJ, 1, op, aa, ab, rg, sp, ep, ft, vi, wt, xx, yy, zz, rs, ls, kf, kv) := by
  unfold wpX_agreement
  dsimp only
  refine xj_judge P X.1 X.2.1 X.2.2 J ?_
  intro rg' sp' ep' ft' vi' wt' xx' yy' zz' rs' ls' hJ
  refine xq_agree (fun k => (ln_fin n L o a b k).2.2.2.2) E (fun k hk => ⟨ln_fin_e P hk, (hE k hk).1, (hJ k hk).2.2.2.1, (hE k hk).2.2.2.2.1⟩) ?_
  intro w hw
  refine H w rg' sp' ep' ft' vi' wt' xx' yy' zz' rs' ls' hJ ?_
  intro k hk
  rw [hw k hk, (hE k hk).2.2.2.2.2, show z4 rg' 0 k = (ln_fin n L o a b k).1 0 from (hJ k hk).1 0 (by decide)]
  rfl
theorem i_vc_agreeing {k : Nat} {u : SX} {v : SY} (I : i_Rel k u v) (hk : k + 5 ≤ 2561) : wpX_agreeing (fun r u' => wpY_agreeing (fun r' v' => r' = r ∧ i_Rel (k + 5) u' v') v) u := by
  refine zz_el (R := fun u v => wpX_agreeing (fun r u' => wpY_agreeing (fun r' v' => r' = r ∧ i_Rel (k + 5) u' v') v) u) ?_ I
  intro fJ fK op aa ab rg sp ep ft vi wt xx yy zz rs ls kf kv gP gD gE gV po pa pb qf qv rr L n o a b P X Y J K
  rcases K with K | ⟨hK, E, W, hE⟩
  · subst K
    exact br_t rfl (br_t rfl ⟨rfl, zz_in P X Y J (Or.inl rfl)⟩)
  · subst hK
    refine br_f (by decide) (ag_X P X J hE ?_)
    intro w rg' sp' ep' ft' vi' wt' xx' yy' zz' rs' ls' hJ hw
    refine xo_ones _ ?_
    rw [cn_congr 64 hw]
    exact yq_agreeing P Y (fun k hk => ⟨(hE k hk).1, (hE k hk).2.1, (hE k hk).2.2.1, (hE k hk).2.2.2.1⟩) (fun gP gD gE gV rr => ⟨rfl, zz_q P X Y hJ (Or.inr ⟨rfl, E, W, hE⟩)⟩)
theorem i_vc_difference {k : Nat} {u : SX} {v : SY} (I : i_Rel k u v) (hk : k + 5 ≤ 2561) : wpX_difference (fun r u' => wpY_difference (fun r' v' => r' = r ∧ i_Rel (k + 5) u' v') v) u := by
  refine zz_el (R := fun u v => wpX_difference (fun r u' => wpY_difference (fun r' v' => r' = r ∧ i_Rel (k + 5) u' v') v) u) ?_ I
  intro fJ fK op aa ab rg sp ep ft vi wt xx yy zz rs ls kf kv gP gD gE gV po pa pb qf qv rr L n o a b P X Y J K
  rcases K with K | ⟨hK, E, W, hE⟩
  · subst K
    exact br_t rfl (Exists.intro 1 (br_f (by decide) (br_t rfl ⟨rfl, zz_in P X Y J (Or.inl rfl)⟩)))
  · subst hK
    refine br_f (by decide) (ag_X P X J hE ?_)
    intro w rg' sp' ep' ft' vi' wt' xx' yy' zz' rs' ls' hJ hw
    have hE' : ∀ k, k < 64 → E k < 4 ∧ W k < 16 ∧ qf k = nI (E k) ∧ qv k = nI (W k) := fun k hk => ⟨(hE k hk).1, (hE k hk).2.1, (hE k hk).2.2.1, (hE k hk).2.2.2.1⟩
    have hx : ∀ k, k < 64 → zb (w ^^^ (-1)) k = !ag_D n L o a b E W k := fun k hk => by rw [zb_not _ hk, hw k hk]
    by_cases hz : (w ^^^ (-1)) = 0
    · refine xo_low0 hz (yq_difference P Y hE' ?_ (fun gP gD gE gV rr _ => ⟨rfl, zz_q P X Y hJ (Or.inr ⟨rfl, E, W, hE⟩)⟩))
      intro gP gD gE gV rr j hj hd _
      have h1 := hx j hj
      rw [hz, zb_0, hd] at h1
      exact Bool.noConfusion h1
    · obtain ⟨q, ⟨hq, hqb⟩, hmin⟩ := pk_least (fun q => q < 64 ∧ zb (w ^^^ (-1)) q = true) (zb_ne0 hz)
      have hlow : ∀ i, i < q → zb (w ^^^ (-1)) i = false := by
        intro i hi
        cases hb : zb (w ^^^ (-1)) i with
        | false => rfl
        | true => exact absurd ⟨by omega, hb⟩ (hmin i hi)
      have hq1 : ag_D n L o a b E W q = false := by
        have h1 := hx q hq
        rw [hqb] at h1
        cases hb : ag_D n L o a b E W q with
        | false => rfl
        | true => rw [hb] at h1; exact Bool.noConfusion h1
      refine xo_low hq hqb hlow (yq_difference P Y hE' ?_ ?_)
      · intro gP gD gE gV rr j hj hd hdl
        have e : j = q := by
          rcases Nat.lt_trichotomy j q with h | h | h
          · have h1 := hlow j h
            rw [hx j hj, hd] at h1
            exact Bool.noConfusion h1
          · exact h
          · have h1 := hdl q h
            rw [hq1] at h1
            exact Bool.noConfusion h1
        rw [e]
        exact ⟨rfl, zz_q P X Y hJ (Or.inr ⟨rfl, E, W, hE⟩)⟩
      · intro gP gD gE gV rr hd
        have h1 := hd q hq
        rw [hq1] at h1
        exact Bool.noConfusion h1
end
