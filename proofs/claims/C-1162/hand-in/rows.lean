section
/-! pure rows to paste: stores, nI and lN arithmetic, masks, shifts, narrowing, branches by naturals (pk_le, pk_lt, pk_eq), loops (lp1 .. lp16: the measure of the state; rp1 ..: recursion), negatives. Take what you need -/
theorem pk_us {f : Nat → Int32} {k : Nat} {x : Int32} : upd f k x k = x := if_pos rfl
theorem pk_un {f : Nat → Int32} {k j : Nat} {x : Int32} (h : j ≠ k) : upd f k x j = f j := if_neg h
theorem pk_uLs {f : Nat → Int64} {k : Nat} {x : Int64} : vp_updL f k x k = x := if_pos rfl
theorem pk_uLn {f : Nat → Int64} {k j : Nat} {x : Int64} (h : j ≠ k) : vp_updL f k x j = f j := if_neg h
theorem pk_sub {a b : Nat} (h : b ≤ a) : nI a - nI b = nI (a - b) := by
  obtain ⟨c, rfl⟩ : ∃ c, a = c + b := ⟨a - b, by omega⟩
  rw [← nI_add, Int32.add_sub_cancel, Nat.add_sub_cancel]
theorem pk_m1 (n : Nat) : nI (n + 1) + (-1) = nI n := by
  rw [← nI_1, Int32.add_assoc, show (1 : Int32) + (-1) = 0 from rfl, Int32.add_zero]
theorem pk_mul (a b : Nat) : nI a * nI b = nI (a * b) := (Int32.ofNat_mul a b).symm
theorem pk_div {a d : Nat} (ha : a < 2 ^ 31) (h0 : 0 < d) (hd : d < 2 ^ 31) : nI a / nI d = nI (a / d) := by
  apply Int32.toInt_inj.mp
  rw [lg_idiv_nonneg (by rw [nI_toInt ha]; omega) (by rw [nI_toInt hd]; omega), nI_toInt ha, nI_toInt hd, nI_toInt (Nat.lt_of_le_of_lt (Nat.div_le_self a d) ha)]
  first | rfl | exact (Int.natCast_ediv _ _).symm
theorem pk_rem {a d : Nat} (ha : a < 2 ^ 31) (h0 : 0 < d) (hd : d < 2 ^ 31) : nI a - nI a / nI d * nI d = nI (a % d) := by
  rw [pk_div ha h0 hd, pk_mul, pk_sub (Nat.div_mul_le_self a d)]
  exact congrArg nI (by have := Nat.div_add_mod' a d; omega)
theorem pk_sub_toInt {a b : Nat} (ha : a < 2 ^ 30) (hb : b < 2 ^ 30) : (nI a - nI b).toInt = (a : Int) - b := by
  rw [Int32.toInt_sub, nI_toInt (by omega), nI_toInt (by omega)]
  exact Int.bmod_eq_of_le (by omega) (by omega)
theorem pk_sneg {a b : Nat} (hb : b < 2 ^ 30) (h : a < b) : nI a - nI b < 0 := by
  rw [Int32.lt_iff_toInt_lt, pk_sub_toInt (by omega) hb, show (0 : Int32).toInt = 0 from by decide]
  omega
theorem pk_ix (x : Int32) {n : Nat} (hn : n < 2 ^ 31) : x < 0 ∨ nI n ≤ x ∨ ∃ j : Nat, j < n ∧ x = nI j := by
  by_cases h : x < 0
  · exact Or.inl h
  · obtain ⟨j, hj, rfl⟩ := nI_of h
    by_cases h2 : j < n
    · exact Or.inr (Or.inr ⟨j, h2, rfl⟩)
    · exact Or.inr (Or.inl (nI_le (by omega) hj))
theorem pk_le {x y : Int32} {A B : Prop} (a b : Nat) (f : a ≤ b → A) (g : b < a → B) (hx : x = nI a := by rfl) (hy : y = nI b := by rfl) (ha : a < 2 ^ 31 := by omega) (hb : b < 2 ^ 31 := by omega) : (x ≤ y → A) ∧ (¬ x ≤ y → B) := by
  subst hx hy
  rw [nI_leI ha hb]
  exact ⟨f, fun z => g (by omega)⟩
theorem pk_lt {x y : Int32} {A B : Prop} (a b : Nat) (f : a < b → A) (g : b ≤ a → B) (hx : x = nI a := by rfl) (hy : y = nI b := by rfl) (ha : a < 2 ^ 31 := by omega) (hb : b < 2 ^ 31 := by omega) : (x < y → A) ∧ (¬ x < y → B) := by
  subst hx hy
  rw [nI_ltI ha hb]
  exact ⟨f, fun z => g (by omega)⟩
theorem pk_eq {x y : Int32} {A B : Prop} (a b : Nat) (f : a = b → A) (g : a ≠ b → B) (hx : x = nI a := by rfl) (hy : y = nI b := by rfl) (ha : a < 2 ^ 31 := by omega) (hb : b < 2 ^ 31 := by omega) : (x = y → A) ∧ (¬ x = y → B) := by
  subst hx hy
  rw [nI_eq ha hb]
  exact ⟨f, g⟩
theorem pk_in {x : Int32} (n N : Nat) (h : n < N) (hx : x = nI n := by rfl) (hN : N < 2 ^ 31 := by omega) : vp_in x N := by
  subst hx
  exact vp_in_nI h hN
theorem pk_cl {x : Int32} (n : Nat) (hx : x = nI n := by rfl) (h : n < 2 ^ 31 := by omega) : x.toNatClampNeg = n := by
  subst hx
  exact nI_clamp h
theorem pk_tn {n : Nat} (h : n < 2 ^ 32) : (nI n).toBitVec.toNat = n := Nat.mod_eq_of_lt h
theorem pk_and (x : Int32) {m : Int32} (k : Nat) (hm : m.toBitVec.toNat = 2 ^ k - 1) : x &&& m = nI (x.toBitVec.toNat % 2 ^ k) := by
  apply Int32.toBitVec_inj.mp
  apply BitVec.eq_of_toNat_eq
  rw [Int32.toBitVec_and, BitVec.toNat_and, hm, Nat.and_two_pow_sub_one_eq_mod]
  show _ = (BitVec.ofNat 32 _).toNat
  rw [BitVec.toNat_ofNat]
  exact (Nat.mod_eq_of_lt (Nat.lt_of_le_of_lt (Nat.mod_le _ _) x.toBitVec.isLt)).symm
theorem pk_andN {n : Nat} (h : n < 2 ^ 32) {m : Int32} (k : Nat) (hm : m.toBitVec.toNat = 2 ^ k - 1) : nI n &&& m = nI (n % 2 ^ k) := by
  rw [pk_and _ k hm, pk_tn h]
theorem pk_andE (x : Int32) {m : Int32} (k : Nat) (hm : m.toBitVec.toNat = 2 ^ k - 1) : ∃ j : Nat, j < 2 ^ k ∧ x &&& m = nI j := ⟨_, Nat.mod_lt _ (Nat.two_pow_pos k), pk_and x k hm⟩
theorem pk_andIn (x : Int32) {m : Int32} (k : Nat) (hm : m.toBitVec.toNat = 2 ^ k - 1) (hk : k ≤ 30) : vp_in (x &&& m) (2 ^ k) := by
  obtain ⟨j, hj, e⟩ := pk_andE x k hm
  rw [e]
  exact vp_in_nI hj (Nat.lt_of_le_of_lt (Nat.pow_le_pow_right (by decide) hk) (by decide))
theorem pk_shl (a s : Int32) (k : Nat) (hs : (s.toBitVec.smod 32).toNat = k) : (a <<< s).toBitVec.toNat = a.toBitVec.toNat * 2 ^ k % 2 ^ 32 := by
  show (a.toBitVec <<< (s.toBitVec.smod 32).toNat).toNat = _
  rw [hs, BitVec.toNat_shiftLeft, Nat.shiftLeft_eq]
theorem pk_shlN {n : Nat} (s : Int32) (k : Nat) (hs : (s.toBitVec.smod 32).toNat = k) (h : n * 2 ^ k < 2 ^ 32) : nI n <<< s = nI (n * 2 ^ k) := by
  apply Int32.toBitVec_inj.mp
  apply BitVec.eq_of_toNat_eq
  have hn : n < 2 ^ 32 := Nat.lt_of_le_of_lt (Nat.le_mul_of_pos_right n (Nat.two_pow_pos k)) h
  rw [pk_shl _ _ k hs, pk_tn hn, pk_tn h, Nat.mod_eq_of_lt h]
theorem pk_shr (a s : Int32) (k : Nat) (hs : (s.toBitVec.smod 32).toNat = k) : (a >>> s).toInt = a.toInt >>> k := by
  show (a.toBitVec.sshiftRight (s.toBitVec.smod 32).toNat).toInt = _
  rw [hs, BitVec.toInt_sshiftRight]
  rfl
theorem pk_shrN {n : Nat} (h : n < 2 ^ 31) (s : Int32) (k : Nat) (hs : (s.toBitVec.smod 32).toNat = k) : nI n >>> s = nI (n / 2 ^ k) := by
  apply Int32.toInt_inj.mp
  have h2 : n / 2 ^ k ≤ n := Nat.div_le_self _ _
  rw [pk_shr _ _ k hs, nI_toInt h, nI_toInt (by omega), Int.shiftRight_eq_div_pow]
  rfl
theorem pk_ushr (x s : Int32) (k : Nat) (hs : ((s.toUInt32 &&& Int32.toUInt32 31).toBitVec % 32).toNat = k) : (x.toUInt32 >>> (s.toUInt32 &&& Int32.toUInt32 31)).toInt32.toBitVec.toNat = x.toBitVec.toNat / 2 ^ k := by
  have e : (x.toUInt32 >>> (s.toUInt32 &&& Int32.toUInt32 31)).toInt32.toBitVec = x.toBitVec >>> k := by
    rw [← hs]
    exact UInt32.toBitVec_shiftRight _ _
  rw [e, BitVec.toNat_ushiftRight, Nat.shiftRight_eq_div_pow]
theorem pk_ushrN {n : Nat} (hn : n < 2 ^ 32) (s : Int32) (k : Nat) (hs : ((s.toUInt32 &&& Int32.toUInt32 31).toBitVec % 32).toNat = k) : ((nI n).toUInt32 >>> (s.toUInt32 &&& Int32.toUInt32 31)).toInt32 = nI (n / 2 ^ k) := by
  apply Int32.toBitVec_inj.mp
  apply BitVec.eq_of_toNat_eq
  rw [pk_ushr _ s k hs, pk_tn hn, pk_tn (Nat.lt_of_le_of_lt (Nat.div_le_self _ _) hn)]
theorem pk_nb (z : Int32) : narrow .byte (.int z.toInt8.toInt32) = .int z.toInt8.toInt32 := congrArg Value.int (by simp)
theorem pk_ns (z : Int32) : narrow .short (.int z.toInt16.toInt32) = .int z.toInt16.toInt32 := congrArg Value.int (by simp)
theorem pk_fb (r : Int32) : fits .byte (.int r.toInt8.toInt32) = true := by
  have ⟨a, b⟩ := lg_i2b_range r
  have h1 : (-128 : Int32).toInt = -128 := by decide
  have h2 : (127 : Int32).toInt = 127 := by decide
  simp only [fits, Bool.and_eq_true, decide_eq_true_eq, Int32.le_iff_toInt_le, h1, h2]
  omega
theorem pk_fs (r : Int32) : fits .short (.int r.toInt16.toInt32) = true := by
  have ⟨a, b⟩ := lg_i2s_range r
  have h1 : (-32768 : Int32).toInt = -32768 := by decide
  have h2 : (32767 : Int32).toInt = 32767 := by decide
  simp only [fits, Bool.and_eq_true, decide_eq_true_eq, Int32.le_iff_toInt_le, h1, h2]
  omega
theorem pk_charN {q : Nat} (hq : q < 65536) : narrow .char (.int (nI q)) = .int (nI q) ∧ fits .char (.int (nI q)) = true := by
  constructor
  · have e : (nI q).toUInt32.toUInt16.toUInt32.toInt32 = nI q := by
      apply Int32.toBitVec_inj.mp
      apply BitVec.eq_of_toNat_eq
      show (nI q).toUInt32.toUInt16.toUInt32.toNat = q % 2 ^ 32
      rw [UInt16.toNat_toUInt32, UInt32.toNat_toUInt16, show (nI q).toUInt32.toNat = q % 2 ^ 32 from rfl]
      omega
    exact congrArg Value.int e
  · have a : (0 : Int32) ≤ nI q := nI_pos' (by omega)
    have b : nI q ≤ 65535 := nI_le (b := 65535) (by omega) (by decide)
    show (decide ((0 : Int32) ≤ nI q) && decide (nI q ≤ 65535)) = true
    rw [decide_eq_true a, decide_eq_true b]
    rfl
theorem pk_char (x : Int32) : (x.toUInt32 % 65536).toInt32 = nI (x.toBitVec.toNat % 65536) := by
  apply Int32.toBitVec_inj.mp
  apply BitVec.eq_of_toNat_eq
  rw [pk_tn (by omega)]
  show (x.toUInt32 % 65536).toNat = _
  rw [UInt32.toNat_mod]
  rfl
theorem pk_nc (x : Int32) : narrow .char (.int (x.toUInt32 % 65536).toInt32) = .int (x.toUInt32 % 65536).toInt32 := by
  rw [pk_char]
  exact (pk_charN (Nat.mod_lt _ (by decide))).1
theorem pk_fc (x : Int32) : fits .char (.int (x.toUInt32 % 65536).toInt32) = true := by
  rw [pk_char]
  exact (pk_charN (Nat.mod_lt _ (by decide))).2
theorem pk_vb (z : Int32) : vp_nar .byte z.toInt8.toInt32 = z.toInt8.toInt32 := by rw [vp_nar_byte]; simp
theorem pk_vs (z : Int32) : vp_nar .short z.toInt16.toInt32 = z.toInt16.toInt32 := by rw [vp_nar_short]; simp
theorem pk_vc (z : Int32) : vp_nar .char (z.toUInt32 % 65536).toInt32 = (z.toUInt32 % 65536).toInt32 := Value.int.inj (pk_nc z)
theorem pk_lT {n : Nat} (h : n < 2 ^ 63) : (lN n).toInt = (n : Int) := lg_ofNat_toInt h
theorem pk_lLT {a b : Nat} (ha : a < 2 ^ 63) (hb : b < 2 ^ 63) : lN a < lN b ↔ a < b := by
  rw [Int64.lt_iff_toInt_lt, pk_lT ha, pk_lT hb]; omega
theorem pk_lLE {a b : Nat} (ha : a < 2 ^ 63) (hb : b < 2 ^ 63) : lN a ≤ lN b ↔ a ≤ b := by
  rw [Int64.le_iff_toInt_le, pk_lT ha, pk_lT hb]; omega
theorem pk_lEQ {a b : Nat} (ha : a < 2 ^ 63) (hb : b < 2 ^ 63) : lN a = lN b ↔ a = b := by
  rw [← Int64.toInt_inj, pk_lT ha, pk_lT hb]; omega
theorem pk_lOf {x : Int64} (h : ¬ x < 0) : ∃ k : Nat, k < 2 ^ 63 ∧ x = lN k := by
  rw [Int64.lt_iff_toInt_lt] at h
  have h0 : (0 : Int64).toInt = 0 := by decide
  have hx := Int64.toInt_lt x
  refine ⟨x.toInt.toNat, by omega, Int64.toInt_inj.mp ?_⟩
  rw [pk_lT (by omega)]
  omega
theorem pk_lDiv {a b : Nat} (ha : a < 2 ^ 63) (h0 : 0 < b) (hb : b < 2 ^ 63) : lN a / lN b = lN (a / b) := by
  apply Int64.toInt_inj.mp
  rw [lg_ldiv_nonneg (by rw [pk_lT ha]; omega) (by rw [pk_lT hb]; omega), pk_lT ha, pk_lT hb, pk_lT (Nat.lt_of_le_of_lt (Nat.div_le_self a b) ha)]
  rfl
theorem pk_lRem {a b : Nat} (ha : a < 2 ^ 63) (h0 : 0 < b) (hb : b < 2 ^ 63) : lN a - lN a / lN b * lN b = lN (a % b) := by
  rw [pk_lDiv ha h0 hb, lN_mul, lN_sub (Nat.div_mul_le_self a b)]
  exact congrArg lN (by have := Nat.div_add_mod' a b; omega)
theorem pk_loop {σ : Type} (W : Nat → Nat → σ → Prop) (I : Nat → σ → Prop) (e i0 : Nat) (s : σ) (hi : i0 ≤ e) (h0 : I i0 s) (hx : ∀ n s, I e s → W (n + 1) e s)
    (hs : ∀ n i s, i < e → I i s → (∀ s', I (i + 1) s' → W n (i + 1) s') → W (n + 1) i s) : ∃ n, W n i0 s :=
  ⟨e + 1, loop_i W I e hx hs (e + 1) i0 s hi (by omega) h0⟩
theorem pk_loopD {σ : Type} (W : Nat → Nat → σ → Prop) (I : Nat → σ → Prop) (hx : ∀ n s, I 0 s → W (n + 1) 0 s)
    (hs : ∀ n i s, I (i + 1) s → (∀ s', I i s' → W n i s') → W (n + 1) (i + 1) s) : ∀ (e : Nat) (s : σ), I e s → W (e + 1) e s := by
  intro e
  induction e with
  | zero => exact fun s h => hx 0 s h
  | succ e ih => exact fun s h => hs (e + 1) e s h (fun s' h' => ih s' h')
theorem lp1 {A1 : Type} (W : Nat → A1 → Prop) (I : A1 → Prop) (μ : A1 → Nat) (hs : ∀ (n : Nat) (a1 : A1), I a1 → (∀ (b1 : A1), I b1 → μ b1 < μ a1 → W n b1) → W (n + 1) a1) (a1 : A1) (h : I a1) : ∃ n, W n a1 :=
  loop_m (σ := A1) (fun n s => W n s) (fun s => I s) (fun s => μ s) (fun n s hI hk => hs n s hI (fun b1 h9 hm => hk b1 h9 hm)) a1 h
theorem lp2 {A1 A2 : Type} (W : Nat → A1 → A2 → Prop) (I : A1 → A2 → Prop) (μ : A1 → A2 → Nat) (hs : ∀ (n : Nat) (a1 : A1) (a2 : A2), I a1 a2 → (∀ (b1 : A1) (b2 : A2), I b1 b2 → μ b1 b2 < μ a1 a2 → W n b1 b2) → W (n + 1) a1 a2) (a1 : A1) (a2 : A2) (h : I a1 a2) : ∃ n, W n a1 a2 :=
  loop_m (σ := A1 × A2) (fun n s => W n s.1 s.2) (fun s => I s.1 s.2) (fun s => μ s.1 s.2) (fun n s hI hk => hs n s.1 s.2 hI (fun b1 b2 h9 hm => hk (b1, b2) h9 hm)) (a1, a2) h
theorem lp3 {A1 A2 A3 : Type} (W : Nat → A1 → A2 → A3 → Prop) (I : A1 → A2 → A3 → Prop) (μ : A1 → A2 → A3 → Nat) (hs : ∀ (n : Nat) (a1 : A1) (a2 : A2) (a3 : A3), I a1 a2 a3 → (∀ (b1 : A1) (b2 : A2) (b3 : A3), I b1 b2 b3 → μ b1 b2 b3 < μ a1 a2 a3 → W n b1 b2 b3) → W (n + 1) a1 a2 a3) (a1 : A1) (a2 : A2) (a3 : A3) (h : I a1 a2 a3) : ∃ n, W n a1 a2 a3 :=
  loop_m (σ := A1 × A2 × A3) (fun n s => W n s.1 s.2.1 s.2.2) (fun s => I s.1 s.2.1 s.2.2) (fun s => μ s.1 s.2.1 s.2.2) (fun n s hI hk => hs n s.1 s.2.1 s.2.2 hI (fun b1 b2 b3 h9 hm => hk (b1, b2, b3) h9 hm)) (a1, a2, a3) h
theorem lp4 {A1 A2 A3 A4 : Type} (W : Nat → A1 → A2 → A3 → A4 → Prop) (I : A1 → A2 → A3 → A4 → Prop) (μ : A1 → A2 → A3 → A4 → Nat) (hs : ∀ (n : Nat) (a1 : A1) (a2 : A2) (a3 : A3) (a4 : A4), I a1 a2 a3 a4 → (∀ (b1 : A1) (b2 : A2) (b3 : A3) (b4 : A4), I b1 b2 b3 b4 → μ b1 b2 b3 b4 < μ a1 a2 a3 a4 → W n b1 b2 b3 b4) → W (n + 1) a1 a2 a3 a4) (a1 : A1) (a2 : A2) (a3 : A3) (a4 : A4) (h : I a1 a2 a3 a4) : ∃ n, W n a1 a2 a3 a4 :=
  loop_m (σ := A1 × A2 × A3 × A4) (fun n s => W n s.1 s.2.1 s.2.2.1 s.2.2.2) (fun s => I s.1 s.2.1 s.2.2.1 s.2.2.2) (fun s => μ s.1 s.2.1 s.2.2.1 s.2.2.2) (fun n s hI hk => hs n s.1 s.2.1 s.2.2.1 s.2.2.2 hI (fun b1 b2 b3 b4 h9 hm => hk (b1, b2, b3, b4) h9 hm)) (a1, a2, a3, a4) h
theorem lp5 {A1 A2 A3 A4 A5 : Type} (W : Nat → A1 → A2 → A3 → A4 → A5 → Prop) (I : A1 → A2 → A3 → A4 → A5 → Prop) (μ : A1 → A2 → A3 → A4 → A5 → Nat) (hs : ∀ (n : Nat) (a1 : A1) (a2 : A2) (a3 : A3) (a4 : A4) (a5 : A5), I a1 a2 a3 a4 a5 → (∀ (b1 : A1) (b2 : A2) (b3 : A3) (b4 : A4) (b5 : A5), I b1 b2 b3 b4 b5 → μ b1 b2 b3 b4 b5 < μ a1 a2 a3 a4 a5 → W n b1 b2 b3 b4 b5) → W (n + 1) a1 a2 a3 a4 a5) (a1 : A1) (a2 : A2) (a3 : A3) (a4 : A4) (a5 : A5) (h : I a1 a2 a3 a4 a5) : ∃ n, W n a1 a2 a3 a4 a5 :=
  loop_m (σ := A1 × A2 × A3 × A4 × A5) (fun n s => W n s.1 s.2.1 s.2.2.1 s.2.2.2.1 s.2.2.2.2) (fun s => I s.1 s.2.1 s.2.2.1 s.2.2.2.1 s.2.2.2.2) (fun s => μ s.1 s.2.1 s.2.2.1 s.2.2.2.1 s.2.2.2.2) (fun n s hI hk => hs n s.1 s.2.1 s.2.2.1 s.2.2.2.1 s.2.2.2.2 hI (fun b1 b2 b3 b4 b5 h9 hm => hk (b1, b2, b3, b4, b5) h9 hm)) (a1, a2, a3, a4, a5) h
theorem lp6 {A1 A2 A3 A4 A5 A6 : Type} (W : Nat → A1 → A2 → A3 → A4 → A5 → A6 → Prop) (I : A1 → A2 → A3 → A4 → A5 → A6 → Prop) (μ : A1 → A2 → A3 → A4 → A5 → A6 → Nat) (hs : ∀ (n : Nat) (a1 : A1) (a2 : A2) (a3 : A3) (a4 : A4) (a5 : A5) (a6 : A6), I a1 a2 a3 a4 a5 a6 → (∀ (b1 : A1) (b2 : A2) (b3 : A3) (b4 : A4) (b5 : A5) (b6 : A6), I b1 b2 b3 b4 b5 b6 → μ b1 b2 b3 b4 b5 b6 < μ a1 a2 a3 a4 a5 a6 → W n b1 b2 b3 b4 b5 b6) → W (n + 1) a1 a2 a3 a4 a5 a6) (a1 : A1) (a2 : A2) (a3 : A3) (a4 : A4) (a5 : A5) (a6 : A6) (h : I a1 a2 a3 a4 a5 a6) : ∃ n, W n a1 a2 a3 a4 a5 a6 :=
  loop_m (σ := A1 × A2 × A3 × A4 × A5 × A6) (fun n s => W n s.1 s.2.1 s.2.2.1 s.2.2.2.1 s.2.2.2.2.1 s.2.2.2.2.2) (fun s => I s.1 s.2.1 s.2.2.1 s.2.2.2.1 s.2.2.2.2.1 s.2.2.2.2.2) (fun s => μ s.1 s.2.1 s.2.2.1 s.2.2.2.1 s.2.2.2.2.1 s.2.2.2.2.2) (fun n s hI hk => hs n s.1 s.2.1 s.2.2.1 s.2.2.2.1 s.2.2.2.2.1 s.2.2.2.2.2 hI (fun b1 b2 b3 b4 b5 b6 h9 hm => hk (b1, b2, b3, b4, b5, b6) h9 hm)) (a1, a2, a3, a4, a5, a6) h
theorem lp7 {A1 A2 A3 A4 A5 A6 A7 : Type} (W : Nat → A1 → A2 → A3 → A4 → A5 → A6 → A7 → Prop) (I : A1 → A2 → A3 → A4 → A5 → A6 → A7 → Prop) (μ : A1 → A2 → A3 → A4 → A5 → A6 → A7 → Nat) (hs : ∀ (n : Nat) (a1 : A1) (a2 : A2) (a3 : A3) (a4 : A4) (a5 : A5) (a6 : A6) (a7 : A7), I a1 a2 a3 a4 a5 a6 a7 → (∀ (b1 : A1) (b2 : A2) (b3 : A3) (b4 : A4) (b5 : A5) (b6 : A6) (b7 : A7), I b1 b2 b3 b4 b5 b6 b7 → μ b1 b2 b3 b4 b5 b6 b7 < μ a1 a2 a3 a4 a5 a6 a7 → W n b1 b2 b3 b4 b5 b6 b7) → W (n + 1) a1 a2 a3 a4 a5 a6 a7) (a1 : A1) (a2 : A2) (a3 : A3) (a4 : A4) (a5 : A5) (a6 : A6) (a7 : A7) (h : I a1 a2 a3 a4 a5 a6 a7) : ∃ n, W n a1 a2 a3 a4 a5 a6 a7 :=
  loop_m (σ := A1 × A2 × A3 × A4 × A5 × A6 × A7) (fun n s => W n s.1 s.2.1 s.2.2.1 s.2.2.2.1 s.2.2.2.2.1 s.2.2.2.2.2.1 s.2.2.2.2.2.2) (fun s => I s.1 s.2.1 s.2.2.1 s.2.2.2.1 s.2.2.2.2.1 s.2.2.2.2.2.1 s.2.2.2.2.2.2) (fun s => μ s.1 s.2.1 s.2.2.1 s.2.2.2.1 s.2.2.2.2.1 s.2.2.2.2.2.1 s.2.2.2.2.2.2) (fun n s hI hk => hs n s.1 s.2.1 s.2.2.1 s.2.2.2.1 s.2.2.2.2.1 s.2.2.2.2.2.1 s.2.2.2.2.2.2 hI (fun b1 b2 b3 b4 b5 b6 b7 h9 hm => hk (b1, b2, b3, b4, b5, b6, b7) h9 hm)) (a1, a2, a3, a4, a5, a6, a7) h
theorem lp8 {A1 A2 A3 A4 A5 A6 A7 A8 : Type} (W : Nat → A1 → A2 → A3 → A4 → A5 → A6 → A7 → A8 → Prop) (I : A1 → A2 → A3 → A4 → A5 → A6 → A7 → A8 → Prop) (μ : A1 → A2 → A3 → A4 → A5 → A6 → A7 → A8 → Nat) (hs : ∀ (n : Nat) (a1 : A1) (a2 : A2) (a3 : A3) (a4 : A4) (a5 : A5) (a6 : A6) (a7 : A7) (a8 : A8), I a1 a2 a3 a4 a5 a6 a7 a8 → (∀ (b1 : A1) (b2 : A2) (b3 : A3) (b4 : A4) (b5 : A5) (b6 : A6) (b7 : A7) (b8 : A8), I b1 b2 b3 b4 b5 b6 b7 b8 → μ b1 b2 b3 b4 b5 b6 b7 b8 < μ a1 a2 a3 a4 a5 a6 a7 a8 → W n b1 b2 b3 b4 b5 b6 b7 b8) → W (n + 1) a1 a2 a3 a4 a5 a6 a7 a8) (a1 : A1) (a2 : A2) (a3 : A3) (a4 : A4) (a5 : A5) (a6 : A6) (a7 : A7) (a8 : A8) (h : I a1 a2 a3 a4 a5 a6 a7 a8) : ∃ n, W n a1 a2 a3 a4 a5 a6 a7 a8 :=
  loop_m (σ := A1 × A2 × A3 × A4 × A5 × A6 × A7 × A8) (fun n s => W n s.1 s.2.1 s.2.2.1 s.2.2.2.1 s.2.2.2.2.1 s.2.2.2.2.2.1 s.2.2.2.2.2.2.1 s.2.2.2.2.2.2.2) (fun s => I s.1 s.2.1 s.2.2.1 s.2.2.2.1 s.2.2.2.2.1 s.2.2.2.2.2.1 s.2.2.2.2.2.2.1 s.2.2.2.2.2.2.2) (fun s => μ s.1 s.2.1 s.2.2.1 s.2.2.2.1 s.2.2.2.2.1 s.2.2.2.2.2.1 s.2.2.2.2.2.2.1 s.2.2.2.2.2.2.2) (fun n s hI hk => hs n s.1 s.2.1 s.2.2.1 s.2.2.2.1 s.2.2.2.2.1 s.2.2.2.2.2.1 s.2.2.2.2.2.2.1 s.2.2.2.2.2.2.2 hI (fun b1 b2 b3 b4 b5 b6 b7 b8 h9 hm => hk (b1, b2, b3, b4, b5, b6, b7, b8) h9 hm)) (a1, a2, a3, a4, a5, a6, a7, a8) h
theorem lp9 {A1 A2 A3 A4 A5 A6 A7 A8 A9 : Type} (W : Nat → A1 → A2 → A3 → A4 → A5 → A6 → A7 → A8 → A9 → Prop) (I : A1 → A2 → A3 → A4 → A5 → A6 → A7 → A8 → A9 → Prop) (μ : A1 → A2 → A3 → A4 → A5 → A6 → A7 → A8 → A9 → Nat) (hs : ∀ (n : Nat) (a1 : A1) (a2 : A2) (a3 : A3) (a4 : A4) (a5 : A5) (a6 : A6) (a7 : A7) (a8 : A8) (a9 : A9), I a1 a2 a3 a4 a5 a6 a7 a8 a9 → (∀ (b1 : A1) (b2 : A2) (b3 : A3) (b4 : A4) (b5 : A5) (b6 : A6) (b7 : A7) (b8 : A8) (b9 : A9), I b1 b2 b3 b4 b5 b6 b7 b8 b9 → μ b1 b2 b3 b4 b5 b6 b7 b8 b9 < μ a1 a2 a3 a4 a5 a6 a7 a8 a9 → W n b1 b2 b3 b4 b5 b6 b7 b8 b9) → W (n + 1) a1 a2 a3 a4 a5 a6 a7 a8 a9) (a1 : A1) (a2 : A2) (a3 : A3) (a4 : A4) (a5 : A5) (a6 : A6) (a7 : A7) (a8 : A8) (a9 : A9) (h : I a1 a2 a3 a4 a5 a6 a7 a8 a9) : ∃ n, W n a1 a2 a3 a4 a5 a6 a7 a8 a9 :=
  loop_m (σ := A1 × A2 × A3 × A4 × A5 × A6 × A7 × A8 × A9) (fun n s => W n s.1 s.2.1 s.2.2.1 s.2.2.2.1 s.2.2.2.2.1 s.2.2.2.2.2.1 s.2.2.2.2.2.2.1 s.2.2.2.2.2.2.2.1 s.2.2.2.2.2.2.2.2) (fun s => I s.1 s.2.1 s.2.2.1 s.2.2.2.1 s.2.2.2.2.1 s.2.2.2.2.2.1 s.2.2.2.2.2.2.1 s.2.2.2.2.2.2.2.1 s.2.2.2.2.2.2.2.2) (fun s => μ s.1 s.2.1 s.2.2.1 s.2.2.2.1 s.2.2.2.2.1 s.2.2.2.2.2.1 s.2.2.2.2.2.2.1 s.2.2.2.2.2.2.2.1 s.2.2.2.2.2.2.2.2) (fun n s hI hk => hs n s.1 s.2.1 s.2.2.1 s.2.2.2.1 s.2.2.2.2.1 s.2.2.2.2.2.1 s.2.2.2.2.2.2.1 s.2.2.2.2.2.2.2.1 s.2.2.2.2.2.2.2.2 hI (fun b1 b2 b3 b4 b5 b6 b7 b8 b9 h9 hm => hk (b1, b2, b3, b4, b5, b6, b7, b8, b9) h9 hm)) (a1, a2, a3, a4, a5, a6, a7, a8, a9) h
theorem lp10 {A1 A2 A3 A4 A5 A6 A7 A8 A9 A10 : Type} (W : Nat → A1 → A2 → A3 → A4 → A5 → A6 → A7 → A8 → A9 → A10 → Prop) (I : A1 → A2 → A3 → A4 → A5 → A6 → A7 → A8 → A9 → A10 → Prop) (μ : A1 → A2 → A3 → A4 → A5 → A6 → A7 → A8 → A9 → A10 → Nat) (hs : ∀ (n : Nat) (a1 : A1) (a2 : A2) (a3 : A3) (a4 : A4) (a5 : A5) (a6 : A6) (a7 : A7) (a8 : A8) (a9 : A9) (a10 : A10), I a1 a2 a3 a4 a5 a6 a7 a8 a9 a10 → (∀ (b1 : A1) (b2 : A2) (b3 : A3) (b4 : A4) (b5 : A5) (b6 : A6) (b7 : A7) (b8 : A8) (b9 : A9) (b10 : A10), I b1 b2 b3 b4 b5 b6 b7 b8 b9 b10 → μ b1 b2 b3 b4 b5 b6 b7 b8 b9 b10 < μ a1 a2 a3 a4 a5 a6 a7 a8 a9 a10 → W n b1 b2 b3 b4 b5 b6 b7 b8 b9 b10) → W (n + 1) a1 a2 a3 a4 a5 a6 a7 a8 a9 a10) (a1 : A1) (a2 : A2) (a3 : A3) (a4 : A4) (a5 : A5) (a6 : A6) (a7 : A7) (a8 : A8) (a9 : A9) (a10 : A10) (h : I a1 a2 a3 a4 a5 a6 a7 a8 a9 a10) : ∃ n, W n a1 a2 a3 a4 a5 a6 a7 a8 a9 a10 :=
  loop_m (σ := A1 × A2 × A3 × A4 × A5 × A6 × A7 × A8 × A9 × A10) (fun n s => W n s.1 s.2.1 s.2.2.1 s.2.2.2.1 s.2.2.2.2.1 s.2.2.2.2.2.1 s.2.2.2.2.2.2.1 s.2.2.2.2.2.2.2.1 s.2.2.2.2.2.2.2.2.1 s.2.2.2.2.2.2.2.2.2) (fun s => I s.1 s.2.1 s.2.2.1 s.2.2.2.1 s.2.2.2.2.1 s.2.2.2.2.2.1 s.2.2.2.2.2.2.1 s.2.2.2.2.2.2.2.1 s.2.2.2.2.2.2.2.2.1 s.2.2.2.2.2.2.2.2.2) (fun s => μ s.1 s.2.1 s.2.2.1 s.2.2.2.1 s.2.2.2.2.1 s.2.2.2.2.2.1 s.2.2.2.2.2.2.1 s.2.2.2.2.2.2.2.1 s.2.2.2.2.2.2.2.2.1 s.2.2.2.2.2.2.2.2.2) (fun n s hI hk => hs n s.1 s.2.1 s.2.2.1 s.2.2.2.1 s.2.2.2.2.1 s.2.2.2.2.2.1 s.2.2.2.2.2.2.1 s.2.2.2.2.2.2.2.1 s.2.2.2.2.2.2.2.2.1 s.2.2.2.2.2.2.2.2.2 hI (fun b1 b2 b3 b4 b5 b6 b7 b8 b9 b10 h9 hm => hk (b1, b2, b3, b4, b5, b6, b7, b8, b9, b10) h9 hm)) (a1, a2, a3, a4, a5, a6, a7, a8, a9, a10) h
theorem lp11 {A1 A2 A3 A4 A5 A6 A7 A8 A9 A10 A11 : Type} (W : Nat → A1 → A2 → A3 → A4 → A5 → A6 → A7 → A8 → A9 → A10 → A11 → Prop) (I : A1 → A2 → A3 → A4 → A5 → A6 → A7 → A8 → A9 → A10 → A11 → Prop) (μ : A1 → A2 → A3 → A4 → A5 → A6 → A7 → A8 → A9 → A10 → A11 → Nat) (hs : ∀ (n : Nat) (a1 : A1) (a2 : A2) (a3 : A3) (a4 : A4) (a5 : A5) (a6 : A6) (a7 : A7) (a8 : A8) (a9 : A9) (a10 : A10) (a11 : A11), I a1 a2 a3 a4 a5 a6 a7 a8 a9 a10 a11 → (∀ (b1 : A1) (b2 : A2) (b3 : A3) (b4 : A4) (b5 : A5) (b6 : A6) (b7 : A7) (b8 : A8) (b9 : A9) (b10 : A10) (b11 : A11), I b1 b2 b3 b4 b5 b6 b7 b8 b9 b10 b11 → μ b1 b2 b3 b4 b5 b6 b7 b8 b9 b10 b11 < μ a1 a2 a3 a4 a5 a6 a7 a8 a9 a10 a11 → W n b1 b2 b3 b4 b5 b6 b7 b8 b9 b10 b11) → W (n + 1) a1 a2 a3 a4 a5 a6 a7 a8 a9 a10 a11) (a1 : A1) (a2 : A2) (a3 : A3) (a4 : A4) (a5 : A5) (a6 : A6) (a7 : A7) (a8 : A8) (a9 : A9) (a10 : A10) (a11 : A11) (h : I a1 a2 a3 a4 a5 a6 a7 a8 a9 a10 a11) : ∃ n, W n a1 a2 a3 a4 a5 a6 a7 a8 a9 a10 a11 :=
  loop_m (σ := A1 × A2 × A3 × A4 × A5 × A6 × A7 × A8 × A9 × A10 × A11) (fun n s => W n s.1 s.2.1 s.2.2.1 s.2.2.2.1 s.2.2.2.2.1 s.2.2.2.2.2.1 s.2.2.2.2.2.2.1 s.2.2.2.2.2.2.2.1 s.2.2.2.2.2.2.2.2.1 s.2.2.2.2.2.2.2.2.2.1 s.2.2.2.2.2.2.2.2.2.2) (fun s => I s.1 s.2.1 s.2.2.1 s.2.2.2.1 s.2.2.2.2.1 s.2.2.2.2.2.1 s.2.2.2.2.2.2.1 s.2.2.2.2.2.2.2.1 s.2.2.2.2.2.2.2.2.1 s.2.2.2.2.2.2.2.2.2.1 s.2.2.2.2.2.2.2.2.2.2) (fun s => μ s.1 s.2.1 s.2.2.1 s.2.2.2.1 s.2.2.2.2.1 s.2.2.2.2.2.1 s.2.2.2.2.2.2.1 s.2.2.2.2.2.2.2.1 s.2.2.2.2.2.2.2.2.1 s.2.2.2.2.2.2.2.2.2.1 s.2.2.2.2.2.2.2.2.2.2) (fun n s hI hk => hs n s.1 s.2.1 s.2.2.1 s.2.2.2.1 s.2.2.2.2.1 s.2.2.2.2.2.1 s.2.2.2.2.2.2.1 s.2.2.2.2.2.2.2.1 s.2.2.2.2.2.2.2.2.1 s.2.2.2.2.2.2.2.2.2.1 s.2.2.2.2.2.2.2.2.2.2 hI (fun b1 b2 b3 b4 b5 b6 b7 b8 b9 b10 b11 h9 hm => hk (b1, b2, b3, b4, b5, b6, b7, b8, b9, b10, b11) h9 hm)) (a1, a2, a3, a4, a5, a6, a7, a8, a9, a10, a11) h
theorem lp12 {A1 A2 A3 A4 A5 A6 A7 A8 A9 A10 A11 A12 : Type} (W : Nat → A1 → A2 → A3 → A4 → A5 → A6 → A7 → A8 → A9 → A10 → A11 → A12 → Prop) (I : A1 → A2 → A3 → A4 → A5 → A6 → A7 → A8 → A9 → A10 → A11 → A12 → Prop) (μ : A1 → A2 → A3 → A4 → A5 → A6 → A7 → A8 → A9 → A10 → A11 → A12 → Nat) (hs : ∀ (n : Nat) (a1 : A1) (a2 : A2) (a3 : A3) (a4 : A4) (a5 : A5) (a6 : A6) (a7 : A7) (a8 : A8) (a9 : A9) (a10 : A10) (a11 : A11) (a12 : A12), I a1 a2 a3 a4 a5 a6 a7 a8 a9 a10 a11 a12 → (∀ (b1 : A1) (b2 : A2) (b3 : A3) (b4 : A4) (b5 : A5) (b6 : A6) (b7 : A7) (b8 : A8) (b9 : A9) (b10 : A10) (b11 : A11) (b12 : A12), I b1 b2 b3 b4 b5 b6 b7 b8 b9 b10 b11 b12 → μ b1 b2 b3 b4 b5 b6 b7 b8 b9 b10 b11 b12 < μ a1 a2 a3 a4 a5 a6 a7 a8 a9 a10 a11 a12 → W n b1 b2 b3 b4 b5 b6 b7 b8 b9 b10 b11 b12) → W (n + 1) a1 a2 a3 a4 a5 a6 a7 a8 a9 a10 a11 a12) (a1 : A1) (a2 : A2) (a3 : A3) (a4 : A4) (a5 : A5) (a6 : A6) (a7 : A7) (a8 : A8) (a9 : A9) (a10 : A10) (a11 : A11) (a12 : A12) (h : I a1 a2 a3 a4 a5 a6 a7 a8 a9 a10 a11 a12) : ∃ n, W n a1 a2 a3 a4 a5 a6 a7 a8 a9 a10 a11 a12 :=
  loop_m (σ := A1 × A2 × A3 × A4 × A5 × A6 × A7 × A8 × A9 × A10 × A11 × A12) (fun n s => W n s.1 s.2.1 s.2.2.1 s.2.2.2.1 s.2.2.2.2.1 s.2.2.2.2.2.1 s.2.2.2.2.2.2.1 s.2.2.2.2.2.2.2.1 s.2.2.2.2.2.2.2.2.1 s.2.2.2.2.2.2.2.2.2.1 s.2.2.2.2.2.2.2.2.2.2.1 s.2.2.2.2.2.2.2.2.2.2.2) (fun s => I s.1 s.2.1 s.2.2.1 s.2.2.2.1 s.2.2.2.2.1 s.2.2.2.2.2.1 s.2.2.2.2.2.2.1 s.2.2.2.2.2.2.2.1 s.2.2.2.2.2.2.2.2.1 s.2.2.2.2.2.2.2.2.2.1 s.2.2.2.2.2.2.2.2.2.2.1 s.2.2.2.2.2.2.2.2.2.2.2) (fun s => μ s.1 s.2.1 s.2.2.1 s.2.2.2.1 s.2.2.2.2.1 s.2.2.2.2.2.1 s.2.2.2.2.2.2.1 s.2.2.2.2.2.2.2.1 s.2.2.2.2.2.2.2.2.1 s.2.2.2.2.2.2.2.2.2.1 s.2.2.2.2.2.2.2.2.2.2.1 s.2.2.2.2.2.2.2.2.2.2.2) (fun n s hI hk => hs n s.1 s.2.1 s.2.2.1 s.2.2.2.1 s.2.2.2.2.1 s.2.2.2.2.2.1 s.2.2.2.2.2.2.1 s.2.2.2.2.2.2.2.1 s.2.2.2.2.2.2.2.2.1 s.2.2.2.2.2.2.2.2.2.1 s.2.2.2.2.2.2.2.2.2.2.1 s.2.2.2.2.2.2.2.2.2.2.2 hI (fun b1 b2 b3 b4 b5 b6 b7 b8 b9 b10 b11 b12 h9 hm => hk (b1, b2, b3, b4, b5, b6, b7, b8, b9, b10, b11, b12) h9 hm)) (a1, a2, a3, a4, a5, a6, a7, a8, a9, a10, a11, a12) h
theorem lp13 {A1 A2 A3 A4 A5 A6 A7 A8 A9 A10 A11 A12 A13 : Type} (W : Nat → A1 → A2 → A3 → A4 → A5 → A6 → A7 → A8 → A9 → A10 → A11 → A12 → A13 → Prop) (I : A1 → A2 → A3 → A4 → A5 → A6 → A7 → A8 → A9 → A10 → A11 → A12 → A13 → Prop) (μ : A1 → A2 → A3 → A4 → A5 → A6 → A7 → A8 → A9 → A10 → A11 → A12 → A13 → Nat) (hs : ∀ (n : Nat) (a1 : A1) (a2 : A2) (a3 : A3) (a4 : A4) (a5 : A5) (a6 : A6) (a7 : A7) (a8 : A8) (a9 : A9) (a10 : A10) (a11 : A11) (a12 : A12) (a13 : A13), I a1 a2 a3 a4 a5 a6 a7 a8 a9 a10 a11 a12 a13 → (∀ (b1 : A1) (b2 : A2) (b3 : A3) (b4 : A4) (b5 : A5) (b6 : A6) (b7 : A7) (b8 : A8) (b9 : A9) (b10 : A10) (b11 : A11) (b12 : A12) (b13 : A13), I b1 b2 b3 b4 b5 b6 b7 b8 b9 b10 b11 b12 b13 → μ b1 b2 b3 b4 b5 b6 b7 b8 b9 b10 b11 b12 b13 < μ a1 a2 a3 a4 a5 a6 a7 a8 a9 a10 a11 a12 a13 → W n b1 b2 b3 b4 b5 b6 b7 b8 b9 b10 b11 b12 b13) → W (n + 1) a1 a2 a3 a4 a5 a6 a7 a8 a9 a10 a11 a12 a13) (a1 : A1) (a2 : A2) (a3 : A3) (a4 : A4) (a5 : A5) (a6 : A6) (a7 : A7) (a8 : A8) (a9 : A9) (a10 : A10) (a11 : A11) (a12 : A12) (a13 : A13) (h : I a1 a2 a3 a4 a5 a6 a7 a8 a9 a10 a11 a12 a13) : ∃ n, W n a1 a2 a3 a4 a5 a6 a7 a8 a9 a10 a11 a12 a13 :=
  loop_m (σ := A1 × A2 × A3 × A4 × A5 × A6 × A7 × A8 × A9 × A10 × A11 × A12 × A13) (fun n s => W n s.1 s.2.1 s.2.2.1 s.2.2.2.1 s.2.2.2.2.1 s.2.2.2.2.2.1 s.2.2.2.2.2.2.1 s.2.2.2.2.2.2.2.1 s.2.2.2.2.2.2.2.2.1 s.2.2.2.2.2.2.2.2.2.1 s.2.2.2.2.2.2.2.2.2.2.1 s.2.2.2.2.2.2.2.2.2.2.2.1 s.2.2.2.2.2.2.2.2.2.2.2.2) (fun s => I s.1 s.2.1 s.2.2.1 s.2.2.2.1 s.2.2.2.2.1 s.2.2.2.2.2.1 s.2.2.2.2.2.2.1 s.2.2.2.2.2.2.2.1 s.2.2.2.2.2.2.2.2.1 s.2.2.2.2.2.2.2.2.2.1 s.2.2.2.2.2.2.2.2.2.2.1 s.2.2.2.2.2.2.2.2.2.2.2.1 s.2.2.2.2.2.2.2.2.2.2.2.2) (fun s => μ s.1 s.2.1 s.2.2.1 s.2.2.2.1 s.2.2.2.2.1 s.2.2.2.2.2.1 s.2.2.2.2.2.2.1 s.2.2.2.2.2.2.2.1 s.2.2.2.2.2.2.2.2.1 s.2.2.2.2.2.2.2.2.2.1 s.2.2.2.2.2.2.2.2.2.2.1 s.2.2.2.2.2.2.2.2.2.2.2.1 s.2.2.2.2.2.2.2.2.2.2.2.2) (fun n s hI hk => hs n s.1 s.2.1 s.2.2.1 s.2.2.2.1 s.2.2.2.2.1 s.2.2.2.2.2.1 s.2.2.2.2.2.2.1 s.2.2.2.2.2.2.2.1 s.2.2.2.2.2.2.2.2.1 s.2.2.2.2.2.2.2.2.2.1 s.2.2.2.2.2.2.2.2.2.2.1 s.2.2.2.2.2.2.2.2.2.2.2.1 s.2.2.2.2.2.2.2.2.2.2.2.2 hI (fun b1 b2 b3 b4 b5 b6 b7 b8 b9 b10 b11 b12 b13 h9 hm => hk (b1, b2, b3, b4, b5, b6, b7, b8, b9, b10, b11, b12, b13) h9 hm)) (a1, a2, a3, a4, a5, a6, a7, a8, a9, a10, a11, a12, a13) h
theorem lp14 {A1 A2 A3 A4 A5 A6 A7 A8 A9 A10 A11 A12 A13 A14 : Type} (W : Nat → A1 → A2 → A3 → A4 → A5 → A6 → A7 → A8 → A9 → A10 → A11 → A12 → A13 → A14 → Prop) (I : A1 → A2 → A3 → A4 → A5 → A6 → A7 → A8 → A9 → A10 → A11 → A12 → A13 → A14 → Prop) (μ : A1 → A2 → A3 → A4 → A5 → A6 → A7 → A8 → A9 → A10 → A11 → A12 → A13 → A14 → Nat) (hs : ∀ (n : Nat) (a1 : A1) (a2 : A2) (a3 : A3) (a4 : A4) (a5 : A5) (a6 : A6) (a7 : A7) (a8 : A8) (a9 : A9) (a10 : A10) (a11 : A11) (a12 : A12) (a13 : A13) (a14 : A14), I a1 a2 a3 a4 a5 a6 a7 a8 a9 a10 a11 a12 a13 a14 → (∀ (b1 : A1) (b2 : A2) (b3 : A3) (b4 : A4) (b5 : A5) (b6 : A6) (b7 : A7) (b8 : A8) (b9 : A9) (b10 : A10) (b11 : A11) (b12 : A12) (b13 : A13) (b14 : A14), I b1 b2 b3 b4 b5 b6 b7 b8 b9 b10 b11 b12 b13 b14 → μ b1 b2 b3 b4 b5 b6 b7 b8 b9 b10 b11 b12 b13 b14 < μ a1 a2 a3 a4 a5 a6 a7 a8 a9 a10 a11 a12 a13 a14 → W n b1 b2 b3 b4 b5 b6 b7 b8 b9 b10 b11 b12 b13 b14) → W (n + 1) a1 a2 a3 a4 a5 a6 a7 a8 a9 a10 a11 a12 a13 a14) (a1 : A1) (a2 : A2) (a3 : A3) (a4 : A4) (a5 : A5) (a6 : A6) (a7 : A7) (a8 : A8) (a9 : A9) (a10 : A10) (a11 : A11) (a12 : A12) (a13 : A13) (a14 : A14) (h : I a1 a2 a3 a4 a5 a6 a7 a8 a9 a10 a11 a12 a13 a14) : ∃ n, W n a1 a2 a3 a4 a5 a6 a7 a8 a9 a10 a11 a12 a13 a14 :=
  loop_m (σ := A1 × A2 × A3 × A4 × A5 × A6 × A7 × A8 × A9 × A10 × A11 × A12 × A13 × A14) (fun n s => W n s.1 s.2.1 s.2.2.1 s.2.2.2.1 s.2.2.2.2.1 s.2.2.2.2.2.1 s.2.2.2.2.2.2.1 s.2.2.2.2.2.2.2.1 s.2.2.2.2.2.2.2.2.1 s.2.2.2.2.2.2.2.2.2.1 s.2.2.2.2.2.2.2.2.2.2.1 s.2.2.2.2.2.2.2.2.2.2.2.1 s.2.2.2.2.2.2.2.2.2.2.2.2.1 s.2.2.2.2.2.2.2.2.2.2.2.2.2) (fun s => I s.1 s.2.1 s.2.2.1 s.2.2.2.1 s.2.2.2.2.1 s.2.2.2.2.2.1 s.2.2.2.2.2.2.1 s.2.2.2.2.2.2.2.1 s.2.2.2.2.2.2.2.2.1 s.2.2.2.2.2.2.2.2.2.1 s.2.2.2.2.2.2.2.2.2.2.1 s.2.2.2.2.2.2.2.2.2.2.2.1 s.2.2.2.2.2.2.2.2.2.2.2.2.1 s.2.2.2.2.2.2.2.2.2.2.2.2.2) (fun s => μ s.1 s.2.1 s.2.2.1 s.2.2.2.1 s.2.2.2.2.1 s.2.2.2.2.2.1 s.2.2.2.2.2.2.1 s.2.2.2.2.2.2.2.1 s.2.2.2.2.2.2.2.2.1 s.2.2.2.2.2.2.2.2.2.1 s.2.2.2.2.2.2.2.2.2.2.1 s.2.2.2.2.2.2.2.2.2.2.2.1 s.2.2.2.2.2.2.2.2.2.2.2.2.1 s.2.2.2.2.2.2.2.2.2.2.2.2.2) (fun n s hI hk => hs n s.1 s.2.1 s.2.2.1 s.2.2.2.1 s.2.2.2.2.1 s.2.2.2.2.2.1 s.2.2.2.2.2.2.1 s.2.2.2.2.2.2.2.1 s.2.2.2.2.2.2.2.2.1 s.2.2.2.2.2.2.2.2.2.1 s.2.2.2.2.2.2.2.2.2.2.1 s.2.2.2.2.2.2.2.2.2.2.2.1 s.2.2.2.2.2.2.2.2.2.2.2.2.1 s.2.2.2.2.2.2.2.2.2.2.2.2.2 hI (fun b1 b2 b3 b4 b5 b6 b7 b8 b9 b10 b11 b12 b13 b14 h9 hm => hk (b1, b2, b3, b4, b5, b6, b7, b8, b9, b10, b11, b12, b13, b14) h9 hm)) (a1, a2, a3, a4, a5, a6, a7, a8, a9, a10, a11, a12, a13, a14) h
theorem lp15 {A1 A2 A3 A4 A5 A6 A7 A8 A9 A10 A11 A12 A13 A14 A15 : Type} (W : Nat → A1 → A2 → A3 → A4 → A5 → A6 → A7 → A8 → A9 → A10 → A11 → A12 → A13 → A14 → A15 → Prop) (I : A1 → A2 → A3 → A4 → A5 → A6 → A7 → A8 → A9 → A10 → A11 → A12 → A13 → A14 → A15 → Prop) (μ : A1 → A2 → A3 → A4 → A5 → A6 → A7 → A8 → A9 → A10 → A11 → A12 → A13 → A14 → A15 → Nat) (hs : ∀ (n : Nat) (a1 : A1) (a2 : A2) (a3 : A3) (a4 : A4) (a5 : A5) (a6 : A6) (a7 : A7) (a8 : A8) (a9 : A9) (a10 : A10) (a11 : A11) (a12 : A12) (a13 : A13) (a14 : A14) (a15 : A15), I a1 a2 a3 a4 a5 a6 a7 a8 a9 a10 a11 a12 a13 a14 a15 → (∀ (b1 : A1) (b2 : A2) (b3 : A3) (b4 : A4) (b5 : A5) (b6 : A6) (b7 : A7) (b8 : A8) (b9 : A9) (b10 : A10) (b11 : A11) (b12 : A12) (b13 : A13) (b14 : A14) (b15 : A15), I b1 b2 b3 b4 b5 b6 b7 b8 b9 b10 b11 b12 b13 b14 b15 → μ b1 b2 b3 b4 b5 b6 b7 b8 b9 b10 b11 b12 b13 b14 b15 < μ a1 a2 a3 a4 a5 a6 a7 a8 a9 a10 a11 a12 a13 a14 a15 → W n b1 b2 b3 b4 b5 b6 b7 b8 b9 b10 b11 b12 b13 b14 b15) → W (n + 1) a1 a2 a3 a4 a5 a6 a7 a8 a9 a10 a11 a12 a13 a14 a15) (a1 : A1) (a2 : A2) (a3 : A3) (a4 : A4) (a5 : A5) (a6 : A6) (a7 : A7) (a8 : A8) (a9 : A9) (a10 : A10) (a11 : A11) (a12 : A12) (a13 : A13) (a14 : A14) (a15 : A15) (h : I a1 a2 a3 a4 a5 a6 a7 a8 a9 a10 a11 a12 a13 a14 a15) : ∃ n, W n a1 a2 a3 a4 a5 a6 a7 a8 a9 a10 a11 a12 a13 a14 a15 :=
  loop_m (σ := A1 × A2 × A3 × A4 × A5 × A6 × A7 × A8 × A9 × A10 × A11 × A12 × A13 × A14 × A15) (fun n s => W n s.1 s.2.1 s.2.2.1 s.2.2.2.1 s.2.2.2.2.1 s.2.2.2.2.2.1 s.2.2.2.2.2.2.1 s.2.2.2.2.2.2.2.1 s.2.2.2.2.2.2.2.2.1 s.2.2.2.2.2.2.2.2.2.1 s.2.2.2.2.2.2.2.2.2.2.1 s.2.2.2.2.2.2.2.2.2.2.2.1 s.2.2.2.2.2.2.2.2.2.2.2.2.1 s.2.2.2.2.2.2.2.2.2.2.2.2.2.1 s.2.2.2.2.2.2.2.2.2.2.2.2.2.2) (fun s => I s.1 s.2.1 s.2.2.1 s.2.2.2.1 s.2.2.2.2.1 s.2.2.2.2.2.1 s.2.2.2.2.2.2.1 s.2.2.2.2.2.2.2.1 s.2.2.2.2.2.2.2.2.1 s.2.2.2.2.2.2.2.2.2.1 s.2.2.2.2.2.2.2.2.2.2.1 s.2.2.2.2.2.2.2.2.2.2.2.1 s.2.2.2.2.2.2.2.2.2.2.2.2.1 s.2.2.2.2.2.2.2.2.2.2.2.2.2.1 s.2.2.2.2.2.2.2.2.2.2.2.2.2.2) (fun s => μ s.1 s.2.1 s.2.2.1 s.2.2.2.1 s.2.2.2.2.1 s.2.2.2.2.2.1 s.2.2.2.2.2.2.1 s.2.2.2.2.2.2.2.1 s.2.2.2.2.2.2.2.2.1 s.2.2.2.2.2.2.2.2.2.1 s.2.2.2.2.2.2.2.2.2.2.1 s.2.2.2.2.2.2.2.2.2.2.2.1 s.2.2.2.2.2.2.2.2.2.2.2.2.1 s.2.2.2.2.2.2.2.2.2.2.2.2.2.1 s.2.2.2.2.2.2.2.2.2.2.2.2.2.2) (fun n s hI hk => hs n s.1 s.2.1 s.2.2.1 s.2.2.2.1 s.2.2.2.2.1 s.2.2.2.2.2.1 s.2.2.2.2.2.2.1 s.2.2.2.2.2.2.2.1 s.2.2.2.2.2.2.2.2.1 s.2.2.2.2.2.2.2.2.2.1 s.2.2.2.2.2.2.2.2.2.2.1 s.2.2.2.2.2.2.2.2.2.2.2.1 s.2.2.2.2.2.2.2.2.2.2.2.2.1 s.2.2.2.2.2.2.2.2.2.2.2.2.2.1 s.2.2.2.2.2.2.2.2.2.2.2.2.2.2 hI (fun b1 b2 b3 b4 b5 b6 b7 b8 b9 b10 b11 b12 b13 b14 b15 h9 hm => hk (b1, b2, b3, b4, b5, b6, b7, b8, b9, b10, b11, b12, b13, b14, b15) h9 hm)) (a1, a2, a3, a4, a5, a6, a7, a8, a9, a10, a11, a12, a13, a14, a15) h
theorem lp16 {A1 A2 A3 A4 A5 A6 A7 A8 A9 A10 A11 A12 A13 A14 A15 A16 : Type} (W : Nat → A1 → A2 → A3 → A4 → A5 → A6 → A7 → A8 → A9 → A10 → A11 → A12 → A13 → A14 → A15 → A16 → Prop) (I : A1 → A2 → A3 → A4 → A5 → A6 → A7 → A8 → A9 → A10 → A11 → A12 → A13 → A14 → A15 → A16 → Prop) (μ : A1 → A2 → A3 → A4 → A5 → A6 → A7 → A8 → A9 → A10 → A11 → A12 → A13 → A14 → A15 → A16 → Nat) (hs : ∀ (n : Nat) (a1 : A1) (a2 : A2) (a3 : A3) (a4 : A4) (a5 : A5) (a6 : A6) (a7 : A7) (a8 : A8) (a9 : A9) (a10 : A10) (a11 : A11) (a12 : A12) (a13 : A13) (a14 : A14) (a15 : A15) (a16 : A16), I a1 a2 a3 a4 a5 a6 a7 a8 a9 a10 a11 a12 a13 a14 a15 a16 → (∀ (b1 : A1) (b2 : A2) (b3 : A3) (b4 : A4) (b5 : A5) (b6 : A6) (b7 : A7) (b8 : A8) (b9 : A9) (b10 : A10) (b11 : A11) (b12 : A12) (b13 : A13) (b14 : A14) (b15 : A15) (b16 : A16), I b1 b2 b3 b4 b5 b6 b7 b8 b9 b10 b11 b12 b13 b14 b15 b16 → μ b1 b2 b3 b4 b5 b6 b7 b8 b9 b10 b11 b12 b13 b14 b15 b16 < μ a1 a2 a3 a4 a5 a6 a7 a8 a9 a10 a11 a12 a13 a14 a15 a16 → W n b1 b2 b3 b4 b5 b6 b7 b8 b9 b10 b11 b12 b13 b14 b15 b16) → W (n + 1) a1 a2 a3 a4 a5 a6 a7 a8 a9 a10 a11 a12 a13 a14 a15 a16) (a1 : A1) (a2 : A2) (a3 : A3) (a4 : A4) (a5 : A5) (a6 : A6) (a7 : A7) (a8 : A8) (a9 : A9) (a10 : A10) (a11 : A11) (a12 : A12) (a13 : A13) (a14 : A14) (a15 : A15) (a16 : A16) (h : I a1 a2 a3 a4 a5 a6 a7 a8 a9 a10 a11 a12 a13 a14 a15 a16) : ∃ n, W n a1 a2 a3 a4 a5 a6 a7 a8 a9 a10 a11 a12 a13 a14 a15 a16 :=
  loop_m (σ := A1 × A2 × A3 × A4 × A5 × A6 × A7 × A8 × A9 × A10 × A11 × A12 × A13 × A14 × A15 × A16) (fun n s => W n s.1 s.2.1 s.2.2.1 s.2.2.2.1 s.2.2.2.2.1 s.2.2.2.2.2.1 s.2.2.2.2.2.2.1 s.2.2.2.2.2.2.2.1 s.2.2.2.2.2.2.2.2.1 s.2.2.2.2.2.2.2.2.2.1 s.2.2.2.2.2.2.2.2.2.2.1 s.2.2.2.2.2.2.2.2.2.2.2.1 s.2.2.2.2.2.2.2.2.2.2.2.2.1 s.2.2.2.2.2.2.2.2.2.2.2.2.2.1 s.2.2.2.2.2.2.2.2.2.2.2.2.2.2.1 s.2.2.2.2.2.2.2.2.2.2.2.2.2.2.2) (fun s => I s.1 s.2.1 s.2.2.1 s.2.2.2.1 s.2.2.2.2.1 s.2.2.2.2.2.1 s.2.2.2.2.2.2.1 s.2.2.2.2.2.2.2.1 s.2.2.2.2.2.2.2.2.1 s.2.2.2.2.2.2.2.2.2.1 s.2.2.2.2.2.2.2.2.2.2.1 s.2.2.2.2.2.2.2.2.2.2.2.1 s.2.2.2.2.2.2.2.2.2.2.2.2.1 s.2.2.2.2.2.2.2.2.2.2.2.2.2.1 s.2.2.2.2.2.2.2.2.2.2.2.2.2.2.1 s.2.2.2.2.2.2.2.2.2.2.2.2.2.2.2) (fun s => μ s.1 s.2.1 s.2.2.1 s.2.2.2.1 s.2.2.2.2.1 s.2.2.2.2.2.1 s.2.2.2.2.2.2.1 s.2.2.2.2.2.2.2.1 s.2.2.2.2.2.2.2.2.1 s.2.2.2.2.2.2.2.2.2.1 s.2.2.2.2.2.2.2.2.2.2.1 s.2.2.2.2.2.2.2.2.2.2.2.1 s.2.2.2.2.2.2.2.2.2.2.2.2.1 s.2.2.2.2.2.2.2.2.2.2.2.2.2.1 s.2.2.2.2.2.2.2.2.2.2.2.2.2.2.1 s.2.2.2.2.2.2.2.2.2.2.2.2.2.2.2) (fun n s hI hk => hs n s.1 s.2.1 s.2.2.1 s.2.2.2.1 s.2.2.2.2.1 s.2.2.2.2.2.1 s.2.2.2.2.2.2.1 s.2.2.2.2.2.2.2.1 s.2.2.2.2.2.2.2.2.1 s.2.2.2.2.2.2.2.2.2.1 s.2.2.2.2.2.2.2.2.2.2.1 s.2.2.2.2.2.2.2.2.2.2.2.1 s.2.2.2.2.2.2.2.2.2.2.2.2.1 s.2.2.2.2.2.2.2.2.2.2.2.2.2.1 s.2.2.2.2.2.2.2.2.2.2.2.2.2.2.1 s.2.2.2.2.2.2.2.2.2.2.2.2.2.2.2 hI (fun b1 b2 b3 b4 b5 b6 b7 b8 b9 b10 b11 b12 b13 b14 b15 b16 h9 hm => hk (b1, b2, b3, b4, b5, b6, b7, b8, b9, b10, b11, b12, b13, b14, b15, b16) h9 hm)) (a1, a2, a3, a4, a5, a6, a7, a8, a9, a10, a11, a12, a13, a14, a15, a16) h
theorem pk_least (P : Nat → Prop) (h : ∃ k, P k) : ∃ k, P k ∧ ∀ j, j < k → ¬ P j := by
  obtain ⟨k, hk⟩ := h
  induction k using Nat.strongRecOn with
  | ind k ih =>
    by_cases e : ∃ j, j < k ∧ P j
    · obtain ⟨j, hj, pj⟩ := e
      exact ih j hj pj
    · exact ⟨k, hk, fun j hj pj => e ⟨j, hj, pj⟩⟩
theorem rp1 {ρ A1 : Type} (W : Nat → (ρ → Prop) → A1 → Prop) (ok : A1 → Prop) (μ : A1 → Nat) (val : A1 → ρ)
    (hs : ∀ (d : Nat) (post : ρ → Prop) (a1 : A1), ok a1 → post (val a1) → (∀ (post' : ρ → Prop) (b1 : A1), ok b1 → μ b1 < μ a1 → post' (val b1) → W d post' b1) → W (d + 1) post a1) :
    ∀ (d : Nat) (post : ρ → Prop) (a1 : A1), ok a1 → μ a1 < d → post (val a1) → W d post a1 := by
  intro d
  induction d with
  | zero => intro post a1 _ h; omega
  | succ d ih =>
    intro post a1 ho hm hp
    exact hs d post a1 ho hp (fun post' b1 ho' hm' hp' => ih post' b1 ho' (by omega) hp')
theorem rp2 {ρ A1 A2 : Type} (W : Nat → (ρ → Prop) → A1 → A2 → Prop) (ok : A1 → A2 → Prop) (μ : A1 → A2 → Nat) (val : A1 → A2 → ρ)
    (hs : ∀ (d : Nat) (post : ρ → Prop) (a1 : A1) (a2 : A2), ok a1 a2 → post (val a1 a2) → (∀ (post' : ρ → Prop) (b1 : A1) (b2 : A2), ok b1 b2 → μ b1 b2 < μ a1 a2 → post' (val b1 b2) → W d post' b1 b2) → W (d + 1) post a1 a2) :
    ∀ (d : Nat) (post : ρ → Prop) (a1 : A1) (a2 : A2), ok a1 a2 → μ a1 a2 < d → post (val a1 a2) → W d post a1 a2 := by
  intro d
  induction d with
  | zero => intro post a1 a2 _ h; omega
  | succ d ih =>
    intro post a1 a2 ho hm hp
    exact hs d post a1 a2 ho hp (fun post' b1 b2 ho' hm' hp' => ih post' b1 b2 ho' (by omega) hp')
theorem rp3 {ρ A1 A2 A3 : Type} (W : Nat → (ρ → Prop) → A1 → A2 → A3 → Prop) (ok : A1 → A2 → A3 → Prop) (μ : A1 → A2 → A3 → Nat) (val : A1 → A2 → A3 → ρ)
    (hs : ∀ (d : Nat) (post : ρ → Prop) (a1 : A1) (a2 : A2) (a3 : A3), ok a1 a2 a3 → post (val a1 a2 a3) → (∀ (post' : ρ → Prop) (b1 : A1) (b2 : A2) (b3 : A3), ok b1 b2 b3 → μ b1 b2 b3 < μ a1 a2 a3 → post' (val b1 b2 b3) → W d post' b1 b2 b3) → W (d + 1) post a1 a2 a3) :
    ∀ (d : Nat) (post : ρ → Prop) (a1 : A1) (a2 : A2) (a3 : A3), ok a1 a2 a3 → μ a1 a2 a3 < d → post (val a1 a2 a3) → W d post a1 a2 a3 := by
  intro d
  induction d with
  | zero => intro post a1 a2 a3 _ h; omega
  | succ d ih =>
    intro post a1 a2 a3 ho hm hp
    exact hs d post a1 a2 a3 ho hp (fun post' b1 b2 b3 ho' hm' hp' => ih post' b1 b2 b3 ho' (by omega) hp')
theorem rp4 {ρ A1 A2 A3 A4 : Type} (W : Nat → (ρ → Prop) → A1 → A2 → A3 → A4 → Prop) (ok : A1 → A2 → A3 → A4 → Prop) (μ : A1 → A2 → A3 → A4 → Nat) (val : A1 → A2 → A3 → A4 → ρ)
    (hs : ∀ (d : Nat) (post : ρ → Prop) (a1 : A1) (a2 : A2) (a3 : A3) (a4 : A4), ok a1 a2 a3 a4 → post (val a1 a2 a3 a4) → (∀ (post' : ρ → Prop) (b1 : A1) (b2 : A2) (b3 : A3) (b4 : A4), ok b1 b2 b3 b4 → μ b1 b2 b3 b4 < μ a1 a2 a3 a4 → post' (val b1 b2 b3 b4) → W d post' b1 b2 b3 b4) → W (d + 1) post a1 a2 a3 a4) :
    ∀ (d : Nat) (post : ρ → Prop) (a1 : A1) (a2 : A2) (a3 : A3) (a4 : A4), ok a1 a2 a3 a4 → μ a1 a2 a3 a4 < d → post (val a1 a2 a3 a4) → W d post a1 a2 a3 a4 := by
  intro d
  induction d with
  | zero => intro post a1 a2 a3 a4 _ h; omega
  | succ d ih =>
    intro post a1 a2 a3 a4 ho hm hp
    exact hs d post a1 a2 a3 a4 ho hp (fun post' b1 b2 b3 b4 ho' hm' hp' => ih post' b1 b2 b3 b4 ho' (by omega) hp')
theorem rp5 {ρ A1 A2 A3 A4 A5 : Type} (W : Nat → (ρ → Prop) → A1 → A2 → A3 → A4 → A5 → Prop) (ok : A1 → A2 → A3 → A4 → A5 → Prop) (μ : A1 → A2 → A3 → A4 → A5 → Nat) (val : A1 → A2 → A3 → A4 → A5 → ρ)
    (hs : ∀ (d : Nat) (post : ρ → Prop) (a1 : A1) (a2 : A2) (a3 : A3) (a4 : A4) (a5 : A5), ok a1 a2 a3 a4 a5 → post (val a1 a2 a3 a4 a5) → (∀ (post' : ρ → Prop) (b1 : A1) (b2 : A2) (b3 : A3) (b4 : A4) (b5 : A5), ok b1 b2 b3 b4 b5 → μ b1 b2 b3 b4 b5 < μ a1 a2 a3 a4 a5 → post' (val b1 b2 b3 b4 b5) → W d post' b1 b2 b3 b4 b5) → W (d + 1) post a1 a2 a3 a4 a5) :
    ∀ (d : Nat) (post : ρ → Prop) (a1 : A1) (a2 : A2) (a3 : A3) (a4 : A4) (a5 : A5), ok a1 a2 a3 a4 a5 → μ a1 a2 a3 a4 a5 < d → post (val a1 a2 a3 a4 a5) → W d post a1 a2 a3 a4 a5 := by
  intro d
  induction d with
  | zero => intro post a1 a2 a3 a4 a5 _ h; omega
  | succ d ih =>
    intro post a1 a2 a3 a4 a5 ho hm hp
    exact hs d post a1 a2 a3 a4 a5 ho hp (fun post' b1 b2 b3 b4 b5 ho' hm' hp' => ih post' b1 b2 b3 b4 b5 ho' (by omega) hp')
theorem rp6 {ρ A1 A2 A3 A4 A5 A6 : Type} (W : Nat → (ρ → Prop) → A1 → A2 → A3 → A4 → A5 → A6 → Prop) (ok : A1 → A2 → A3 → A4 → A5 → A6 → Prop) (μ : A1 → A2 → A3 → A4 → A5 → A6 → Nat) (val : A1 → A2 → A3 → A4 → A5 → A6 → ρ)
    (hs : ∀ (d : Nat) (post : ρ → Prop) (a1 : A1) (a2 : A2) (a3 : A3) (a4 : A4) (a5 : A5) (a6 : A6), ok a1 a2 a3 a4 a5 a6 → post (val a1 a2 a3 a4 a5 a6) → (∀ (post' : ρ → Prop) (b1 : A1) (b2 : A2) (b3 : A3) (b4 : A4) (b5 : A5) (b6 : A6), ok b1 b2 b3 b4 b5 b6 → μ b1 b2 b3 b4 b5 b6 < μ a1 a2 a3 a4 a5 a6 → post' (val b1 b2 b3 b4 b5 b6) → W d post' b1 b2 b3 b4 b5 b6) → W (d + 1) post a1 a2 a3 a4 a5 a6) :
    ∀ (d : Nat) (post : ρ → Prop) (a1 : A1) (a2 : A2) (a3 : A3) (a4 : A4) (a5 : A5) (a6 : A6), ok a1 a2 a3 a4 a5 a6 → μ a1 a2 a3 a4 a5 a6 < d → post (val a1 a2 a3 a4 a5 a6) → W d post a1 a2 a3 a4 a5 a6 := by
  intro d
  induction d with
  | zero => intro post a1 a2 a3 a4 a5 a6 _ h; omega
  | succ d ih =>
    intro post a1 a2 a3 a4 a5 a6 ho hm hp
    exact hs d post a1 a2 a3 a4 a5 a6 ho hp (fun post' b1 b2 b3 b4 b5 b6 ho' hm' hp' => ih post' b1 b2 b3 b4 b5 b6 ho' (by omega) hp')
theorem rec_p {σ ρ : Type} (W : Nat → (ρ → Prop) → σ → Prop) (ok : σ → Prop) (μ : σ → Nat) (val : σ → ρ)
    (hs : ∀ d s post, ok s → post (val s) → (∀ s' post', ok s' → μ s' < μ s → post' (val s') → W d post' s') → W (d + 1) post s) :
    ∀ d s post, ok s → μ s < d → post (val s) → W d post s := by
  intro d
  induction d with
  | zero => intro s post _ h; omega
  | succ d ih =>
    intro s post ho hm hp
    exact hs d s post ho hp (fun s' post' ho' hm' hp' => ih s' post' ho' (by omega) hp')
theorem rec_q {σ ρ : Type} (W : Nat → (ρ → Prop) → σ → Prop) (ok : σ → Prop) (μ : σ → Nat) (Q : σ → ρ → Prop)
    (hs : ∀ d s post, ok s → (∀ r, Q s r → post r) → (∀ s' post', ok s' → μ s' < μ s → (∀ r, Q s' r → post' r) → W d post' s') → W (d + 1) post s) :
    ∀ d s post, ok s → μ s < d → (∀ r, Q s r → post r) → W d post s := by
  intro d
  induction d with
  | zero => intro s post _ h; omega
  | succ d ih =>
    intro s post ho hm hp
    exact hs d s post ho hp (fun s' post' ho' hm' hp' => ih s' post' ho' (by omega) hp')
def bx_sum (f : Nat → Int32) : Nat → Int32
  | 0 => 0
  | n + 1 => bx_sum f n + f n
theorem ek_u {A : Prop} {B : Nat → Prop} {k N : Nat} (hk : k < N) (h : B k) : (some k = none → A) ∧ (∀ y : Nat, some k = some y → (y < N ∧ B y)) :=
  ⟨fun z => absurd z (Option.some_ne_none k), fun _ e => (by cases e; exact ⟨hk, h⟩)⟩
theorem ek_nu {A : Prop} {B : Nat → Prop} (h : A) : ((none : Option Nat) = none → A) ∧ (∀ y : Nat, (none : Option Nat) = some y → B y) :=
  ⟨fun _ => h, fun _ e => (by cases e)⟩
theorem ek_if {c d A B : Prop} (e : c ↔ d) (f : d → A) (g : ¬ d → B) : (c → A) ∧ (¬ c → B) :=
  ⟨fun z => f (e.mp z), fun z => g (fun y => z (e.mpr y))⟩
theorem ek_v {α : Sort _} {P : α → Prop} {a b : α} (e : a = b) (h : P b) : P a := e ▸ h
theorem co_some {x : Option Nat} {A : Prop} {B : Nat → Prop} (i : Nat) (h : B i) (hx : x = some i := by rfl) : (x = none → A) ∧ (∀ y : Nat, x = some y → B y) := by
  subst hx
  exact ⟨fun e => (nomatch e), fun y e => Option.some.inj e ▸ h⟩
theorem co_none {x : Option Nat} {A : Prop} {B : Nat → Prop} (h : A) (hx : x = none := by rfl) : (x = none → A) ∧ (∀ y : Nat, x = some y → B y) := by
  subst hx
  exact ⟨fun _ => h, fun y e => (nomatch e)⟩
theorem co_any {x : Option Nat} {A : Prop} {B : Nat → Prop} (hn : x = none → A) (hs : ∀ i : Nat, x = some i → B i) : (x = none → A) ∧ (∀ y : Nat, x = some y → B y) := ⟨hn, hs⟩
theorem co_2 {P : Nat → Prop} (h0 : P 0) (h1 : P 1) {i : Nat} (hi : i < 2) : P i :=
  match i, hi with
  | 0, _ => h0
  | 1, _ => h1
theorem co_3 {P : Nat → Prop} (h0 : P 0) (h1 : P 1) (h2 : P 2) {i : Nat} (hi : i < 3) : P i :=
  match i, hi with
  | 0, _ => h0
  | 1, _ => h1
  | 2, _ => h2
theorem co_4 {P : Nat → Prop} (h0 : P 0) (h1 : P 1) (h2 : P 2) (h3 : P 3) {i : Nat} (hi : i < 4) : P i :=
  match i, hi with
  | 0, _ => h0
  | 1, _ => h1
  | 2, _ => h2
  | 3, _ => h3
theorem co_dec {N : Nat} {P : Nat → Prop} [DecidablePred P] (h : (List.range N).all (fun i => decide (P i)) = true) {i : Nat} (hi : i < N) : P i := by
  have := List.all_eq_true.mp h i (List.mem_range.mpr hi)
  exact of_decide_eq_true this
theorem co_tab {α : Type} {l : List α} {d : α} {P : α → Prop} (h : ∀ a, a ∈ l → P a) {i : Nat} (hi : i < l.length) : P (l.getD i d) := by
  rw [List.getD_eq_getElem?_getD, List.getElem?_eq_getElem hi]
  exact h _ (List.getElem_mem hi)
theorem pk_mu {x : Int32} {L : Nat} (h0 : ¬ x < 0) (h : ¬ nI L ≤ x) (hL : L < 2 ^ 31) : ∃ j : Nat, j < L ∧ x = nI j ∧ x + 1 = nI (j + 1) ∧ x.toNatClampNeg = j ∧ L - (x + 1).toNatClampNeg < L - x.toNatClampNeg := by
  obtain ⟨j, hj, rfl⟩ := nI_of h0
  have hl : j < L := Nat.not_le.mp fun q => h (nI_le q hj)
  refine ⟨j, hl, rfl, nI_1 j, nI_clamp hj, ?_⟩
  rw [nI_1, nI_clamp (by omega), nI_clamp hj]
  omega
theorem op_s {α : Type} {r : Option α} {A : Prop} {B : α → Prop} {y : α} (h : r = some y) (b : B y) : (r = none → A) ∧ ∀ z, r = some z → B z :=
  ⟨fun e => (by rw [h] at e; cases e), fun z e => (by rw [h] at e; cases e; exact b)⟩
def l_holds {α : Type} (a : Nat → Option Nat) (LP : List Nat) (p : Nat → α) (c : Nat) (b : Nat → α) : Prop :=
  ∀ j, j < c → ∃ y, a j = some y ∧ y ∈ LP ∧ p y = b j
theorem l_holds_0 {α : Type} {a : Nat → Option Nat} {LP : List Nat} {p b : Nat → α} : l_holds a LP p 0 b := fun j h => absurd h (Nat.not_lt_zero j)
theorem l_in_new (LP : List Nat) (q : Nat) : q ∈ LP ++ [q] := List.mem_append.mpr (Or.inr (List.mem_singleton.mpr rfl))
def l_sum (b : Nat → Int32) : Nat → Int32
  | 0 => 0
  | k + 1 => l_sum b k + b k
theorem sb_shr0 (x : Int32) : x >>> ((0 : Int32) &&& 31) = x := by
  rw [show ((0 : Int32) &&& 31) = 0 by decide]
  simp
theorem sb_shl0 (x : Int32) : x <<< ((0 : Int32) &&& 31) = x := by
  rw [show ((0 : Int32) &&& 31) = 0 by decide]
  simp
theorem sb_cl0 : (0 : Int32).toNatClampNeg = 0 := by decide
theorem sb_m1 {p : Nat} (h : 0 < p) : nI p + (-1) = nI (p - 1) := by
  obtain ⟨q, rfl⟩ : ∃ q, p = q + 1 := ⟨p - 1, by omega⟩
  exact pk_m1 q
def sb_b (c : Nat) : Int32 := (nI c).toInt8.toInt32
theorem sb_byte : ∀ c, c < 256 → sb_b c &&& 255 = nI c ∧ ((nI c).toUInt32 % 65536).toInt32 = nI c ∧ nI c ≤ 255 := by decide +kernel
def sb_Fit (a : Nat → Int32) : Prop := ∀ j, fits .byte (.int (a j)) = true
def sb_Lat (t : Nat → Nat) (n : Nat) (a : Nat → Int32) : Prop := ∀ j, j < n → t j < 256 ∧ a j = sb_b (t j)
theorem sb_fitB (c : Nat) : fits .byte (.int (sb_b c)) = true := pk_fb _
theorem sb_fit0 : sb_Fit (fun _ => 0) := fun _ => by
  show fits .byte (.int 0) = true
  decide
theorem sb_fitU {a : Nat → Int32} {k : Nat} {x : Int32} (h : sb_Fit a) (hx : fits .byte (.int x) = true) : sb_Fit (upd a k x) := by
  intro j
  by_cases e : j = k
  · subst e
    rw [pk_us]
    exact hx
  · rw [pk_un e]
    exact h j
def sb_cat (t : Nat → Nat) (n : Nat) (s : Nat → Nat) : Nat → Nat := fun j => if j < n then t j else s (j - n)
theorem sb_cat_lo {t s : Nat → Nat} {n j : Nat} (h : j < n) : sb_cat t n s j = t j := if_pos h
theorem sb_cat_hi {t s : Nat → Nat} {n j : Nat} : sb_cat t n s (n + j) = s j := by
  show (if n + j < n then t (n + j) else s (n + j - n)) = s j
  rw [if_neg (by omega), Nat.add_sub_cancel_left]
theorem sb_latPut {t s : Nat → Nat} {n w : Nat} {a a' : Nat → Int32} (h : sb_Lat t n a) (hk : ∀ j, j < n → a' j = a j) (hs : ∀ i, i < w → s i < 256 ∧ a' (n + i) = sb_b (s i)) : sb_Lat (sb_cat t n s) (n + w) a' := by
  intro j hj
  by_cases e : j < n
  · rw [sb_cat_lo e, hk j e]
    exact h j e
  · obtain ⟨i, rfl⟩ : ∃ i, j = n + i := ⟨j - n, by omega⟩
    rw [sb_cat_hi]
    exact hs i (by omega)
theorem sb_latKeep {t : Nat → Nat} {n : Nat} {a a' : Nat → Int32} (h : sb_Lat t n a) (hk : ∀ j, j < n → a' j = a j) : sb_Lat t n a' := fun j hj => by
  rw [hk j hj]
  exact h j hj
def sb_cap (q m : Nat) : Nat := if q ≤ m then m else if 2 * m + 2 < q then q else 2 * m + 2
def sb_Room (q m mc ms : Nat) : Prop := q ≤ m ∨ (1 ≤ mc ∧ sb_cap q m ≤ ms ∧ sb_cap q m ≤ 65536)
theorem sb_cap_ge (q m : Nat) : q ≤ sb_cap q m := by
  unfold sb_cap
  split
  · omega
  · split <;> omega
theorem sb_cap_gem (q m : Nat) : m ≤ sb_cap q m := by
  unfold sb_cap
  split
  · omega
  · split <;> omega
theorem sb_cap_le {q m mc ms : Nat} (hm : m ≤ 65536) (hr : sb_Room q m mc ms) : sb_cap q m ≤ 65536 := by
  rcases hr with h | h
  · rw [sb_cap, if_pos h]
    exact hm
  · exact h.2.2
theorem sb_at {P : Int32 → Prop} {x y : Int32} (e : x = y) (h : P y) : P x := e ▸ h
def sb_dg (w : Nat) : Nat := if w < 10 then 1 else if w < 100 then 2 else if w < 1000 then 3 else if w < 10000 then 4 else if w < 100000 then 5 else if w < 1000000 then 6 else if w < 10000000 then 7 else if w < 100000000 then 8 else if w < 1000000000 then 9 else 10
def sb_dec (v : Nat) : Nat → Nat := fun i => 48 + v / 10 ^ (sb_dg v - 1 - i) % 10
theorem sb_dg_in (w : Nat) : 1 ≤ sb_dg w ∧ sb_dg w ≤ 10 := by
  unfold sb_dg
  constructor <;> (repeat' split) <;> omega
theorem sb_dg100 {w : Nat} (h : 100 ≤ w) (hw : w < 2 ^ 31) : sb_dg w = sb_dg (w / 100) + 2 := by
  rw [sb_dg, sb_dg, if_neg (show ¬ w < 10 by omega), if_neg (show ¬ w < 100 by omega)]
  by_cases h3 : w < 1000
  · rw [if_pos h3, if_pos (show w / 100 < 10 by omega)]
  rw [if_neg h3, if_neg (show ¬ w / 100 < 10 by omega)]
  by_cases h4 : w < 10000
  · rw [if_pos h4, if_pos (show w / 100 < 100 by omega)]
  rw [if_neg h4, if_neg (show ¬ w / 100 < 100 by omega)]
  by_cases h5 : w < 100000
  · rw [if_pos h5, if_pos (show w / 100 < 1000 by omega)]
  rw [if_neg h5, if_neg (show ¬ w / 100 < 1000 by omega)]
  by_cases h6 : w < 1000000
  · rw [if_pos h6, if_pos (show w / 100 < 10000 by omega)]
  rw [if_neg h6, if_neg (show ¬ w / 100 < 10000 by omega)]
  by_cases h7 : w < 10000000
  · rw [if_pos h7, if_pos (show w / 100 < 100000 by omega)]
  rw [if_neg h7, if_neg (show ¬ w / 100 < 100000 by omega)]
  by_cases h8 : w < 100000000
  · rw [if_pos h8, if_pos (show w / 100 < 1000000 by omega)]
  rw [if_neg h8, if_neg (show ¬ w / 100 < 1000000 by omega)]
  by_cases h9 : w < 1000000000
  · rw [if_pos h9, if_pos (show w / 100 < 10000000 by omega)]
  rw [if_neg h9, if_neg (show ¬ w / 100 < 10000000 by omega)]
  rw [if_pos (show w / 100 < 100000000 by omega)]
theorem sb_negT {w : Nat} (h : w < 2 ^ 31) : (-nI w).toInt = -(w : Int) := by
  rw [Int32.toInt_neg, nI_toInt h]
  exact Int.bmod_eq_of_le (by omega) (by omega)
theorem sb_nle {a b : Nat} (ha : a < 2 ^ 31) (hb : b < 2 ^ 31) : -nI a ≤ -nI b ↔ b ≤ a := by
  rw [Int32.le_iff_toInt_le, sb_negT ha, sb_negT hb]
  omega
theorem sb_nlt {a b : Nat} (ha : a < 2 ^ 31) (hb : b < 2 ^ 31) : -nI a < -nI b ↔ b < a := by
  rw [Int32.lt_iff_toInt_lt, sb_negT ha, sb_negT hb]
  omega
theorem sb_cmp {A B : Prop} {x : Int32} (v c : Nat) (f : c ≤ v → A) (g : v < c → B) (hv : v < 2 ^ 31) (hx : x = -nI c := by rfl) (hc : c < 2 ^ 31 := by omega) : (-nI v ≤ x → A) ∧ (¬ -nI v ≤ x → B) := by
  subst hx
  rw [sb_nle hv hc]
  exact ⟨f, fun z => g (by omega)⟩
theorem sb_ndiv {w : Nat} (hw : w < 2 ^ 31) : (-nI w) / 100 = -nI (w / 100) := by
  apply Int32.toInt_inj.mp
  have h100 : (100 : Int32).toInt = 100 := by decide
  rw [Int32.toInt_div, sb_negT hw, h100, sb_negT (by omega), Int.neg_tdiv, Int.tdiv_eq_ediv_of_nonneg (by omega), Int.bmod_eq_of_le (by omega) (by omega)]
  omega
theorem sb_nrem {w : Nat} (hw : w < 2 ^ 31) : (-nI (w / 100)) * 100 - (-nI w) = nI (w % 100) := by
  have h := pk_rem (a := w) (d := 100) hw (by decide) (by decide)
  rw [pk_div hw (by decide) (by decide)] at h
  rw [← h]
  show (-nI (w / 100)) * nI 100 - (-nI w) = nI w - nI (w / 100) * nI 100
  rw [Int32.neg_mul, Int32.sub_neg, Int32.add_comm, ← Int32.sub_eq_add_neg]
end
section
/-! rows on bits, shifts and unsigned numbers, to paste: each family out of a closed proof of our own, whole with what it rests on; each by itself clean at Lean in its own claim (generation 39, form 5). Take a family whole -/
/-! ===== Int32 by its bits: bt x i ===== -/
def bt (x : Int32) (i : Nat) : Bool := x.toBitVec.getLsbD i
theorem b_ext {x y : Int32} (h : ∀ i, i < 32 → bt x i = bt y i) : x = y := Int32.toBitVec_inj.mp (BitVec.eq_of_getLsbD_eq (fun i hi => h i hi))
theorem b_or (x y : Int32) (i : Nat) : bt (x ||| y) i = (bt x i || bt y i) := by unfold bt; rw [Int32.toBitVec_or, BitVec.getLsbD_or]
theorem b_and (x y : Int32) (i : Nat) : bt (x &&& y) i = (bt x i && bt y i) := by unfold bt; rw [Int32.toBitVec_and, BitVec.getLsbD_and]
theorem b_xor (x y : Int32) (i : Nat) : bt (x ^^^ y) i = (bt x i ^^ bt y i) := by unfold bt; rw [Int32.toBitVec_xor, BitVec.getLsbD_xor]
theorem b_big {x : Int32} {i : Nat} (h : 32 ≤ i) : bt x i = false := BitVec.getLsbD_of_ge _ _ h
theorem b_255 (i : Nat) : bt 255 i = decide (i < 8) := by
  rcases Nat.lt_or_ge i 32 with h | h
  · exact (by decide +kernel : ∀ i, i < 32 → bt 255 i = decide (i < 8)) i h
  · rw [b_big h, decide_eq_false (by omega)]
theorem b_65535 (i : Nat) : bt 65535 i = decide (i < 16) := by
  rcases Nat.lt_or_ge i 32 with h | h
  · exact (by decide +kernel : ∀ i, i < 32 → bt 65535 i = decide (i < 16)) i h
  · rw [b_big h, decide_eq_false (by omega)]
theorem b_m1 : ∀ i, i < 32 → bt (-1) i = true := by decide +kernel
theorem b_0 (i : Nat) : bt 0 i = false := BitVec.getLsbD_zero
theorem s_l : ∀ n, n < 32 → ((nI n &&& 31).toBitVec.smod 32).toNat = n := by decide +kernel
theorem s_u : ∀ n, n < 32 → (((nI n).toUInt32 &&& Int32.toUInt32 31).toBitVec % 32).toNat = n := by decide +kernel
theorem b_shl (n : Nat) (hn : n < 32) (x : Int32) {i : Nat} (hi : i < 32) : bt (x <<< (nI n &&& 31)) i = (decide (n ≤ i) && bt x (i - n)) := by
  unfold bt
  rw [Int32.toBitVec_shiftLeft]
  show (x.toBitVec <<< ((nI n &&& 31).toBitVec.smod 32).toNat).getLsbD i = _
  rw [s_l n hn, BitVec.getLsbD_shiftLeft]
  rcases Nat.lt_or_ge i n with h | h
  · simp [h, Nat.not_le.mpr h]
  · simp [hi, h, Nat.not_lt.mpr h]
theorem b_ushr (n : Nat) (hn : n < 32) (x : Int32) (i : Nat) : bt ((x.toUInt32 >>> ((nI n).toUInt32 &&& Int32.toUInt32 31)).toInt32) i = bt x (n + i) := by
  show (x.toUInt32 >>> ((nI n).toUInt32 &&& Int32.toUInt32 31)).toBitVec.getLsbD i = x.toUInt32.toBitVec.getLsbD (n + i)
  rw [UInt32.toBitVec_shiftRight]
  show (x.toUInt32.toBitVec >>> (((nI n).toUInt32 &&& Int32.toUInt32 31).toBitVec % 32).toNat).getLsbD i = _
  rw [s_u n hn, BitVec.getLsbD_ushiftRight]
theorem b_sshr (n : Nat) (hn : n < 32) (x : Int32) {i : Nat} (hi : i < 32) : bt (x >>> (nI n &&& 31)) i = if n + i < 32 then bt x (n + i) else bt x 31 := by
  unfold bt
  rw [Int32.toBitVec_shiftRight]
  show (x.toBitVec.sshiftRight ((nI n &&& 31).toBitVec.smod 32).toNat).getLsbD i = _
  rw [s_l n hn, BitVec.getLsbD_sshiftRight, BitVec.msb_eq_getLsbD_last]
  simp [hi]
theorem b_shl8 (x : Int32) {i : Nat} (hi : i < 32) : bt (x <<< ((8 : Int32) &&& 31)) i = (decide (8 ≤ i) && bt x (i - 8)) := b_shl 8 (by omega) x hi
theorem b_shl16 (x : Int32) {i : Nat} (hi : i < 32) : bt (x <<< ((16 : Int32) &&& 31)) i = (decide (16 ≤ i) && bt x (i - 16)) := b_shl 16 (by omega) x hi
theorem b_shl24 (x : Int32) {i : Nat} (hi : i < 32) : bt (x <<< ((24 : Int32) &&& 31)) i = (decide (24 ≤ i) && bt x (i - 24)) := b_shl 24 (by omega) x hi
theorem b_sshr8 (x : Int32) {i : Nat} (hi : i < 32) : bt (x >>> ((8 : Int32) &&& 31)) i = if 8 + i < 32 then bt x (8 + i) else bt x 31 := b_sshr 8 (by omega) x hi
/-! ===== nI under and, xor, >>>, one bit, 65535 ===== -/
theorem nx_and (a b : Nat) : nI a &&& nI b = nI (a &&& b) := by
  apply Int32.toBitVec_inj.1
  show BitVec.ofNat 32 a &&& BitVec.ofNat 32 b = BitVec.ofNat 32 (a &&& b)
  apply BitVec.eq_of_getLsbD_eq
  intro i hi
  simp [hi]
theorem nx_xor (a b : Nat) : nI a ^^^ nI b = nI (a ^^^ b) := by
  apply Int32.toBitVec_inj.1
  show BitVec.ofNat 32 a ^^^ BitVec.ofNat 32 b = BitVec.ofNat 32 (a ^^^ b)
  apply BitVec.eq_of_getLsbD_eq
  intro i hi
  simp [hi]
theorem nx_cnt : ∀ j : Fin 32, (UInt32.ofNat j.val &&& Int32.toUInt32 31).toNat % 32 = j.val := by decide +kernel
theorem nx_ush {k j : Nat} (hk : k < 65536) (hj : j < 32) : ((nI k).toUInt32 >>> ((nI j).toUInt32 &&& Int32.toUInt32 31)).toInt32 = nI (k >>> j) := by
  have hs : k >>> j ≤ k := by
    rw [Nat.shiftRight_eq_div_pow]
    exact Nat.div_le_self _ _
  have e2 : UInt32.ofNat k >>> (UInt32.ofNat j &&& Int32.toUInt32 31) = UInt32.ofNat (k >>> j) := by
    apply UInt32.toNat_inj.1
    have h1 : (UInt32.ofNat k).toNat = k := Nat.mod_eq_of_lt (by omega)
    have h2 : (UInt32.ofNat (k >>> j)).toNat = k >>> j := Nat.mod_eq_of_lt (by omega)
    rw [UInt32.toNat_shiftRight, nx_cnt ⟨j, hj⟩, h1, h2]
  show (UInt32.ofNat k >>> (UInt32.ofNat j &&& Int32.toUInt32 31)).toInt32 = _
  rw [e2]
  rfl
theorem nx_bit {k j : Nat} (hk : k < 65536) (hj : j < 16) : (((nI k).toUInt32 >>> ((nI j).toUInt32 &&& Int32.toUInt32 31)).toInt32 &&& 1) = 0 ↔ k.testBit j = false := by
  rw [nx_ush hk (by omega)]
  show nI (k >>> j) &&& nI 1 = 0 ↔ _
  rw [nx_and, Nat.and_one_is_mod, ← nI_0, nI_eq (by omega) (by omega), Nat.testBit_eq_decide_div_mod_eq, Nat.shiftRight_eq_div_pow, decide_eq_false_iff_not]
  generalize k / 2 ^ j = z
  omega
theorem nx_mod (k : Nat) : nI k &&& 65535 = nI (k % 65536) := by
  show nI k &&& nI 65535 = _
  rw [nx_and, show (65535 : Nat) = 2 ^ 16 - 1 from rfl, Nat.and_two_pow_sub_one_eq_mod]
theorem nx_m16 {k : Nat} (h : k < 65536) : nI k &&& 65535 = nI k := by rw [nx_mod, Nat.mod_eq_of_lt h]
theorem nx_mask (x : Int32) : ∃ k, k < 65536 ∧ x &&& 65535 = nI k := by
  have e : x = nI x.toBitVec.toNat := by
    apply Int32.toBitVec_inj.1
    show x.toBitVec = BitVec.ofNat 32 x.toBitVec.toNat
    simp
  refine ⟨x.toBitVec.toNat % 65536, Nat.mod_lt _ (by omega), ?_⟩
  rw [← nx_mod, ← e]
/-! ===== Int32 as a set of bits: test, set ===== -/
def nf_M (m : Int32) : Nat := 4294967296 - m.toBitVec.toNat
theorem nf_sh : ∀ l, l < 32 → ((1 : Int32) <<< (nI l &&& 31)).toBitVec = BitVec.twoPow 32 l := by decide +kernel
theorem nf_sl : ∀ l, l < 32 → (((nI l).toUInt32 &&& Int32.toUInt32 31).toBitVec % 32).toNat = l := by decide +kernel
theorem nf_tp : ∀ l, l < 32 → BitVec.twoPow 32 l ≠ 0#32 := by decide +kernel
theorem nf_bit (m : Int32) (l : Nat) (hl : l < 32) : ((m.toUInt32 >>> ((nI l).toUInt32 &&& Int32.toUInt32 31)).toInt32 &&& 1) = 0 ↔ (m &&& ((1 : Int32) <<< (nI l &&& 31))) = 0 := by
  have e : ((m.toUInt32 >>> ((nI l).toUInt32 &&& Int32.toUInt32 31)).toInt32).toBitVec = m.toBitVec >>> l := by
    show m.toBitVec >>> (((nI l).toUInt32 &&& Int32.toUInt32 31).toBitVec % 32) = m.toBitVec >>> l
    rw [BitVec.ushiftRight_eq', nf_sl l hl]
  rw [← Int32.toBitVec_inj, ← Int32.toBitVec_inj, Int32.toBitVec_and, Int32.toBitVec_and, nf_sh l hl, e, BitVec.and_twoPow]
  show (m.toBitVec >>> l &&& 1#32) = 0#32 ↔ _ = 0#32
  rw [BitVec.and_one_eq_setWidth_ofBool_getLsbD, BitVec.getLsbD_ushiftRight, Nat.add_zero]
  cases hb : m.toBitVec.getLsbD l
  · exact ⟨fun _ => by simp, fun _ => by decide⟩
  · exact ⟨fun z => absurd z (by decide), fun z => absurd ((if_pos rfl).symm.trans z) (nf_tp l hl)⟩
theorem nf_gr (m k : Int32) (h : m &&& k = 0) (hk : k ≠ 0) : nf_M (m ||| k) < nf_M m := by
  have hm := m.toBitVec.isLt
  have hm' := (m ||| k).toBitVec.isLt
  have h1 : m.toBitVec.toNat ≤ (m ||| k).toBitVec.toNat := by
    rw [Int32.toBitVec_or, BitVec.toNat_or]
    exact Nat.left_le_or
  have h2 : m.toBitVec.toNat ≠ (m ||| k).toBitVec.toNat := by
    intro e
    have e2 : m = m ||| k := Int32.toBitVec_inj.mp (BitVec.eq_of_toNat_eq e)
    apply hk
    apply Int32.toBitVec_inj.mp
    show k.toBitVec = 0#32
    apply BitVec.eq_of_getLsbD_eq
    intro i hi
    have a : m.toBitVec.getLsbD i = (m.toBitVec.getLsbD i || k.toBitVec.getLsbD i) := by rw [← BitVec.getLsbD_or, ← Int32.toBitVec_or, ← e2]
    have b : (m.toBitVec.getLsbD i && k.toBitVec.getLsbD i) = false := by
      rw [← BitVec.getLsbD_and, ← Int32.toBitVec_and, h]
      exact BitVec.getLsbD_zero
    rw [BitVec.getLsbD_zero]
    revert a b
    cases m.toBitVec.getLsbD i <;> cases k.toBitVec.getLsbD i <;> simp
  unfold nf_M
  omega
/-! ===== a byte read unsigned ===== -/
theorem bp_b (x : Int32) : x.toInt8.toInt32 &&& 255 = x &&& 255 := by
  apply Int32.toBitVec_inj.mp
  rw [Int32.toBitVec_and, Int32.toBitVec_and, Int8.toBitVec_toInt32, Int32.toBitVec_toInt8]
  apply BitVec.eq_of_getLsbD_eq
  intro i hi
  rw [BitVec.getLsbD_and, BitVec.getLsbD_and]
  have hm : ∀ i < 32, 8 ≤ i → (255 : Int32).toBitVec.getLsbD i = false := by decide
  rcases Nat.lt_or_ge i 8 with z | z
  · rw [BitVec.getLsbD_signExtend, BitVec.getLsbD_signExtend, if_pos z, if_pos hi]
    simp only [z, hi, decide_true, Bool.true_and]
  · rw [hm i hi z]; simp
/-! ===== the char cast and 65535 ===== -/
theorem em_w (v : Int32) : ∃ w : Nat, w < 65536 ∧ (v.toUInt32 % 65536).toInt32 = nI w ∧ v &&& 65535 = nI w := by
  have hr := lw_u16_r v
  have h0 : (0 : Int32).toInt = 0 := by decide
  obtain ⟨w, h1, h2⟩ := nI_of (x := lw_u16 v) (by rw [Int32.lt_iff_toInt_lt]; omega)
  have h3 : (v.toUInt32 % 65536).toInt32 = nI w := h2
  rw [h2, nI_toInt h1] at hr
  exact ⟨w, by omega, h3, by rw [← lg_i2c_mask, ← lg_i2c_nf, h3]⟩
/-! ===== Int64 as a set of bits: test, set, clear ===== -/
theorem ts_nf {x : Bool} (h : ¬ x = false) : x = true := by cases x <;> first | rfl | exact absurd rfl h
theorem ts_nt {x : Bool} (h : ¬ x = true) : x = false := by cases x <;> first | rfl | exact absurd rfl h
theorem ts_bit {w : Int64} {s : UInt64} {j : Nat} (hj : j < 64) (hs : s.toNat = j) : ((w.toUInt64 >>> s).toInt64 &&& 1) = 0 ↔ w.toBitVec.getLsbD j = false := by
  have e : (w.toUInt64 >>> s).toInt64.toBitVec = w.toBitVec >>> j := by
    apply BitVec.eq_of_toNat_eq
    show (w.toUInt64 >>> s).toNat = _
    rw [UInt64.toNat_shiftRight, hs, Nat.mod_eq_of_lt hj, BitVec.toNat_ushiftRight]
    rfl
  rw [← Int64.toBitVec_inj, Int64.toBitVec_and, e]
  show w.toBitVec >>> j &&& 1#64 = 0#64 ↔ _
  constructor
  · intro h
    have t := congrArg (fun x => x.getLsbD 0) h
    simpa using t
  · intro h
    apply BitVec.eq_of_getLsbD_eq
    intro i hi
    cases i with
    | zero => simp [h]
    | succ i => simp
theorem ts_or {w m : Int64} {j : Nat} (hj : j < 64) (hm : m.toBitVec = BitVec.twoPow 64 j) : (w ||| m) = w ↔ w.toBitVec.getLsbD j = true := by
  rw [← Int64.toBitVec_inj, Int64.toBitVec_or, hm]
  constructor
  · intro h
    have t := congrArg (fun x => x.getLsbD j) h
    simp only [BitVec.getLsbD_or, BitVec.getLsbD_twoPow] at t
    simpa [hj] using t.symm
  · intro h
    apply BitVec.eq_of_getLsbD_eq
    intro i hi
    rw [BitVec.getLsbD_or, BitVec.getLsbD_twoPow]
    by_cases e : j = i
    · subst e; rw [h, Bool.true_or]
    · simp [e]
theorem ts_and {w m : Int64} {j : Nat} (hj : j < 64) (hm : m.toBitVec = BitVec.twoPow 64 j) : (w &&& (m ^^^ (-1))) = w ↔ w.toBitVec.getLsbD j = false := by
  have ha : (-1 : Int64).toBitVec = BitVec.allOnes 64 := by decide
  rw [← Int64.toBitVec_inj, Int64.toBitVec_and, Int64.toBitVec_xor, hm, ha]
  constructor
  · intro h
    have t := congrArg (fun x => x.getLsbD j) h
    simp only [BitVec.getLsbD_and, BitVec.getLsbD_xor, BitVec.getLsbD_twoPow, BitVec.getLsbD_allOnes] at t
    simpa [hj] using t.symm
  · intro h
    apply BitVec.eq_of_getLsbD_eq
    intro i hi
    rw [BitVec.getLsbD_and, BitVec.getLsbD_xor, BitVec.getLsbD_twoPow, BitVec.getLsbD_allOnes]
    by_cases e : j = i
    · subst e; rw [h, Bool.false_and]
    · simp [e, hi]
/-! ===== lN n to 2^64: shifts, and, or, masks, one bit ===== -/
theorem wb_tb (n : Nat) : (lN n).toBitVec = BitVec.ofNat 64 n := rfl
theorem wb_inj {a b : Int64} (h : a.toBitVec = b.toBitVec) : a = b := Int64.toBitVec_inj.mp h
theorem wb_tn {n : Nat} (h : n < 2 ^ 64) : (lN n).toBitVec.toNat = n := by rw [wb_tb, BitVec.toNat_ofNat, Nat.mod_eq_of_lt h]
theorem wb_of (x : Int64) : ∃ n, n < 2 ^ 64 ∧ x = lN n := ⟨x.toBitVec.toNat, x.toBitVec.isLt, wb_inj (by rw [wb_tb]; simp)⟩
theorem wb_of32 (x : Int32) : ∃ n, n < 2 ^ 32 ∧ x = nI n := ⟨x.toBitVec.toNat, x.toBitVec.isLt, Int32.toBitVec_inj.mp (by show _ = BitVec.ofNat 32 _; simp)⟩
theorem wb_c : ∀ k, k < 64 → ((nI k).toInt64 &&& 63) = lN k := by decide +kernel
theorem wb_cu : ∀ k, k < 64 → ((nI k).toInt64.toUInt64 &&& Int64.toUInt64 63) = UInt64.ofNat k := by decide +kernel
theorem wb_sm : ∀ k, k < 64 → (BitVec.ofNat 64 k).smod 64 = BitVec.ofNat 64 k := by decide +kernel
theorem wb_pw {a b : Nat} (h : a ≤ b) : 2 ^ b = 2 ^ a * 2 ^ (b - a) := by rw [← Nat.pow_add]; congr 1; omega
theorem wb_lt2 {a b : Nat} (h : a < b) : 2 ^ a < 2 ^ b := Nat.pow_lt_pow_right (by decide) h
theorem wb_mod (n : Nat) : lN n = lN (n % 2 ^ 64) := wb_inj (by rw [wb_tb, wb_tb]; apply BitVec.eq_of_toNat_eq; rw [BitVec.toNat_ofNat, BitVec.toNat_ofNat, Nat.mod_mod])
theorem wb_shr {n k : Nat} (hn : n < 2 ^ 64) (hk : k < 64) : ((lN n).toUInt64 >>> ((nI k).toInt64.toUInt64 &&& Int64.toUInt64 63)).toInt64 = lN (n / 2 ^ k) := by
  rw [wb_cu k hk]
  apply wb_inj
  apply BitVec.eq_of_toNat_eq
  show ((lN n).toUInt64 >>> UInt64.ofNat k).toNat = (BitVec.ofNat 64 _).toNat
  have h1 : (UInt64.ofNat k).toNat = k := by
    show (BitVec.ofNat 64 k).toNat = k
    rw [BitVec.toNat_ofNat, Nat.mod_eq_of_lt (by omega)]
  have h2 : (lN n).toUInt64.toNat = n := wb_tn hn
  rw [UInt64.toNat_shiftRight, h1, h2, Nat.mod_eq_of_lt hk, Nat.shiftRight_eq_div_pow, BitVec.toNat_ofNat, Nat.mod_eq_of_lt (Nat.lt_of_le_of_lt (Nat.div_le_self _ _) hn)]
theorem wb_shl (n : Nat) {k : Nat} (hk : k < 64) : lN n <<< ((nI k).toInt64 &&& 63) = lN (n * 2 ^ k) := by
  rw [wb_c k hk]
  apply wb_inj
  rw [Int64.toBitVec_shiftLeft, wb_tb, wb_tb, wb_tb, wb_sm k hk]
  apply BitVec.eq_of_toNat_eq
  rw [BitVec.shiftLeft_eq', BitVec.toNat_shiftLeft, BitVec.toNat_ofNat, BitVec.toNat_ofNat, BitVec.toNat_ofNat, Nat.mod_eq_of_lt (show k < 2 ^ 64 by omega), Nat.shiftLeft_eq, Nat.mul_mod, Nat.mod_mod, ← Nat.mul_mod]
theorem wb_and {a b : Nat} (ha : a < 2 ^ 64) (hb : b < 2 ^ 64) : lN a &&& lN b = lN (a &&& b) := by
  apply wb_inj
  rw [Int64.toBitVec_and, wb_tb, wb_tb, wb_tb]
  apply BitVec.eq_of_toNat_eq
  rw [BitVec.toNat_and, BitVec.toNat_ofNat, BitVec.toNat_ofNat, BitVec.toNat_ofNat, Nat.mod_eq_of_lt ha, Nat.mod_eq_of_lt hb, Nat.mod_eq_of_lt (Nat.and_lt_two_pow _ hb)]
theorem wb_or {a b : Nat} (ha : a < 2 ^ 64) (hb : b < 2 ^ 64) : lN a ||| lN b = lN (a ||| b) := by
  apply wb_inj
  rw [Int64.toBitVec_or, wb_tb, wb_tb, wb_tb]
  apply BitVec.eq_of_toNat_eq
  rw [BitVec.toNat_or, BitVec.toNat_ofNat, BitVec.toNat_ofNat, BitVec.toNat_ofNat, Nat.mod_eq_of_lt ha, Nat.mod_eq_of_lt hb, Nat.mod_eq_of_lt (Nat.or_lt_two_pow ha hb)]
theorem wb_mask {n k : Nat} (hn : n < 2 ^ 64) (hk : k < 64) : lN n &&& lN (2 ^ k - 1) = lN (n % 2 ^ k) := by
  rw [wb_and hn (by have := wb_lt2 hk; omega), Nat.and_two_pow_sub_one_eq_mod]
theorem wb_a1 {n : Nat} (hn : n < 2 ^ 64) : lN n &&& 1 = lN (n % 2) := wb_mask (k := 1) hn (by decide)
theorem wb_bit {n k : Nat} (hn : n < 2 ^ 64) (hk : k < 64) : ((lN n).toUInt64 >>> ((nI k).toInt64.toUInt64 &&& Int64.toUInt64 63)).toInt64 &&& 1 = lN (n / 2 ^ k % 2) := by
  rw [wb_shr hn hk, wb_a1 (Nat.lt_of_le_of_lt (Nat.div_le_self _ _) hn)]
theorem wb_xor {q k : Nat} (hk : k < 63) (h : 2 ^ k ≤ q) (h2 : q < 2 ^ (k + 1)) : lN q ^^^ lN (2 ^ k) = lN (q - 2 ^ k) := by
  obtain ⟨r, rfl⟩ : ∃ r, q = 2 ^ k + r := ⟨q - 2 ^ k, by omega⟩
  have hr : r < 2 ^ k := by rw [Nat.pow_succ] at h2; omega
  have hx : (2 ^ k + r) ^^^ 2 ^ k = r := by
    apply Nat.eq_of_testBit_eq
    intro i
    rw [Nat.testBit_xor, Nat.testBit_two_pow]
    rcases Nat.lt_trichotomy i k with h | h | h
    · rw [Nat.testBit_two_pow_add_gt h]
      simp [show ¬ k = i by omega]
    · subst h
      rw [Nat.testBit_two_pow_add_eq]
      simp
    · have a1 : 2 ^ (k + 1) ≤ 2 ^ i := Nat.pow_le_pow_right (by decide) h
      rw [Nat.testBit_lt_two_pow (show 2 ^ k + r < 2 ^ i by omega), Nat.testBit_lt_two_pow (show r < 2 ^ i by omega)]
      simp [show ¬ k = i by omega]
  have b1 := wb_lt2 (show k + 1 < 64 by omega)
  have b2 := wb_lt2 (show k < 64 by omega)
  apply wb_inj
  rw [Int64.toBitVec_xor, wb_tb, wb_tb, wb_tb]
  apply BitVec.eq_of_toNat_eq
  rw [BitVec.toNat_xor, BitVec.toNat_ofNat, BitVec.toNat_ofNat, BitVec.toNat_ofNat, Nat.mod_eq_of_lt (by omega : 2 ^ k + r < 2 ^ 64), Nat.mod_eq_of_lt b2, hx, Nat.add_sub_cancel_left, Nat.mod_eq_of_lt (by omega)]
/-! ===== lN: masks, 'or' of parts that don't overlap is a sum ===== -/
theorem u_tn {n : Nat} (h : n < 2 ^ 64) : (UInt64.ofNat n).toNat = n := Nat.mod_eq_of_lt h
theorem g_and {a b c : Nat} (ha : a < 2 ^ 64) (hb : b < 2 ^ 64) (hc : a &&& b = c) : lN a &&& lN b = lN c := by
  subst hc
  have h : UInt64.ofNat a &&& UInt64.ofNat b = UInt64.ofNat (a &&& b) := UInt64.toNat_inj.mp (by rw [UInt64.toNat_and, u_tn ha, u_tn hb, u_tn (Nat.and_lt_two_pow a hb)])
  have h2 := congrArg UInt64.toInt64 h
  exact h2
theorem g_and1 {a : Nat} (ha : a < 2 ^ 64) : lN a &&& 1 = lN (a % 2) := g_and (b := 1) ha (by decide) (Nat.and_two_pow_sub_one_eq_mod a 1)
theorem g_mask {a s p : Nat} (hp : 2 ^ s = p) (hs : s < 64) (ha : a < 2 ^ 64) : lN a &&& lN (p - 1) = lN (a % p) := by
  subst hp
  have := Nat.pow_lt_pow_right (show 1 < 2 by decide) hs
  exact g_and ha (by omega) (Nat.and_two_pow_sub_one_eq_mod a s)
theorem g_or {k p a b : Nat} (hp : 2 ^ k = p) (ha : a < p) (h : b * p + a < 2 ^ 64) : lN (b * p) ||| lN a = lN (b * p + a) := by
  subst hp
  have h1 : b * 2 ^ k ||| a = b * 2 ^ k + a := by rw [← Nat.shiftLeft_eq, Nat.shiftLeft_add_eq_or_of_lt ha]
  have h3 : UInt64.ofNat (b * 2 ^ k) ||| UInt64.ofNat a = UInt64.ofNat (b * 2 ^ k + a) := UInt64.toNat_inj.mp (by rw [UInt64.toNat_or, u_tn (by omega), u_tn (by omega), u_tn h, h1])
  have h2 := congrArg UInt64.toInt64 h3
  exact h2
theorem g_or' {k p a b : Nat} (hp : 2 ^ k = p) (ha : a < p) (h : a + b * p < 2 ^ 64) : lN a ||| lN (b * p) = lN (a + b * p) := by
  rw [Int64.or_comm, g_or hp ha (by omega), Nat.add_comm]
theorem g_ushr {a k p : Nat} {y : UInt64} (hy : y = UInt64.ofNat k) (hk : k < 64) (hp : 2 ^ k = p) (ha : a < 2 ^ 64) : ((lN a).toUInt64 >>> y).toInt64 = lN (a / p) := by
  subst hy hp
  have h : UInt64.ofNat a >>> UInt64.ofNat k = UInt64.ofNat (a / 2 ^ k) := UInt64.toNat_inj.mp (by rw [UInt64.toNat_shiftRight, u_tn ha, u_tn (by omega), u_tn (Nat.lt_of_le_of_lt (Nat.div_le_self _ _) ha), Nat.mod_eq_of_lt hk, Nat.shiftRight_eq_div_pow])
  have h2 := congrArg UInt64.toInt64 h
  exact h2
theorem g_shl {a k p : Nat} {y : Int64} (hy : y.toBitVec.smod 64 = BitVec.ofNat 64 k) (hk : k < 64) (hp : 2 ^ k = p) (ha : a < 2 ^ 64) : lN a <<< y = lN (a * p) := by
  subst hp
  apply Int64.toBitVec_inj.mp
  rw [Int64.toBitVec_shiftLeft, hy]
  apply BitVec.eq_of_toNat_eq
  have hb : (lN a).toBitVec.toNat = a := Nat.mod_eq_of_lt ha
  have hk' : (BitVec.ofNat 64 k).toNat = k := Nat.mod_eq_of_lt (by omega)
  have h : ((lN a).toBitVec <<< BitVec.ofNat 64 k).toNat = (a * 2 ^ k) % 2 ^ 64 := by simp only [BitVec.shiftLeft_eq', BitVec.toNat_shiftLeft, hb, hk', Nat.shiftLeft_eq]
  exact h
/-! ===== lN to 2^62 under >> and >>> ===== -/
theorem pf_lI {a : Nat} (h : a < 2 ^ 63) : (lN a).toInt = (a : Int) := lg_ofNat_toInt h
theorem pf_shr {a d : Nat} {D : Int64} (hD : (D.toBitVec.smod 64).toNat = d) (h : a < 2 ^ 62) : lN a >>> D = lN (a / 2 ^ d) := by
  have hd : a / 2 ^ d ≤ a := Nat.div_le_self _ _
  apply Int64.toInt_inj.mp
  have e : (lN a >>> D).toInt = (lN a).toInt >>> d := by
    rw [← hD]
    exact BitVec.toInt_sshiftRight ..
  rw [e, Int.shiftRight_eq_div_pow, pf_lI (by omega), pf_lI (by omega)]
  rfl
theorem pf_ushr {a d : Nat} {D : UInt64} (hD : D.toNat % 64 = d) (h : a < 2 ^ 62) : ((lN a).toUInt64 >>> D).toInt64 = lN (a / 2 ^ d) := by
  have hd : a / 2 ^ d ≤ a := Nat.div_le_self _ _
  have e : (lN a).toUInt64 >>> D = UInt64.ofNat (a / 2 ^ d) := UInt64.toNat_inj.mp (by
    rw [UInt64.toNat_shiftRight, hD, Nat.shiftRight_eq_div_pow, UInt64.toNat_ofNat']
    show (UInt64.ofNat a).toNat / 2 ^ d = _
    rw [UInt64.toNat_ofNat', Nat.mod_eq_of_lt (by omega), Nat.mod_eq_of_lt (by omega)])
  rw [e]
  rfl
theorem pf_andw (x : Int64) : ∃ m, m < 2 ^ 32 ∧ x &&& 4294967295 = lN m := ⟨x.toBitVec.toNat % 2 ^ 32, Nat.mod_lt _ (by decide), Int64.toBitVec_inj.mp (BitVec.eq_of_toNat_eq (by
  show (x.toBitVec &&& 4294967295#64).toNat = (BitVec.ofNat 64 (x.toBitVec.toNat % 2 ^ 32)).toNat
  rw [BitVec.toNat_and, show (4294967295#64).toNat = 2 ^ 32 - 1 from by decide, Nat.and_two_pow_sub_one_eq_mod, BitVec.toNat_ofNat]
  omega))⟩
/-! ===== Int64 as an unsigned number: uN x ===== -/
def uN (x : Int64) : Nat := x.toUInt64.toNat
theorem uN_lt (x : Int64) : uN x < 18446744073709551616 := x.toUInt64.toNat_lt
theorem uN_inj {x y : Int64} (h : uN x = uN y) : x = y := congrArg UInt64.toInt64 (UInt64.toNat_inj.mp h)
theorem uN_add (x y : Int64) : uN (x + y) = (uN x + uN y) % 18446744073709551616 := by
  show (x.toUInt64 + y.toUInt64).toNat = _
  exact UInt64.toNat_add _ _
theorem uN_mul (x y : Int64) : uN (x * y) = (uN x * uN y) % 18446744073709551616 := by
  show (x.toUInt64 * y.toUInt64).toNat = _
  exact UInt64.toNat_mul _ _
theorem uN_shl (x : Int64) : uN (x <<< ((1 : Int32).toInt64 &&& 63)) = (2 * uN x) % 18446744073709551616 := by
  have h : (((1 : Int32).toInt64 &&& 63).toBitVec.smod 64).toNat = 1 := by decide
  show (x.toBitVec <<< (((1 : Int32).toInt64 &&& 63).toBitVec.smod 64).toNat).toNat = _
  rw [h, BitVec.toNat_shiftLeft, Nat.shiftLeft_eq, Nat.mul_comm]
  rfl
theorem uN_shr (x : Int64) (s : UInt64) : uN (x.toUInt64 >>> s).toInt64 = uN x / 2 ^ (s.toNat % 64) := by
  show (x.toUInt64 >>> s).toNat = _
  rw [UInt64.toNat_shiftRight, Nat.shiftRight_eq_div_pow]
  rfl
theorem uN_s32 (x : Int64) : uN (x.toUInt64 >>> ((32 : Int32).toInt64.toUInt64 &&& Int64.toUInt64 63)).toInt64 = uN x / 4294967296 := by
  have h : ((32 : Int32).toInt64.toUInt64 &&& Int64.toUInt64 63).toNat % 64 = 32 := by decide
  rw [uN_shr, h]
theorem uN_s63 (x : Int64) : uN (x.toUInt64 >>> ((63 : Int32).toInt64.toUInt64 &&& Int64.toUInt64 63)).toInt64 = uN x / 9223372036854775808 := by
  have h : ((63 : Int32).toInt64.toUInt64 &&& Int64.toUInt64 63).toNat % 64 = 63 := by decide
  rw [uN_shr, h]
theorem uN_lo (x : Int64) : uN (x &&& 4294967295) = uN x % 4294967296 := by
  show (x.toUInt64 &&& Int64.toUInt64 4294967295).toNat = _
  rw [UInt64.toNat_and]
  exact Nat.and_two_pow_sub_one_eq_mod _ 32
theorem uN_bit (x : Int64) : (x &&& 1) = 0 ↔ uN x % 2 = 0 := by
  have h : uN (x &&& 1) = uN x % 2 := by
    show (x.toUInt64 &&& Int64.toUInt64 1).toNat = _
    rw [UInt64.toNat_and]
    exact Nat.and_two_pow_sub_one_eq_mod _ 1
  rw [← h]
  exact ⟨fun z => by rw [z]; rfl, fun z => uN_inj (z.trans rfl)⟩
theorem uN_or {x y : Int64} (hy : uN y < 2) : uN ((x <<< ((1 : Int32).toInt64 &&& 63)) ||| y) = (2 * uN x) % 18446744073709551616 + uN y := by
  have h1 : uN ((x <<< ((1 : Int32).toInt64 &&& 63)) ||| y) = uN (x <<< ((1 : Int32).toInt64 &&& 63)) ||| uN y := UInt64.toNat_or _ _
  have h2 : (2 * uN x) % 18446744073709551616 = 2 ^ 1 * (uN x % 9223372036854775808) := by omega
  rw [h1, uN_shl, h2]
  exact (Nat.two_pow_add_eq_or_of_lt (i := 1) hy _).symm
theorem nat_xor {a : Nat} (h : a < 18446744073709551616) : a ^^^ 2 ^ 63 = (a + 9223372036854775808) % 18446744073709551616 := by
  have h1 : (a ^^^ 2 ^ 63) % 2 ^ 63 = a % 2 ^ 63 := by rw [Nat.xor_mod_two_pow, Nat.mod_self, Nat.xor_zero]
  have h2 : (a ^^^ 2 ^ 63) / 2 ^ 63 = (a / 2 ^ 63) ^^^ 1 := by rw [Nat.xor_div_two_pow, Nat.div_self (Nat.two_pow_pos 63)]
  have h3 : a / 2 ^ 63 = 0 ∨ a / 2 ^ 63 = 1 := by omega
  generalize a ^^^ 2 ^ 63 = t at h1 h2
  rcases h3 with h3 | h3
  · rw [h3] at h2
    have h2 : t / 2 ^ 63 = 1 := h2
    omega
  · rw [h3] at h2
    have h2 : t / 2 ^ 63 = 0 := h2
    omega
theorem uN_xor (x : Int64) : uN (x ^^^ (-9223372036854775808)) = (uN x + 9223372036854775808) % 18446744073709551616 := by
  rw [← nat_xor (uN_lt x)]
  exact UInt64.toNat_xor _ _
theorem uN_int (x : Int64) : x.toInt = if 2 * uN x < 18446744073709551616 then (uN x : Int) else (uN x : Int) - 18446744073709551616 := BitVec.toInt_eq_toNat_cond _
theorem uN_le (x y : Int64) : (x ^^^ (-9223372036854775808)) ≤ (y ^^^ (-9223372036854775808)) ↔ uN x ≤ uN y := by
  have hx := uN_lt x
  have hy := uN_lt y
  rw [Int64.le_iff_toInt_le, uN_int, uN_int, uN_xor, uN_xor]
  omega
theorem uN_sk (x : Int64) {k : Nat} (hk : k < 64) : uN (x.toUInt64 >>> ((nI k).toInt64.toUInt64 &&& Int64.toUInt64 63)).toInt64 = uN x / 2 ^ k := by
  have h : ((nI k).toInt64.toUInt64 &&& Int64.toUInt64 63).toNat % 64 = k := by
    rw [nI_l (by omega), UInt64.toNat_and]
    have e : (lN k).toUInt64.toNat = k % 2 ^ 64 := rfl
    have e2 : (Int64.toUInt64 63).toNat = 2 ^ 6 - 1 := by decide
    rw [e, e2, Nat.and_two_pow_sub_one_eq_mod]
    omega
  rw [uN_shr, h]
/-! ===== unsigned comparison by xor with the least ===== -/
theorem lN_bv (n : Nat) : (lN n).toBitVec = BitVec.ofNat 64 n := rfl
theorem lN_nat {n : Nat} (h : n < 2 ^ 64) : (lN n).toBitVec.toNat = n := by rw [lN_bv, BitVec.toNat_ofNat]; exact Nat.mod_eq_of_lt h
theorem lN_xor (a b : Nat) : lN a ^^^ lN b = lN (a ^^^ b) := by
  apply Int64.toBitVec_inj.mp; rw [Int64.toBitVec_xor, lN_bv, lN_bv, lN_bv]; apply BitVec.eq_of_getLsbD_eq; intro i hi; simp [BitVec.getLsbD_ofNat, Nat.testBit_xor, hi]
theorem lN_ti {m : Nat} (h : m < 2 ^ 64) : (lN m).toInt = if m < 2 ^ 63 then (m : Int) else (m : Int) - 2 ^ 64 := by
  have c := BitVec.toInt_eq_toNat_cond (lN m).toBitVec
  rw [lN_nat h] at c
  show (lN m).toBitVec.toInt = _
  rw [c]
  split <;> split <;> omega
theorem xor63 {x : Nat} (h : x < 2 ^ 63) : x ^^^ 2 ^ 63 = 2 ^ 63 + x := by
  apply Nat.eq_of_testBit_eq
  intro i
  rw [Nat.testBit_xor, Nat.testBit_two_pow]
  rcases Nat.lt_trichotomy i 63 with z | z | z
  · rw [Nat.testBit_two_pow_add_gt z, decide_eq_false (by omega)]; simp
  · subst z; rw [Nat.testBit_two_pow_add_eq]; simp
  · have hp : 2 ^ 64 ≤ 2 ^ i := Nat.pow_le_pow_right (by decide) z
    rw [Nat.testBit_lt_two_pow (show x < 2 ^ i by omega), Nat.testBit_lt_two_pow (show 2 ^ 63 + x < 2 ^ i by omega), decide_eq_false (by omega)]; rfl
theorem xorS {a : Nat} (h : a < 2 ^ 64) : (lN a ^^^ (-9223372036854775808)).toInt = (a : Int) - 2 ^ 63 := by
  rw [show (-9223372036854775808 : Int64) = lN (2 ^ 63) from by decide +kernel, lN_xor]
  rcases Nat.lt_or_ge a (2 ^ 63) with z | z
  · rw [xor63 z, lN_ti (by omega), if_neg (by omega)]; omega
  · obtain ⟨x, rfl⟩ : ∃ x, a = 2 ^ 63 + x := ⟨a - 2 ^ 63, by omega⟩
    rw [← xor63 (by omega), Nat.xor_assoc, Nat.xor_self, Nat.xor_zero, lN_ti (by omega), if_pos (by omega), xor63 (by omega)]; omega
theorem ultL {a b : Nat} (ha : a < 2 ^ 64) (hb : b < 2 ^ 64) : ((lN b ^^^ (-9223372036854775808)) ≤ (lN a ^^^ (-9223372036854775808))) ↔ b ≤ a := by
  rw [Int64.le_iff_toInt_le, xorS ha, xorS hb]; omega
/-! ===== Int64 masks of n low bits ===== -/
theorem cr_bits (W U M : BitVec 64) : ((W &&& U) &&& (U &&& (M ^^^ BitVec.allOnes 64))) = 0#64 ↔ (W &&& U) &&& M = W &&& U := by
  constructor
  · intro h
    apply BitVec.eq_of_getLsbD_eq
    intro i hi
    have e := congrArg (fun x => BitVec.getLsbD x i) h
    simp only [BitVec.getLsbD_and, BitVec.getLsbD_xor, BitVec.getLsbD_allOnes, BitVec.getLsbD_zero, hi, decide_true] at e ⊢
    revert e
    cases W.getLsbD i <;> cases U.getLsbD i <;> cases M.getLsbD i <;> decide
  · intro h
    apply BitVec.eq_of_getLsbD_eq
    intro i hi
    have e := congrArg (fun x => BitVec.getLsbD x i) h
    simp only [BitVec.getLsbD_and, BitVec.getLsbD_xor, BitVec.getLsbD_allOnes, BitVec.getLsbD_zero, hi, decide_true] at e ⊢
    revert e
    cases W.getLsbD i <;> cases U.getLsbD i <;> cases M.getLsbD i <;> decide
theorem cr_mask (w U m : Int64) (n : Nat) (hm : m.toBitVec.toNat = 2 ^ n - 1) : ((w &&& U) &&& (U &&& (m ^^^ (-1)))) = 0 ↔ (w &&& U).toBitVec.toNat < 2 ^ n := by
  have e0 : (-1 : Int64).toBitVec = BitVec.allOnes 64 := by decide
  have z0 : (0 : Int64).toBitVec = 0#64 := by decide
  rw [← Int64.toBitVec_inj, z0, Int64.toBitVec_and, Int64.toBitVec_and, Int64.toBitVec_and, Int64.toBitVec_xor, e0, cr_bits]
  generalize w.toBitVec &&& U.toBitVec = T
  rw [← BitVec.toNat_inj, BitVec.toNat_and, hm, Nat.and_two_pow_sub_one_eq_mod]
  constructor
  · intro h
    have t := Nat.mod_lt T.toNat (Nat.two_pow_pos n)
    rw [h] at t
    exact t
  · exact Nat.mod_eq_of_lt
theorem cr_shr (t : Int64) (x : UInt64) (n : Nat) (hx : x.toNat % 64 = n) : (t.toUInt64 >>> x).toInt64 = 0 ↔ t.toBitVec.toNat < 2 ^ n := by
  rw [← Int64.toBitVec_inj, ← BitVec.toNat_inj]
  show (t.toUInt64 >>> x).toNat = 0 ↔ t.toUInt64.toNat < 2 ^ n
  rw [UInt64.toNat_shiftRight, hx, Nat.shiftRight_eq_div_pow]
  constructor
  · intro h
    have d : t.toUInt64.toNat / 2 ^ n < 1 := by
      rw [h]
      decide
    have e := (Nat.div_lt_iff_lt_mul (Nat.two_pow_pos n)).mp d
    rw [Nat.one_mul] at e
    exact e
  · exact Nat.div_eq_of_lt
theorem cr_amt (s : Int64) : ∃ n, n < 64 ∧ s &&& 63 = lN n ∧ (s.toUInt64 &&& Int64.toUInt64 63).toNat % 64 = n := by
  have e : (s.toUInt64 &&& Int64.toUInt64 63).toNat = s.toUInt64.toNat % 2 ^ 6 := by
    rw [UInt64.toNat_and, show (Int64.toUInt64 63).toNat = 2 ^ 6 - 1 from by decide, Nat.and_two_pow_sub_one_eq_mod]
  refine ⟨s.toUInt64.toNat % 2 ^ 6, by omega, ?_, by omega⟩
  rw [← Int64.toBitVec_inj, ← BitVec.toNat_inj]
  show (s.toUInt64 &&& Int64.toUInt64 63).toNat = (BitVec.ofNat 64 (s.toUInt64.toNat % 2 ^ 6)).toNat
  rw [e, BitVec.toNat_ofNat]
  omega
end
section
/-! trees (leaf: absent; branch c a b: constructor c with its values) -/
abbrev fg_T : Type := Lean.RArray Unit
abbrev fg_nil : fg_T := Lean.RArray.leaf ()
def fg_sz : fg_T → Nat
  | .leaf _ => 0
  | .branch _ a b => 1 + fg_sz a + fg_sz b
def fg_fl : fg_T → List Nat
  | .leaf _ => []
  | .branch c a b => c :: (fg_fl a ++ fg_fl b)
def fg_L : fg_T → fg_T
  | .leaf u => .leaf u
  | .branch _ a _ => a
def fg_R : fg_T → fg_T
  | .leaf u => .leaf u
  | .branch _ _ b => b
def fg_hd : fg_T → Nat
  | .leaf _ => 0
  | .branch c _ _ => c
def fg_sh (k : Nat) (a b : fg_T) : Prop := (k = 0 ∧ a = fg_nil ∧ b = fg_nil) ∨ (k = 1 ∧ a ≠ fg_nil ∧ b = fg_nil) ∨ (k = 2 ∧ a ≠ fg_nil ∧ b ≠ fg_nil)
def fg_ok (nc : Nat) (ar : Nat → Nat) : fg_T → Prop
  | .leaf _ => True
  | .branch c a b => c < nc ∧ fg_sh (ar c) a b ∧ fg_ok nc ar a ∧ fg_ok nc ar b
def fg_sub : fg_T → Nat → fg_T
  | .leaf u, _ => .leaf u
  | .branch c a b, 0 => .branch c a b
  | .branch _ a b, p + 1 => if p < fg_sz a then fg_sub a p else fg_sub b (p - fg_sz a)
theorem fg_nil_u (u : Unit) : (Lean.RArray.leaf u : fg_T) = fg_nil := rfl
theorem fg_ne_b {c : Nat} {a b : fg_T} : (Lean.RArray.branch c a b : fg_T) ≠ fg_nil := fun h => nomatch h
theorem fg_sz0 {t : fg_T} : fg_sz t = 0 ↔ t = fg_nil := by
  cases t with
  | leaf u => exact ⟨fun _ => rfl, fun _ => rfl⟩
  | branch c a b => exact ⟨fun h => by simp only [fg_sz] at h; omega, fun h => nomatch h⟩
theorem fg_szp {t : fg_T} (h : t ≠ fg_nil) : 0 < fg_sz t := by
  have := mt fg_sz0.mp h
  omega
theorem fg_fl_len (t : fg_T) : (fg_fl t).length = fg_sz t := by
  induction t with
  | leaf u => rfl
  | branch c a b iha ihb => simp only [fg_fl, fg_sz, List.length_cons, List.length_append, iha, ihb]; omega
theorem fg_br {t : fg_T} (h : t ≠ fg_nil) : t = .branch (fg_hd t) (fg_L t) (fg_R t) := by
  cases t with
  | leaf u => exact absurd rfl h
  | branch c a b => rfl
theorem fg_sz_br {t : fg_T} (h : t ≠ fg_nil) : fg_sz t = 1 + fg_sz (fg_L t) + fg_sz (fg_R t) := by
  cases t with
  | leaf u => exact absurd rfl h
  | branch c a b => rfl
theorem fg_sub0 (t : fg_T) : fg_sub t 0 = t := by
  cases t <;> rfl
theorem fg_subS (c : Nat) (a b : fg_T) (p : Nat) : fg_sub (.branch c a b) (p + 1) = if p < fg_sz a then fg_sub a p else fg_sub b (p - fg_sz a) := rfl
theorem fg_subL {c : Nat} {a b : fg_T} {p : Nat} (h : p < fg_sz a) : fg_sub (.branch c a b) (p + 1) = fg_sub a p := by rw [fg_subS, if_pos h]
theorem fg_subR {c : Nat} {a b : fg_T} {p : Nat} (h : fg_sz a ≤ p) : fg_sub (.branch c a b) (p + 1) = fg_sub b (p - fg_sz a) := by rw [fg_subS, if_neg (by omega)]
theorem fg_sub_ne : ∀ (t : fg_T) (p : Nat), p < fg_sz t → fg_sub t p ≠ fg_nil := by
  intro t
  induction t with
  | leaf u => intro p h; simp only [fg_sz] at h; omega
  | branch c a b iha ihb =>
    intro p h
    simp only [fg_sz] at h
    cases p with
    | zero => rw [fg_sub0]; exact fg_ne_b
    | succ p =>
      by_cases hp : p < fg_sz a
      · rw [fg_subL hp]; exact iha p hp
      · rw [fg_subR (by omega)]; exact ihb _ (by omega)
theorem fg_sub_ch : ∀ (t : fg_T) (p : Nat) (c : Nat) (a b : fg_T), p < fg_sz t → fg_sub t p = .branch c a b →
    (a ≠ fg_nil → fg_sub t (p + 1) = a) ∧ (b ≠ fg_nil → fg_sub t (p + 1 + fg_sz a) = b) ∧ p + 1 + fg_sz a + fg_sz b ≤ fg_sz t := by
  intro t
  induction t with
  | leaf u => intro p c a b h; simp only [fg_sz] at h; omega
  | branch c0 a0 b0 iha ihb =>
    intro p c a b h e
    simp only [fg_sz] at h ⊢
    cases p with
    | zero =>
      rw [fg_sub0] at e
      injection e with e1 e2 e3
      subst e1 e2 e3
      refine ⟨fun ha => ?_, fun hb => ?_, by omega⟩
      · rw [fg_subL (fg_szp ha), fg_sub0]
      · rw [show 0 + 1 + fg_sz a0 = fg_sz a0 + 1 by omega, fg_subR (Nat.le_refl _), Nat.sub_self, fg_sub0]
    | succ p =>
      by_cases hp : p < fg_sz a0
      · rw [fg_subL hp] at e
        obtain ⟨h1, h2, h3⟩ := iha p c a b hp e
        refine ⟨fun ha => ?_, fun hb => ?_, by omega⟩
        · have := fg_szp ha
          rw [fg_subL (by omega)]; exact h1 ha
        · have := fg_szp hb
          rw [show p + 1 + 1 + fg_sz a = (p + 1 + fg_sz a) + 1 by omega, fg_subL (by omega)]; exact h2 hb
      · rw [fg_subR (by omega)] at e
        obtain ⟨h1, h2, h3⟩ := ihb (p - fg_sz a0) c a b (by omega) e
        refine ⟨fun ha => ?_, fun hb => ?_, by omega⟩
        · rw [fg_subR (by omega), show p + 1 - fg_sz a0 = p - fg_sz a0 + 1 by omega]; exact h1 ha
        · rw [show p + 1 + 1 + fg_sz a = (p + 1 + fg_sz a) + 1 by omega, fg_subR (by omega), show p + 1 + fg_sz a - fg_sz a0 = p - fg_sz a0 + 1 + fg_sz a by omega]; exact h2 hb
theorem fg_sub_end {t : fg_T} {p : Nat} (h : p < fg_sz t) : p + fg_sz (fg_sub t p) ≤ fg_sz t := by
  have hn := fg_sub_ne t p h
  have e := fg_br hn
  have := (fg_sub_ch t p _ _ _ h e).2.2
  rw [fg_sz_br hn]; omega
theorem fg_subl {t : fg_T} {p : Nat} (h : p < fg_sz t) (hl : fg_L (fg_sub t p) ≠ fg_nil) : fg_sub t (p + 1) = fg_L (fg_sub t p) :=
  (fg_sub_ch t p _ _ _ h (fg_br (fg_sub_ne t p h))).1 hl
theorem fg_subr {t : fg_T} {p : Nat} (h : p < fg_sz t) (hl : fg_R (fg_sub t p) ≠ fg_nil) : fg_sub t (p + 1 + fg_sz (fg_L (fg_sub t p))) = fg_R (fg_sub t p) :=
  (fg_sub_ch t p _ _ _ h (fg_br (fg_sub_ne t p h))).2.1 hl
theorem fg_sube {t : fg_T} {p : Nat} (h : p < fg_sz t) : p + 1 + fg_sz (fg_L (fg_sub t p)) + fg_sz (fg_R (fg_sub t p)) ≤ fg_sz t :=
  (fg_sub_ch t p _ _ _ h (fg_br (fg_sub_ne t p h))).2.2
theorem fg_sub_fl : ∀ (t : fg_T) (p : Nat), p < fg_sz t → (fg_fl t)[p]? = some (fg_hd (fg_sub t p)) := by
  intro t
  induction t with
  | leaf u => intro p h; simp only [fg_sz] at h; omega
  | branch c a b iha ihb =>
    intro p h
    simp only [fg_sz] at h
    cases p with
    | zero => rfl
    | succ p =>
      have e : (fg_fl (.branch c a b : fg_T))[p + 1]? = (fg_fl a ++ fg_fl b)[p]? := rfl
      rw [e]
      by_cases hp : p < fg_sz a
      · rw [fg_subL hp, List.getElem?_append_left (by rw [fg_fl_len]; exact hp)]; exact iha p hp
      · rw [fg_subR (by omega), List.getElem?_append_right (by rw [fg_fl_len]; omega), fg_fl_len]; exact ihb _ (by omega)
theorem fg_ok_b {nc : Nat} {ar : Nat → Nat} {t : fg_T} (h : fg_ok nc ar t) (hn : t ≠ fg_nil) : fg_hd t < nc ∧ fg_sh (ar (fg_hd t)) (fg_L t) (fg_R t) ∧ fg_ok nc ar (fg_L t) ∧ fg_ok nc ar (fg_R t) := by
  cases t with
  | leaf u => exact absurd rfl hn
  | branch c a b => exact h
theorem fg_ok_sub {nc : Nat} {ar : Nat → Nat} : ∀ (t : fg_T) (p : Nat), fg_ok nc ar t → fg_ok nc ar (fg_sub t p) := by
  intro t
  induction t with
  | leaf u => intro p _; exact True.intro
  | branch c a b iha ihb =>
    intro p h
    cases p with
    | zero => exact h
    | succ p =>
      rw [fg_subS]
      by_cases hp : p < fg_sz a
      · rw [if_pos hp]; exact iha p h.2.2.1
      · rw [if_neg hp]; exact ihb _ h.2.2.2
theorem fg_ok_mono {nc nc' : Nat} {ar ar' : Nat → Nat} (hn : nc ≤ nc') (ha : ∀ c, c < nc → ar' c = ar c) : ∀ t : fg_T, fg_ok nc ar t → fg_ok nc' ar' t := by
  intro t
  induction t with
  | leaf u => intro _; exact True.intro
  | branch c a b iha ihb =>
    intro h
    exact ⟨Nat.lt_of_lt_of_le h.1 hn, by rw [ha c h.1]; exact h.2.1, iha h.2.2.1, ihb h.2.2.2⟩
/-- an array holds a list from a place on -/
def fg_at (a : Nat → Int32) (p : Nat) (l : List Nat) : Prop := ∀ i x, l[i]? = some x → a (p + i) = nI x
theorem fg_at_hd {a : Nat → Int32} {t : fg_T} {n p : Nat} (h : fg_at a n (fg_fl t)) (hp : p < fg_sz t) : a (n + p) = nI (fg_hd (fg_sub t p)) := h p _ (fg_sub_fl t p hp)
theorem fg_at_app {a : Nat → Int32} {p : Nat} {l m : List Nat} : fg_at a p (l ++ m) ↔ fg_at a p l ∧ fg_at a (p + l.length) m := by
  constructor
  · intro h
    refine ⟨fun i x e => h i x ?_, fun i x e => ?_⟩
    · have hi : i < l.length := by
        rcases Nat.lt_or_ge i l.length with z | z
        · exact z
        · rw [List.getElem?_eq_none z] at e; exact nomatch e
      rw [List.getElem?_append_left hi]; exact e
    · rw [Nat.add_assoc]
      refine h (l.length + i) x ?_
      rw [List.getElem?_append_right (by omega), Nat.add_sub_cancel_left]; exact e
  · rintro ⟨h1, h2⟩ i x e
    rcases Nat.lt_or_ge i l.length with z | z
    · rw [List.getElem?_append_left z] at e; exact h1 i x e
    · rw [List.getElem?_append_right z] at e
      have := h2 (i - l.length) x e
      rw [show p + l.length + (i - l.length) = p + i by omega] at this
      exact this
theorem fg_at_nil {a : Nat → Int32} {p : Nat} : fg_at a p [] := fun i x e => by simp at e
theorem fg_at_cons {a : Nat → Int32} {p x : Nat} {l : List Nat} : fg_at a p (x :: l) ↔ a p = nI x ∧ fg_at a (p + 1) l := by
  constructor
  · intro h
    refine ⟨h 0 x rfl, fun i y e => ?_⟩
    have := h (i + 1) y e
    rw [show p + 1 + i = p + (i + 1) by omega]; exact this
  · rintro ⟨h1, h2⟩ i y e
    cases i with
    | zero =>
      have e' : some x = some y := e
      injection e' with e'
      subst e'; exact h1
    | succ i =>
      have := h2 i y e
      rw [show p + (i + 1) = p + 1 + i by omega]; exact this
theorem fg_at_eq {a b : Nat → Int32} {p : Nat} {l : List Nat} (h : fg_at a p l) (e : ∀ i, i < l.length → b (p + i) = a (p + i)) : fg_at b p l := by
  intro i x hx
  have hi : i < l.length := by
    rcases Nat.lt_or_ge i l.length with z | z
    · exact z
    · rw [List.getElem?_eq_none z] at hx; exact nomatch hx
  rw [e i hi]; exact h i x hx
end
section
/-! patterns: operands, places behind parts, what matches -/
def fg_op (ar k v : Nat → Nat) (i : Nat) : Nat := if k i = 2 then ar (v i) else if k i = 3 then 2 else if k i = 4 then 1 else if k i = 5 then 1 else 0
def fg_P (o be : Nat → Nat) (n : Nat) : Prop := ∀ i, i < n → i < be i ∧ be i ≤ n ∧ ((o i = 0 ∧ be i = i + 1) ∨ (o i = 1 ∧ i + 1 < n ∧ be i = be (i + 1)) ∨ (o i = 2 ∧ i + 1 < n ∧ be (i + 1) < n ∧ be i = be (be (i + 1))))
def fg_mt (ar k v be : Nat → Nat) : Nat → Nat → fg_T → Bool
  | 0, _, _ => true
  | n + 1, i, t =>
    if k i = 2 then (fg_hd t == v i) && (ar (v i) == 0 || fg_mt ar k v be n (i + 1) (fg_L t)) && (decide (ar (v i) ≤ 1) || fg_mt ar k v be n (be (i + 1)) (fg_R t))
    else if k i = 3 then fg_mt ar k v be n (i + 1) t || fg_mt ar k v be n (be (i + 1)) t
    else if k i = 4 then !(fg_mt ar k v be n (i + 1) t)
    else true
section
variable {ar k v be : Nat → Nat} {N n i : Nat} {t : fg_T}
theorem fg_mt2 (hk : k i = 2) : fg_mt ar k v be (n + 1) i t = ((fg_hd t == v i) && (ar (v i) == 0 || fg_mt ar k v be n (i + 1) (fg_L t)) && (decide (ar (v i) ≤ 1) || fg_mt ar k v be n (be (i + 1)) (fg_R t))) := by
  rw [fg_mt, if_pos hk]
theorem fg_mt3 (hk : k i = 3) : fg_mt ar k v be (n + 1) i t = (fg_mt ar k v be n (i + 1) t || fg_mt ar k v be n (be (i + 1)) t) := by
  rw [fg_mt, if_neg (by omega), if_pos hk]
theorem fg_mt4 (hk : k i = 4) : fg_mt ar k v be (n + 1) i t = !(fg_mt ar k v be n (i + 1) t) := by
  rw [fg_mt, if_neg (by omega), if_neg (by omega), if_pos hk]
theorem fg_mt0 (h2 : k i ≠ 2) (h3 : k i ≠ 3) (h4 : k i ≠ 4) : fg_mt ar k v be (n + 1) i t = true := by
  rw [fg_mt, if_neg h2, if_neg h3, if_neg h4]
theorem fg_op2 (hk : k i = 2) : fg_op ar k v i = ar (v i) := by rw [fg_op, if_pos hk]
theorem fg_op3 (hk : k i = 3) : fg_op ar k v i = 2 := by rw [fg_op, if_neg (by omega), if_pos hk]
theorem fg_op4 (hk : k i = 4) : fg_op ar k v i = 1 := by rw [fg_op, if_neg (by omega), if_neg (by omega), if_pos hk]
theorem fg_op5 (hk : k i = 5) : fg_op ar k v i = 1 := by rw [fg_op, if_neg (by omega), if_neg (by omega), if_neg (by omega), if_pos hk]
theorem fg_op0 (h2 : k i ≠ 2) (h3 : k i ≠ 3) (h4 : k i ≠ 4) (h5 : k i ≠ 5) : fg_op ar k v i = 0 := by
  rw [fg_op, if_neg h2, if_neg h3, if_neg h4, if_neg h5]
theorem fg_op_le (ha : ∀ c, ar c ≤ 2) : fg_op ar k v i ≤ 2 := by
  unfold fg_op
  have := ha (v i)
  split
  · exact this
  · split
    · omega
    · split
      · omega
      · split <;> omega
theorem fg_op_cg {k' v' : Nat → Nat} {j : Nat} (hk : k' j = k i) (hv : k i = 2 → v' j = v i) : fg_op ar k' v' j = fg_op ar k v i := by
  unfold fg_op
  rw [hk]
  by_cases h : k i = 2
  · rw [if_pos h, if_pos h, hv h]
  · rw [if_neg h, if_neg h]
theorem fg_P1 {o : Nat → Nat} (hP : fg_P o be N) (hi : i < N) (h : o i ≠ 0) : i + 1 < N := by
  rcases (hP i hi).2.2 with z | z | z <;> omega
theorem fg_P2 {o : Nat → Nat} (hP : fg_P o be N) (hi : i < N) (h : o i = 2) : i + 1 < be (i + 1) ∧ be (i + 1) < N ∧ be i = be (be (i + 1)) := by
  rcases (hP i hi).2.2 with z | z | z
  · omega
  · omega
  · exact ⟨(hP (i + 1) z.2.1).1, z.2.2⟩
theorem fg_mt_st (hP : fg_P (fg_op ar k v) be N) : ∀ (n m i : Nat) (t : fg_T), i < N → N - i ≤ n → N - i ≤ m → fg_mt ar k v be n i t = fg_mt ar k v be m i t := by
  intro n
  induction n with
  | zero => intro m i t hi h; omega
  | succ n ih =>
    intro m i t hi hn hm
    cases m with
    | zero => omega
    | succ m =>
      have e1 : fg_op ar k v i ≠ 0 → ∀ t : fg_T, fg_mt ar k v be n (i + 1) t = fg_mt ar k v be m (i + 1) t := by
        intro ho t
        have := fg_P1 hP hi ho
        exact ih m (i + 1) t this (by omega) (by omega)
      have e2 : fg_op ar k v i = 2 → ∀ t : fg_T, fg_mt ar k v be n (be (i + 1)) t = fg_mt ar k v be m (be (i + 1)) t := by
        intro ho t
        have := fg_P2 hP hi ho
        exact ih m _ t this.2.1 (by omega) (by omega)
      have h3 := (hP i hi).2.2
      by_cases k2 : k i = 2
      · have ho : fg_op ar k v i = ar (v i) := fg_op2 k2
        have a1 : (ar (v i) == 0 || fg_mt ar k v be n (i + 1) (fg_L t)) = (ar (v i) == 0 || fg_mt ar k v be m (i + 1) (fg_L t)) := by
          by_cases z : ar (v i) = 0
          · simp only [z, beq_self_eq_true, Bool.true_or]
          · rw [e1 (by rw [ho]; exact z)]
        have a2 : (decide (ar (v i) ≤ 1) || fg_mt ar k v be n (be (i + 1)) (fg_R t)) = (decide (ar (v i) ≤ 1) || fg_mt ar k v be m (be (i + 1)) (fg_R t)) := by
          by_cases z : ar (v i) ≤ 1
          · rw [decide_eq_true z, Bool.true_or, Bool.true_or]
          · rw [e2 (by rcases h3 with h | h | h <;> omega)]
        rw [fg_mt2 k2, fg_mt2 k2, a1, a2]
      · by_cases k3 : k i = 3
        · rw [fg_mt3 k3, fg_mt3 k3, e1 (by rw [fg_op3 k3]; omega), e2 (fg_op3 k3)]
        · by_cases k4 : k i = 4
          · rw [fg_mt4 k4, fg_mt4 k4, e1 (by rw [fg_op4 k4]; omega)]
          · rw [fg_mt0 k2 k3 k4, fg_mt0 k2 k3 k4]
def fg_M (ar k v be : Nat → Nat) (i : Nat) (t : fg_T) : Bool := fg_mt ar k v be 12 i t
theorem fg_M_up (hP : fg_P (fg_op ar k v) be N) (hN : N ≤ 12) (hi : i < N) : fg_M ar k v be i t = fg_mt ar k v be (12 + 1) i t := fg_mt_st hP 12 13 i t hi (by omega) (by omega)
theorem fg_M2 (hP : fg_P (fg_op ar k v) be N) (hN : N ≤ 12) (hi : i < N) (hk : k i = 2) : fg_M ar k v be i t = ((fg_hd t == v i) && (ar (v i) == 0 || fg_M ar k v be (i + 1) (fg_L t)) && (decide (ar (v i) ≤ 1) || fg_M ar k v be (be (i + 1)) (fg_R t))) := by
  rw [fg_M_up hP hN hi, fg_mt2 hk]; rfl
theorem fg_M3 (hP : fg_P (fg_op ar k v) be N) (hN : N ≤ 12) (hi : i < N) (hk : k i = 3) : fg_M ar k v be i t = (fg_M ar k v be (i + 1) t || fg_M ar k v be (be (i + 1)) t) := by
  rw [fg_M_up hP hN hi, fg_mt3 hk]; rfl
theorem fg_M4 (hP : fg_P (fg_op ar k v) be N) (hN : N ≤ 12) (hi : i < N) (hk : k i = 4) : fg_M ar k v be i t = !(fg_M ar k v be (i + 1) t) := by
  rw [fg_M_up hP hN hi, fg_mt4 hk]; rfl
theorem fg_M0 (h2 : k i ≠ 2) (h3 : k i ≠ 3) (h4 : k i ≠ 4) : fg_M ar k v be i t = true := fg_mt0 h2 h3 h4
end
/-! the end of a part, by a counter of what is missing -/
def fg_go (o : Nat → Nat) : Nat → Nat → Nat → Option Nat
  | _, 0, i => some i
  | 0, _ + 1, _ => none
  | n + 1, m + 1, i => fg_go o n (m + o i) (i + 1)
def fg_G (o : Nat → Nat) (d m i : Nat) : Option Nat := fg_go o (d - i) m i
section
variable {o : Nat → Nat} {d m i e : Nat}
theorem fg_go0 {n : Nat} : fg_go o n 0 i = some i := by cases n <;> rfl
theorem fg_G0 : fg_G o d 0 i = some i := fg_go0
theorem fg_Ge (h : d ≤ i) : fg_G o d (m + 1) i = none := by
  unfold fg_G
  rw [Nat.sub_eq_zero_of_le h]; rfl
theorem fg_Gs (h : i < d) : fg_G o d (m + 1) i = fg_G o d (m + o i) (i + 1) := by
  unfold fg_G
  obtain ⟨n, hn⟩ : ∃ n, d - i = n + 1 := ⟨d - i - 1, by omega⟩
  rw [hn, show d - (i + 1) = n by omega]; rfl
theorem fg_Gadd : ∀ (n m1 m2 i : Nat), d - i = n → fg_G o d (m1 + m2) i = (fg_G o d m1 i).bind (fg_G o d m2) := by
  intro n
  induction n with
  | zero =>
    intro m1 m2 i hn
    cases m1 with
    | zero => rw [fg_G0, Nat.zero_add]; rfl
    | succ m1 => rw [fg_Ge (by omega), show m1 + 1 + m2 = (m1 + m2) + 1 by omega, fg_Ge (by omega)]; rfl
  | succ n ih =>
    intro m1 m2 i hn
    cases m1 with
    | zero => rw [fg_G0, Nat.zero_add]; rfl
    | succ m1 => rw [fg_Gs (by omega), show m1 + 1 + m2 = (m1 + m2) + 1 by omega, fg_Gs (by omega), show m1 + m2 + o i = (m1 + o i) + m2 by omega, ih _ _ _ (by omega)]
theorem fg_Gle : ∀ (n m i e : Nat), d - i = n → i ≤ d → fg_G o d m i = some e → i ≤ e ∧ e ≤ d ∧ (m ≠ 0 → i < e) := by
  intro n
  induction n with
  | zero =>
    intro m i e hn hi h
    cases m with
    | zero => rw [fg_G0] at h; injection h with h; omega
    | succ m => rw [fg_Ge (by omega)] at h; exact nomatch h
  | succ n ih =>
    intro m i e hn hi h
    cases m with
    | zero => rw [fg_G0] at h; injection h with h; omega
    | succ m =>
      rw [fg_Gs (by omega)] at h
      have := ih _ _ _ (by omega) (by omega) h
      omega
theorem fg_Gin : ∀ (n m i e j : Nat), d - i = n → i ≤ d → fg_G o d m i = some e → i ≤ j → j < e → ∃ e', fg_G o d 1 j = some e' ∧ e' ≤ e := by
  intro n
  induction n with
  | zero =>
    intro m i e j hn hi h h1 h2
    have := fg_Gle _ m i e rfl hi h
    omega
  | succ n ih =>
    intro m i e j hn hi h h1 h2
    cases m with
    | zero => rw [fg_G0] at h; injection h with h; omega
    | succ m =>
      rcases Nat.eq_or_lt_of_le h1 with z | z
      · subst z
        rw [Nat.add_comm m 1, fg_Gadd _ _ _ _ rfl] at h
        cases hg : fg_G o d 1 i with
        | none => rw [hg] at h; exact nomatch h
        | some e1 =>
          rw [hg] at h
          have a := fg_Gle _ _ _ _ rfl hi hg
          have b := fg_Gle _ _ _ _ rfl a.2.1 (show fg_G o d m e1 = some e from h)
          exact ⟨e1, rfl, b.1⟩
      · rw [fg_Gs (by omega)] at h
        exact ih _ _ _ _ (by omega) (by omega) h (by omega) h2
theorem fg_Gshift {o' : Nat → Nat} {s N : Nat} (ho : ∀ j, j < N → o' j = o (s + j)) : ∀ (n m i : Nat), N - i = n → fg_G o (s + N) m (s + i) = (fg_G o' N m i).map (fun e => s + e) := by
  intro n
  induction n with
  | zero =>
    intro m i hn
    cases m with
    | zero => rw [fg_G0, fg_G0]; rfl
    | succ m => rw [fg_Ge (by omega), fg_Ge (by omega)]; rfl
  | succ n ih =>
    intro m i hn
    cases m with
    | zero => rw [fg_G0, fg_G0]; rfl
    | succ m => rw [fg_Gs (by omega), fg_Gs (by omega), ← ho i (by omega), Nat.add_assoc s i 1, ih _ _ (by omega)]
/-- the places behind parts of a well formed row -/
theorem fg_GP {be : Nat → Nat} {n : Nat} (hd : n ≤ d) (ho : ∀ i, i < n → o i ≤ 2) (h : fg_G o d 1 0 = some n) (hb : ∀ i e, i < n → fg_G o d 1 i = some e → be i = e) : fg_P o be n := by
  have key : ∀ i, i < n → fg_G o d 1 i = some (be i) ∧ i < be i ∧ be i ≤ n := by
    intro i hi
    obtain ⟨e, he, hle⟩ := fg_Gin _ 1 0 n i rfl (Nat.zero_le _) h (Nat.zero_le _) hi
    have := fg_Gle _ _ _ _ rfl (by omega) he
    rw [hb i e hi he]
    exact ⟨he, by omega, hle⟩
  intro i hi
  obtain ⟨h1, h2, h3⟩ := key i hi
  refine ⟨h2, h3, ?_⟩
  have h4 := h1
  rw [show (1 : Nat) = 0 + 1 by rfl, fg_Gs (by omega), Nat.zero_add] at h4
  have h5 := ho i hi
  rcases (show o i = 0 ∨ o i = 1 ∨ o i = 2 by omega) with z | z | z
  · rw [z, fg_G0] at h4
    injection h4 with h4
    exact Or.inl ⟨z, h4.symm⟩
  · rw [z] at h4
    have a := fg_Gle _ _ _ _ rfl (by omega) h4
    have hn : i + 1 < n := by omega
    have b := (key (i + 1) hn).1
    rw [h4] at b
    injection b with b
    exact Or.inr (Or.inl ⟨z, hn, b⟩)
  · rw [z, show (2 : Nat) = 1 + 1 by rfl, fg_Gadd _ _ _ _ rfl] at h4
    cases hg : fg_G o d 1 (i + 1) with
    | none => rw [hg] at h4; exact nomatch h4
    | some e1 =>
      rw [hg] at h4
      have h4' : fg_G o d 1 e1 = some (be i) := h4
      have a := fg_Gle _ _ _ _ rfl (by omega) hg
      have b := fg_Gle _ _ _ _ rfl a.2.1 h4'
      have hn : i + 1 < n := by omega
      have c1 := (key (i + 1) hn).1
      rw [hg] at c1
      injection c1 with c1
      have hn2 : e1 < n := by omega
      have c2 := (key e1 hn2).1
      rw [h4'] at c2
      injection c2 with c2
      subst c1
      exact Or.inr (Or.inr ⟨z, hn, hn2, c2⟩)
end
end
section
/-! bits of longs; sets as longs; the first row -/
def fg_bt (x : Int64) (j : Nat) : Bool := x.toBitVec.getLsbD j
theorem fg_bt_or (x y : Int64) (j : Nat) : fg_bt (x ||| y) j = (fg_bt x j || fg_bt y j) := by unfold fg_bt; rw [Int64.toBitVec_or, BitVec.getLsbD_or]
theorem fg_bt_and (x y : Int64) (j : Nat) : fg_bt (x &&& y) j = (fg_bt x j && fg_bt y j) := by unfold fg_bt; rw [Int64.toBitVec_and, BitVec.getLsbD_and]
theorem fg_bt_ext {x y : Int64} (h : ∀ j, j < 64 → fg_bt x j = fg_bt y j) : x = y := Int64.toBitVec_inj.mp (BitVec.eq_of_getLsbD_eq (fun i hi => h i hi))
theorem fg_bt_big {x : Int64} {i : Nat} (h : 64 ≤ i) : fg_bt x i = false := BitVec.getLsbD_of_ge _ _ h
theorem fg_bt_0 (i : Nat) : fg_bt 0 i = false := by
  unfold fg_bt
  show (0#64).getLsbD i = false
  simp
theorem fg_bt_1 : ∀ i, i < 64 → fg_bt 1 i = decide (i = 0) := by decide +kernel
theorem fg_s64 : ∀ n, n < 64 → (((nI n).toInt64 &&& 63).toBitVec.smod 64).toNat = n := by decide +kernel
theorem fg_bt_shl (n : Nat) (hn : n < 64) (x : Int64) {i : Nat} (hi : i < 64) : fg_bt (x <<< ((nI n).toInt64 &&& 63)) i = (decide (n ≤ i) && fg_bt x (i - n)) := by
  unfold fg_bt
  rw [Int64.toBitVec_shiftLeft]
  show (x.toBitVec <<< (((nI n).toInt64 &&& 63).toBitVec.smod 64).toNat).getLsbD i = _
  rw [fg_s64 n hn, BitVec.getLsbD_shiftLeft]
  rcases Nat.lt_or_ge i n with h | h
  · simp [h, Nat.not_le.mpr h]
  · simp [hi, h, Nat.not_lt.mpr h]
theorem fg_bt_shr (n : Nat) (hn : n < 64) (x : Int64) {i : Nat} (hi : n + i < 64) : fg_bt (x >>> ((nI n).toInt64 &&& 63)) i = fg_bt x (n + i) := by
  unfold fg_bt
  rw [Int64.toBitVec_shiftRight]
  show (x.toBitVec.sshiftRight (((nI n).toInt64 &&& 63).toBitVec.smod 64).toNat).getLsbD i = _
  rw [fg_s64 n hn, BitVec.getLsbD_sshiftRight]
  simp [hi, show i < 64 by omega]
theorem fg_bt_one {k : Nat} (hk : k < 64) {j : Nat} (hj : j < 64) : fg_bt ((1 : Int64) <<< ((nI k).toInt64 &&& 63)) j = decide (j = k) := by
  rw [fg_bt_shl k hk 1 hj]
  rcases Nat.lt_or_ge j k with h | h
  · rw [decide_eq_false (by omega), Bool.false_and, decide_eq_false (by omega)]
  · rw [decide_eq_true h, Bool.true_and, fg_bt_1 _ (by omega)]
    by_cases e : j = k
    · rw [decide_eq_true e, decide_eq_true (by omega)]
    · rw [decide_eq_false e, decide_eq_false (by omega)]
theorem fg_and1 (x : Int64) : ((x &&& 1) = 1 ∧ fg_bt x 0 = true) ∨ ((x &&& 1) = 0 ∧ fg_bt x 0 = false) := by
  cases h : fg_bt x 0 with
  | true =>
    refine Or.inl ⟨fg_bt_ext fun j hj => ?_, rfl⟩
    rw [fg_bt_and, fg_bt_1 j hj]
    by_cases e : j = 0
    · subst e; rw [h]; rfl
    · rw [decide_eq_false e, Bool.and_false]
  | false =>
    refine Or.inr ⟨fg_bt_ext fun j hj => ?_, rfl⟩
    rw [fg_bt_and, fg_bt_1 j hj, fg_bt_0]
    by_cases e : j = 0
    · subst e; rw [h]; rfl
    · rw [decide_eq_false e, Bool.and_false]
theorem fg_ne10 : ¬ (1 : Int64) = 0 := by decide
theorem fg_ne01 : ¬ (0 : Int64) = 1 := by decide
theorem fg_and1_1 (x : Int64) : (x &&& 1) = 1 ↔ fg_bt x 0 = true := by
  rcases fg_and1 x with ⟨a, b⟩ | ⟨a, b⟩
  · rw [a, b]; exact ⟨fun _ => rfl, fun _ => rfl⟩
  · rw [a, b]; exact ⟨fun h => absurd h fg_ne01, fun h => nomatch h⟩
theorem fg_and1_0 (x : Int64) : (x &&& 1) = 0 ↔ fg_bt x 0 = false := by
  rcases fg_and1 x with ⟨a, b⟩ | ⟨a, b⟩
  · rw [a, b]; exact ⟨fun h => absurd h fg_ne10, fun h => nomatch h⟩
  · rw [a, b]; exact ⟨fun _ => rfl, fun _ => rfl⟩
theorem fg_tst1 (x : Int64) {a b : Nat} (h : a + b < 64) : (((x >>> ((nI a).toInt64 &&& 63)) >>> ((nI b).toInt64 &&& 63)) &&& 1) = 1 ↔ fg_bt x (a + b) = true := by
  rw [fg_and1_1, fg_bt_shr b (by omega) _ (by omega), Nat.add_zero, fg_bt_shr a (by omega) _ h]
theorem fg_tst0 (x : Int64) {a b : Nat} (h : a + b < 64) : (((x >>> ((nI a).toInt64 &&& 63)) >>> ((nI b).toInt64 &&& 63)) &&& 1) = 0 ↔ fg_bt x (a + b) = false := by
  rw [fg_and1_0, fg_bt_shr b (by omega) _ (by omega), Nat.add_zero, fg_bt_shr a (by omega) _ h]
theorem fg_ts1 (x : Int64) {a : Nat} (h : a < 64) : ((x >>> ((nI a).toInt64 &&& 63)) &&& 1) = 1 ↔ fg_bt x a = true := by
  rw [fg_and1_1, fg_bt_shr a h _ (by omega), Nat.add_zero]
/-- a long out of bits -/
def fg_num (b : Nat → Bool) : Nat → Nat
  | 0 => 0
  | n + 1 => fg_num b n + (if b n then 2 ^ n else 0)
theorem fg_num_lt (b : Nat → Bool) : ∀ n, fg_num b n < 2 ^ n
  | 0 => by simp [fg_num]
  | n + 1 => by
    have h := fg_num_lt b n
    simp only [fg_num, Nat.pow_succ]
    split <;> omega
theorem fg_num_tb (b : Nat → Bool) : ∀ n j, (fg_num b n).testBit j = (decide (j < n) && b j)
  | 0, j => by simp [fg_num]
  | n + 1, j => by
    have h := fg_num_lt b n
    have ih := fg_num_tb b n j
    simp only [fg_num]
    by_cases hb : b n = true
    · rw [if_pos hb, Nat.add_comm]
      rcases Nat.lt_trichotomy j n with z | z | z
      · rw [Nat.testBit_two_pow_add_gt z, ih, decide_eq_true z, decide_eq_true (by omega)]
      · subst z
        rw [Nat.testBit_two_pow_add_eq, ih, decide_eq_false (Nat.lt_irrefl j), decide_eq_true (by omega), hb]; rfl
      · rw [decide_eq_false (by omega), Bool.false_and]
        apply Nat.testBit_lt_two_pow
        have : 2 ^ (n + 1) ≤ 2 ^ j := Nat.pow_le_pow_right (by decide) z
        rw [Nat.pow_succ] at this
        omega
    · rw [if_neg hb, Nat.add_zero, ih]
      by_cases z : j = n
      · subst z; rw [ts_nt hb, Bool.and_false, Bool.and_false]
      · rw [decide_eq_decide.mpr (show j < n ↔ j < n + 1 by omega)]
def fg_set (b : Nat → Bool) : Int64 := lN (fg_num b 60)
theorem fg_set_bt (b : Nat → Bool) (j : Nat) : fg_bt (fg_set b) j = (decide (j < 60) && b j) := by
  unfold fg_bt fg_set
  rw [wb_tb, BitVec.getLsbD_ofNat, fg_num_tb]
  by_cases z : j < 60
  · rw [decide_eq_true z, decide_eq_true (show j < 64 by omega), Bool.true_and]
  · rw [decide_eq_false z, Bool.false_and, Bool.and_false]
/-- the first of n places where p holds; n if none -/
def fg_fr (p : Nat → Bool) : Nat → Nat
  | 0 => 0
  | n + 1 => if fg_fr p n < n then fg_fr p n else if p n then n else n + 1
theorem fg_fr_eq {p : Nat → Bool} : ∀ n r, r ≤ n → (∀ j, j < r → p j = false) → (r < n → p r = true) → fg_fr p n = r
  | 0, r, h, _, _ => by simp only [fg_fr]; omega
  | n + 1, r, h, h1, h2 => by
    simp only [fg_fr]
    rcases Nat.lt_trichotomy r n with z | z | z
    · rw [fg_fr_eq n r (by omega) h1 (fun _ => h2 (by omega)), if_pos z]
    · subst z
      rw [fg_fr_eq r r (Nat.le_refl _) h1 (fun q => by omega), if_neg (Nat.lt_irrefl _), if_pos (h2 (by omega))]
    · have e : r = n + 1 := by omega
      subst e
      rw [fg_fr_eq n n (Nat.le_refl _) (fun j hj => h1 j (by omega)) (fun q => by omega), if_neg (Nat.lt_irrefl _), if_neg (by rw [h1 n (by omega)]; exact Bool.false_ne_true)]
theorem fg_fr_sp {p : Nat → Bool} : ∀ n, fg_fr p n ≤ n ∧ (∀ j, j < fg_fr p n → p j = false) ∧ (fg_fr p n < n → p (fg_fr p n) = true)
  | 0 => by simp [fg_fr]
  | n + 1 => by
    obtain ⟨a, b, c⟩ := fg_fr_sp (p := p) n
    simp only [fg_fr]
    by_cases z : fg_fr p n < n
    · rw [if_pos z]; exact ⟨by omega, b, fun _ => c z⟩
    · have e : fg_fr p n = n := by omega
      rw [if_neg z]
      rw [e] at b
      by_cases q : p n = true
      · rw [if_pos q]; exact ⟨by omega, b, fun _ => q⟩
      · rw [if_neg q]
        refine ⟨Nat.le_refl _, fun j hj => ?_, fun h => absurd h (Nat.lt_irrefl _)⟩
        rcases Nat.lt_or_ge j n with w | w
        · exact b j w
        · rw [show j = n by omega]; exact ts_nt q
/-! paths: true for the second value -/
def fg_fo : List Bool → fg_T → fg_T
  | [], t => t
  | b :: l, t => fg_fo l (if b then fg_R t else fg_L t)
def fg_cd (l : List Bool) : Nat := l.foldl (fun s b => 2 * s + (if b then 1 else 0)) 1
def fg_wk (be : Nat → Nat) (j : Nat) : Nat → Nat → List Bool
  | 0, _ => []
  | n + 1, i => if i < j then (if be (i + 1) ≤ j then true :: fg_wk be j n (be (i + 1)) else false :: fg_wk be j n (i + 1)) else []
/-! the context: constructors, arities, rows, lengths, tokens of patterns (kind, value, behind) and of results -/
abbrev fg_C : Type := Nat × (Nat → Nat) × (Nat → Nat) × (Nat → Nat) × (Nat → Nat) × (Nat → Nat → Nat) × (Nat → Nat → Nat) × (Nat → Nat → Nat) × (Nat → Nat → Nat) × (Nat → Nat → Nat)
def fg_nc (g : fg_C) : Nat := g.1
def fg_ar (g : fg_C) : Nat → Nat := g.2.1
def fg_rw (g : fg_C) : Nat → Nat := g.2.2.1
def fg_pl (g : fg_C) : Nat → Nat := g.2.2.2.1
def fg_rl (g : fg_C) : Nat → Nat := g.2.2.2.2.1
def fg_pk (g : fg_C) : Nat → Nat → Nat := g.2.2.2.2.2.1
def fg_pv (g : fg_C) : Nat → Nat → Nat := g.2.2.2.2.2.2.1
def fg_pb (g : fg_C) : Nat → Nat → Nat := g.2.2.2.2.2.2.2.1
def fg_rk (g : fg_C) : Nat → Nat → Nat := g.2.2.2.2.2.2.2.2.1
def fg_rv (g : fg_C) : Nat → Nat → Nat := g.2.2.2.2.2.2.2.2.2
def fg_mr (g : fg_C) (R i : Nat) (t : fg_T) : Bool := fg_M (fg_ar g) (fg_pk g R) (fg_pv g R) (fg_pb g R) i t
def fg_bf (g : fg_C) (f : Nat) (t : fg_T) (j : Nat) : Bool := decide (j / 12 < fg_rw g f) && decide (j % 12 < fg_pl g (5 * f + j / 12)) && fg_mr g (5 * f + j / 12) (j % 12) t
def fg_st (g : fg_C) (f : Nat) : fg_T → Int64
  | .leaf _ => 0
  | .branch c a b => fg_set (fg_bf g f (.branch c a b))
theorem fg_st_b {g : fg_C} {f : Nat} {t : fg_T} (h : t ≠ fg_nil) : fg_st g f t = fg_set (fg_bf g f t) := by
  cases t with
  | leaf u => exact absurd rfl h
  | branch c a b => rfl
def fg_tk (g : fg_C) (f : Nat) (t : fg_T) : Nat := fg_fr (fun r => fg_mr g (5 * f + r) 0 t) (fg_rw g f)
def fg_an (g : fg_C) (f : Nat) (t : fg_T) : Int32 := if fg_tk g f t < fg_rw g f then nI (fg_tk g f t) else -1
/-- a row is well formed -/
def fg_RW (g : fg_C) (R : Nat) : Prop :=
  (1 ≤ fg_pl g R ∧ fg_pl g R ≤ 12 ∧ 1 ≤ fg_rl g R ∧ fg_rl g R ≤ 12) ∧
  fg_P (fg_op (fg_ar g) (fg_pk g R) (fg_pv g R)) (fg_pb g R) (fg_pl g R) ∧ fg_pb g R 0 = fg_pl g R ∧
  (∀ i, i < fg_pl g R → fg_pk g R i ≤ 4 ∧ (fg_pk g R i = 2 → fg_pv g R i < fg_nc g) ∧ (fg_pk g R i = 1 → fg_pv g R i < 4)) ∧
  (∀ i j, i < fg_pl g R → j < fg_pl g R → fg_pk g R i = 1 → fg_pk g R j = 1 → fg_pv g R i = fg_pv g R j → i = j) ∧
  (∀ i j, i < fg_pl g R → (fg_pk g R i = 3 ∨ fg_pk g R i = 4) → i < j → j < fg_pb g R i → fg_pk g R j ≠ 1) ∧
  (∀ i, i < fg_rl g R → (fg_rk g R i = 1 ∨ fg_rk g R i = 2 ∨ fg_rk g R i = 5) ∧ (fg_rk g R i = 2 → fg_rv g R i < fg_nc g) ∧ (fg_rk g R i = 5 → fg_rv g R i < 4) ∧ (fg_rk g R i = 1 → fg_rv g R i < 4 ∧ ∃ j, j < fg_pl g R ∧ fg_pk g R j = 1 ∧ fg_pv g R j = fg_rv g R i)) ∧
  fg_G (fg_op (fg_ar g) (fg_rk g R) (fg_rv g R)) (fg_rl g R) 1 0 = some (fg_rl g R)
def fg_WF (g : fg_C) : Prop := fg_nc g ≤ 6 ∧ (∀ c, fg_ar g c ≤ 2) ∧ (∀ f, f < 4 → fg_rw g f ≤ 5) ∧ (∀ f r, f < 4 → r < fg_rw g f → fg_RW g (5 * f + r))
/-- X's arrays hold a row -/
def fg_XR (g : fg_C) (pLength rLength pKind pValue pBehind rKind rValue path : Nat → Int32) (R : Nat) : Prop :=
  pLength R = nI (fg_pl g R) ∧ rLength R = nI (fg_rl g R) ∧
  (∀ i, i < fg_pl g R → pKind (12 * R + i) = nI (fg_pk g R i) ∧ pValue (12 * R + i) = nI (fg_pv g R i) ∧ pBehind (12 * R + i) = nI (fg_pb g R i)) ∧
  (∀ i, i < fg_rl g R → rKind (12 * R + i) = nI (fg_rk g R i) ∧ rValue (12 * R + i) = nI (fg_rv g R i)) ∧
  (∀ i, i < fg_pl g R → fg_pk g R i = 1 → path (4 * R + fg_pv g R i) = nI (fg_cd (fg_wk (fg_pb g R) i 12 0))) ∧
  (∀ v, v < 4 → (∀ i, i < fg_pl g R → fg_pk g R i = 1 → fg_pv g R i ≠ v) → path (4 * R + v) = 0)
def fg_CX (g : fg_C) (arity rows pLength rLength pKind pValue pBehind rKind rValue path : Nat → Int32) : Prop :=
  (∀ c, arity c = nI (fg_ar g c)) ∧ (∀ f, f < 4 → rows f = nI (fg_rw g f)) ∧ (∀ f r, f < 4 → r < fg_rw g f → fg_XR g pLength rLength pKind pValue pBehind rKind rValue path (5 * f + r))
/-- Y's arrays hold a row -/
def fg_YR (g : fg_C) (patternLength resultLength kind wit : Nat → Int32) (R : Nat) : Prop :=
  patternLength R = nI (fg_pl g R) ∧ resultLength R = nI (fg_rl g R) ∧
  (∀ i, i < fg_pl g R → kind (24 * R + i) = nI (fg_pk g R i) ∧ (fg_pk g R i = 1 ∨ fg_pk g R i = 2 → wit (24 * R + i) = nI (fg_pv g R i))) ∧
  (∀ i, i < fg_rl g R → kind (24 * R + 12 + i) = nI (fg_rk g R i) ∧ wit (24 * R + 12 + i) = nI (fg_rv g R i))
def fg_CY (g : fg_C) (arity rows patternLength resultLength kind wit : Nat → Int32) : Prop :=
  (∀ c, arity c = nI (fg_ar g c)) ∧ (∀ f, f < 4 → rows f = nI (fg_rw g f)) ∧ (∀ f r, f < 4 → r < fg_rw g f → fg_YR g patternLength resultLength kind wit (5 * f + r))
end
section
/-! X: what a value matches -/
def fg_b : Bool → Int32
  | true => 1
  | false => 0
theorem fg_pd0 : (nI 0 - 1 : Int32) < 0 := by decide
theorem fg_pdm (m : Nat) : nI m + (-1) = nI m - 1 := (Int32.sub_eq_add_neg (a := nI m) (b := 1)).symm
theorem fg_mulc (a b : Nat) : nI a * nI b = nI (a * b) := pk_mul a b
theorem fg_bf_at {g : fg_C} {f r j : Nat} {t : fg_T} (hr : r < fg_rw g f) (hj : j < 12) : fg_bf g f t (12 * r + j) = (decide (j < fg_pl g (5 * f + r)) && fg_mr g (5 * f + r) j t) := by
  unfold fg_bf
  rw [show (12 * r + j) / 12 = r by omega, show (12 * r + j) % 12 = j by omega, decide_eq_true hr, Bool.true_and]
theorem fg_bf_hi {g : fg_C} {f j : Nat} {t : fg_T} (hj : 12 * fg_rw g f ≤ j) : fg_bf g f t j = false := by
  unfold fg_bf
  rw [decide_eq_false (by omega), Bool.false_and, Bool.false_and]
section
variable {x_cons x_drafted x_given x_cells x_calls x_opened x_held x_steps x_outcome x_culprit x_size x_kinds : Int32} {x_arity x_dKind x_dValue x_behind x_pKind x_pValue x_pBehind x_rKind x_rValue x_pLength x_rLength x_rows x_path x_argument x_cCon x_cFirst x_cSecond x_cSize x_table x_learnt x_pile x_callRow x_callAt x_callOpen x_bound x_openToken x_lacks x_output x_kSize x_counted x_openSize x_values : Nat → Int32} {x_sets x_kSet x_kMany x_kList x_counts x_firstOpen : Nat → Int64}
variable {g : fg_C} {f r i c : Nat} {t : fg_T}
theorem fg_xmatches {post : Int32 → Prop} {A B own : Int64}
    (hW : fg_WF g) (hC : fg_CX g x_arity x_rows x_pLength x_rLength x_pKind x_pValue x_pBehind x_rKind x_rValue x_path)
    (hf : f < 4) (hr : r < fg_rw g f) (hi : i < fg_pl g (5 * f + r)) (ht : t ≠ fg_nil) (hok : fg_ok (fg_nc g) (fg_ar g) t) (hc : fg_hd t = c)
    (hA : fg_L t ≠ fg_nil → ∀ j, j < fg_pl g (5 * f + r) → fg_bt A (12 * r + j) = fg_mr g (5 * f + r) j (fg_L t))
    (hB : fg_R t ≠ fg_nil → ∀ j, j < fg_pl g (5 * f + r) → fg_bt B (12 * r + j) = fg_mr g (5 * f + r) j (fg_R t))
    (hO : ∀ j, i < j → j < fg_pl g (5 * f + r) → fg_bt own (12 * r + j) = fg_mr g (5 * f + r) j t)
    (hp : post (fg_b (fg_mr g (5 * f + r) i t))) :
    wpX_matches post (x_cons, x_drafted, x_given, x_cells, x_calls, x_opened, x_held, x_steps, x_outcome, x_culprit, x_size, x_kinds, x_arity, x_dKind, x_dValue, x_behind, x_pKind, x_pValue, x_pBehind, x_rKind, x_rValue, x_pLength, x_rLength, x_rows, x_path, x_argument, x_cCon, x_cFirst, x_cSecond, x_cSize, x_table, x_sets, x_learnt, x_pile, x_callRow, x_callAt, x_callOpen, x_bound, x_openToken, x_lacks, x_output, x_kSize, x_kSet, x_kMany, x_kList, x_counts, x_counted, x_firstOpen, x_openSize, x_values) (nI (12 * (5 * f + r))) (nI i) (nI c) (A >>> ((nI (12 * r)).toInt64 &&& 63)) (B >>> ((nI (12 * r)).toInt64 &&& 63)) (own >>> ((nI (12 * r)).toInt64 &&& 63)) := by
  obtain ⟨hnc, har, hrw, hRW⟩ := hW
  obtain ⟨⟨-, p12, -, -⟩, hP, -, hK, -⟩ := hRW f r hf hr
  have hr5 := hrw f hf
  obtain ⟨cA, -, cX⟩ := hC
  obtain ⟨-, -, xP, -⟩ := cX f r hf hr
  obtain ⟨hcn, hsh, -, -⟩ := fg_ok_b hok ht
  rw [hc] at hcn hsh
  have hac := har c
  generalize hRe : 5 * f + r = R at *
  have hR : R < 20 := by omega
  obtain ⟨e1, e2, -⟩ := xP i hi
  have ei : nI (12 * R) + nI i = nI (12 * R + i) := nI_add _ _
  have ci : (nI (12 * R) + nI i).toNatClampNeg = 12 * R + i := by rw [ei]; exact nI_clamp (by omega)
  have vi : vp_in (nI (12 * R) + nI i) 240 := by rw [ei]; exact vp_in_nI (by omega) (by omega)
  have cc : (nI c).toNatClampNeg = c := nI_clamp (by omega)
  have vc : vp_in (nI c) 6 := vp_in_nI (by omega) (by omega)
  have ej : nI (12 * R) + nI (i + 1) = nI (12 * R + (i + 1)) := nI_add _ _
  have cj : (nI (12 * R) + nI (i + 1)).toNatClampNeg = 12 * R + (i + 1) := by rw [ej]; exact nI_clamp (by omega)
  have ec : x_arity (nI c).toNatClampNeg = nI (fg_ar g c) := by rw [cc]; exact cA c
  refine nm_r (nI_1 i) ?_
  refine And.intro vi ?_
  refine nm_r (e' := nI (fg_pk g R i)) (by rw [ci]; exact e1) ?_
  have hk5 := (hK i hi).1
  rcases (show fg_pk g R i = 0 ∨ fg_pk g R i = 1 ∨ fg_pk g R i = 2 ∨ fg_pk g R i = 3 ∨ fg_pk g R i = 4 by omega) with hk | hk | hk | hk | hk
  · rw [hk]
    rw [show fg_mr g R i t = true from fg_M0 (by omega) (by omega) (by omega)] at hp
    exact br_t (by decide) hp
  · rw [hk]
    rw [show fg_mr g R i t = true from fg_M0 (by omega) (by omega) (by omega)] at hp
    exact br_t (by decide) hp
  · rw [hk]
    have hv := (hK i hi).2.1 hk
    have hm : fg_mr g R i t = ((fg_hd t == fg_pv g R i) && (fg_ar g (fg_pv g R i) == 0 || fg_mr g R (i + 1) (fg_L t)) && (decide (fg_ar g (fg_pv g R i) ≤ 1) || fg_mr g R (fg_pb g R (i + 1)) (fg_R t))) := fg_M2 hP p12 hi hk
    have ho : fg_op (fg_ar g) (fg_pk g R) (fg_pv g R) i = fg_ar g (fg_pv g R i) := fg_op2 hk
    refine br_f (by decide) (br_f (by decide) (br_t rfl (And.intro vi ?_)))
    refine pk_eq (fg_pv g R i) c (fun hvc => ?_) (fun hvc => ?_) (by rw [ci]; exact e2) rfl (by omega) (by omega)
    · refine And.intro vc ?_
      rw [hvc] at hm ho
      rw [hc, beq_self_eq_true, Bool.true_and] at hm
      refine pk_eq (fg_ar g c) 0 (fun h0 => ?_) (fun h0 => ?_) ec rfl (by omega) (by omega)
      · rw [h0] at hm
        rw [show fg_mr g R i t = true by rw [hm]; rfl] at hp
        exact hp
      · have hi1 : i + 1 < fg_pl g R := fg_P1 hP hi (by omega)
        have hL : fg_L t ≠ fg_nil := by
          rcases hsh with h | h | h
          · omega
          · exact h.2.1
          · exact h.2.1
        rw [show (fg_ar g c == 0) = false from beq_eq_false_iff_ne.mpr h0, Bool.false_or] at hm
        refine ek_if (fg_tst1 A (by omega)) (fun ha => ?_) (fun ha => ?_)
        · rw [hA hL _ hi1] at ha
          rw [ha, Bool.true_and] at hm
          refine And.intro vc ?_
          refine pk_eq (fg_ar g c) 1 (fun h1 => ?_) (fun h1 => ?_) ec rfl (by omega) (by omega)
          · rw [h1] at hm
            rw [show fg_mr g R i t = true by rw [hm]; rfl] at hp
            exact hp
          · have h2 : fg_ar g c = 2 := by omega
            obtain ⟨hb1, hb2, -⟩ := fg_P2 hP hi (by omega)
            have hRt : fg_R t ≠ fg_nil := by
              rcases hsh with h | h | h
              · omega
              · omega
              · exact h.2.2
            obtain ⟨-, -, q3⟩ := xP (i + 1) hi1
            refine And.intro (by rw [ej]; exact vp_in_nI (by omega) (by omega)) ?_
            rw [cj, q3]
            rw [decide_eq_false (by omega), Bool.false_or] at hm
            refine ek_if (fg_tst1 B (by omega)) (fun hb => ?_) (fun hb => ?_)
            · rw [hB hRt _ hb2] at hb
              rw [hm, hb] at hp
              exact hp
            · rw [hB hRt _ hb2] at hb
              rw [hm, ts_nt hb] at hp
              exact hp
        · rw [hA hL _ hi1] at ha
          rw [ts_nt ha, Bool.false_and] at hm
          rw [hm] at hp
          exact hp
    · rw [hc, show (c == fg_pv g R i) = false from beq_eq_false_iff_ne.mpr (fun h => hvc h.symm), Bool.false_and, Bool.false_and] at hm
      rw [hm] at hp
      exact hp
  · rw [hk]
    have hm : fg_mr g R i t = (fg_mr g R (i + 1) t || fg_mr g R (fg_pb g R (i + 1)) t) := fg_M3 hP p12 hi hk
    have ho : fg_op (fg_ar g) (fg_pk g R) (fg_pv g R) i = 2 := fg_op3 hk
    have hi1 : i + 1 < fg_pl g R := fg_P1 hP hi (by omega)
    obtain ⟨hb1, hb2, -⟩ := fg_P2 hP hi ho
    refine br_f (by decide) (br_f (by decide) (br_f (by decide) (br_t rfl ?_)))
    refine ek_if (fg_tst1 own (by omega)) (fun ha => ?_) (fun ha => ?_)
    · rw [hO _ (by omega) hi1] at ha
      rw [hm, ha, Bool.true_or] at hp
      exact hp
    · rw [hO _ (by omega) hi1] at ha
      rw [ts_nt ha, Bool.false_or] at hm
      obtain ⟨-, -, q3⟩ := xP (i + 1) hi1
      refine And.intro (by rw [ej]; exact vp_in_nI (by omega) (by omega)) ?_
      rw [cj, q3]
      refine ek_if (fg_tst1 own (by omega)) (fun hb => ?_) (fun hb => ?_)
      · rw [hO _ (by omega) hb2] at hb
        rw [hm, hb] at hp
        exact hp
      · rw [hO _ (by omega) hb2] at hb
        rw [hm, ts_nt hb] at hp
        exact hp
  · rw [hk]
    have hm : fg_mr g R i t = !(fg_mr g R (i + 1) t) := fg_M4 hP p12 hi hk
    have ho : fg_op (fg_ar g) (fg_pk g R) (fg_pv g R) i = 1 := fg_op4 hk
    have hi1 : i + 1 < fg_pl g R := fg_P1 hP hi (by omega)
    refine br_f (by decide) (br_f (by decide) (br_f (by decide) (br_f (by decide) (br_t rfl ?_))))
    refine ek_if (fg_tst0 own (by omega)) (fun ha => ?_) (fun ha => ?_)
    · rw [hO _ (by omega) hi1] at ha
      rw [hm, ha] at hp
      exact hp
    · rw [hO _ (by omega) hi1] at ha
      rw [hm, ts_nf ha] at hp
      exact hp
/-- the set so far: rows before r, and of row r the tokens from m on -/
def fg_In (g : fg_C) (f : Nat) (t : fg_T) (r m : Nat) (s : Int64) : Prop := ∀ j, j < 64 → fg_bt s j = (decide (j < 12 * r ∨ (12 * r + m ≤ j ∧ j < 12 * r + 12)) && fg_bf g f t j)
theorem fg_In_n {s : Int64} (h : fg_In g f t r 0 s) : fg_In g f t (r + 1) 12 s := by
  intro j hj
  rw [h j hj]
  congr 1
  exact decide_eq_decide.mpr (by omega)
theorem fg_In_p {s : Int64} (hr : r < fg_rw g f) (h : fg_In g f t r 12 s) : fg_In g f t r (fg_pl g (5 * f + r)) s := by
  intro j hj
  rw [h j hj]
  by_cases z : 12 * r + fg_pl g (5 * f + r) ≤ j ∧ j < 12 * r + 12
  · obtain ⟨k, rfl⟩ : ∃ k, j = 12 * r + k := ⟨j - 12 * r, by omega⟩
    rw [fg_bf_at hr (by omega), decide_eq_false (show ¬ k < fg_pl g (5 * f + r) by omega), Bool.false_and, Bool.and_false, Bool.and_false]
  · congr 1
    exact decide_eq_decide.mpr (by omega)
theorem fg_In_s {s : Int64} {m : Nat} (hm : m < 12) (h : fg_In g f t r (m + 1) s) (he : fg_bf g f t (12 * r + m) = false) : fg_In g f t r m s := by
  intro j hj
  rw [h j hj]
  by_cases z : j = 12 * r + m
  · subst z; rw [he, Bool.and_false, Bool.and_false]
  · congr 1
    exact decide_eq_decide.mpr (by omega)
theorem fg_In_o {s : Int64} {m : Nat} (hm : m < 12) (h6 : 12 * r + m < 64) (h : fg_In g f t r (m + 1) s) (he : fg_bf g f t (12 * r + m) = true) : fg_In g f t r m (s ||| ((1 : Int64) <<< ((nI (12 * r + m)).toInt64 &&& 63))) := by
  intro j hj
  rw [fg_bt_or, fg_bt_one h6 hj, h j hj]
  by_cases z : j = 12 * r + m
  · subst z
    rw [he, decide_eq_true (show 12 * r + m = 12 * r + m from rfl), Bool.or_true, decide_eq_true (by omega)]; rfl
  · rw [decide_eq_false z, Bool.or_false]
    congr 1
    exact decide_eq_decide.mpr (by omega)
theorem fg_xm44 {post : Int64 → Prop} {J : Int64 → Int32 → Prop} {A B : Int64} {f1 : Int32}
    (hW : fg_WF g) (hC : fg_CX g x_arity x_rows x_pLength x_rLength x_pKind x_pValue x_pBehind x_rKind x_rValue x_path)
    (hf : f < 4) (hr : r < fg_rw g f) (ht : t ≠ fg_nil) (hok : fg_ok (fg_nc g) (fg_ar g) t) (hc : fg_hd t = c)
    (hA : fg_L t ≠ fg_nil → ∀ j, j < fg_pl g (5 * f + r) → fg_bt A (12 * r + j) = fg_mr g (5 * f + r) j (fg_L t))
    (hB : fg_R t ≠ fg_nil → ∀ j, j < fg_pl g (5 * f + r) → fg_bt B (12 * r + j) = fg_mr g (5 * f + r) j (fg_R t))
    (hJ : ∀ s, fg_In g f t r 0 s → J s (nI (r + 1))) :
    ∀ (m n : Nat) (s : Int64), m ≤ fg_pl g (5 * f + r) → m < n → fg_In g f t r m s →
    wX_match_44 post J f1 (nI c) A B (nI r) (nI (12 * (5 * f + r))) x_cons x_drafted x_given x_cells x_calls x_opened x_held x_steps x_outcome x_culprit x_size x_kinds x_arity x_dKind x_dValue x_behind x_pKind x_pValue x_pBehind x_rKind x_rValue x_pLength x_rLength x_rows x_path x_argument x_cCon x_cFirst x_cSecond x_cSize x_table x_sets x_learnt x_pile x_callRow x_callAt x_callOpen x_bound x_openToken x_lacks x_output x_kSize x_kSet x_kMany x_kList x_counts x_counted x_firstOpen x_openSize x_values n s (nI m - 1) := by
  have p12 := (hW.2.2.2 f r hf hr).1.2.1
  have hr5 := hW.2.2.1 f hf
  intro m
  induction m with
  | zero =>
    intro n s _ hn hs
    cases n with
    | zero => omega
    | succ n =>
      refine br_t fg_pd0 ?_
      exact nm_r (nI_1 r) (hJ s hs)
  | succ m ih =>
    intro n s hm hn hs
    cases n with
    | zero => omega
    | succ n =>
      rw [nI_pred]
      have e12 : (12 : Int32) * nI r = nI (12 * r) := fg_mulc 12 r
      refine br_f (nI_pos (by omega)) ?_
      rw [e12]
      have ev : fg_bf g f t (12 * r + m) = fg_mr g (5 * f + r) m t := by
        rw [fg_bf_at hr (by omega), decide_eq_true (show m < fg_pl g (5 * f + r) by omega), Bool.true_and]
      refine fg_xmatches hW hC hf hr (by omega) ht hok hc hA hB (fun j h1 h2 => ?_) ?_
      · rw [hs _ (by omega), decide_eq_true (by omega), Bool.true_and, fg_bf_at hr (by omega), decide_eq_true h2, Bool.true_and]
      · cases hv : fg_mr g (5 * f + r) m t with
        | false =>
          refine br_t rfl ?_
          exact nm_r (fg_pdm m) (ih n s (by omega) (by omega) (fg_In_s (by omega) hs (ev.trans hv)))
        | true =>
          refine br_f (by decide) ?_
          refine nm_r (e' := s ||| ((1 : Int64) <<< ((nI (12 * r + m)).toInt64 &&& 63))) (by rw [nI_add]) ?_
          exact nm_r (fg_pdm m) (ih n _ (by omega) (by omega) (fg_In_o (by omega) (by omega) hs (ev.trans hv)))
theorem fg_xmatch {post : Int64 → Prop}
    (hW : fg_WF g) (hC : fg_CX g x_arity x_rows x_pLength x_rLength x_pKind x_pValue x_pBehind x_rKind x_rValue x_path)
    (hf : f < 4) (ht : t ≠ fg_nil) (hok : fg_ok (fg_nc g) (fg_ar g) t) (hc : fg_hd t = c) (hp : post (fg_st g f t)) :
    wpX_match post (x_cons, x_drafted, x_given, x_cells, x_calls, x_opened, x_held, x_steps, x_outcome, x_culprit, x_size, x_kinds, x_arity, x_dKind, x_dValue, x_behind, x_pKind, x_pValue, x_pBehind, x_rKind, x_rValue, x_pLength, x_rLength, x_rows, x_path, x_argument, x_cCon, x_cFirst, x_cSecond, x_cSize, x_table, x_sets, x_learnt, x_pile, x_callRow, x_callAt, x_callOpen, x_bound, x_openToken, x_lacks, x_output, x_kSize, x_kSet, x_kMany, x_kList, x_counts, x_counted, x_firstOpen, x_openSize, x_values) (nI f) (nI c) (fg_st g f (fg_L t)) (fg_st g f (fg_R t)) := by
  have hr5 := hW.2.2.1 f hf
  have cf : (nI f).toNatClampNeg = f := nI_clamp (by omega)
  have hrow : x_rows (nI f).toNatClampNeg = nI (fg_rw g f) := by rw [cf]; exact hC.2.1 f hf
  have hs : ∀ (q : fg_T) (r j : Nat), q ≠ fg_nil → r < fg_rw g f → j < fg_pl g (5 * f + r) → fg_bt (fg_st g f q) (12 * r + j) = fg_mr g (5 * f + r) j q := by
    intro q r j hq hr hj
    have p12 := (hW.2.2.2 f r hf hr).1.2.1
    rw [fg_st_b hq, fg_set_bt, fg_bf_at hr (by omega), decide_eq_true (show 12 * r + j < 60 by omega), decide_eq_true hj]; rfl
  have key : ∀ (d r : Nat) (s : Int64), r + d = fg_rw g f → fg_In g f t r 12 s → wX_match_6 post (nI f) (nI c) (fg_st g f (fg_L t)) (fg_st g f (fg_R t)) x_cons x_drafted x_given x_cells x_calls x_opened x_held x_steps x_outcome x_culprit x_size x_kinds x_arity x_dKind x_dValue x_behind x_pKind x_pValue x_pBehind x_rKind x_rValue x_pLength x_rLength x_rows x_path x_argument x_cCon x_cFirst x_cSecond x_cSize x_table x_sets x_learnt x_pile x_callRow x_callAt x_callOpen x_bound x_openToken x_lacks x_output x_kSize x_kSet x_kMany x_kList x_counts x_counted x_firstOpen x_openSize x_values (d + 1) s (nI r) := by
    intro d
    induction d with
    | zero =>
      intro r s hd hs'
      refine And.intro (vp_in_nI hf (by decide)) ?_
      rw [hrow]
      refine pk_le (fg_rw g f) r (fun _ => ?_) (fun h => by omega)
      have e : s = fg_st g f t := by
        apply fg_bt_ext
        intro j hj
        rw [hs' j hj, fg_st_b ht, fg_set_bt]
        by_cases z : 12 * fg_rw g f ≤ j
        · rw [fg_bf_hi z, Bool.and_false, Bool.and_false]
        · rw [decide_eq_true (show j < 60 by omega), decide_eq_true (by omega)]
      rw [e]; exact hp
    | succ d ih =>
      intro r s hd hs'
      have hr : r < fg_rw g f := by omega
      have p12 := (hW.2.2.2 f r hf hr).1.2.1
      refine And.intro (vp_in_nI hf (by decide)) ?_
      rw [hrow]
      refine pk_le (fg_rw g f) r (fun h => by omega) (fun _ => ?_)
      have e5 : (5 : Int32) * nI f + nI r = nI (5 * f + r) := by rw [show (5 : Int32) = nI 5 from rfl, fg_mulc, nI_add]
      refine nm_r (e' := nI (12 * (5 * f + r))) (by rw [show (60 : Int32) = nI 60 from rfl, show (12 : Int32) = nI 12 from rfl, fg_mulc, fg_mulc, nI_add]; exact congrArg nI (by omega)) ?_
      rw [e5]
      refine And.intro (vp_in_nI (by omega) (by decide)) ?_
      refine nm_r (e' := nI (fg_pl g (5 * f + r)) - 1) (by rw [nI_clamp (by omega), (hC.2.2 f r hf hr).1]) ?_
      refine ⟨fg_pl g (5 * f + r) + 1, ?_⟩
      exact fg_xm44 hW hC hf hr ht hok hc (fun hq j hj => hs _ r j hq hr hj) (fun hq j hj => hs _ r j hq hr hj) (fun s' h' => ih (r + 1) s' (by omega) (fg_In_n h')) _ _ s (Nat.le_refl _) (by omega) (fg_In_p hr hs')
  refine ⟨fg_rw g f + 1, ?_⟩
  have := key (fg_rw g f) 0 0 (by omega) (fun j hj => by rw [fg_bt_0, decide_eq_false (by omega), Bool.false_and])
  exact this
theorem fg_xfirst {post : Int32 → Prop}
    (hW : fg_WF g) (hC : fg_CX g x_arity x_rows x_pLength x_rLength x_pKind x_pValue x_pBehind x_rKind x_rValue x_path)
    (hf : f < 4) (ht : t ≠ fg_nil) (hp : post (fg_an g f t)) : wpX_firstRow post (x_cons, x_drafted, x_given, x_cells, x_calls, x_opened, x_held, x_steps, x_outcome, x_culprit, x_size, x_kinds, x_arity, x_dKind, x_dValue, x_behind, x_pKind, x_pValue, x_pBehind, x_rKind, x_rValue, x_pLength, x_rLength, x_rows, x_path, x_argument, x_cCon, x_cFirst, x_cSecond, x_cSize, x_table, x_sets, x_learnt, x_pile, x_callRow, x_callAt, x_callOpen, x_bound, x_openToken, x_lacks, x_output, x_kSize, x_kSet, x_kMany, x_kList, x_counts, x_counted, x_firstOpen, x_openSize, x_values) (nI f) (fg_st g f t) := by
  have hr5 := hW.2.2.1 f hf
  have cf : (nI f).toNatClampNeg = f := nI_clamp (by omega)
  have hrow : x_rows (nI f).toNatClampNeg = nI (fg_rw g f) := by rw [cf]; exact hC.2.1 f hf
  have key : ∀ (d r : Nat), r + d = fg_rw g f → (∀ j, j < r → fg_mr g (5 * f + j) 0 t = false) → wX_firstRow_3 post (nI f) (fg_st g f t) x_cons x_drafted x_given x_cells x_calls x_opened x_held x_steps x_outcome x_culprit x_size x_kinds x_arity x_dKind x_dValue x_behind x_pKind x_pValue x_pBehind x_rKind x_rValue x_pLength x_rLength x_rows x_path x_argument x_cCon x_cFirst x_cSecond x_cSize x_table x_sets x_learnt x_pile x_callRow x_callAt x_callOpen x_bound x_openToken x_lacks x_output x_kSize x_kSet x_kMany x_kList x_counts x_counted x_firstOpen x_openSize x_values (d + 1) (nI r) := by
    intro d
    induction d with
    | zero =>
      intro r hd h
      refine And.intro (vp_in_nI hf (by decide)) ?_
      rw [hrow]
      refine pk_le (fg_rw g f) r (fun _ => ?_) (fun h => by omega)
      have e : fg_tk g f t = fg_rw g f := fg_fr_eq _ _ (Nat.le_refl _) (fun j hj => h j (by omega)) (fun h => absurd h (Nat.lt_irrefl _))
      unfold fg_an at hp
      rw [if_neg (by omega)] at hp
      exact hp
    | succ d ih =>
      intro r hd h
      have hr : r < fg_rw g f := by omega
      have p1 := (hW.2.2.2 f r hf hr).1
      refine And.intro (vp_in_nI hf (by decide)) ?_
      rw [hrow]
      refine pk_le (fg_rw g f) r (fun h => by omega) (fun _ => ?_)
      have e12 : (12 : Int32) * nI r = nI (12 * r) := fg_mulc 12 r
      rw [e12]
      have hb : fg_bt (fg_st g f t) (12 * r) = fg_mr g (5 * f + r) 0 t := by
        rw [fg_st_b ht, fg_set_bt, show 12 * r = 12 * r + 0 from rfl, fg_bf_at hr (by omega), decide_eq_true (show 12 * r + 0 < 60 by omega), decide_eq_true (by omega)]; rfl
      refine ek_if (fg_ts1 _ (by omega)) (fun ha => ?_) (fun ha => ?_)
      · rw [hb] at ha
        have e : fg_tk g f t = r := fg_fr_eq _ _ (by omega) h (fun _ => ha)
        unfold fg_an at hp
        rw [if_pos (by omega), e] at hp
        exact hp
      · rw [hb] at ha
        refine nm_r (nI_1 r) (ih (r + 1) (by omega) (fun j hj => ?_))
        rcases Nat.lt_or_ge j r with z | z
        · exact h j z
        · rw [show j = r by omega]; exact ts_nt ha
  exact ⟨fg_rw g f + 1, key (fg_rw g f) 0 (by omega) (fun j hj => by omega)⟩
end
end
section
/-! Y: what a value matches -/
def fg_En (t : fg_T) (ends : Nat → Int32) : Prop := ∀ p, p < fg_sz t → ends p = nI (p + fg_sz (fg_sub t p))
theorem fg_40 (i p : Nat) : (40 : Int32) * nI i + nI p = nI (40 * i + p) := by rw [show (40 : Int32) = nI 40 from rfl, fg_mulc, nI_add]
theorem fg_nb (v : Bool) : vp_nar .boolean (fg_b v) = fg_b v := by cases v <;> rfl
theorem fg_nnb (v : Bool) : narrow .boolean (.int (fg_b v)) = .int (fg_b v) := by cases v <;> rfl
theorem fg_b0 (v : Bool) : fg_b v = 0 ↔ v = false := by cases v <;> decide
section
variable {y_cons y_drafted y_nodes y_length y_argumentLength y_givenLength y_steps y_blamed y_how y_ran y_working : Int32} {y_arity y_draftKind y_draftWith y_kind y_with y_patternLength y_resultLength y_rows y_head y_left y_right y_size y_list y_stack y_starts y_argument y_given y_fits y_ends y_places y_bound y_workKind y_workWith y_owner y_counts y_openSize y_open y_known : Nat → Int32}
variable {g : fg_C} {f r i c R : Nat} {t : fg_T}
theorem fg_yop {post : Int32 → Prop} {kf vf : Nat → Nat} {K W : Int32} (ha : ∀ c, y_arity c = nI (fg_ar g c)) (hk5 : kf i ≤ 6) (hk : K = nI (kf i)) (hv : kf i = 2 → W = nI (vf i) ∧ vf i < 6) (hp : post (nI (fg_op (fg_ar g) kf vf i))) : wpY_operands post (y_cons, y_drafted, y_nodes, y_length, y_argumentLength, y_givenLength, y_steps, y_blamed, y_how, y_ran, y_working, y_arity, y_draftKind, y_draftWith, y_kind, y_with, y_patternLength, y_resultLength, y_rows, y_head, y_left, y_right, y_size, y_list, y_stack, y_starts, y_argument, y_given, y_fits, y_ends, y_places, y_bound, y_workKind, y_workWith, y_owner, y_counts, y_openSize, y_open, y_known) K W := by
  subst hk
  by_cases h2 : kf i = 2
  · obtain ⟨e, h6⟩ := hv h2
    subst e
    rw [fg_op2 h2] at hp
    refine br_t (by rw [h2]; rfl) (And.intro (vp_in_nI h6 (by decide)) ?_)
    rw [nI_clamp (by omega), ha]; exact hp
  · refine br_f (by rw [show (2 : Int32) = nI 2 from rfl, nI_eq (by omega) (by decide)]; exact h2) ?_
    by_cases h3 : kf i = 3
    · rw [fg_op3 h3] at hp
      exact br_t (by rw [h3]; rfl) hp
    · refine br_f (by rw [show (3 : Int32) = nI 3 from rfl, nI_eq (by omega) (by decide)]; exact h3) ?_
      by_cases h4 : kf i = 4
      · rw [fg_op4 h4] at hp
        exact br_t (by rw [h4]; rfl) hp
      · refine br_f (by rw [show (4 : Int32) = nI 4 from rfl, nI_eq (by omega) (by decide)]; exact h4) ?_
        by_cases h5 : kf i = 5
        · rw [fg_op5 h5] at hp
          exact br_t (by rw [h5]; rfl) hp
        · rw [fg_op0 h2 h3 h4 h5] at hp
          exact br_f (by rw [show (5 : Int32) = nI 5 from rfl, nI_eq (by omega) (by decide)]; exact h5) hp
theorem fg_ym17d {post : SY → Prop} {J : Int32 → (Nat → Int32) → (Nat → Int32) → (Nat → Int32) → (Nat → Int32) → (Nat → Int32) → (Nat → Int32) → (Nat → Int32) → (Nat → Int32) → (Nat → Int32) → (Nat → Int32) → (Nat → Int32) → (Nat → Int32) → (Nat → Int32) → (Nat → Int32) → (Nat → Int32) → (Nat → Int32) → (Nat → Int32) → (Nat → Int32) → (Nat → Int32) → (Nat → Int32) → (Nat → Int32) → (Nat → Int32) → (Nat → Int32) → (Nat → Int32) → (Nat → Int32) → (Nat → Int32) → (Nat → Int32) → (Nat → Int32) → Prop}
    {m n e j : Nat} (ha : ∀ c, y_arity c = nI (fg_ar g c)) (h2 : fg_ar g c ≤ 2) (hm : m < 40) (hc : c < 6) (hl : y_list m = nI c) (hj : fg_ar g c ≤ j) (hj3 : j < 3)
    (hJ : J (nI m - 1) y_arity y_draftKind y_draftWith y_kind y_with y_patternLength y_resultLength y_rows y_head y_left y_right y_size y_list y_stack y_starts y_argument y_given y_fits (upd y_ends m (nI e)) y_places y_bound y_workKind y_workWith y_owner y_counts y_openSize y_open y_known) : wY_measure_17 post J (nI m) y_cons y_drafted y_nodes y_length y_argumentLength y_givenLength y_steps y_blamed y_how y_ran y_working y_arity y_draftKind y_draftWith y_kind y_with y_patternLength y_resultLength y_rows y_head y_left y_right y_size y_list y_stack y_starts y_argument y_given y_fits y_ends y_places y_bound y_workKind y_workWith y_owner y_counts y_openSize y_open y_known (n + 1) (nI e) (nI j) := by
  have cm : (nI m).toNatClampNeg = m := nI_clamp (by omega)
  have em : y_list (nI m).toNatClampNeg = nI c := by rw [cm]; exact hl
  refine And.intro (vp_in_nI hm (by decide)) (And.intro (by rw [em]; exact vp_in_nI hc (by decide)) ?_)
  rw [em, nI_clamp (by omega), ha c]
  refine pk_le (fg_ar g c) j (fun _ => ?_) (fun h => by omega)
  refine And.intro (vp_in_nI hm (by decide)) ?_
  rw [cm]
  exact nm_e (nm_r (fg_pdm m) hJ)
theorem fg_ym17s {post : SY → Prop} {J : Int32 → (Nat → Int32) → (Nat → Int32) → (Nat → Int32) → (Nat → Int32) → (Nat → Int32) → (Nat → Int32) → (Nat → Int32) → (Nat → Int32) → (Nat → Int32) → (Nat → Int32) → (Nat → Int32) → (Nat → Int32) → (Nat → Int32) → (Nat → Int32) → (Nat → Int32) → (Nat → Int32) → (Nat → Int32) → (Nat → Int32) → (Nat → Int32) → (Nat → Int32) → (Nat → Int32) → (Nat → Int32) → (Nat → Int32) → (Nat → Int32) → (Nat → Int32) → (Nat → Int32) → (Nat → Int32) → (Nat → Int32) → Prop}
    {m n e e' j : Nat} (ha : ∀ c, y_arity c = nI (fg_ar g c)) (h2 : fg_ar g c ≤ 2) (hm : m < 40) (hc : c < 6) (hl : y_list m = nI c) (hj : j < fg_ar g c) (he : e < 40) (hee : y_ends e = nI e')
    (hJ : wY_measure_17 post J (nI m) y_cons y_drafted y_nodes y_length y_argumentLength y_givenLength y_steps y_blamed y_how y_ran y_working y_arity y_draftKind y_draftWith y_kind y_with y_patternLength y_resultLength y_rows y_head y_left y_right y_size y_list y_stack y_starts y_argument y_given y_fits y_ends y_places y_bound y_workKind y_workWith y_owner y_counts y_openSize y_open y_known n (nI e') (nI (j + 1))) : wY_measure_17 post J (nI m) y_cons y_drafted y_nodes y_length y_argumentLength y_givenLength y_steps y_blamed y_how y_ran y_working y_arity y_draftKind y_draftWith y_kind y_with y_patternLength y_resultLength y_rows y_head y_left y_right y_size y_list y_stack y_starts y_argument y_given y_fits y_ends y_places y_bound y_workKind y_workWith y_owner y_counts y_openSize y_open y_known (n + 1) (nI e) (nI j) := by
  have cm : (nI m).toNatClampNeg = m := nI_clamp (by omega)
  have em : y_list (nI m).toNatClampNeg = nI c := by rw [cm]; exact hl
  refine And.intro (vp_in_nI hm (by decide)) (And.intro (by rw [em]; exact vp_in_nI hc (by decide)) ?_)
  rw [em, nI_clamp (by omega), ha c]
  refine pk_le (fg_ar g c) j (fun h => by omega) (fun _ => ?_)
  refine And.intro (vp_in_nI he (by decide)) ?_
  refine nm_r (e' := nI e') (by rw [nI_clamp (by omega)]; exact hee) ?_
  exact nm_r (nI_1 j) hJ
theorem fg_ymeasure {post : SY → Prop} (ha : ∀ c, y_arity c = nI (fg_ar g c)) (hW : fg_WF g) (hok : fg_ok (fg_nc g) (fg_ar g) t) (h40 : fg_sz t ≤ 40) (hl : fg_at y_list 0 (fg_fl t))
    (hp : ∀ en, fg_En t en → post (y_cons, y_drafted, y_nodes, nI (fg_sz t), y_argumentLength, y_givenLength, y_steps, y_blamed, y_how, y_ran, y_working, y_arity, y_draftKind, y_draftWith, y_kind, y_with, y_patternLength, y_resultLength, y_rows, y_head, y_left, y_right, y_size, y_list, y_stack, y_starts, y_argument, y_given, y_fits, en, y_places, y_bound, y_workKind, y_workWith, y_owner, y_counts, y_openSize, y_open, y_known)) : wpY_measure post (y_cons, y_drafted, y_nodes, nI (fg_sz t), y_argumentLength, y_givenLength, y_steps, y_blamed, y_how, y_ran, y_working, y_arity, y_draftKind, y_draftWith, y_kind, y_with, y_patternLength, y_resultLength, y_rows, y_head, y_left, y_right, y_size, y_list, y_stack, y_starts, y_argument, y_given, y_fits, y_ends, y_places, y_bound, y_workKind, y_workWith, y_owner, y_counts, y_openSize, y_open, y_known) := by
  have key : ∀ (m : Nat) (en : Nat → Int32), m ≤ fg_sz t → (∀ p, m ≤ p → p < fg_sz t → en p = nI (p + fg_sz (fg_sub t p))) → wY_measure_7 post y_cons y_drafted y_nodes (nI (fg_sz t)) y_argumentLength y_givenLength y_steps y_blamed y_how y_ran y_working (m + 1) (nI m - 1) y_arity y_draftKind y_draftWith y_kind y_with y_patternLength y_resultLength y_rows y_head y_left y_right y_size y_list y_stack y_starts y_argument y_given y_fits en y_places y_bound y_workKind y_workWith y_owner y_counts y_openSize y_open y_known := by
    intro m
    induction m with
    | zero =>
      intro en hm h
      exact br_t fg_pd0 (hp en (fun p hp' => h p (Nat.zero_le _) hp'))
    | succ m ih =>
      intro en hm h
      rw [nI_pred]
      refine br_f (nI_pos (by omega)) ?_
      refine nm_r (nI_1 m) ?_
      refine ⟨3, ?_⟩
      have hn := fg_sub_ne t m hm
      obtain ⟨hc, hsh, -, -⟩ := fg_ok_b (fg_ok_sub t m hok) hn
      have hsz := fg_sz_br hn
      have hse := fg_sube (t := t) (p := m) hm
      have hnc := hW.1
      have ha2 := hW.2.1 (fg_hd (fg_sub t m))
      have hlm : y_list m = nI (fg_hd (fg_sub t m)) := by
        have := fg_at_hd hl hm
        rwa [Nat.zero_add] at this
      have fin : ∀ e, e = m + fg_sz (fg_sub t m) → wY_measure_7 post y_cons y_drafted y_nodes (nI (fg_sz t)) y_argumentLength y_givenLength y_steps y_blamed y_how y_ran y_working (m + 1) (nI m - 1) y_arity y_draftKind y_draftWith y_kind y_with y_patternLength y_resultLength y_rows y_head y_left y_right y_size y_list y_stack y_starts y_argument y_given y_fits (upd en m (nI e)) y_places y_bound y_workKind y_workWith y_owner y_counts y_openSize y_open y_known := by
        intro e he
        refine ih _ (by omega) (fun p h1 h2 => ?_)
        by_cases z : p = m
        · subst z; rw [pk_us, he]
        · rw [pk_un z]; exact h p (by omega) h2
      rcases hsh with ⟨k0, a0, b0⟩ | ⟨k1, a0, b0⟩ | ⟨k2, a0, b0⟩
      · rw [a0, b0] at hsz
        exact fg_ym17d (g := g) (j := 0) ha ha2 (by omega) (by omega) hlm (by omega) (by omega) (fin _ (by rw [hsz]; rfl))
      · have e1 := h (m + 1) (by omega) (by have := fg_szp a0; omega)
        rw [fg_subl hm a0] at e1
        rw [b0] at hsz
        refine fg_ym17s (g := g) (j := 0) ha ha2 (by omega) (by omega) hlm (by omega) (by have := fg_szp a0; omega) e1 ?_
        exact fg_ym17d (g := g) (j := 1) ha ha2 (by omega) (by omega) hlm (by omega) (by omega) (fin _ (by rw [hsz]; simp only [fg_sz]; omega))
      · have e1 := h (m + 1) (by omega) (by have := fg_szp a0; omega)
        rw [fg_subl hm a0] at e1
        have e2 := h (m + 1 + fg_sz (fg_L (fg_sub t m))) (by omega) (by have := fg_szp b0; omega)
        rw [fg_subr hm b0] at e2
        refine fg_ym17s (g := g) (j := 0) ha ha2 (by omega) (by omega) hlm (by omega) (by have := fg_szp a0; omega) e1 ?_
        refine fg_ym17s (g := g) (j := 1) ha ha2 (by omega) (by omega) hlm (by omega) (by have := fg_szp b0; omega) e2 ?_
        exact fg_ym17d (g := g) (j := 2) ha ha2 (by omega) (by omega) hlm (by omega) (by omega) (fin _ (by rw [hsz]; omega))
  refine nm_e ⟨fg_sz t + 1, ?_⟩
  exact key (fg_sz t) y_ends (Nat.le_refl _) (fun p h1 h2 => by omega)
theorem fg_ypart {post : Int32 → Prop} (hW : fg_WF g) (hC : fg_CY g y_arity y_rows y_patternLength y_resultLength y_kind y_with)
    (hf : f < 4) (hr : r < fg_rw g f) (hR : R = 5 * f + r) :
    ∀ (d i m n : Nat), i < fg_pl g R → fg_pl g R - i = d → m + fg_pl g R < i + 40 → wY_partEnd_4 post y_cons y_drafted y_nodes y_length y_argumentLength y_givenLength y_steps y_blamed y_how y_ran y_working y_arity y_draftKind y_draftWith y_kind y_with y_patternLength y_resultLength y_rows y_head y_left y_right y_size y_list y_stack y_starts y_argument y_given y_fits y_ends y_places y_bound y_workKind y_workWith y_owner y_counts y_openSize y_open y_known n (nI m) (nI (24 * R + fg_pb g R i)) → wY_partEnd_4 post y_cons y_drafted y_nodes y_length y_argumentLength y_givenLength y_steps y_blamed y_how y_ran y_working y_arity y_draftKind y_draftWith y_kind y_with y_patternLength y_resultLength y_rows y_head y_left y_right y_size y_list y_stack y_starts y_argument y_given y_fits y_ends y_places y_bound y_workKind y_workWith y_owner y_counts y_openSize y_open y_known (n + (fg_pb g R i - i)) (nI (m + 1)) (nI (24 * R + i)) := by
  subst hR
  have hr5 := hW.2.2.1 f hf
  obtain ⟨⟨-, p12, -, -⟩, hP, -, hK, -⟩ := hW.2.2.2 f r hf hr
  obtain ⟨-, -, yP, -⟩ := hC.2.2 f r hf hr
  have hnc := hW.1
  generalize hRe : 5 * f + r = R at *
  intro d
  induction d using Nat.strongRecOn with
  | ind d ih =>
    intro i m n hi hd hm w
    obtain ⟨b1, b2, b3⟩ := hP i hi
    obtain ⟨k1, k2⟩ := yP i hi
    obtain ⟨j1, j2, j3⟩ := hK i hi
    obtain ⟨q, hq⟩ : ∃ q, n + (fg_pb g R i - i) = q + 1 := ⟨n + (fg_pb g R i - i) - 1, by omega⟩
    rw [hq]
    have cl : (nI (24 * R + i)).toNatClampNeg = 24 * R + i := nI_clamp (by omega)
    have vi : vp_in (nI (24 * R + i)) 480 := vp_in_nI (by omega) (by decide)
    refine br_f (nI_nle (by omega) (by omega)) (And.intro vi (And.intro vi ?_))
    rw [cl]
    refine fg_yop (kf := fg_pk g R) (vf := fg_pv g R) (i := i) hC.1 (by omega) k1 (fun h => ⟨k2 (Or.inr h), by have := j2 h; omega⟩) ?_
    have nx : ∀ o : Nat, nI (m + 1) + (nI o - 1) = nI (m + o) := by
      intro o
      rw [Int32.sub_eq_add_neg, ← Int32.add_assoc, nI_add, show m + 1 + o = (m + o) + 1 by omega]
      exact pk_m1 (m + o)
    rcases b3 with ⟨o0, o1⟩ | ⟨o0, o1, o2⟩ | ⟨o0, o1, o2, o3⟩
    · rw [o0]
      refine nm_r (nx 0) (nm_r (nI_1 _) ?_)
      rw [o1] at w
      rw [show q = n by omega]
      exact w
    · rw [o0]
      refine nm_r (nx 1) (nm_r (nI_1 _) ?_)
      rw [show q = n + (fg_pb g R (i + 1) - (i + 1)) by omega]
      exact ih _ (by omega) (i + 1) m n o1 rfl (by omega) (by rw [← o2]; exact w)
    · rw [o0]
      refine nm_r (nx 2) (nm_r (nI_1 _) ?_)
      have h1 := (hP (i + 1) o1).1
      have h2 := (hP _ o2).1
      rw [show q = (n + (fg_pb g R (fg_pb g R (i + 1)) - fg_pb g R (i + 1))) + (fg_pb g R (i + 1) - (i + 1)) by omega]
      refine ih _ (by omega) (i + 1) (m + 1) _ o1 rfl (by omega) ?_
      exact ih _ (by omega) (fg_pb g R (i + 1)) m n o2 rfl (by omega) (by rw [← o3]; exact w)
end
end
section
section
variable {y_cons y_drafted y_nodes y_length y_argumentLength y_givenLength y_steps y_blamed y_how y_ran y_working : Int32} {y_arity y_draftKind y_draftWith y_kind y_with y_patternLength y_resultLength y_rows y_head y_left y_right y_size y_list y_stack y_starts y_argument y_given y_fits y_ends y_places y_bound y_workKind y_workWith y_owner y_counts y_openSize y_open y_known : Nat → Int32}
variable {g : fg_C} {f r i c R : Nat} {t : fg_T}
theorem fg_ym243 {post : Int32 → SY → Prop} {J14 J70 : Int32 → (Nat → Int32) → (Nat → Int32) → (Nat → Int32) → (Nat → Int32) → (Nat → Int32) → (Nat → Int32) → (Nat → Int32) → (Nat → Int32) → (Nat → Int32) → (Nat → Int32) → (Nat → Int32) → (Nat → Int32) → (Nat → Int32) → (Nat → Int32) → (Nat → Int32) → (Nat → Int32) → (Nat → Int32) → (Nat → Int32) → (Nat → Int32) → (Nat → Int32) → (Nat → Int32) → (Nat → Int32) → (Nat → Int32) → (Nat → Int32) → (Nat → Int32) → (Nat → Int32) → (Nat → Int32) → (Nat → Int32) → Prop} {x2 x4 x5 x6 : Int32} {p : Nat} {v : Bool} (hi : i < 12) (hp : p < 40)
    (hJ : J70 (nI (p + 1)) y_arity y_draftKind y_draftWith y_kind y_with y_patternLength y_resultLength y_rows y_head y_left y_right y_size y_list y_stack y_starts y_argument y_given (upd y_fits (40 * i + p) (fg_b v)) y_ends y_places y_bound y_workKind y_workWith y_owner y_counts y_openSize y_open y_known) : wY_matches_243 post J14 J70 x2 (nI i) x4 x5 x6 (nI p) (fg_b v) y_cons y_drafted y_nodes y_length y_argumentLength y_givenLength y_steps y_blamed y_how y_ran y_working y_arity y_draftKind y_draftWith y_kind y_with y_patternLength y_resultLength y_rows y_head y_left y_right y_size y_list y_stack y_starts y_argument y_given y_fits y_ends y_places y_bound y_workKind y_workWith y_owner y_counts y_openSize y_open y_known := by
  have e : (40 : Int32) * nI i + nI p = nI (40 * i + p) := fg_40 i p
  unfold wY_matches_243
  rw [e, nI_clamp (by omega), fg_nb]
  exact And.intro (vp_in_nI (by omega) (by decide)) (nm_e (nm_r (nI_1 p) hJ))
def fg_Fi (g : fg_C) (t : fg_T) (R i p : Nat) (fits : Nat → Int32) : Prop :=
  (∀ j, i < j → j < fg_pl g R → ∀ q, q < fg_sz t → fits (40 * j + q) = fg_b (fg_mr g R j (fg_sub t q))) ∧ (∀ q, q < p → fits (40 * i + q) = fg_b (fg_mr g R i (fg_sub t q)))
theorem fg_ym70 {post : Int32 → SY → Prop} {J14 : Int32 → (Nat → Int32) → (Nat → Int32) → (Nat → Int32) → (Nat → Int32) → (Nat → Int32) → (Nat → Int32) → (Nat → Int32) → (Nat → Int32) → (Nat → Int32) → (Nat → Int32) → (Nat → Int32) → (Nat → Int32) → (Nat → Int32) → (Nat → Int32) → (Nat → Int32) → (Nat → Int32) → (Nat → Int32) → (Nat → Int32) → (Nat → Int32) → (Nat → Int32) → (Nat → Int32) → (Nat → Int32) → (Nat → Int32) → (Nat → Int32) → (Nat → Int32) → (Nat → Int32) → (Nat → Int32) → (Nat → Int32) → Prop}
    (hW : fg_WF g) (hC : fg_CY g y_arity y_rows y_patternLength y_resultLength y_kind y_with)
    (hf : f < 4) (hr : r < fg_rw g f) (hR : R = 5 * f + r) (hi : i < fg_pl g R) (s : Nat) (hs : fg_op (fg_ar g) (fg_pk g R) (fg_pv g R) i = 2 → s = fg_pb g R (i + 1))
    (hok : fg_ok (fg_nc g) (fg_ar g) t) (h40 : fg_sz t ≤ 40) (hl : fg_at y_list 0 (fg_fl t)) (hE : fg_En t y_ends)
    (hJ : ∀ fits, fg_Fi g t R i (fg_sz t) fits → J14 (nI i - 1) y_arity y_draftKind y_draftWith y_kind y_with y_patternLength y_resultLength y_rows y_head y_left y_right y_size y_list y_stack y_starts y_argument y_given fits y_ends y_places y_bound y_workKind y_workWith y_owner y_counts y_openSize y_open y_known) :
    ∀ (d p : Nat) (fits : Nat → Int32), p + d = fg_sz t → fg_Fi g t R i p fits →
      wY_matches_70 post J14 (nI (24 * R)) (nI i) (nI (fg_pk g R i)) (nI (fg_op (fg_ar g) (fg_pk g R) (fg_pv g R) i)) (nI s) y_cons y_drafted y_nodes (nI (fg_sz t)) y_argumentLength y_givenLength y_steps y_blamed y_how y_ran y_working (d + 1) (nI p) y_arity y_draftKind y_draftWith y_kind y_with y_patternLength y_resultLength y_rows y_head y_left y_right y_size y_list y_stack y_starts y_argument y_given fits y_ends y_places y_bound y_workKind y_workWith y_owner y_counts y_openSize y_open y_known := by
  subst hR
  have hr5 := hW.2.2.1 f hf
  obtain ⟨⟨-, p12, -, -⟩, hP, -, hK, -⟩ := hW.2.2.2 f r hf hr
  obtain ⟨-, -, yP, -⟩ := hC.2.2 f r hf hr
  have hnc := hW.1
  generalize hRe : 5 * f + r = R at *
  have hR : R < 20 := by omega
  obtain ⟨k1, k2⟩ := yP i hi
  obtain ⟨j1, j2, j3⟩ := hK i hi
  intro d
  induction d with
  | zero =>
    intro p fits hd hF
    refine br_t (nI_le (by omega) (by omega)) ?_
    refine nm_r (fg_pdm i) (hJ fits ?_)
    rw [show fg_sz t = p by omega]; exact hF
  | succ d ih =>
    intro p fits hd hF
    have hp : p < fg_sz t := by omega
    refine br_f (nI_ge hp (by omega)) ?_
    have hn := fg_sub_ne t p hp
    obtain ⟨hc, hsh, -, -⟩ := fg_ok_b (fg_ok_sub t p hok) hn
    have hse := fg_sube (t := t) (p := p) hp
    have fin : ∀ (x2 x4 x5 x6 : Int32), wY_matches_243 post J14 (wY_matches_70 post J14 (nI (24 * R)) (nI i) (nI (fg_pk g R i)) (nI (fg_op (fg_ar g) (fg_pk g R) (fg_pv g R) i)) (nI s) y_cons y_drafted y_nodes (nI (fg_sz t)) y_argumentLength y_givenLength y_steps y_blamed y_how y_ran y_working (d + 1)) x2 (nI i) x4 x5 x6 (nI p) (fg_b (fg_mr g R i (fg_sub t p))) y_cons y_drafted y_nodes (nI (fg_sz t)) y_argumentLength y_givenLength y_steps y_blamed y_how y_ran y_working y_arity y_draftKind y_draftWith y_kind y_with y_patternLength y_resultLength y_rows y_head y_left y_right y_size y_list y_stack y_starts y_argument y_given fits y_ends y_places y_bound y_workKind y_workWith y_owner y_counts y_openSize y_open y_known := by
      intro x2 x4 x5 x6
      refine fg_ym243 (by omega) (by omega) (ih (p + 1) _ (by omega) ⟨fun j h1 h2 q hq => ?_, fun q hq => ?_⟩)
      · rw [pk_un (by omega)]; exact hF.1 j h1 h2 q hq
      · by_cases z : q = p
        · subst z; rw [pk_us]
        · rw [pk_un (by omega)]; exact hF.2 q (by omega)
    have e1 : (40 : Int32) * (nI i + 1) + nI p = nI (40 * (i + 1) + p) := by rw [nI_1, fg_40]
    rcases (show fg_pk g R i = 0 ∨ fg_pk g R i = 1 ∨ fg_pk g R i = 2 ∨ fg_pk g R i = 3 ∨ fg_pk g R i = 4 by omega) with hk | hk | hk | hk | hk
    · rw [show fg_mr g R i (fg_sub t p) = true from fg_M0 (by omega) (by omega) (by omega)] at fin
      refine br_f (by rw [hk]; decide) ?_
      unfold wY_matches_128
      refine br_f (by rw [hk]; decide) ?_
      unfold wY_matches_158
      refine br_f (by rw [hk]; decide) ?_
      exact fin _ _ _ _
    · rw [show fg_mr g R i (fg_sub t p) = true from fg_M0 (by omega) (by omega) (by omega)] at fin
      refine br_f (by rw [hk]; decide) ?_
      unfold wY_matches_128
      refine br_f (by rw [hk]; decide) ?_
      unfold wY_matches_158
      refine br_f (by rw [hk]; decide) ?_
      exact fin _ _ _ _
    · have hm : fg_mr g R i (fg_sub t p) = ((fg_hd (fg_sub t p) == fg_pv g R i) && (fg_ar g (fg_pv g R i) == 0 || fg_mr g R (i + 1) (fg_L (fg_sub t p))) && (decide (fg_ar g (fg_pv g R i) ≤ 1) || fg_mr g R (fg_pb g R (i + 1)) (fg_R (fg_sub t p)))) := fg_M2 hP p12 hi hk
      have ho : fg_op (fg_ar g) (fg_pk g R) (fg_pv g R) i = fg_ar g (fg_pv g R i) := fg_op2 hk
      have hv := j2 hk
      have hw : y_with (24 * R + i) = nI (fg_pv g R i) := k2 (Or.inr hk)
      have hlp : y_list p = nI (fg_hd (fg_sub t p)) := by
        have := fg_at_hd hl hp
        rwa [Nat.zero_add] at this
      have ha2 := hW.2.1 (fg_pv g R i)
      refine br_f (by rw [hk]; decide) ?_
      unfold wY_matches_128
      refine br_f (by rw [hk]; decide) ?_
      unfold wY_matches_158
      refine br_t (by rw [hk]; rfl) ?_
      refine And.intro (vp_in_nI (by omega) (by decide)) ?_
      rw [nI_add, nI_clamp (show p < 2 ^ 31 by omega), nI_clamp (show 24 * R + i < 2 ^ 31 by omega), hlp, hw]
      refine And.intro (vp_in_nI (by omega) (by decide)) ?_
      refine pk_eq (fg_hd (fg_sub t p)) (fg_pv g R i) (fun hvc => ?_) (fun hvc => ?_)
      · rw [← hvc] at hm ho ha2
        rw [beq_self_eq_true, Bool.true_and] at hm
        rw [hvc] at hsh
        rw [hvc] at hm ho ha2
        have t207 : (fg_ar g (fg_pv g R i) = 0 ∨ fg_mr g R (i + 1) (fg_L (fg_sub t p)) = true) → wY_matches_207 post J14 (wY_matches_70 post J14 (nI (24 * R)) (nI i) (nI (fg_pk g R i)) (nI (fg_op (fg_ar g) (fg_pk g R) (fg_pv g R) i)) (nI s) y_cons y_drafted y_nodes (nI (fg_sz t)) y_argumentLength y_givenLength y_steps y_blamed y_how y_ran y_working (d + 1)) (nI (24 * R)) (nI i) (nI (fg_pk g R i)) (nI (fg_op (fg_ar g) (fg_pk g R) (fg_pv g R) i)) (nI s) (nI p) y_cons y_drafted y_nodes (nI (fg_sz t)) y_argumentLength y_givenLength y_steps y_blamed y_how y_ran y_working y_arity y_draftKind y_draftWith y_kind y_with y_patternLength y_resultLength y_rows y_head y_left y_right y_size y_list y_stack y_starts y_argument y_given fits y_ends y_places y_bound y_workKind y_workWith y_owner y_counts y_openSize y_open y_known := by
          intro h1
          have hm1 : fg_mr g R i (fg_sub t p) = (decide (fg_ar g (fg_pv g R i) ≤ 1) || fg_mr g R (fg_pb g R (i + 1)) (fg_R (fg_sub t p))) := by
            rw [hm]
            rcases h1 with h1 | h1
            · rw [h1]; rfl
            · rw [h1, Bool.or_true, Bool.true_and]
          unfold wY_matches_207
          refine pk_lt (fg_op (fg_ar g) (fg_pk g R) (fg_pv g R) i) 2 (fun h2 => ?_) (fun h2 => ?_)
          · rw [hm1, decide_eq_true (by omega), Bool.true_or] at fin
            unfold wY_matches_236 wY_matches_241
            exact fin _ _ _ _
          · have h2' : fg_op (fg_ar g) (fg_pk g R) (fg_pv g R) i = 2 := by omega
            obtain ⟨b1, b2, -⟩ := fg_P2 hP hi h2'
            have hLn : fg_L (fg_sub t p) ≠ fg_nil := by
              rcases hsh with h | h | h
              · omega
              · omega
              · exact h.2.1
            have hRn : fg_R (fg_sub t p) ≠ fg_nil := by
              rcases hsh with h | h | h
              · omega
              · omega
              · exact h.2.2
            have z1 := fg_szp hLn
            have z2 := fg_szp hRn
            have ee := hE (p + 1) (by omega)
            rw [fg_subl hp hLn] at ee
            refine And.intro (by rw [nI_1]; exact vp_in_nI (by omega) (by decide)) ?_
            have hs' := hs h2'
            rw [nI_1 p, nI_clamp (show p + 1 < 2 ^ 31 by omega), ee, fg_40, nI_clamp (by omega)]
            refine And.intro (vp_in_nI (by omega) (by decide)) ?_
            rw [hF.1 s (by omega) (by omega) _ (by omega), fg_subr hp hRn]
            rw [hm1, decide_eq_false (by omega), Bool.false_or, ← hs'] at fin
            refine ek_if (fg_b0 _) (fun hb => ?_) (fun hb => ?_)
            · rw [hb] at fin; unfold wY_matches_240 wY_matches_241; exact fin _ _ _ _
            · rw [ts_nf hb] at fin; unfold wY_matches_236 wY_matches_241; exact fin _ _ _ _
        refine pk_lt (fg_op (fg_ar g) (fg_pk g R) (fg_pv g R) i) 1 (fun h1 => ?_) (fun h1 => ?_)
        · exact t207 (Or.inl (by omega))
        · have hi1 : i + 1 < fg_pl g R := fg_P1 hP hi (by omega)
          have hLn : fg_L (fg_sub t p) ≠ fg_nil := by
            rcases hsh with h | h | h
            · omega
            · exact h.2.1
            · exact h.2.1
          have z1 := fg_szp hLn
          have e2 : (40 : Int32) * (nI i + 1) + nI p + 1 = nI (40 * (i + 1) + (p + 1)) := by rw [e1, nI_1]; rfl
          rw [e2, nI_clamp (by omega)]
          refine And.intro (vp_in_nI (by omega) (by decide)) ?_
          rw [hF.1 (i + 1) (by omega) hi1 _ (by omega), fg_subl hp hLn]
          refine ek_if (fg_b0 _) (fun hb => ?_) (fun hb => ?_)
          · rw [hm, hb, show (fg_ar g (fg_pv g R i) == 0) = false from beq_eq_false_iff_ne.mpr (by omega), Bool.false_or, Bool.false_and] at fin
            unfold wY_matches_240 wY_matches_241
            exact fin _ _ _ _
          · exact t207 (Or.inr (ts_nf hb))
      · rw [hm, show (fg_hd (fg_sub t p) == fg_pv g R i) = false from beq_eq_false_iff_ne.mpr hvc, Bool.false_and, Bool.false_and] at fin
        unfold wY_matches_240 wY_matches_241
        exact fin _ _ _ _
    · have hm : fg_mr g R i (fg_sub t p) = (fg_mr g R (i + 1) (fg_sub t p) || fg_mr g R (fg_pb g R (i + 1)) (fg_sub t p)) := fg_M3 hP p12 hi hk
      have ho : fg_op (fg_ar g) (fg_pk g R) (fg_pv g R) i = 2 := fg_op3 hk
      have hi1 : i + 1 < fg_pl g R := fg_P1 hP hi (by omega)
      obtain ⟨b1, b2, -⟩ := fg_P2 hP hi ho
      have t126 : ∀ v : Bool, fg_mr g R i (fg_sub t p) = v → wY_matches_126 post J14 (wY_matches_70 post J14 (nI (24 * R)) (nI i) (nI (fg_pk g R i)) (nI (fg_op (fg_ar g) (fg_pk g R) (fg_pv g R) i)) (nI s) y_cons y_drafted y_nodes (nI (fg_sz t)) y_argumentLength y_givenLength y_steps y_blamed y_how y_ran y_working (d + 1)) (nI (24 * R)) (nI i) (nI (fg_pk g R i)) (nI (fg_op (fg_ar g) (fg_pk g R) (fg_pv g R) i)) (nI s) (nI p) (fg_b v) y_cons y_drafted y_nodes (nI (fg_sz t)) y_argumentLength y_givenLength y_steps y_blamed y_how y_ran y_working y_arity y_draftKind y_draftWith y_kind y_with y_patternLength y_resultLength y_rows y_head y_left y_right y_size y_list y_stack y_starts y_argument y_given fits y_ends y_places y_bound y_workKind y_workWith y_owner y_counts y_openSize y_open y_known := by
        intro v hv
        unfold wY_matches_126 wY_matches_128
        refine br_f (by rw [hk]; decide) ?_
        unfold wY_matches_158
        refine br_f (by rw [hk]; decide) ?_
        rw [hv] at fin
        exact fin _ _ _ _
      refine br_t (by rw [hk]; rfl) ?_
      rw [e1, nI_clamp (by omega)]
      refine And.intro (vp_in_nI (by omega) (by decide)) ?_
      rw [hF.1 (i + 1) (by omega) hi1 _ hp]
      refine ek_if (fg_b0 _) (fun ha => ?_) (fun ha => ?_)
      · have hs' := hs ho
        rw [fg_40, nI_clamp (by omega)]
        refine And.intro (vp_in_nI (by omega) (by decide)) ?_
        rw [hF.1 s (by omega) (by omega) _ hp]
        refine ek_if (fg_b0 _) (fun hb => ?_) (fun hb => ?_)
        · rw [hs'] at hb
          exact t126 false (by rw [hm, ha, hb]; rfl)
        · rw [hs'] at hb
          exact t126 true (by rw [hm, ts_nf hb, Bool.or_true])
      · exact t126 true (by rw [hm, ts_nf ha, Bool.true_or])
    · have hm : fg_mr g R i (fg_sub t p) = !(fg_mr g R (i + 1) (fg_sub t p)) := fg_M4 hP p12 hi hk
      have hi1 : i + 1 < fg_pl g R := fg_P1 hP hi (by rw [fg_op4 hk]; omega)
      have t156 : ∀ v : Bool, fg_mr g R i (fg_sub t p) = v → wY_matches_156 post J14 (wY_matches_70 post J14 (nI (24 * R)) (nI i) (nI (fg_pk g R i)) (nI (fg_op (fg_ar g) (fg_pk g R) (fg_pv g R) i)) (nI s) y_cons y_drafted y_nodes (nI (fg_sz t)) y_argumentLength y_givenLength y_steps y_blamed y_how y_ran y_working (d + 1)) (nI (24 * R)) (nI i) (nI (fg_pk g R i)) (nI (fg_op (fg_ar g) (fg_pk g R) (fg_pv g R) i)) (nI s) (nI p) (fg_b v) y_cons y_drafted y_nodes (nI (fg_sz t)) y_argumentLength y_givenLength y_steps y_blamed y_how y_ran y_working y_arity y_draftKind y_draftWith y_kind y_with y_patternLength y_resultLength y_rows y_head y_left y_right y_size y_list y_stack y_starts y_argument y_given fits y_ends y_places y_bound y_workKind y_workWith y_owner y_counts y_openSize y_open y_known := by
        intro v hv
        unfold wY_matches_156 wY_matches_158
        refine br_f (by rw [hk]; decide) ?_
        rw [hv] at fin
        exact fin _ _ _ _
      refine br_f (by rw [hk]; decide) ?_
      unfold wY_matches_128
      refine br_t (by rw [hk]; rfl) ?_
      rw [e1, nI_clamp (by omega)]
      refine And.intro (vp_in_nI (by omega) (by decide)) ?_
      rw [hF.1 (i + 1) (by omega) hi1 _ hp]
      refine ek_if (fg_b0 _) (fun hb => ?_) (fun hb => ?_)
      · exact t156 true (by rw [hm, hb]; rfl)
      · exact t156 false (by rw [hm, ts_nf hb]; rfl)
theorem fg_ymatches {post : Int32 → SY → Prop}
    (hW : fg_WF g) (hC : fg_CY g y_arity y_rows y_patternLength y_resultLength y_kind y_with)
    (hf : f < 4) (hr : r < fg_rw g f) (hR : R = 5 * f + r)
    (hok : fg_ok (fg_nc g) (fg_ar g) t) (ht : t ≠ fg_nil) (h40 : fg_sz t ≤ 40) (hl : fg_at y_list 0 (fg_fl t)) (hE : fg_En t y_ends)
    (hp : ∀ fits, post (fg_b (fg_mr g R 0 t)) (y_cons, y_drafted, y_nodes, nI (fg_sz t), y_argumentLength, y_givenLength, y_steps, y_blamed, y_how, y_ran, y_working, y_arity, y_draftKind, y_draftWith, y_kind, y_with, y_patternLength, y_resultLength, y_rows, y_head, y_left, y_right, y_size, y_list, y_stack, y_starts, y_argument, y_given, fits, y_ends, y_places, y_bound, y_workKind, y_workWith, y_owner, y_counts, y_openSize, y_open, y_known)) : wpY_matches post (y_cons, y_drafted, y_nodes, nI (fg_sz t), y_argumentLength, y_givenLength, y_steps, y_blamed, y_how, y_ran, y_working, y_arity, y_draftKind, y_draftWith, y_kind, y_with, y_patternLength, y_resultLength, y_rows, y_head, y_left, y_right, y_size, y_list, y_stack, y_starts, y_argument, y_given, y_fits, y_ends, y_places, y_bound, y_workKind, y_workWith, y_owner, y_counts, y_openSize, y_open, y_known) (nI R) := by
  have hr5 := hW.2.2.1 f hf
  have hRW := hW.2.2.2 f r hf hr
  rw [← hR] at hRW
  obtain ⟨⟨p1, p12, -, -⟩, hP, -, hK, -⟩ := hRW
  have hYR := hC.2.2 f r hf hr
  rw [← hR] at hYR
  obtain ⟨yl, -, yP, -⟩ := hYR
  have hnc := hW.1
  have hR20 : R < 20 := by omega
  have key : ∀ (m : Nat) (fits : Nat → Int32), m ≤ fg_pl g R → (∀ j, m ≤ j → j < fg_pl g R → ∀ q, q < fg_sz t → fits (40 * j + q) = fg_b (fg_mr g R j (fg_sub t q))) →
      wY_matches_14 post (nI (24 * R)) y_cons y_drafted y_nodes (nI (fg_sz t)) y_argumentLength y_givenLength y_steps y_blamed y_how y_ran y_working (m + 1) (nI m - 1) y_arity y_draftKind y_draftWith y_kind y_with y_patternLength y_resultLength y_rows y_head y_left y_right y_size y_list y_stack y_starts y_argument y_given fits y_ends y_places y_bound y_workKind y_workWith y_owner y_counts y_openSize y_open y_known := by
    intro m
    induction m with
    | zero =>
      intro fits _ h
      have e : fits 0 = fg_b (fg_mr g R 0 t) := by
        have := h 0 (Nat.le_refl _) (by omega) 0 (fg_szp ht)
        rwa [fg_sub0] at this
      refine br_t fg_pd0 ?_
      rw [e]
      exact And.intro (fg_nnb _) (hp fits)
    | succ m ih =>
      intro fits hm h
      rw [nI_pred]
      refine br_f (nI_pos (by omega)) ?_
      obtain ⟨k1, k2⟩ := yP m hm
      obtain ⟨j1, j2, j3⟩ := hK m hm
      rw [nI_add, nI_clamp (by omega)]
      have vi : vp_in (nI (24 * R + m)) 480 := vp_in_nI (by omega) (by decide)
      refine And.intro vi (nm_r k1 (And.intro vi ?_))
      have inner : wY_matches_70 post (wY_matches_14 post (nI (24 * R)) y_cons y_drafted y_nodes (nI (fg_sz t)) y_argumentLength y_givenLength y_steps y_blamed y_how y_ran y_working (m + 1)) (nI (24 * R)) (nI m) (nI (fg_pk g R m)) (nI (fg_op (fg_ar g) (fg_pk g R) (fg_pv g R) m)) (nI (if fg_op (fg_ar g) (fg_pk g R) (fg_pv g R) m = 2 then fg_pb g R (m + 1) else 0)) y_cons y_drafted y_nodes (nI (fg_sz t)) y_argumentLength y_givenLength y_steps y_blamed y_how y_ran y_working (fg_sz t + 1) (nI 0) y_arity y_draftKind y_draftWith y_kind y_with y_patternLength y_resultLength y_rows y_head y_left y_right y_size y_list y_stack y_starts y_argument y_given fits y_ends y_places y_bound y_workKind y_workWith y_owner y_counts y_openSize y_open y_known := fg_ym70 hW hC hf hr hR hm (if fg_op (fg_ar g) (fg_pk g R) (fg_pv g R) m = 2 then fg_pb g R (m + 1) else 0) (fun h => if_pos h) hok h40 hl hE
        (fun fits' hF => ih fits' (by omega) (fun j h1 h2 q hq => by
          rcases Nat.eq_or_lt_of_le h1 with z | z
          · subst z; exact hF.2 q hq
          · exact hF.1 j z h2 q hq)) (fg_sz t) 0 fits (by omega) ⟨fun j h1 h2 q hq => h j (by omega) h2 q hq, fun q hq => by omega⟩
      refine fg_yop (kf := fg_pk g R) (vf := fg_pv g R) (i := m) hC.1 (by omega) rfl (fun h => ⟨k2 (Or.inr h), by have := j2 h; omega⟩) ?_
      refine pk_eq (fg_op (fg_ar g) (fg_pk g R) (fg_pv g R) m) 2 (fun h2 => ?_) (fun h2 => ?_) rfl rfl (by have := fg_op_le (k := fg_pk g R) (v := fg_pv g R) (i := m) hW.2.1; omega) (by decide)
      · rw [if_pos h2] at inner
        have hm1 : m + 1 < fg_pl g R := fg_P1 hP hm (by omega)
        refine ⟨1 + (fg_pb g R (m + 1) - (m + 1)), ?_⟩
        rw [nI_1]
        refine fg_ypart hW hC hf hr hR _ (m + 1) 0 1 hm1 rfl (by omega) ?_
        refine br_t (by decide) ?_
        refine nm_r (e' := nI (fg_pb g R (m + 1))) (by rw [pk_sub (by omega)]; exact congrArg nI (by omega)) ?_
        exact ⟨_, inner⟩
      · rw [if_neg h2] at inner
        exact ⟨_, inner⟩
  refine nm_r (e' := nI (24 * R)) (fg_mulc 24 R) (And.intro (vp_in_nI hR20 (by decide)) ?_)
  refine nm_r (e' := nI (fg_pl g R) - 1) (by rw [nI_clamp (by omega), yl]) ?_
  exact ⟨_, key (fg_pl g R) y_fits (Nat.le_refl _) (fun j h1 h2 => by omega)⟩
theorem fg_ytakes {post : Int32 → SY → Prop}
    (hW : fg_WF g) (hC : fg_CY g y_arity y_rows y_patternLength y_resultLength y_kind y_with)
    (hf : f < 4) (hok : fg_ok (fg_nc g) (fg_ar g) t) (ht : t ≠ fg_nil) (h40 : fg_sz t ≤ 40) (hl : fg_at y_list 0 (fg_fl t))
    (hp : ∀ en fits, fg_En t en → post (fg_an g f t) (y_cons, y_drafted, y_nodes, nI (fg_sz t), y_argumentLength, y_givenLength, y_steps, y_blamed, y_how, y_ran, y_working, y_arity, y_draftKind, y_draftWith, y_kind, y_with, y_patternLength, y_resultLength, y_rows, y_head, y_left, y_right, y_size, y_list, y_stack, y_starts, y_argument, y_given, fits, en, y_places, y_bound, y_workKind, y_workWith, y_owner, y_counts, y_openSize, y_open, y_known)) : wpY_takes post (y_cons, y_drafted, y_nodes, nI (fg_sz t), y_argumentLength, y_givenLength, y_steps, y_blamed, y_how, y_ran, y_working, y_arity, y_draftKind, y_draftWith, y_kind, y_with, y_patternLength, y_resultLength, y_rows, y_head, y_left, y_right, y_size, y_list, y_stack, y_starts, y_argument, y_given, y_fits, y_ends, y_places, y_bound, y_workKind, y_workWith, y_owner, y_counts, y_openSize, y_open, y_known) (nI f) := by
  have hr5 := hW.2.2.1 f hf
  have hrow : y_rows (nI f).toNatClampNeg = nI (fg_rw g f) := by rw [nI_clamp (by omega)]; exact hC.2.1 f hf
  unfold wpY_takes
  dsimp only
  refine fg_ymeasure hC.1 hW hok h40 hl (fun en hE => ?_)
  have key : ∀ (d r : Nat) (fits : Nat → Int32), r + d = fg_rw g f → (∀ j, j < r → fg_mr g (5 * f + j) 0 t = false) → wY_takes_6 post (nI f) (d + 1) (nI r) y_cons y_drafted y_nodes (nI (fg_sz t)) y_argumentLength y_givenLength y_steps y_blamed y_how y_ran y_working y_arity y_draftKind y_draftWith y_kind y_with y_patternLength y_resultLength y_rows y_head y_left y_right y_size y_list y_stack y_starts y_argument y_given fits en y_places y_bound y_workKind y_workWith y_owner y_counts y_openSize y_open y_known := by
    intro d
    induction d with
    | zero =>
      intro r fits hd h
      refine And.intro (vp_in_nI hf (by decide)) ?_
      rw [hrow]
      refine pk_le (fg_rw g f) r (fun _ => ?_) (fun h => by omega)
      have e : fg_tk g f t = fg_rw g f := fg_fr_eq _ _ (Nat.le_refl _) (fun j hj => h j (by omega)) (fun h => absurd h (Nat.lt_irrefl _))
      have q := hp en fits hE
      unfold fg_an at q
      rw [if_neg (by omega)] at q
      exact q
    | succ d ih =>
      intro r fits hd h
      have hr : r < fg_rw g f := by omega
      refine And.intro (vp_in_nI hf (by decide)) ?_
      rw [hrow]
      refine pk_le (fg_rw g f) r (fun h => by omega) (fun _ => ?_)
      have e5 : (5 : Int32) * nI f + nI r = nI (5 * f + r) := by rw [show (5 : Int32) = nI 5 from rfl, fg_mulc, nI_add]
      rw [e5]
      refine fg_ymatches hW hC hf hr rfl hok ht h40 hl hE (fun fits' => ?_)
      refine ek_if (fg_b0 _) (fun ha => ?_) (fun ha => ?_)
      · refine nm_r (nI_1 r) (ih (r + 1) _ (by omega) (fun j hj => ?_))
        rcases Nat.lt_or_ge j r with z | z
        · exact h j z
        · rw [show j = r by omega]; exact ha
      · have e : fg_tk g f t = r := fg_fr_eq _ _ (by omega) h (fun _ => ts_nf ha)
        have q := hp en fits' hE
        unfold fg_an at q
        rw [if_pos (by omega), e] at q
        exact q
  exact ⟨_, key (fg_rw g f) 0 y_fits (by omega) (fun j hj => by omega)⟩
end
end
section
/-! cells and nodes: what a number stands for -/
theorem fg_i8 {n : Nat} (h : n < 128) : (nI n).toInt8.toInt32 = nI n := lg_i2b_small (by rw [nI_toInt (by omega)]; omega) (by rw [nI_toInt (by omega)]; omega)
theorem fg_i16 {n : Nat} (h : n < 32768) : (nI n).toInt16.toInt32 = nI n := lg_i2s_small (by rw [nI_toInt (by omega)]; omega) (by rw [nI_toInt (by omega)]; omega)
theorem fg_m8 : (-1 : Int32).toInt8.toInt32 = -1 := by decide
theorem fg_m16 : (-1 : Int32).toInt16.toInt32 = -1 := by decide
theorem fg_v8 {n : Nat} (h : n < 128) : vp_nar .byte (nI n) = nI n := by rw [vp_nar_byte, fg_i8 h]
theorem fg_v16 {n : Nat} (h : n < 32768) : vp_nar .short (nI n) = nI n := by rw [vp_nar_short, fg_i16 h]
theorem fg_v16m : vp_nar .short (-1) = -1 := by rw [vp_nar_short, fg_m16]
theorem fg_w8 {n : Nat} (h : n < 128) : vp_nar .byte ((nI n).toInt8.toInt32) = nI n := by rw [fg_i8 h, fg_v8 h]
theorem fg_w16 {n : Nat} (h : n < 32768) : vp_nar .short ((nI n).toInt16.toInt32) = nI n := by rw [fg_i16 h, fg_v16 h]
theorem fg_w16m : vp_nar .short ((-1 : Int32).toInt16.toInt32) = -1 := by rw [fg_m16, fg_v16m]
theorem fg_m1n {n : Nat} (h : n < 2 ^ 31) : ¬ (-1 : Int32) = nI n := by
  intro e
  have := congrArg Int32.toInt e
  rw [nI_toInt h, show (-1 : Int32).toInt = -1 from by decide] at this
  omega
theorem fg_m1neg : (-1 : Int32) < 0 := by decide
theorem fg_m1le : ¬ (0 : Int32) ≤ -1 := by decide
/-- a pointer x stands for a tree t among N -/
def fg_pt (T : Nat → fg_T) (N : Nat) (x : Int32) (t : fg_T) : Prop := (x = -1 ∧ t = fg_nil) ∨ (∃ j, j < N ∧ x = nI j ∧ T j = t)
def fg_Ce (g : fg_C) (con fst snd siz : Nat → Int32) (N : Nat) (T : Nat → fg_T) : Prop :=
  ∀ i, i < N → T i ≠ fg_nil ∧ fg_ok (fg_nc g) (fg_ar g) (T i) ∧ fg_sz (T i) ≤ 40 ∧ con i = nI (fg_hd (T i)) ∧ fg_pt T i (fst i) (fg_L (T i)) ∧ fg_pt T i (snd i) (fg_R (T i)) ∧ siz i = nI (fg_sz (T i))
def fg_ex (T : Nat → fg_T) (N : Nat) (t : fg_T) : Nat → fg_T := fun j => if j = N then t else T j
theorem fg_ex_n {T : Nat → fg_T} {N : Nat} {t : fg_T} : fg_ex T N t N = t := if_pos rfl
theorem fg_ex_o {T : Nat → fg_T} {N j : Nat} {t : fg_T} (h : j < N) : fg_ex T N t j = T j := if_neg (by omega)
theorem fg_pt_mono {T T' : Nat → fg_T} {N N' : Nat} {x : Int32} {t : fg_T} (h : fg_pt T N x t) (hN : N ≤ N') (hT : ∀ j, j < N → T' j = T j) : fg_pt T' N' x t := by
  rcases h with h | ⟨j, h1, h2, h3⟩
  · exact Or.inl h
  · exact Or.inr ⟨j, by omega, h2, by rw [hT j h1]; exact h3⟩
theorem fg_pt_fun {T : Nat → fg_T} {N M : Nat} {x : Int32} {t t' : fg_T} (hN : N < 2 ^ 31) (hM : M < 2 ^ 31) (h : fg_pt T N x t) (h' : fg_pt T M x t') : t = t' := by
  rcases h with ⟨a, b⟩ | ⟨j, h1, h2, h3⟩
  · rcases h' with ⟨a', b'⟩ | ⟨j', h1', h2', h3'⟩
    · rw [b, b']
    · rw [a] at h2'; exact absurd h2' (fg_m1n (by omega))
  · rcases h' with ⟨a', b'⟩ | ⟨j', h1', h2', h3'⟩
    · rw [h2] at a'; exact absurd a'.symm (fg_m1n (by omega))
    · rw [h2] at h2'
      have := (nI_eq (by omega) (by omega)).mp h2'
      subst this
      rw [← h3, ← h3']
theorem fg_pt_nil {T : Nat → fg_T} {N : Nat} {x : Int32} (hC : ∀ j, j < N → T j ≠ fg_nil) (h : fg_pt T N x fg_nil) : x = -1 := by
  rcases h with ⟨a, b⟩ | ⟨j, h1, h2, h3⟩
  · exact a
  · exact absurd h3 (hC j h1)
theorem fg_pt_ne {T : Nat → fg_T} {N : Nat} {x : Int32} {t : fg_T} (ht : t ≠ fg_nil) (h : fg_pt T N x t) : ∃ j, j < N ∧ x = nI j ∧ T j = t := by
  rcases h with ⟨a, b⟩ | h
  · exact absurd b ht
  · exact h
theorem fg_Ce_new {g : fg_C} {con fst snd siz : Nat → Int32} {N c : Nat} {T : Nat → fg_T} {x y : Int32} {a b : fg_T} (h : fg_Ce g con fst snd siz N T)
    (hok : fg_ok (fg_nc g) (fg_ar g) (.branch c a b)) (h40 : fg_sz (.branch c a b : fg_T) ≤ 40) (hx : fg_pt T N x a) (hy : fg_pt T N y b) :
    fg_Ce g (upd con N (nI c)) (upd fst N x) (upd snd N y) (upd siz N (nI (fg_sz (.branch c a b : fg_T)))) (N + 1) (fg_ex T N (.branch c a b)) := by
  intro i hi
  rcases Nat.eq_or_lt_of_le (Nat.le_of_lt_succ hi) with z | z
  · subst z
    rw [fg_ex_n, pk_us, pk_us, pk_us, pk_us]
    exact ⟨fg_ne_b, hok, h40, rfl, fg_pt_mono hx (Nat.le_refl _) (fun j hj => fg_ex_o hj), fg_pt_mono hy (Nat.le_refl _) (fun j hj => fg_ex_o hj), rfl⟩
  · have hz : i ≠ N := by omega
    rw [fg_ex_o z, pk_un hz, pk_un hz, pk_un hz, pk_un hz]
    obtain ⟨h1, h2, h3, h4, h5, h6, h7⟩ := h i z
    exact ⟨h1, h2, h3, h4, fg_pt_mono h5 (Nat.le_refl _) (fun j hj => fg_ex_o (by omega)), fg_pt_mono h6 (Nat.le_refl _) (fun j hj => fg_ex_o (by omega)), h7⟩
/-- M different numbers below N: M ≤ N -/
theorem fg_pig : ∀ (N M : Nat) (f : Nat → Nat), (∀ i, i < M → f i < N) → (∀ i j, i < M → j < M → f i = f j → i = j) → M ≤ N := by
  intro N
  induction N with
  | zero =>
    intro M f h1 _
    rcases Nat.eq_zero_or_pos M with z | z
    · omega
    · have := h1 0 z; omega
  | succ N ih =>
    intro M f h1 h2
    by_cases e : ∃ i, i < M ∧ f i = N
    · obtain ⟨i0, hi0, e0⟩ := e
      have := ih (M - 1) (fun i => if i = i0 then f (M - 1) else f i) (fun i hi => ?_) (fun i j hi hj hij => ?_)
      · omega
      · show (if i = i0 then f (M - 1) else f i) < N
        by_cases z : i = i0
        · rw [if_pos z]
          have a := h1 (M - 1) (by omega)
          have : f (M - 1) ≠ N := fun q => by
            have := h2 (M - 1) i0 (by omega) hi0 (by omega)
            omega
          omega
        · rw [if_neg z]
          have a := h1 i (by omega)
          have : f i ≠ N := fun q => z (h2 i i0 (by omega) hi0 (by omega))
          omega
      · have hij' : (if i = i0 then f (M - 1) else f i) = (if j = i0 then f (M - 1) else f j) := hij
        by_cases z : i = i0
        · rw [if_pos z] at hij'
          by_cases w : j = i0
          · omega
          · rw [if_neg w] at hij'
            have := h2 (M - 1) j (by omega) (by omega) hij'
            omega
        · rw [if_neg z] at hij'
          by_cases w : j = i0
          · rw [if_pos w] at hij'
            have := h2 i (M - 1) (by omega) (by omega) hij'
            omega
          · rw [if_neg w] at hij'
            exact h2 i j (by omega) (by omega) hij'
    · exact Nat.le_succ_of_le (ih M f (fun i hi => by
        have a := h1 i hi
        have : f i ≠ N := fun q => e ⟨i, hi, q⟩
        omega) h2)
/-- the table of X's cells -/
def fg_Tb (table : Nat → Int32) (N : Nat) : Prop := ∃ e : Nat → Nat, (∀ h, h < 4096 → e h ≤ N ∧ table h = nI (e h)) ∧ (∀ h h', h < 4096 → h' < 4096 → 0 < e h → e h = e h' → h = h')
theorem fg_Tb_free {table : Nat → Int32} {N : Nat} (h : fg_Tb table N) (hN : N < 4096) : ∃ h0, h0 < 4096 ∧ table h0 = 0 := by
  obtain ⟨e, h1, h2⟩ := h
  by_cases q : ∃ h0, h0 < 4096 ∧ e h0 = 0
  · obtain ⟨h0, a, b⟩ := q
    exact ⟨h0, a, by rw [(h1 h0 a).2, b]; rfl⟩
  · have := fg_pig N 4096 (fun i => e i - 1) (fun i hi => by
      have a := (h1 i hi).1
      have b : e i ≠ 0 := fun z => q ⟨i, hi, z⟩
      show e i - 1 < N
      omega) (fun i j hi hj hij => by
      have b : e i ≠ 0 := fun z => q ⟨i, hi, z⟩
      have b' : e j ≠ 0 := fun z => q ⟨j, hj, z⟩
      have hij' : e i - 1 = e j - 1 := hij
      exact h2 i j hi hj (by omega) (by omega))
    omega
theorem fg_Tb_new {table : Nat → Int32} {N h0 : Nat} (h : fg_Tb table N) (hh : h0 < 4096) : fg_Tb (upd table h0 (nI (N + 1))) (N + 1) := by
  obtain ⟨e, h1, h2⟩ := h
  refine ⟨fun h => if h = h0 then N + 1 else e h, fun h hl => ?_, fun h h' hl hl' hp hq => ?_⟩
  · show (if h = h0 then N + 1 else e h) ≤ N + 1 ∧ upd table h0 (nI (N + 1)) h = nI (if h = h0 then N + 1 else e h)
    by_cases z : h = h0
    · rw [if_pos z, z, pk_us]; exact ⟨Nat.le_refl _, rfl⟩
    · rw [if_neg z, pk_un z]
      have := h1 h hl
      exact ⟨by omega, this.2⟩
  · have hq' : (if h = h0 then N + 1 else e h) = (if h' = h0 then N + 1 else e h') := hq
    have hp' : 0 < (if h = h0 then N + 1 else e h) := hp
    by_cases z : h = h0
    · by_cases w : h' = h0
      · omega
      · rw [if_pos z, if_neg w] at hq'
        have := (h1 h' hl').1
        omega
    · rw [if_neg z] at hq' hp'
      by_cases w : h' = h0
      · rw [if_pos w] at hq'
        have := (h1 h hl).1
        omega
      · rw [if_neg w] at hq'
        exact h2 h h' hl hl' hp' hq'
/-- what is learnt of X's cells -/
def fg_Le (g : fg_C) (fst snd learnt : Nat → Int32) (sets : Nat → Int64) (N : Nat) (T : Nat → fg_T) : Prop :=
  ∀ x f, x < N → f < 4 → bt (learnt x) f = true → sets (1300 * f + x) = fg_st g f (T x) ∧ ∀ j, j < N → (fst x = nI j ∨ snd x = nI j) → bt (learnt j) f = true
theorem fg_Le_new {g : fg_C} {fst snd learnt : Nat → Int32} {sets : Nat → Int64} {N : Nat} {T : Nat → fg_T} {x y : Int32} {t : fg_T} {con siz : Nat → Int32} (hN : N < 2 ^ 31) (hC : fg_Ce g con fst snd siz N T) (h : fg_Le g fst snd learnt sets N T) :
    fg_Le g (upd fst N x) (upd snd N y) (upd learnt N 0) sets (N + 1) (fg_ex T N t) := by
  intro i f hi hf hb
  rcases Nat.eq_or_lt_of_le (Nat.le_of_lt_succ hi) with z | z
  · subst z
    rw [pk_us, b_0] at hb
    exact nomatch hb
  · have hz : i ≠ N := by omega
    rw [pk_un hz] at hb
    obtain ⟨h1, h2⟩ := h i f z hf hb
    rw [fg_ex_o z, pk_un hz, pk_un hz]
    refine ⟨h1, fun j hj hq => ?_⟩
    have hjN : j < N := by
      obtain ⟨-, -, -, -, p5, p6, -⟩ := hC i z
      rcases hq with hq | hq
      · rcases p5 with ⟨a, -⟩ | ⟨k, k1, k2, -⟩
        · rw [a] at hq; exact absurd hq (fg_m1n (by omega))
        · rw [k2] at hq
          have := (nI_eq (by omega) (by omega)).mp hq
          omega
      · rcases p6 with ⟨a, -⟩ | ⟨k, k1, k2, -⟩
        · rw [a] at hq; exact absurd hq (fg_m1n (by omega))
        · rw [k2] at hq
          have := (nI_eq (by omega) (by omega)).mp hq
          omega
    rw [pk_un (by omega)]
    exact h2 j hjN hq
/-- all of X's cells -/
def fg_XC (g : fg_C) (con fst snd siz table learnt : Nat → Int32) (sets : Nat → Int64) (N : Nat) (T : Nat → fg_T) : Prop :=
  fg_Ce g con fst snd siz N T ∧ fg_Tb table N ∧ fg_Le g fst snd learnt sets N T
section
variable {x_cons x_drafted x_given x_cells x_calls x_opened x_held x_steps x_outcome x_culprit x_size x_kinds : Int32} {x_arity x_dKind x_dValue x_behind x_pKind x_pValue x_pBehind x_rKind x_rValue x_pLength x_rLength x_rows x_path x_argument x_cCon x_cFirst x_cSecond x_cSize x_table x_learnt x_pile x_callRow x_callAt x_callOpen x_bound x_openToken x_lacks x_output x_kSize x_counted x_openSize x_values : Nat → Int32} {x_sets x_kSet x_kMany x_kList x_counts x_firstOpen : Nat → Int64}
variable {g : fg_C} {N c : Nat} {T : Nat → fg_T} {A B : Int32} {a b : fg_T}
theorem fg_xcell {post : Int32 → SX → Prop} (hC : fg_XC g x_cCon x_cFirst x_cSecond x_cSize x_table x_learnt x_sets N T) (hN : N < 1300) (hA : fg_pt T N A a) (hB : fg_pt T N B b) (hnc : fg_nc g ≤ 6)
    (hok : fg_ok (fg_nc g) (fg_ar g) (.branch c a b)) (h40 : fg_sz (.branch c a b : fg_T) ≤ 40) (hp : ∀ (n N' : Nat) (T' : Nat → fg_T) (con fst snd siz tab lea : Nat → Int32), n < N' → T' n = .branch c a b → N ≤ N' → N' ≤ N + 1 → (∀ j, j < N → T' j = T j) → fg_XC g con fst snd siz tab lea x_sets N' T' → post (nI n) (x_cons, x_drafted, x_given, nI N', x_calls, x_opened, x_held, x_steps, x_outcome, x_culprit, x_size, x_kinds, x_arity, x_dKind, x_dValue, x_behind, x_pKind, x_pValue, x_pBehind, x_rKind, x_rValue, x_pLength, x_rLength, x_rows, x_path, x_argument, con, fst, snd, siz, tab, x_sets, lea, x_pile, x_callRow, x_callAt, x_callOpen, x_bound, x_openToken, x_lacks, x_output, x_kSize, x_kSet, x_kMany, x_kList, x_counts, x_counted, x_firstOpen, x_openSize, x_values)) : wpX_cell post (x_cons, x_drafted, x_given, nI N, x_calls, x_opened, x_held, x_steps, x_outcome, x_culprit, x_size, x_kinds, x_arity, x_dKind, x_dValue, x_behind, x_pKind, x_pValue, x_pBehind, x_rKind, x_rValue, x_pLength, x_rLength, x_rows, x_path, x_argument, x_cCon, x_cFirst, x_cSecond, x_cSize, x_table, x_sets, x_learnt, x_pile, x_callRow, x_callAt, x_callOpen, x_bound, x_openToken, x_lacks, x_output, x_kSize, x_kSet, x_kMany, x_kList, x_counts, x_counted, x_firstOpen, x_openSize, x_values) (nI c) A B := by
  obtain ⟨hCe, hTb, hLe⟩ := hC
  have hTb' := hTb
  obtain ⟨e, h1, h2⟩ := hTb'
  obtain ⟨h0, hh0, hz0⟩ := fg_Tb_free hTb (by omega)
  have hc6 : c < 6 := Nat.lt_of_lt_of_le hok.1 hnc
  have fin : ∀ h, h < 4096 → (e h = 0 ∨ (x_cCon (e h - 1) = nI c ∧ x_cFirst (e h - 1) = A ∧ x_cSecond (e h - 1) = B)) → wX_cell_95 post (nI c) A B (nI h) x_cons x_drafted x_given (nI N) x_calls x_opened x_held x_steps x_outcome x_culprit x_size x_kinds x_arity x_dKind x_dValue x_behind x_pKind x_pValue x_pBehind x_rKind x_rValue x_pLength x_rLength x_rows x_path x_argument x_cCon x_cFirst x_cSecond x_cSize x_table x_sets x_learnt x_pile x_callRow x_callAt x_callOpen x_bound x_openToken x_lacks x_output x_kSize x_kSet x_kMany x_kList x_counts x_counted x_firstOpen x_openSize x_values := by
    intro h hh hd
    obtain ⟨hle, het⟩ := h1 h hh
    have cl : (nI h).toNatClampNeg = h := nI_clamp (by omega)
    have vi : vp_in (nI h) 4096 := vp_in_nI hh (by decide)
    unfold wX_cell_95
    rw [cl]
    refine And.intro vi ?_
    rw [het]
    refine pk_le (e h) 0 (fun hz => ?_) (fun hz => ?_)
    · have vN : vp_in (nI N) 1300 := vp_in_nI hN (by decide)
      have cN : (nI N).toNatClampNeg = N := nI_clamp (by omega)
      have eA : vp_nar .short A.toInt16.toInt32 = A := by
        rcases hA with ⟨q, -⟩ | ⟨j, hj, q, -⟩
        · rw [q, fg_w16m]
        · rw [q, fg_w16 (by omega)]
      have eB : vp_nar .short B.toInt16.toInt32 = B := by
        rcases hB with ⟨q, -⟩ | ⟨j, hj, q, -⟩
        · rw [q, fg_w16m]
        · rw [q, fg_w16 (by omega)]
      have fin2 : ∀ z0 z1 : Nat, z1 + z0 = fg_sz (.branch c a b : fg_T) → wX_cell_203 post (nI N) (nI z0) (nI z1) (nI N) x_cons x_drafted x_given (nI (N + 1)) x_calls x_opened x_held x_steps x_outcome x_culprit x_size x_kinds x_arity x_dKind x_dValue x_behind x_pKind x_pValue x_pBehind x_rKind x_rValue x_pLength x_rLength x_rows x_path x_argument (upd x_cCon N (nI c)) (upd x_cFirst N A) (upd x_cSecond N B) x_cSize (upd x_table h (nI (N + 1))) x_sets x_learnt x_pile x_callRow x_callAt x_callOpen x_bound x_openToken x_lacks x_output x_kSize x_kSet x_kMany x_kList x_counts x_counted x_firstOpen x_openSize x_values := by
        intro z0 z1 hz
        unfold wX_cell_203
        rw [nI_add, hz, fg_w16 (by omega), cN]
        refine And.intro vN (nm_e (And.intro vN (nm_r (e' := upd x_learnt N 0) (by rw [show vp_nar .byte 0 = 0 from rfl]) ?_)))
        exact hp N (N + 1) (fg_ex T N (.branch c a b)) _ _ _ _ _ _ (Nat.lt_succ_self _) fg_ex_n (Nat.le_succ _) (Nat.le_refl _) (fun j hj => fg_ex_o hj) ⟨fg_Ce_new hCe hok h40 hA hB, fg_Tb_new hTb hh, fg_Le_new (by omega) hCe hLe⟩
      have szA : ∀ j, j < N → A = nI j → upd x_cCon N (nI c) = upd x_cCon N (nI c) → x_cSize (nI j).toNatClampNeg = nI (fg_sz a) := by
        intro j hj q _
        have := fg_pt_ne (T := T) (N := N) (x := A) (t := a)
        rw [nI_clamp (by omega)]
        rcases hA with ⟨w, -⟩ | ⟨k, hk, w, hT⟩
        · rw [w] at q; exact absurd q (fg_m1n (by omega))
        · rw [w] at q
          have := (nI_eq (by omega) (by omega)).mp q
          subst this
          rw [(hCe k hk).2.2.2.2.2.2, hT]
      have szB : ∀ j, j < N → B = nI j → x_cSize (nI j).toNatClampNeg = nI (fg_sz b) := by
        intro j hj q
        rw [nI_clamp (by omega)]
        rcases hB with ⟨w, -⟩ | ⟨k, hk, w, hT⟩
        · rw [w] at q; exact absurd q (fg_m1n (by omega))
        · rw [w] at q
          have := (nI_eq (by omega) (by omega)).mp q
          subst this
          rw [(hCe k hk).2.2.2.2.2.2, hT]
      have fin1 : ∀ z0 : Nat, z0 = fg_sz a → wX_cell_188 post B (nI N) (nI z0) 1 (nI N) x_cons x_drafted x_given (nI (N + 1)) x_calls x_opened x_held x_steps x_outcome x_culprit x_size x_kinds x_arity x_dKind x_dValue x_behind x_pKind x_pValue x_pBehind x_rKind x_rValue x_pLength x_rLength x_rows x_path x_argument (upd x_cCon N (nI c)) (upd x_cFirst N A) (upd x_cSecond N B) x_cSize (upd x_table h (nI (N + 1))) x_sets x_learnt x_pile x_callRow x_callAt x_callOpen x_bound x_openToken x_lacks x_output x_kSize x_kSet x_kMany x_kList x_counts x_counted x_firstOpen x_openSize x_values := by
        intro z0 hz
        unfold wX_cell_188
        rw [show (1 : Int32) = nI 1 from rfl, nI_add]
        rcases hB with ⟨w, wb⟩ | ⟨j, hj, w, hT⟩
        · rw [w] at fin2 ⊢
          refine br_f fg_m1le (fin2 0 _ ?_)
          rw [hz, wb]; rfl
        · have sB := szB j hj w
          rw [w] at fin2 ⊢
          refine br_t (nI_pos' (by omega)) (And.intro (vp_in_nI (by omega) (by decide)) ?_)
          rw [sB]
          exact fin2 _ _ (by rw [hz]; rfl)
      refine nm_r (nI_1 N) (And.intro vi ?_)
      rw [fg_w16 (by omega), cN, fg_w8 (by omega), eA, eB]
      refine nm_e (And.intro vN (nm_e (And.intro vN (nm_e (And.intro vN (nm_e ?_))))))
      rcases hA with ⟨w, wa⟩ | ⟨j, hj, w, hT⟩
      · rw [w] at fin1 ⊢
        exact br_f fg_m1le (fin1 0 (by rw [wa]; rfl))
      · have sA := szA j hj w rfl
        rw [w] at fin1 ⊢
        refine br_t (nI_pos' (by omega)) (And.intro (vp_in_nI (by omega) (by decide)) ?_)
        rw [sA]
        exact fin1 _ rfl
    · refine And.intro vi ?_
      obtain ⟨q, hq⟩ : ∃ q, e h = q + 1 := ⟨e h - 1, by omega⟩
      rw [hq, nI_pred]
      rcases hd with hd | ⟨d1, d2, d3⟩
      · omega
      · rw [hq, Nat.add_sub_cancel] at d1 d2 d3
        have hqN : q < N := by omega
        obtain ⟨c1, c2, c3, c4, c5, c6, -⟩ := hCe q hqN
        rw [d1] at c4
        rw [d2] at c5
        rw [d3] at c6
        have o1 := fg_ok_b c2 c1
        refine hp q N T _ _ _ _ _ _ hqN ?_ (Nat.le_refl _) (Nat.le_succ _) (fun _ _ => rfl) ⟨hCe, hTb, hLe⟩
        rw [fg_br c1, (nI_eq (by omega) (by omega)).mp c4.symm, fg_pt_fun (by omega) (by omega) c5 hA, fg_pt_fun (by omega) (by omega) c6 hB]
  have key : ∀ (d h : Nat), h < 4096 → (h0 + 4096 - h) % 4096 = d → wX_cell_18 post (nI c) A B x_cons x_drafted x_given (nI N) x_calls x_opened x_held x_steps x_outcome x_culprit x_size x_kinds x_arity x_dKind x_dValue x_behind x_pKind x_pValue x_pBehind x_rKind x_rValue x_pLength x_rLength x_rows x_path x_argument x_cCon x_cFirst x_cSecond x_cSize x_table x_sets x_learnt x_pile x_callRow x_callAt x_callOpen x_bound x_openToken x_lacks x_output x_kSize x_kSet x_kMany x_kList x_counts x_counted x_firstOpen x_openSize x_values (d + 1) (nI h) := by
    intro d
    induction d with
    | zero =>
      intro h hh hd
      have hhe : h = h0 := by omega
      have cl : (nI h).toNatClampNeg = h := nI_clamp (by omega)
      refine And.intro (vp_in_nI hh (by decide)) ?_
      rw [cl]
      refine br_t (by rw [hhe, hz0]; decide) (fin h hh (Or.inl ?_))
      have := (h1 h hh).2
      rw [hhe, hz0] at this
      rw [hhe]
      have w := (h1 h0 hh0).1
      exact ((nI_eq (a := 0) (by decide) (by omega)).mp this).symm
    | succ d ih =>
      intro h hh hd
      have cl : (nI h).toNatClampNeg = h := nI_clamp (by omega)
      have vi : vp_in (nI h) 4096 := vp_in_nI hh (by decide)
      have nx : wX_cell_18 post (nI c) A B x_cons x_drafted x_given (nI N) x_calls x_opened x_held x_steps x_outcome x_culprit x_size x_kinds x_arity x_dKind x_dValue x_behind x_pKind x_pValue x_pBehind x_rKind x_rValue x_pLength x_rLength x_rows x_path x_argument x_cCon x_cFirst x_cSecond x_cSize x_table x_sets x_learnt x_pile x_callRow x_callAt x_callOpen x_bound x_openToken x_lacks x_output x_kSize x_kSet x_kMany x_kList x_counts x_counted x_firstOpen x_openSize x_values (d + 1) (nI ((h + 1) % 4096)) := ih ((h + 1) % 4096) (by omega) (by omega)
      have en : (nI h + 1) &&& 4095 = nI ((h + 1) % 4096) := by
        rw [nI_1]
        exact pk_andN (by omega) 12 (by decide)
      refine And.intro vi ?_
      rw [cl]
      obtain ⟨hle, het⟩ := h1 h hh
      rw [het]
      refine pk_le (e h) 0 (fun hz => fin h hh (Or.inl (by omega))) (fun hz => ?_)
      obtain ⟨q, hq⟩ : ∃ q, e h = q + 1 := ⟨e h - 1, by omega⟩
      rw [hq, nI_pred, nI_clamp (by omega), en]
      have vq : vp_in (nI q) 1300 := vp_in_nI (by omega) (by decide)
      refine And.intro vi (And.intro vq (br_c (fun y1 => And.intro vi (And.intro vq (br_c (fun y2 => And.intro vi (And.intro vq (br_c (fun y3 => ?_) (fun _ => nm_e nx)))) (fun _ => nm_e nx)))) (fun _ => nm_e nx)))
      refine fin h hh (Or.inr ?_)
      rw [hq, Nat.add_sub_cancel]
      exact ⟨y1, y2, y3⟩
  obtain ⟨j, hj, ej⟩ := pk_andE (((nI c * 31 + A) * 1297) + B) (m := 4095) 12 (by decide)
  refine nm_r ej ⟨_, key _ j hj rfl⟩
end
end
section
/-! X: the argument as a cell; what a cell matches -/
theorem fg_jt1 : ∀ i, i < 32 → bt 1 i = decide (i = 0) := by decide +kernel
theorem fg_jand1 (x : Int32) : ((x &&& 1) = 1 ∧ bt x 0 = true) ∨ ((x &&& 1) = 0 ∧ bt x 0 = false) := by
  cases h : bt x 0 with
  | true =>
    refine Or.inl ⟨b_ext fun j hj => ?_, rfl⟩
    rw [b_and, fg_jt1 j hj]
    by_cases e : j = 0
    · subst e; rw [h]; rfl
    · rw [decide_eq_false e, Bool.and_false]
  | false =>
    refine Or.inr ⟨b_ext fun j hj => ?_, rfl⟩
    rw [b_and, fg_jt1 j hj, b_0]
    by_cases e : j = 0
    · subst e; rw [h]; rfl
    · rw [decide_eq_false e, Bool.and_false]
theorem fg_jand1_1 (x : Int32) : (x &&& 1) = 1 ↔ bt x 0 = true := by
  rcases fg_jand1 x with ⟨a, b⟩ | ⟨a, b⟩
  · rw [a, b]; exact ⟨fun _ => rfl, fun _ => rfl⟩
  · rw [a, b]; exact ⟨fun h => absurd h (by decide), fun h => nomatch h⟩
theorem fg_jand1_0 (x : Int32) : (x &&& 1) = 0 ↔ bt x 0 = false := by
  rcases fg_jand1 x with ⟨a, b⟩ | ⟨a, b⟩
  · rw [a, b]; exact ⟨fun h => absurd h (by decide), fun h => nomatch h⟩
  · rw [a, b]; exact ⟨fun _ => rfl, fun _ => rfl⟩
theorem fg_jts1 (x : Int32) {f : Nat} (h : f < 32) : ((x >>> (nI f &&& 31)) &&& 1) = 1 ↔ bt x f = true := by
  rw [fg_jand1_1, b_sshr f h x (by decide), Nat.add_zero, if_pos h]
theorem fg_jts0 (x : Int32) {f : Nat} (h : f < 32) : ((x >>> (nI f &&& 31)) &&& 1) = 0 ↔ bt x f = false := by
  rw [fg_jand1_0, b_sshr f h x (by decide), Nat.add_zero, if_pos h]
theorem fg_jone {k : Nat} (hk : k < 32) {j : Nat} (hj : j < 32) : bt ((1 : Int32) <<< (nI k &&& 31)) j = decide (j = k) := by
  rw [b_shl k hk 1 hj]
  rcases Nat.lt_or_ge j k with h | h
  · rw [decide_eq_false (by omega), Bool.false_and, decide_eq_false (by omega)]
  · rw [decide_eq_true h, Bool.true_and, fg_jt1 _ (by omega)]
    by_cases e : j = k
    · rw [decide_eq_true e, decide_eq_true (by omega)]
    · rw [decide_eq_false e, decide_eq_false (by omega)]
theorem fg_jbyte (x : Int32) {j : Nat} (hj : j < 8) : bt (vp_nar .byte x.toInt8.toInt32) j = bt x j := by
  rw [pk_vb]
  have e := congrArg (fun y => bt y j) (bp_b x)
  have e' : bt (x.toInt8.toInt32 &&& 255) j = bt (x &&& 255) j := e
  rw [b_and, b_and, b_255, decide_eq_true hj, Bool.and_true, Bool.and_true] at e'
  exact e'
section
variable {x_cons x_drafted x_given x_cells x_calls x_opened x_held x_steps x_outcome x_culprit x_size x_kinds : Int32} {x_arity x_dKind x_dValue x_behind x_pKind x_pValue x_pBehind x_rKind x_rValue x_pLength x_rLength x_rows x_path x_argument x_cCon x_cFirst x_cSecond x_cSize x_table x_learnt x_pile x_callRow x_callAt x_callOpen x_bound x_openToken x_lacks x_output x_kSize x_counted x_openSize x_values : Nat → Int32} {x_sets x_kSet x_kMany x_kList x_counts x_firstOpen : Nat → Int64}
theorem fg_xempty {post : SX → Prop} (hp : ∀ tab : Nat → Int32, (∀ h, h < 4096 → tab h = 0) → post (x_cons, x_drafted, x_given, 0, x_calls, x_opened, x_held, x_steps, x_outcome, x_culprit, x_size, x_kinds, x_arity, x_dKind, x_dValue, x_behind, x_pKind, x_pValue, x_pBehind, x_rKind, x_rValue, x_pLength, x_rLength, x_rows, x_path, x_argument, x_cCon, x_cFirst, x_cSecond, x_cSize, tab, x_sets, x_learnt, x_pile, x_callRow, x_callAt, x_callOpen, x_bound, x_openToken, x_lacks, x_output, x_kSize, x_kSet, x_kMany, x_kList, x_counts, x_counted, x_firstOpen, x_openSize, x_values)) : wpX_empty post (x_cons, x_drafted, x_given, x_cells, x_calls, x_opened, x_held, x_steps, x_outcome, x_culprit, x_size, x_kinds, x_arity, x_dKind, x_dValue, x_behind, x_pKind, x_pValue, x_pBehind, x_rKind, x_rValue, x_pLength, x_rLength, x_rows, x_path, x_argument, x_cCon, x_cFirst, x_cSecond, x_cSize, x_table, x_sets, x_learnt, x_pile, x_callRow, x_callAt, x_callOpen, x_bound, x_openToken, x_lacks, x_output, x_kSize, x_kSet, x_kMany, x_kList, x_counts, x_counted, x_firstOpen, x_openSize, x_values) := by
  have key : ∀ (d k : Nat) (tab : Nat → Int32), k + d = 4096 → (∀ h, h < k → tab h = 0) → wX_empty_7 post x_cons x_drafted x_given 0 x_calls x_opened x_held x_steps x_outcome x_culprit x_size x_kinds (d + 1) (nI k) x_arity x_dKind x_dValue x_behind x_pKind x_pValue x_pBehind x_rKind x_rValue x_pLength x_rLength x_rows x_path x_argument x_cCon x_cFirst x_cSecond x_cSize tab x_sets x_learnt x_pile x_callRow x_callAt x_callOpen x_bound x_openToken x_lacks x_output x_kSize x_kSet x_kMany x_kList x_counts x_counted x_firstOpen x_openSize x_values := by
    intro d
    induction d with
    | zero =>
      intro k tab hd h
      exact pk_le 4096 k (fun _ => hp tab (fun q hq => h q (by omega))) (fun h => by omega)
    | succ d ih =>
      intro k tab hd h
      refine pk_le 4096 k (fun h => by omega) (fun _ => And.intro (vp_in_nI (by omega) (by decide)) ?_)
      rw [nI_clamp (by omega)]
      refine nm_e (nm_r (nI_1 k) (ih (k + 1) _ (by omega) (fun q hq => ?_)))
      by_cases z : q = k
      · rw [z, pk_us]; rfl
      · rw [pk_un z]; exact h q (by omega)
  exact ⟨_, key 4096 0 x_table rfl (fun q hq => by omega)⟩
variable {g : fg_C} {N c : Nat} {T : Nat → fg_T}
theorem fg_xload69 {post : Int32 → SX → Prop} {J : Int32 → Int32 → Int32 → Int32 → Int32 → Int32 → Int32 → Int32 → Int32 → Int32 → Int32 → Int32 → Int32 → Int32 → (Nat → Int32) → (Nat → Int32) → (Nat → Int32) → (Nat → Int32) → (Nat → Int32) → (Nat → Int32) → (Nat → Int32) → (Nat → Int32) → (Nat → Int32) → (Nat → Int32) → (Nat → Int32) → (Nat → Int32) → (Nat → Int32) → (Nat → Int32) → (Nat → Int32) → (Nat → Int32) → (Nat → Int32) → (Nat → Int32) → (Nat → Int32) → (Nat → Int64) → (Nat → Int32) → (Nat → Int32) → (Nat → Int32) → (Nat → Int32) → (Nat → Int32) → (Nat → Int32) → (Nat → Int32) → (Nat → Int32) → (Nat → Int32) → (Nat → Int32) → (Nat → Int64) → (Nat → Int64) → (Nat → Int64) → (Nat → Int64) → (Nat → Int32) → (Nat → Int64) → (Nat → Int32) → (Nat → Int32) → Prop} {a b : fg_T} {A B : Int32} {k top base : Nat}
    (hC : fg_XC g x_cCon x_cFirst x_cSecond x_cSize x_table x_learnt x_sets N T) (hN : N < 1300) (hA : fg_pt T N A a) (hB : fg_pt T N B b) (hnc : fg_nc g ≤ 6)
    (hok : fg_ok (fg_nc g) (fg_ar g) (.branch c a b)) (h40 : fg_sz (.branch c a b : fg_T) ≤ 40) (hk : k ≤ 2) (ht : top + k < 1300) (hbase : base < 40)
    (hJ : ∀ (n N' : Nat) (T' : Nat → fg_T) (con fst snd siz tab lea : Nat → Int32), n < N' → T' n = .branch c a b → N ≤ N' → N' ≤ N + 1 → (∀ j, j < N → T' j = T j) → fg_XC g con fst snd siz tab lea x_sets N' T' → J (nI (top + 1)) (nI base - 1) x_cons x_drafted x_given (nI N') x_calls x_opened x_held x_steps x_outcome x_culprit x_size x_kinds x_arity x_dKind x_dValue x_behind x_pKind x_pValue x_pBehind x_rKind x_rValue x_pLength x_rLength x_rows x_path x_argument con fst snd siz tab x_sets lea (upd x_pile top (nI n)) x_callRow x_callAt x_callOpen x_bound x_openToken x_lacks x_output x_kSize x_kSet x_kMany x_kList x_counts x_counted x_firstOpen x_openSize x_values) :
    wX_load_69 post J (nI (top + k)) (nI base) (nI c) (nI k) A B x_cons x_drafted x_given (nI N) x_calls x_opened x_held x_steps x_outcome x_culprit x_size x_kinds x_arity x_dKind x_dValue x_behind x_pKind x_pValue x_pBehind x_rKind x_rValue x_pLength x_rLength x_rows x_path x_argument x_cCon x_cFirst x_cSecond x_cSize x_table x_sets x_learnt x_pile x_callRow x_callAt x_callOpen x_bound x_openToken x_lacks x_output x_kSize x_kSet x_kMany x_kList x_counts x_counted x_firstOpen x_openSize x_values := by
  unfold wX_load_69
  refine nm_r (e' := nI top) (by rw [pk_sub (by omega)]; exact congrArg nI (by omega)) (nm_r (nI_1 top) ?_)
  refine fg_xcell hC hN hA hB hnc hok h40 (fun n N' T' con fst snd siz tab lea h1 h2 h3 h4 h5 h6 => ?_)
  refine And.intro (vp_in_nI (by omega) (by decide)) ?_
  refine nm_r (e' := upd x_pile top (nI n)) (by rw [nI_clamp (by omega), fg_w16 (by omega)]) ?_
  exact nm_r (fg_pdm base) (hJ n N' T' con fst snd siz tab lea h1 h2 h3 h4 h5 h6)
theorem fg_xload_t {post : Int32 → SX → Prop} (hnc : fg_nc g ≤ 6) (har : ∀ c, x_arity c = nI (fg_ar g c)) :
    ∀ (t : fg_T) (base top N : Nat) (T : Nat → fg_T) (pile : Nat → Int32) (con fst snd siz tab lea : Nat → Int32), t ≠ fg_nil → fg_ok (fg_nc g) (fg_ar g) t → fg_at x_argument base (fg_fl t) → base + fg_sz t ≤ 40 → N + fg_sz t ≤ 1300 → top + fg_sz t < 1300 →
      fg_XC g con fst snd siz tab lea x_sets N T →
      (∀ (n N' : Nat) (T' : Nat → fg_T) (pile' : Nat → Int32) (con fst snd siz tab lea : Nat → Int32), n < N' → T' n = t → N ≤ N' → N' ≤ N + fg_sz t → (∀ j, j < N → T' j = T j) → fg_XC g con fst snd siz tab lea x_sets N' T' → pile' top = nI n → (∀ j, j < top → pile' j = pile j) →
        ∀ m, base < m → wX_load_13 post m (nI (top + 1)) (nI base - 1) x_cons x_drafted x_given (nI N') x_calls x_opened x_held x_steps x_outcome x_culprit x_size x_kinds x_arity x_dKind x_dValue x_behind x_pKind x_pValue x_pBehind x_rKind x_rValue x_pLength x_rLength x_rows x_path x_argument con fst snd siz tab x_sets lea pile' x_callRow x_callAt x_callOpen x_bound x_openToken x_lacks x_output x_kSize x_kSet x_kMany x_kList x_counts x_counted x_firstOpen x_openSize x_values) →
      ∀ m, base + fg_sz t < m → wX_load_13 post m (nI top) (nI (base + fg_sz t) - 1) x_cons x_drafted x_given (nI N) x_calls x_opened x_held x_steps x_outcome x_culprit x_size x_kinds x_arity x_dKind x_dValue x_behind x_pKind x_pValue x_pBehind x_rKind x_rValue x_pLength x_rLength x_rows x_path x_argument con fst snd siz tab x_sets lea pile x_callRow x_callAt x_callOpen x_bound x_openToken x_lacks x_output x_kSize x_kSet x_kMany x_kList x_counts x_counted x_firstOpen x_openSize x_values := by
  intro t
  induction t with
  | leaf u => intro base top N T pile con fst snd siz tab lea h; exact absurd rfl h
  | branch c a b iha ihb =>
    intro base top N T pile con fst snd siz tab lea _ hok hat h40 hN htop hC hK
    have hs : fg_sz (.branch c a b : fg_T) = 1 + fg_sz a + fg_sz b := rfl
    obtain ⟨hc, hsh, hoa, hob⟩ := (show c < fg_nc g ∧ fg_sh (fg_ar g c) a b ∧ fg_ok (fg_nc g) (fg_ar g) a ∧ fg_ok (fg_nc g) (fg_ar g) b from hok)
    have hat1 := (fg_at_cons (l := fg_fl a ++ fg_fl b)).mp hat
    have hat2 := fg_at_app.mp hat1.2
    rw [fg_fl_len] at hat2
    have last : ∀ (k : Nat) (N1 : Nat) (T1 : Nat → fg_T) (pile1 : Nat → Int32) (con fst snd siz tab lea : Nat → Int32), fg_ar g c = k → N ≤ N1 → N1 < N + fg_sz (.branch c a b : fg_T) → (∀ j, j < N → T1 j = T j) → fg_XC g con fst snd siz tab lea x_sets N1 T1 → (∀ j, j < top → pile1 j = pile j) →
        ((k = 0 ∧ a = fg_nil ∧ b = fg_nil) ∨ (k = 1 ∧ b = fg_nil ∧ fg_pt T1 N1 (pile1 top) a) ∨ (k = 2 ∧ fg_pt T1 N1 (pile1 (top + 1)) a ∧ fg_pt T1 N1 (pile1 top) b)) → top + k < 1300 →
        ∀ m, base + 1 < m → wX_load_13 post m (nI (top + k)) (nI (base + 1) - 1) x_cons x_drafted x_given (nI N1) x_calls x_opened x_held x_steps x_outcome x_culprit x_size x_kinds x_arity x_dKind x_dValue x_behind x_pKind x_pValue x_pBehind x_rKind x_rValue x_pLength x_rLength x_rows x_path x_argument con fst snd siz tab x_sets lea pile1 x_callRow x_callAt x_callOpen x_bound x_openToken x_lacks x_output x_kSize x_kSet x_kMany x_kList x_counts x_counted x_firstOpen x_openSize x_values := by
      intro k N1 T1 pile1 con fst snd siz tab lea hk hN1 hN2 hT1 hC1 hp1 hpt htk m hm
      obtain ⟨m', rfl⟩ : ∃ m', m = m' + 1 := ⟨m - 1, by omega⟩
      have cont : ∀ (n N' : Nat) (T' : Nat → fg_T) (con fst snd siz tab lea : Nat → Int32), n < N' → T' n = .branch c a b → N1 ≤ N' → N' ≤ N1 + 1 → (∀ j, j < N1 → T' j = T1 j) → fg_XC g con fst snd siz tab lea x_sets N' T' → wX_load_13 post m' (nI (top + 1)) (nI base - 1) x_cons x_drafted x_given (nI N') x_calls x_opened x_held x_steps x_outcome x_culprit x_size x_kinds x_arity x_dKind x_dValue x_behind x_pKind x_pValue x_pBehind x_rKind x_rValue x_pLength x_rLength x_rows x_path x_argument con fst snd siz tab x_sets lea (upd pile1 top (nI n)) x_callRow x_callAt x_callOpen x_bound x_openToken x_lacks x_output x_kSize x_kSet x_kMany x_kList x_counts x_counted x_firstOpen x_openSize x_values := by
        intro n N' T' con fst snd siz tab lea h1 h2 h3 h4 h5 h6
        exact hK n N' T' _ con fst snd siz tab lea h1 h2 (by omega) (by omega) (fun j hj => by rw [h5 j (by omega), hT1 j hj]) h6 pk_us (fun j hj => by rw [pk_un (by omega)]; exact hp1 j hj) m' (by omega)
      rw [nI_pred]
      refine br_f (nI_pos (by omega)) (And.intro (vp_in_nI (by omega) (by decide)) ?_)
      refine nm_r (e' := nI c) (by rw [nI_clamp (by omega)]; exact hat1.1) (And.intro (vp_in_nI (by omega) (by decide)) ?_)
      refine nm_r (e' := nI k) (by rw [nI_clamp (by omega), har c, hk]) ?_
      rcases hpt with ⟨h0, ea, eb⟩ | ⟨h1, eb, pa⟩ | ⟨h2, pa, pb⟩
      · subst h0
        refine br_t (by decide) ?_
        unfold wX_load_49
        refine br_t (by decide) ?_
        exact fg_xload69 hC1 (by omega) (Or.inl ⟨rfl, ea⟩) (Or.inl ⟨rfl, eb⟩) hnc hok (by omega) (by decide) htk (by omega) cont
      · subst h1
        refine br_f (by decide) ?_
        rw [nI_pred, nI_clamp (by omega)]
        refine And.intro (vp_in_nI (by omega) (by decide)) ?_
        unfold wX_load_49
        refine br_t (by decide) ?_
        exact fg_xload69 hC1 (by omega) pa (Or.inl ⟨rfl, eb⟩) hnc hok (by omega) (by decide) htk (by omega) cont
      · subst h2
        refine br_f (by decide) ?_
        have e1 : nI (top + 2) - 1 = nI (top + 1) := nI_pred (top + 1)
        have e2 : nI (top + 2) - 2 = nI top := pk_sub (a := top + 2) (b := 2) (by omega)
        rw [e1, nI_clamp (by omega)]
        refine And.intro (vp_in_nI (by omega) (by decide)) ?_
        unfold wX_load_49
        refine br_f (by decide) ?_
        rw [e2, nI_clamp (by omega)]
        refine And.intro (vp_in_nI (by omega) (by decide)) ?_
        exact fg_xload69 hC1 (by omega) pa pb hnc hok (by omega) (by decide) htk (by omega) cont
    rcases hsh with ⟨k0, a0, b0⟩ | ⟨k1, a0, b0⟩ | ⟨k2, a0, b0⟩
    · have hs1 : fg_sz (.branch c a b : fg_T) = 1 := by rw [hs, fg_sz0.mpr a0, fg_sz0.mpr b0]
      rw [hs1]
      exact last 0 N T pile con fst snd siz tab lea k0 (Nat.le_refl _) (by rw [hs1]; omega) (fun _ _ => rfl) hC (fun _ _ => rfl) (Or.inl ⟨rfl, a0, b0⟩) (by omega)
    · have sb : fg_sz b = 0 := fg_sz0.mpr b0
      have e : base + fg_sz (.branch c a b : fg_T) = base + 1 + fg_sz a := by omega
      rw [e]
      refine iha (base + 1) top N T pile con fst snd siz tab lea a0 hoa hat2.1 (by omega) (by omega) (by omega) hC ?_
      intro n N' T' pile' con fst snd siz tab lea h1 h2 h3 h4 h5 h6 h7 h8
      exact last 1 N' T' pile' con fst snd siz tab lea k1 h3 (by omega) h5 h6 h8 (Or.inr (Or.inl ⟨rfl, b0, Or.inr ⟨n, h1, h7, h2⟩⟩)) (by omega)
    · have e : base + fg_sz (.branch c a b : fg_T) = base + 1 + fg_sz a + fg_sz b := by omega
      have pb0 := fg_szp b0
      have pa0 := fg_szp a0
      rw [e]
      refine ihb (base + 1 + fg_sz a) top N T pile con fst snd siz tab lea b0 hob hat2.2 (by omega) (by omega) (by omega) hC ?_
      intro n N' T' pile' con fst snd siz tab lea h1 h2 h3 h4 h5 h6 h7 h8
      refine iha (base + 1) (top + 1) N' T' pile' con fst snd siz tab lea a0 hoa hat2.1 (by omega) (by omega) (by omega) h6 ?_
      intro n2 N2 T2 pile2 con fst snd siz tab lea i1 i2 i3 i4 i5 i6 i7 i8
      exact last 2 N2 T2 pile2 con fst snd siz tab lea k2 (by omega) (by omega) (fun j hj => by rw [i5 j (by omega), h5 j hj]) i6 (fun j hj => by rw [i8 j (by omega), h8 j hj]) (Or.inr (Or.inr ⟨rfl, Or.inr ⟨n2, i1, i7, i2⟩, Or.inr ⟨n, by omega, by rw [i8 top (by omega)]; exact h7, by rw [i5 n h1]; exact h2⟩⟩)) (by omega)
theorem fg_xload {post : Int32 → SX → Prop} {t : fg_T} (hnc : fg_nc g ≤ 6) (har : ∀ c, x_arity c = nI (fg_ar g c)) (ht : t ≠ fg_nil) (hok : fg_ok (fg_nc g) (fg_ar g) t) (h40 : fg_sz t ≤ 40) (hat : fg_at x_argument 0 (fg_fl t))
    (hp : ∀ (n N : Nat) (T : Nat → fg_T) (pile : Nat → Int32) (con fst snd siz tab lea : Nat → Int32), n < N → T n = t → N ≤ 40 → fg_XC g con fst snd siz tab lea x_sets N T → post (nI n) (x_cons, x_drafted, nI (fg_sz t), nI N, x_calls, x_opened, x_held, x_steps, x_outcome, x_culprit, x_size, x_kinds, x_arity, x_dKind, x_dValue, x_behind, x_pKind, x_pValue, x_pBehind, x_rKind, x_rValue, x_pLength, x_rLength, x_rows, x_path, x_argument, con, fst, snd, siz, tab, x_sets, lea, pile, x_callRow, x_callAt, x_callOpen, x_bound, x_openToken, x_lacks, x_output, x_kSize, x_kSet, x_kMany, x_kList, x_counts, x_counted, x_firstOpen, x_openSize, x_values)) :
    wpX_load post (x_cons, x_drafted, nI (fg_sz t), x_cells, x_calls, x_opened, x_held, x_steps, x_outcome, x_culprit, x_size, x_kinds, x_arity, x_dKind, x_dValue, x_behind, x_pKind, x_pValue, x_pBehind, x_rKind, x_rValue, x_pLength, x_rLength, x_rows, x_path, x_argument, x_cCon, x_cFirst, x_cSecond, x_cSize, x_table, x_sets, x_learnt, x_pile, x_callRow, x_callAt, x_callOpen, x_bound, x_openToken, x_lacks, x_output, x_kSize, x_kSet, x_kMany, x_kList, x_counts, x_counted, x_firstOpen, x_openSize, x_values) := by
  unfold wpX_load
  dsimp only
  refine fg_xempty (fun tab h0 => ?_)
  refine nm_e ⟨fg_sz t + 1, ?_⟩
  have e : nI (fg_sz t) - 1 = nI (0 + fg_sz t) - 1 := by rw [Nat.zero_add]
  rw [e]
  refine fg_xload_t (g := g) hnc har t 0 0 0 (fun _ => fg_nil) x_pile _ _ _ _ tab _ ht hok hat (by omega) (by omega) (by omega) ⟨fun i hi => absurd hi (Nat.not_lt_zero _), ⟨fun _ => 0, fun h hh => ⟨Nat.le_refl _, h0 h hh⟩, fun h h' _ _ q _ => absurd q (Nat.lt_irrefl _)⟩, fun x f hx => absurd hx (Nat.not_lt_zero _)⟩ ?_ _ (by omega)
  intro n N' T' pile' con fst snd siz tab lea h1 h2 h3 h4 h5 h6 h7 h8 m hm
  obtain ⟨m', rfl⟩ : ∃ m', m = m' + 1 := ⟨m - 1, by omega⟩
  refine br_t fg_pd0 ?_
  rw [h7]
  exact hp n N' T' pile' con fst snd siz tab lea h1 h2 (by omega) h6
end
end
section
/-! X: what a cell matches, its values first -/
theorem fg_Le_upd {g : fg_C} {fst snd lea : Nat → Int32} {sts : Nat → Int64} {N x f : Nat} {T : Nat → fg_T} {L : Int32} (hN : N ≤ 1300) (hf : f < 4) (hx : x < N) (h : fg_Le g fst snd lea sts N T)
    (hch : ∀ j, j < N → (fst x = nI j ∨ snd x = nI j) → bt (lea j) f = true) (hL : bt L f = true) (hL' : ∀ f', f' < 4 → f' ≠ f → bt L f' = bt (lea x) f') :
    fg_Le g fst snd (upd lea x L) (vp_updL sts (1300 * f + x) (fg_st g f (T x))) N T ∧ (∀ y f', y < N → f' < 4 → bt (lea y) f' = true → bt (upd lea x L y) f' = true) := by
  have mono : ∀ y f', y < N → f' < 4 → bt (lea y) f' = true → bt (upd lea x L y) f' = true := by
    intro y f' hy hf' hb
    by_cases z : y = x
    · subst z
      rw [pk_us]
      by_cases w : f' = f
      · rw [w]; exact hL
      · rw [hL' f' hf' w]; exact hb
    · rw [pk_un z]; exact hb
  refine ⟨fun y f' hy hf' hb => ?_, mono⟩
  by_cases z : y = x
  · subst z
    by_cases w : f' = f
    · subst w
      exact ⟨pk_uLs, fun j hj hq => mono j f' hj hf' (hch j hj hq)⟩
    · rw [pk_us, hL' f' hf' w] at hb
      obtain ⟨h1, h2⟩ := h y f' hy hf' hb
      exact ⟨by rw [pk_uLn (by omega)]; exact h1, fun j hj hq => mono j f' hj hf' (h2 j hj hq)⟩
  · rw [pk_un z] at hb
    obtain ⟨h1, h2⟩ := h y f' hy hf' hb
    exact ⟨by rw [pk_uLn (by omega)]; exact h1, fun j hj hq => mono j f' hj hf' (h2 j hj hq)⟩
section
variable {x_cons x_drafted x_given x_cells x_calls x_opened x_held x_steps x_outcome x_culprit x_size x_kinds : Int32} {x_arity x_dKind x_dValue x_behind x_pKind x_pValue x_pBehind x_rKind x_rValue x_pLength x_rLength x_rows x_path x_argument x_cCon x_cFirst x_cSecond x_cSize x_table x_learnt x_pile x_callRow x_callAt x_callOpen x_bound x_openToken x_lacks x_output x_kSize x_counted x_openSize x_values : Nat → Int32} {x_sets x_kSet x_kMany x_kList x_counts x_firstOpen : Nat → Int64}
variable {g : fg_C} {N f x top : Nat} {T : Nat → fg_T} {Q : Int32}
theorem fg_xset207 {post : Int64 → SX → Prop} {J : Int32 → (Nat → Int32) → (Nat → Int32) → (Nat → Int32) → (Nat → Int32) → (Nat → Int32) → (Nat → Int32) → (Nat → Int32) → (Nat → Int32) → (Nat → Int32) → (Nat → Int32) → (Nat → Int32) → (Nat → Int32) → (Nat → Int32) → (Nat → Int32) → (Nat → Int32) → (Nat → Int32) → (Nat → Int32) → (Nat → Int32) → (Nat → Int32) → (Nat → Int64) → (Nat → Int32) → (Nat → Int32) → (Nat → Int32) → (Nat → Int32) → (Nat → Int32) → (Nat → Int32) → (Nat → Int32) → (Nat → Int32) → (Nat → Int32) → (Nat → Int32) → (Nat → Int64) → (Nat → Int64) → (Nat → Int64) → (Nat → Int64) → (Nat → Int32) → (Nat → Int64) → (Nat → Int32) → (Nat → Int32) → Prop} (hW : fg_WF g) (hX : fg_CX g x_arity x_rows x_pLength x_rLength x_pKind x_pValue x_pBehind x_rKind x_rValue x_path) (hf : f < 4) (hN : N ≤ 1300) (hCe : fg_Ce g x_cCon x_cFirst x_cSecond x_cSize N T) (hx : x < N) (hLe : fg_Le g x_cFirst x_cSecond x_learnt x_sets N T)
    (hch : ∀ j, j < N → (x_cFirst x = nI j ∨ x_cSecond x = nI j) → bt (x_learnt j) f = true)
    (hJ : ∀ (lea : Nat → Int32) (sts : Nat → Int64), fg_Le g x_cFirst x_cSecond lea sts N T → (∀ y f', y < N → f' < 4 → bt (x_learnt y) f' = true → bt (lea y) f' = true) → bt (lea x) f = true → J (nI top) x_arity x_dKind x_dValue x_behind x_pKind x_pValue x_pBehind x_rKind x_rValue x_pLength x_rLength x_rows x_path x_argument x_cCon x_cFirst x_cSecond x_cSize x_table sts lea x_pile x_callRow x_callAt x_callOpen x_bound x_openToken x_lacks x_output x_kSize x_kSet x_kMany x_kList x_counts x_counted x_firstOpen x_openSize x_values) :
    wX_setOf_207 post J (nI f) Q (nI top) (nI x) (fg_st g f (fg_R (T x))) (fg_st g f (fg_L (T x))) (x_cCon x) (nI f) (nI (1300 * f + x)) x_cons x_drafted x_given x_cells x_calls x_opened x_held x_steps x_outcome x_culprit x_size x_kinds x_arity x_dKind x_dValue x_behind x_pKind x_pValue x_pBehind x_rKind x_rValue x_pLength x_rLength x_rows x_path x_argument x_cCon x_cFirst x_cSecond x_cSize x_table x_sets x_learnt x_pile x_callRow x_callAt x_callOpen x_bound x_openToken x_lacks x_output x_kSize x_kSet x_kMany x_kList x_counts x_counted x_firstOpen x_openSize x_values := by
  unfold wX_setOf_207
  obtain ⟨c1, c2, c3, c4, -⟩ := hCe x hx
  rw [c4]
  refine fg_xmatch hW hX hf c1 c2 rfl ?_
  have cx : (nI x).toNatClampNeg = x := nI_clamp (by omega)
  have vx : vp_in (nI x) 1300 := vp_in_nI (by omega) (by decide)
  rw [cx, nI_clamp (by omega)]
  refine And.intro (vp_in_nI (by omega) (by decide)) (nm_e (And.intro vx (And.intro vx (nm_e ?_))))
  have hL : ∀ f', f' < 4 → bt (vp_nar .byte ((x_learnt x ||| ((1 : Int32) <<< (nI f &&& 31))).toInt8.toInt32)) f' = (bt (x_learnt x) f' || decide (f' = f)) := by
    intro f' hf'
    rw [fg_jbyte _ (by omega), b_or, fg_jone (by omega) (by omega)]
  have hl1 : bt (vp_nar .byte ((x_learnt x ||| ((1 : Int32) <<< (nI f &&& 31))).toInt8.toInt32)) f = true := by rw [hL f hf, decide_eq_true rfl, Bool.or_true]
  obtain ⟨m1, m2⟩ := fg_Le_upd hN hf hx hLe hch hl1 (fun f' hf' w => by rw [hL f' hf', decide_eq_false w, Bool.or_false])
  exact hJ _ _ m1 m2 (by rw [pk_us]; exact hl1)
theorem fg_xset113 {post : Int64 → SX → Prop} {J : Int32 → (Nat → Int32) → (Nat → Int32) → (Nat → Int32) → (Nat → Int32) → (Nat → Int32) → (Nat → Int32) → (Nat → Int32) → (Nat → Int32) → (Nat → Int32) → (Nat → Int32) → (Nat → Int32) → (Nat → Int32) → (Nat → Int32) → (Nat → Int32) → (Nat → Int32) → (Nat → Int32) → (Nat → Int32) → (Nat → Int32) → (Nat → Int32) → (Nat → Int64) → (Nat → Int32) → (Nat → Int32) → (Nat → Int32) → (Nat → Int32) → (Nat → Int32) → (Nat → Int32) → (Nat → Int32) → (Nat → Int32) → (Nat → Int32) → (Nat → Int32) → (Nat → Int64) → (Nat → Int64) → (Nat → Int64) → (Nat → Int64) → (Nat → Int32) → (Nat → Int64) → (Nat → Int32) → (Nat → Int32) → Prop} (hW : fg_WF g) (hX : fg_CX g x_arity x_rows x_pLength x_rLength x_pKind x_pValue x_pBehind x_rKind x_rValue x_path) (hf : f < 4) (hN : N ≤ 1300) (hCe : fg_Ce g x_cCon x_cFirst x_cSecond x_cSize N T) (hx : x < N) (hLe : fg_Le g x_cFirst x_cSecond x_learnt x_sets N T)
    (hch : ∀ j, j < N → (x_cFirst x = nI j ∨ x_cSecond x = nI j) → bt (x_learnt j) f = true)
    (hJ : ∀ (lea : Nat → Int32) (sts : Nat → Int64), fg_Le g x_cFirst x_cSecond lea sts N T → (∀ y f', y < N → f' < 4 → bt (x_learnt y) f' = true → bt (lea y) f' = true) → bt (lea x) f = true → J (nI top) x_arity x_dKind x_dValue x_behind x_pKind x_pValue x_pBehind x_rKind x_rValue x_pLength x_rLength x_rows x_path x_argument x_cCon x_cFirst x_cSecond x_cSize x_table sts lea x_pile x_callRow x_callAt x_callOpen x_bound x_openToken x_lacks x_output x_kSize x_kSet x_kMany x_kList x_counts x_counted x_firstOpen x_openSize x_values) :
    wX_setOf_113 post J (nI f) Q (nI (top + 1)) (nI x) (x_cFirst x) (x_cSecond x) 1 x_cons x_drafted x_given x_cells x_calls x_opened x_held x_steps x_outcome x_culprit x_size x_kinds x_arity x_dKind x_dValue x_behind x_pKind x_pValue x_pBehind x_rKind x_rValue x_pLength x_rLength x_rows x_path x_argument x_cCon x_cFirst x_cSecond x_cSize x_table x_sets x_learnt x_pile x_callRow x_callAt x_callOpen x_bound x_openToken x_lacks x_output x_kSize x_kSet x_kMany x_kList x_counts x_counted x_firstOpen x_openSize x_values := by
  have cx : (nI x).toNatClampNeg = x := nI_clamp (by omega)
  have vx : vp_in (nI x) 1300 := vp_in_nI (by omega) (by decide)
  obtain ⟨c1, c2, c3, c4, c5, c6, -⟩ := hCe x hx
  have e1 : (1300 : Int32) * nI f = nI (1300 * f) := fg_mulc 1300 f
  have t185 : ∀ z0 : Int64, z0 = fg_st g f (fg_L (T x)) → wX_setOf_185 post J (nI f) Q (nI top) (nI x) (x_cSecond x) z0 (x_cCon x) (nI f) (nI (1300 * f + x)) x_cons x_drafted x_given x_cells x_calls x_opened x_held x_steps x_outcome x_culprit x_size x_kinds x_arity x_dKind x_dValue x_behind x_pKind x_pValue x_pBehind x_rKind x_rValue x_pLength x_rLength x_rows x_path x_argument x_cCon x_cFirst x_cSecond x_cSize x_table x_sets x_learnt x_pile x_callRow x_callAt x_callOpen x_bound x_openToken x_lacks x_output x_kSize x_kSet x_kMany x_kList x_counts x_counted x_firstOpen x_openSize x_values := by
    intro z0 hz
    subst hz
    have w : wX_setOf_207 post J (nI f) Q (nI top) (nI x) (fg_st g f (fg_R (T x))) (fg_st g f (fg_L (T x))) (x_cCon x) (nI f) (nI (1300 * f + x)) x_cons x_drafted x_given x_cells x_calls x_opened x_held x_steps x_outcome x_culprit x_size x_kinds x_arity x_dKind x_dValue x_behind x_pKind x_pValue x_pBehind x_rKind x_rValue x_pLength x_rLength x_rows x_path x_argument x_cCon x_cFirst x_cSecond x_cSize x_table x_sets x_learnt x_pile x_callRow x_callAt x_callOpen x_bound x_openToken x_lacks x_output x_kSize x_kSet x_kMany x_kList x_counts x_counted x_firstOpen x_openSize x_values := fg_xset207 hW hX hf hN hCe hx hLe hch hJ
    unfold wX_setOf_185
    rcases c6 with ⟨q, qn⟩ | ⟨j, hj, q, qT⟩
    · rw [q]
      refine br_f fg_m1le ?_
      rw [qn] at w
      exact w
    · have hb := hch j (by omega) (Or.inr q)
      have hs := (hLe j f (by omega) hf hb).1
      rw [q, e1, nI_add]
      refine br_t (nI_pos' (by omega)) (And.intro (vp_in_nI (by omega) (by decide)) ?_)
      rw [nI_clamp (by omega), hs, qT]
      exact w
  unfold wX_setOf_113
  refine br_f (by decide) (nm_r (pk_m1 top) (And.intro vx ?_))
  rw [cx]
  refine ek_if (fg_jts1 _ (by omega)) (fun hl => ?_) (fun hl => ?_)
  · exact hJ _ _ hLe (fun _ _ _ _ h => h) hl
  · refine And.intro vx ?_
    rw [e1]
    rcases c5 with ⟨q, qn⟩ | ⟨j, hj, q, qT⟩
    · rw [q]
      refine br_f fg_m1le ?_
      rw [nI_add]
      exact t185 0 (by rw [qn]; rfl)
    · have hb := hch j (by omega) (Or.inl q)
      have hs := (hLe j f (by omega) hf hb).1
      rw [q]
      refine br_t (nI_pos' (by omega)) ?_
      rw [nI_add, nI_add, nI_clamp (show 1300 * f + j < 2 ^ 31 by omega)]
      exact And.intro (vp_in_nI (by omega) (by decide)) (t185 _ (by rw [hs, qT]))
def fg_fine (lea : Nat → Int32) (N f : Nat) (p : Int32) : Prop := ∀ j, j < N → p = nI j → bt (lea j) f = true
theorem fg_xset_step {post : Int64 → SX → Prop} {n : Nat} {pile lea : Nat → Int32} {sts : Nat → Int64} (hW : fg_WF g) (hX : fg_CX g x_arity x_rows x_pLength x_rLength x_pKind x_pValue x_pBehind x_rKind x_rValue x_path) (hf : f < 4) (hN : N ≤ 1300) (hCe : fg_Ce g x_cCon x_cFirst x_cSecond x_cSize N T) (hx : x < N) (hp : pile top = nI x) (ht : top + 3 ≤ 1300) (hLe : fg_Le g x_cFirst x_cSecond lea sts N T)
    (h1 : fg_fine lea N f (x_cFirst x) → fg_fine lea N f (x_cSecond x) → ∀ (lea' : Nat → Int32) (sts' : Nat → Int64), fg_Le g x_cFirst x_cSecond lea' sts' N T → (∀ y f', y < N → f' < 4 → bt (lea y) f' = true → bt (lea' y) f' = true) → bt (lea' x) f = true → wX_setOf_10 post (nI f) Q x_cons x_drafted x_given x_cells x_calls x_opened x_held x_steps x_outcome x_culprit x_size x_kinds n (nI top) x_arity x_dKind x_dValue x_behind x_pKind x_pValue x_pBehind x_rKind x_rValue x_pLength x_rLength x_rows x_path x_argument x_cCon x_cFirst x_cSecond x_cSize x_table sts' lea' pile x_callRow x_callAt x_callOpen x_bound x_openToken x_lacks x_output x_kSize x_kSet x_kMany x_kList x_counts x_counted x_firstOpen x_openSize x_values)
    (h2 : fg_fine lea N f (x_cFirst x) → ∀ j, j < x → x_cSecond x = nI j → bt (lea j) f = false → wX_setOf_10 post (nI f) Q x_cons x_drafted x_given x_cells x_calls x_opened x_held x_steps x_outcome x_culprit x_size x_kinds n (nI (top + 2)) x_arity x_dKind x_dValue x_behind x_pKind x_pValue x_pBehind x_rKind x_rValue x_pLength x_rLength x_rows x_path x_argument x_cCon x_cFirst x_cSecond x_cSize x_table sts lea (upd pile (top + 1) (nI j)) x_callRow x_callAt x_callOpen x_bound x_openToken x_lacks x_output x_kSize x_kSet x_kMany x_kList x_counts x_counted x_firstOpen x_openSize x_values)
    (h3 : fg_fine lea N f (x_cSecond x) → ∀ j, j < x → x_cFirst x = nI j → bt (lea j) f = false → wX_setOf_10 post (nI f) Q x_cons x_drafted x_given x_cells x_calls x_opened x_held x_steps x_outcome x_culprit x_size x_kinds n (nI (top + 2)) x_arity x_dKind x_dValue x_behind x_pKind x_pValue x_pBehind x_rKind x_rValue x_pLength x_rLength x_rows x_path x_argument x_cCon x_cFirst x_cSecond x_cSize x_table sts lea (upd pile (top + 1) (nI j)) x_callRow x_callAt x_callOpen x_bound x_openToken x_lacks x_output x_kSize x_kSet x_kMany x_kList x_counts x_counted x_firstOpen x_openSize x_values)
    (h4 : ∀ i j, i < x → j < x → x_cFirst x = nI i → x_cSecond x = nI j → bt (lea i) f = false → bt (lea j) f = false → wX_setOf_10 post (nI f) Q x_cons x_drafted x_given x_cells x_calls x_opened x_held x_steps x_outcome x_culprit x_size x_kinds n (nI (top + 3)) x_arity x_dKind x_dValue x_behind x_pKind x_pValue x_pBehind x_rKind x_rValue x_pLength x_rLength x_rows x_path x_argument x_cCon x_cFirst x_cSecond x_cSize x_table sts lea (upd (upd pile (top + 1) (nI i)) (top + 2) (nI j)) x_callRow x_callAt x_callOpen x_bound x_openToken x_lacks x_output x_kSize x_kSet x_kMany x_kList x_counts x_counted x_firstOpen x_openSize x_values) :
    wX_setOf_10 post (nI f) Q x_cons x_drafted x_given x_cells x_calls x_opened x_held x_steps x_outcome x_culprit x_size x_kinds (n + 1) (nI (top + 1)) x_arity x_dKind x_dValue x_behind x_pKind x_pValue x_pBehind x_rKind x_rValue x_pLength x_rLength x_rows x_path x_argument x_cCon x_cFirst x_cSecond x_cSize x_table sts lea pile x_callRow x_callAt x_callOpen x_bound x_openToken x_lacks x_output x_kSize x_kSet x_kMany x_kList x_counts x_counted x_firstOpen x_openSize x_values := by
  have cx : (nI x).toNatClampNeg = x := nI_clamp (by omega)
  have vx : vp_in (nI x) 1300 := vp_in_nI (by omega) (by decide)
  obtain ⟨c1, c2, c3, c4, c5, c6, -⟩ := hCe x hx
  refine br_f (nI_nle (by omega) (by omega)) ?_
  rw [nI_pred]
  refine And.intro (vp_in_nI (by omega) (by decide)) ?_
  refine nm_r (e' := nI x) (by rw [nI_clamp (by omega)]; exact hp) (And.intro vx ?_)
  refine nm_r (e' := x_cFirst x) (by rw [cx]) (And.intro vx ?_)
  refine nm_r (e' := x_cSecond x) (by rw [cx]) ?_
  have f1 : x_cFirst x = -1 → fg_fine lea N f (x_cFirst x) := fun e j hj q => by rw [e] at q; exact absurd q (fg_m1n (by omega))
  have f2 : x_cSecond x = -1 → fg_fine lea N f (x_cSecond x) := fun e j hj q => by rw [e] at q; exact absurd q (fg_m1n (by omega))
  have g1 : ∀ (p : Int32) k, k < x → p = nI k → bt (lea k) f = true → fg_fine lea N f p := by
    intro p k hk e hb j hj q
    rw [e] at q
    have := (nI_eq (by omega) (by omega)).mp q
    rw [← this]; exact hb
  -- nothing is to be learnt first
  have ready : fg_fine lea N f (x_cFirst x) → fg_fine lea N f (x_cSecond x) → wX_setOf_113 post (wX_setOf_10 post (nI f) Q x_cons x_drafted x_given x_cells x_calls x_opened x_held x_steps x_outcome x_culprit x_size x_kinds n) (nI f) Q (nI (top + 1)) (nI x) (x_cFirst x) (x_cSecond x) 1 x_cons x_drafted x_given x_cells x_calls x_opened x_held x_steps x_outcome x_culprit x_size x_kinds x_arity x_dKind x_dValue x_behind x_pKind x_pValue x_pBehind x_rKind x_rValue x_pLength x_rLength x_rows x_path x_argument x_cCon x_cFirst x_cSecond x_cSize x_table sts lea pile x_callRow x_callAt x_callOpen x_bound x_openToken x_lacks x_output x_kSize x_kSet x_kMany x_kList x_counts x_counted x_firstOpen x_openSize x_values := by
    intro u1 u2
    exact fg_xset113 hW hX hf hN hCe hx hLe (fun j hj q => q.elim (u1 j hj) (u2 j hj)) (h1 u1 u2)
  -- the second value
  have sec : ∀ (s : Nat) (x7 : Int32) (pl : Nat → Int32), s ≤ top + 2 → (fg_fine lea N f (x_cSecond x) → wX_setOf_113 post (wX_setOf_10 post (nI f) Q x_cons x_drafted x_given x_cells x_calls x_opened x_held x_steps x_outcome x_culprit x_size x_kinds n) (nI f) Q (nI s) (nI x) (x_cFirst x) (x_cSecond x) x7 x_cons x_drafted x_given x_cells x_calls x_opened x_held x_steps x_outcome x_culprit x_size x_kinds x_arity x_dKind x_dValue x_behind x_pKind x_pValue x_pBehind x_rKind x_rValue x_pLength x_rLength x_rows x_path x_argument x_cCon x_cFirst x_cSecond x_cSize x_table sts lea pl x_callRow x_callAt x_callOpen x_bound x_openToken x_lacks x_output x_kSize x_kSet x_kMany x_kList x_counts x_counted x_firstOpen x_openSize x_values) →
      (∀ j, j < x → x_cSecond x = nI j → bt (lea j) f = false → wX_setOf_10 post (nI f) Q x_cons x_drafted x_given x_cells x_calls x_opened x_held x_steps x_outcome x_culprit x_size x_kinds n (nI (s + 1)) x_arity x_dKind x_dValue x_behind x_pKind x_pValue x_pBehind x_rKind x_rValue x_pLength x_rLength x_rows x_path x_argument x_cCon x_cFirst x_cSecond x_cSize x_table sts lea (upd pl s (nI j)) x_callRow x_callAt x_callOpen x_bound x_openToken x_lacks x_output x_kSize x_kSet x_kMany x_kList x_counts x_counted x_firstOpen x_openSize x_values) →
      wX_setOf_79 post (wX_setOf_10 post (nI f) Q x_cons x_drafted x_given x_cells x_calls x_opened x_held x_steps x_outcome x_culprit x_size x_kinds n) (nI f) Q (nI s) (nI x) (x_cFirst x) (x_cSecond x) x7 x_cons x_drafted x_given x_cells x_calls x_opened x_held x_steps x_outcome x_culprit x_size x_kinds x_arity x_dKind x_dValue x_behind x_pKind x_pValue x_pBehind x_rKind x_rValue x_pLength x_rLength x_rows x_path x_argument x_cCon x_cFirst x_cSecond x_cSize x_table sts lea pl x_callRow x_callAt x_callOpen x_bound x_openToken x_lacks x_output x_kSize x_kSet x_kMany x_kList x_counts x_counted x_firstOpen x_openSize x_values := by
    intro s x7 pl hs k1 k2
    unfold wX_setOf_79
    rcases c6 with ⟨q, -⟩ | ⟨j, hj, q, -⟩
    · refine br_t (by rw [q]; exact fg_m1neg) (k1 (f2 q))
    · refine br_f (by rw [q]; exact nI_pos (by omega)) (And.intro (by rw [q]; exact vp_in_nI (by omega) (by decide)) ?_)
      have cj : (x_cSecond x).toNatClampNeg = j := by rw [q, nI_clamp (by omega)]
      rw [cj]
      refine ek_if (fg_jts0 _ (by omega)) (fun hb => ?_) (fun hb => ?_)
      · refine nm_r (nI_1 s) (And.intro (vp_in_nI (by omega) (by decide)) ?_)
        refine nm_r (e' := upd pl s (nI j)) (by rw [q, nI_clamp (by omega), fg_w16 (by omega)]) ?_
        unfold wX_setOf_113
        exact br_t rfl (k2 j hj q hb)
      · exact k1 (g1 _ j hj q (ts_nf hb))
  rcases c5 with ⟨q, -⟩ | ⟨i, hi, q, -⟩
  · refine br_t (by rw [q]; exact fg_m1neg) ?_
    exact sec (top + 1) 1 pile (by omega) (ready (f1 q)) (h2 (f1 q))
  · refine br_f (by rw [q]; exact nI_pos (by omega)) (And.intro (by rw [q]; exact vp_in_nI (by omega) (by decide)) ?_)
    have ci : (x_cFirst x).toNatClampNeg = i := by rw [q, nI_clamp (by omega)]
    rw [ci]
    refine ek_if (fg_jts0 _ (by omega)) (fun hb => ?_) (fun hb => ?_)
    · refine nm_r (nI_1 (top + 1)) (And.intro (vp_in_nI (by omega) (by decide)) ?_)
      refine nm_r (e' := upd pile (top + 1) (nI i)) (by rw [q, nI_clamp (by omega), fg_w16 (by omega)]) ?_
      refine sec (top + 2) 0 _ (by omega) (fun u2 => ?_) (fun j hj qj hbj => h4 i j hi hj q qj hb hbj)
      unfold wX_setOf_113
      exact br_t rfl (h3 u2 i hi q hb)
    · have u1 := g1 _ i hi q (ts_nf hb)
      exact sec (top + 1) 1 pile (by omega) (ready u1) (h2 u1)
theorem fg_fine_of {lea : Nat → Int32} {N f k : Nat} {p : Int32} (hN : N ≤ 1300) (hk : k < N) (e : p = nI k) (hb : bt (lea k) f = true) : fg_fine lea N f p := by
  intro j hj q
  rw [e] at q
  have := (nI_eq (by omega) (by omega)).mp q
  rw [← this]; exact hb
theorem fg_fine_mono {lea lea' : Nat → Int32} {N f : Nat} {p : Int32} (hf : f < 4) (h : fg_fine lea N f p) (hm : ∀ y f', y < N → f' < 4 → bt (lea y) f' = true → bt (lea' y) f' = true) : fg_fine lea' N f p :=
  fun j hj q => hm j f hj hf (h j hj q)
theorem fg_fine_d {T : Nat → fg_T} {lea : Nat → Int32} {N f x : Nat} {p : Int32} {t : fg_T} (hN : N ≤ 1300) (hx : x < N) (h : fg_pt T x p t) : fg_fine lea N f p ∨ ∃ i, i < x ∧ p = nI i ∧ bt (lea i) f = false ∧ T i = t := by
  rcases h with ⟨q, -⟩ | ⟨i, hi, q, hT⟩
  · exact Or.inl (fun j hj e => by rw [q] at e; exact absurd e (fg_m1n (by omega)))
  · cases hb : bt (lea i) f with
    | true => exact Or.inl (fg_fine_of hN (by omega) q hb)
    | false => exact Or.inr ⟨i, hi, q, hb, hT⟩
theorem fg_fine_no {lea : Nat → Int32} {N f j : Nat} {p : Int32} {P : Prop} (h : fg_fine lea N f p) (hj : j < N) (q : p = nI j) (hb : bt (lea j) f = false) : P := by
  rw [h j hj q] at hb
  exact nomatch hb
theorem fg_xset_t {post : Int64 → SX → Prop} (hW : fg_WF g) (hX : fg_CX g x_arity x_rows x_pLength x_rLength x_pKind x_pValue x_pBehind x_rKind x_rValue x_path) (hf : f < 4) (hN : N ≤ 1300) (hCe : fg_Ce g x_cCon x_cFirst x_cSecond x_cSize N T) :
    ∀ (x top k : Nat) (pile lea : Nat → Int32) (sts : Nat → Int64), x < N → pile top = nI x → top + 2 * fg_sz (T x) ≤ 1200 → fg_Le g x_cFirst x_cSecond lea sts N T →
      (∀ (pile' lea' : Nat → Int32) (sts' : Nat → Int64), fg_Le g x_cFirst x_cSecond lea' sts' N T → (∀ y f', y < N → f' < 4 → bt (lea y) f' = true → bt (lea' y) f' = true) → bt (lea' x) f = true → (∀ j, j < top → pile' j = pile j) → ∀ m, k ≤ m → wX_setOf_10 post (nI f) Q x_cons x_drafted x_given x_cells x_calls x_opened x_held x_steps x_outcome x_culprit x_size x_kinds m (nI top) x_arity x_dKind x_dValue x_behind x_pKind x_pValue x_pBehind x_rKind x_rValue x_pLength x_rLength x_rows x_path x_argument x_cCon x_cFirst x_cSecond x_cSize x_table sts' lea' pile' x_callRow x_callAt x_callOpen x_bound x_openToken x_lacks x_output x_kSize x_kSet x_kMany x_kList x_counts x_counted x_firstOpen x_openSize x_values) →
      ∀ m, k + 2 * fg_sz (T x) ≤ m → wX_setOf_10 post (nI f) Q x_cons x_drafted x_given x_cells x_calls x_opened x_held x_steps x_outcome x_culprit x_size x_kinds m (nI (top + 1)) x_arity x_dKind x_dValue x_behind x_pKind x_pValue x_pBehind x_rKind x_rValue x_pLength x_rLength x_rows x_path x_argument x_cCon x_cFirst x_cSecond x_cSize x_table sts lea pile x_callRow x_callAt x_callOpen x_bound x_openToken x_lacks x_output x_kSize x_kSet x_kMany x_kList x_counts x_counted x_firstOpen x_openSize x_values := by
  intro x
  induction x using Nat.strongRecOn with
  | ind x ih =>
    intro top k pile0 lea0 sts0 hx hp0 ht hLe0 hK m hm
    obtain ⟨c1, c2, c3, c4, c5, c6, -⟩ := hCe x hx
    have hsz := fg_sz_br c1
    -- the step when both values are learnt
    have fin : ∀ (pile lea : Nat → Int32) (sts : Nat → Int64), pile top = nI x → (∀ j, j < top → pile j = pile0 j) → fg_Le g x_cFirst x_cSecond lea sts N T → (∀ y f', y < N → f' < 4 → bt (lea0 y) f' = true → bt (lea y) f' = true) → fg_fine lea N f (x_cFirst x) → fg_fine lea N f (x_cSecond x) →
        ∀ m, k + 1 ≤ m → wX_setOf_10 post (nI f) Q x_cons x_drafted x_given x_cells x_calls x_opened x_held x_steps x_outcome x_culprit x_size x_kinds m (nI (top + 1)) x_arity x_dKind x_dValue x_behind x_pKind x_pValue x_pBehind x_rKind x_rValue x_pLength x_rLength x_rows x_path x_argument x_cCon x_cFirst x_cSecond x_cSize x_table sts lea pile x_callRow x_callAt x_callOpen x_bound x_openToken x_lacks x_output x_kSize x_kSet x_kMany x_kList x_counts x_counted x_firstOpen x_openSize x_values := by
      intro pile lea sts hp hpe hLe hmo u1 u2 m hm
      obtain ⟨n, rfl⟩ : ∃ n, m = n + 1 := ⟨m - 1, by omega⟩
      refine fg_xset_step hW hX hf hN hCe hx hp (by omega) hLe (fun _ _ lea' sts' l1 l2 l3 => ?_) (fun _ j hj q hb => fg_fine_no u2 (by omega) q hb) (fun _ j hj q hb => fg_fine_no u1 (by omega) q hb) (fun i j hi hj q1 q2 hb _ => fg_fine_no u1 (by omega) q1 hb)
      exact hK _ lea' sts' l1 (fun y f' hy hf' h => l2 y f' hy hf' (hmo y f' hy hf' h)) l3 hpe n (by omega)
    rcases fg_fine_d (lea := lea0) (f := f) hN hx c5 with u1 | ⟨i, hi, qi, hbi, hTi⟩
    · rcases fg_fine_d (lea := lea0) (f := f) hN hx c6 with u2 | ⟨j, hj, qj, hbj, hTj⟩
      · exact fin pile0 lea0 sts0 hp0 (fun _ _ => rfl) hLe0 (fun _ _ _ _ h => h) u1 u2 m (by omega)
      · obtain ⟨n, rfl⟩ : ∃ n, m = n + 1 := ⟨m - 1, by omega⟩
        refine fg_xset_step hW hX hf hN hCe hx hp0 (by omega) hLe0 (fun _ u2 => fg_fine_no u2 (by omega) qj hbj) (fun _ j' hj' q hb => ?_) (fun u2 => fg_fine_no u2 (by omega) qj hbj) (fun i j hi hj q1 q2 hb _ => fg_fine_no u1 (by omega) q1 hb)
        have ej : j' = j := by
          rw [qj] at q
          exact ((nI_eq (by omega) (by omega)).mp q).symm
        subst ej
        rw [← hTj] at hsz
        refine ih j' hj' (top + 1) (k + 1) _ lea0 sts0 (by omega) pk_us (by omega) hLe0 (fun pile' lea' sts' l1 l2 l3 l4 m' hm' => ?_) n (by omega)
        exact fin pile' lea' sts' (by rw [l4 top (by omega), pk_un (by omega)]; exact hp0) (fun z hz => by rw [l4 z (by omega), pk_un (by omega)]) l1 l2 (fg_fine_mono hf u1 l2) (fg_fine_of hN (by omega) qj l3) m' hm'
    · rcases fg_fine_d (lea := lea0) (f := f) hN hx c6 with u2 | ⟨j, hj, qj, hbj, hTj⟩
      · obtain ⟨n, rfl⟩ : ∃ n, m = n + 1 := ⟨m - 1, by omega⟩
        refine fg_xset_step hW hX hf hN hCe hx hp0 (by omega) hLe0 (fun u1 _ => fg_fine_no u1 (by omega) qi hbi) (fun u1 => fg_fine_no u1 (by omega) qi hbi) (fun _ j' hj' q hb => ?_) (fun i j hi hj q1 q2 _ hb => fg_fine_no u2 (by omega) q2 hb)
        have ej : j' = i := by
          rw [qi] at q
          exact ((nI_eq (by omega) (by omega)).mp q).symm
        subst ej
        rw [← hTi] at hsz
        refine ih j' hj' (top + 1) (k + 1) _ lea0 sts0 (by omega) pk_us (by omega) hLe0 (fun pile' lea' sts' l1 l2 l3 l4 m' hm' => ?_) n (by omega)
        exact fin pile' lea' sts' (by rw [l4 top (by omega), pk_un (by omega)]; exact hp0) (fun z hz => by rw [l4 z (by omega), pk_un (by omega)]) l1 l2 (fg_fine_of hN (by omega) qi l3) (fg_fine_mono hf u2 l2) m' hm'
      · obtain ⟨n, rfl⟩ : ∃ n, m = n + 1 := ⟨m - 1, by omega⟩
        refine fg_xset_step hW hX hf hN hCe hx hp0 (by omega) hLe0 (fun u1 _ => fg_fine_no u1 (by omega) qi hbi) (fun u1 => fg_fine_no u1 (by omega) qi hbi) (fun u2 => fg_fine_no u2 (by omega) qj hbj) (fun i' j' hi' hj' q1 q2 _ _ => ?_)
        have ei : i' = i := by
          rw [qi] at q1
          exact ((nI_eq (by omega) (by omega)).mp q1).symm
        have ej : j' = j := by
          rw [qj] at q2
          exact ((nI_eq (by omega) (by omega)).mp q2).symm
        subst ei ej
        rw [← hTi, ← hTj] at hsz
        refine ih j' hj' (top + 2) (k + 1 + 2 * fg_sz (T i')) _ lea0 sts0 (by omega) pk_us (by omega) hLe0 (fun pile' lea' sts' l1 l2 l3 l4 m' hm' => ?_) n (by omega)
        refine ih i' hi' (top + 1) (k + 1) pile' lea' sts' (by omega) (by rw [l4 (top + 1) (by omega), pk_un (by omega), pk_us]) (by omega) l1 (fun pile2 lea2 sts2 n1 n2 n3 n4 m2 hm2 => ?_) m' hm'
        exact fin pile2 lea2 sts2 (by rw [n4 top (by omega), l4 top (by omega), pk_un (by omega), pk_un (by omega)]; exact hp0) (fun z hz => by rw [n4 z (by omega), l4 z (by omega), pk_un (by omega), pk_un (by omega)]) n1 (fun y f' hy hf' h => n2 y f' hy hf' (l2 y f' hy hf' h)) (fg_fine_of hN (by omega) qi n3) (fg_fine_mono hf (fg_fine_of hN (by omega) qj l3) n2) m2 hm2
theorem fg_xsetOf {post : Int64 → SX → Prop} (hW : fg_WF g) (hX : fg_CX g x_arity x_rows x_pLength x_rLength x_pKind x_pValue x_pBehind x_rKind x_rValue x_path) (hf : f < 4) (hN : N ≤ 1300) (hCe : fg_Ce g x_cCon x_cFirst x_cSecond x_cSize N T) (hLe : fg_Le g x_cFirst x_cSecond x_learnt x_sets N T) (hx : x < N)
    (hp : ∀ (pile lea : Nat → Int32) (sts : Nat → Int64), fg_Le g x_cFirst x_cSecond lea sts N T → post (fg_st g f (T x)) (x_cons, x_drafted, x_given, x_cells, x_calls, x_opened, x_held, x_steps, x_outcome, x_culprit, x_size, x_kinds, x_arity, x_dKind, x_dValue, x_behind, x_pKind, x_pValue, x_pBehind, x_rKind, x_rValue, x_pLength, x_rLength, x_rows, x_path, x_argument, x_cCon, x_cFirst, x_cSecond, x_cSize, x_table, sts, lea, pile, x_callRow, x_callAt, x_callOpen, x_bound, x_openToken, x_lacks, x_output, x_kSize, x_kSet, x_kMany, x_kList, x_counts, x_counted, x_firstOpen, x_openSize, x_values)) : wpX_setOf post (x_cons, x_drafted, x_given, x_cells, x_calls, x_opened, x_held, x_steps, x_outcome, x_culprit, x_size, x_kinds, x_arity, x_dKind, x_dValue, x_behind, x_pKind, x_pValue, x_pBehind, x_rKind, x_rValue, x_pLength, x_rLength, x_rows, x_path, x_argument, x_cCon, x_cFirst, x_cSecond, x_cSize, x_table, x_sets, x_learnt, x_pile, x_callRow, x_callAt, x_callOpen, x_bound, x_openToken, x_lacks, x_output, x_kSize, x_kSet, x_kMany, x_kList, x_counts, x_counted, x_firstOpen, x_openSize, x_values) (nI f) (nI x) := by
  refine nm_r (e' := upd x_pile 0 (nI x)) (by rw [fg_w16 (by omega)]) ?_
  refine ⟨1 + 2 * fg_sz (T x), ?_⟩
  have h40 := (hCe x hx).2.2.1
  refine fg_xset_t hW hX hf hN hCe x 0 1 _ x_learnt x_sets hx pk_us (by omega) hLe (fun pile' lea' sts' l1 l2 l3 l4 m hm => ?_) _ (Nat.le_refl _)
  obtain ⟨n, rfl⟩ : ∃ n, m = n + 1 := ⟨m - 1, by omega⟩
  refine br_t (by decide) ?_
  have e1 : (1300 : Int32) * nI f = nI (1300 * f) := fg_mulc 1300 f
  rw [e1, nI_add, nI_clamp (by omega), (l1 x f hx hf l3).1]
  exact And.intro (vp_in_nI (by omega) (by decide)) (hp pile' lea' sts' l1)
end
end
section
/-! the relation -/
def fg_Dr (g : fg_C) (nd : Nat) (DK DV : Nat → Nat) (dKind dValue draftKind draftWith : Nat → Int32) : Prop :=
  nd ≤ 40 ∧ ∀ i, i < nd → DK i ≤ 5 ∧ DV i < 6 ∧ dKind i = nI (DK i) ∧ draftKind i = nI (DK i) ∧ dValue i = nI (DV i) ∧ (DK i = 1 ∨ DK i = 5 → DV i < 4 ∧ draftWith i = nI (DV i)) ∧ (DK i = 2 → DV i < fg_nc g ∧ draftWith i = nI (DV i))
def fg_Ag (g : fg_C) (t : fg_T) (given argumentLength : Int32) (xarg yarg : Nat → Int32) : Prop :=
  fg_ok (fg_nc g) (fg_ar g) t ∧ fg_sz t ≤ 40 ∧ given = nI (fg_sz t) ∧ argumentLength = nI (fg_sz t) ∧ fg_at xarg 0 (fg_fl t) ∧ fg_at yarg 0 (fg_fl t)
def fg_Ru (g : fg_C) (w : fg_T) (outcome size steps culprit givenLength ysteps blamed ran : Int32) (output given : Nat → Int32) : Prop :=
  fg_ok (fg_nc g) (fg_ar g) w ∧ fg_sz w ≤ 40 ∧ givenLength = nI (fg_sz w) ∧ fg_at output 0 (fg_fl w) ∧ fg_at given 0 (fg_fl w) ∧
  ((outcome = -1 ∧ ran = 0 ∧ w = fg_nil) ∨ (ran = 1 ∧ size = givenLength ∧ steps = ysteps ∧ culprit = blamed ∧ ((outcome = 0 ∧ w ≠ fg_nil) ∨ ∃ o, 1 ≤ o ∧ o ≤ 3 ∧ outcome = nI o ∧ w = fg_nil)))
/-- digits as a number -/
def fg_bs (b : Nat) (d : Nat → Nat) : Nat → Nat
  | 0 => 0
  | s + 1 => b * fg_bs b d s + d s
def fg_Cn1 (rwf f : Nat) (xcounts : Nat → Int64) (ycounts : Nat → Int32) (xfirstOpen : Nat → Int64) (xopenSize yopenSize yopen : Nat → Int32) : Prop :=
  (∀ r n, r < rwf → n < 5 → ∃ q, q < 8000 ∧ xcounts (30 * f + 5 * r + n) = lN q ∧ ycounts (30 * f + 5 * (r + 1) + n) = nI q) ∧
  (∀ n, n < 5 → ∃ q, q < 8000 ∧ xcounts (30 * f + 25 + n) = lN q ∧ ycounts (30 * f + n) = nI q) ∧
  ∃ (os : Nat) (d : Nat → Nat), os ≤ 5 ∧ (∀ k, k < os → d k < 16) ∧ xopenSize f = nI os ∧ yopenSize f = nI os ∧ (os ≠ 0 → xfirstOpen f = lN (fg_bs 16 d os)) ∧ ∀ k, k < os → yopen (5 * f + k) = nI (d k)
def fg_Cn (g : fg_C) (xcounted yknown : Nat → Int32) (xcounts : Nat → Int64) (ycounts : Nat → Int32) (xfirstOpen : Nat → Int64) (xopenSize yopenSize yopen : Nat → Int32) : Prop :=
  ∀ f, f < 4 → xcounted f = yknown f ∧ (xcounted f = 0 ∨ (xcounted f = 1 ∧ fg_Cn1 (fg_rw g f) f xcounts ycounts xfirstOpen xopenSize yopenSize yopen))
def fg_Rl0 (g : fg_C) (nd : Nat) (DK DV : Nat → Nat) (t w : fg_T) (x_cons x_drafted x_given x_steps x_outcome x_culprit x_size y_cons y_drafted y_argumentLength y_givenLength y_steps y_blamed y_ran : Int32) (x_arity x_dKind x_dValue x_pKind x_pValue x_pBehind x_rKind x_rValue x_pLength x_rLength x_rows x_path x_argument x_output x_counted x_openSize y_arity y_draftKind y_draftWith y_kind y_with y_patternLength y_resultLength y_rows y_argument y_given y_counts y_openSize y_open y_known : Nat → Int32) (x_counts x_firstOpen : Nat → Int64) : Prop :=
  fg_WF g ∧ x_cons = nI (fg_nc g) ∧ y_cons = nI (fg_nc g) ∧ x_drafted = nI nd ∧ y_drafted = nI nd ∧
  fg_CX g x_arity x_rows x_pLength x_rLength x_pKind x_pValue x_pBehind x_rKind x_rValue x_path ∧
  fg_CY g y_arity y_rows y_patternLength y_resultLength y_kind y_with ∧
  fg_Dr g nd DK DV x_dKind x_dValue y_draftKind y_draftWith ∧ fg_Ag g t x_given y_argumentLength x_argument y_argument ∧
  fg_Ru g w x_outcome x_size x_steps x_culprit y_givenLength y_steps y_blamed y_ran x_output y_given ∧
  fg_Cn g x_counted y_known x_counts y_counts x_firstOpen x_openSize y_openSize y_open
def fg_Rl (x_cons x_drafted x_given x_steps x_outcome x_culprit x_size y_cons y_drafted y_argumentLength y_givenLength y_steps y_blamed y_ran : Int32) (x_arity x_dKind x_dValue x_pKind x_pValue x_pBehind x_rKind x_rValue x_pLength x_rLength x_rows x_path x_argument x_output x_counted x_openSize y_arity y_draftKind y_draftWith y_kind y_with y_patternLength y_resultLength y_rows y_argument y_given y_counts y_openSize y_open y_known : Nat → Int32) (x_counts x_firstOpen : Nat → Int64) : Prop := ∃ (g : fg_C) (nd : Nat) (DK DV : Nat → Nat) (t w : fg_T), fg_Rl0 g nd DK DV t w x_cons x_drafted x_given x_steps x_outcome x_culprit x_size y_cons y_drafted y_argumentLength y_givenLength y_steps y_blamed y_ran x_arity x_dKind x_dValue x_pKind x_pValue x_pBehind x_rKind x_rValue x_pLength x_rLength x_rows x_path x_argument x_output x_counted x_openSize y_arity y_draftKind y_draftWith y_kind y_with y_patternLength y_resultLength y_rows y_argument y_given y_counts y_openSize y_open y_known x_counts x_firstOpen
/-- the relation at the head of a turn -/
def i_Rel (_ : Nat) (u : SX) (v : SY) : Prop := match u with
  | (x_cons, x_drafted, x_given, x_cells, x_calls, x_opened, x_held, x_steps, x_outcome, x_culprit, x_size, x_kinds, x_arity, x_dKind, x_dValue, x_behind, x_pKind, x_pValue, x_pBehind, x_rKind, x_rValue, x_pLength, x_rLength, x_rows, x_path, x_argument, x_cCon, x_cFirst, x_cSecond, x_cSize, x_table, x_sets, x_learnt, x_pile, x_callRow, x_callAt, x_callOpen, x_bound, x_openToken, x_lacks, x_output, x_kSize, x_kSet, x_kMany, x_kList, x_counts, x_counted, x_firstOpen, x_openSize, x_values) => match v with
    | (y_cons, y_drafted, y_nodes, y_length, y_argumentLength, y_givenLength, y_steps, y_blamed, y_how, y_ran, y_working, y_arity, y_draftKind, y_draftWith, y_kind, y_with, y_patternLength, y_resultLength, y_rows, y_head, y_left, y_right, y_size, y_list, y_stack, y_starts, y_argument, y_given, y_fits, y_ends, y_places, y_bound, y_workKind, y_workWith, y_owner, y_counts, y_openSize, y_open, y_known) => fg_Rl x_cons x_drafted x_given x_steps x_outcome x_culprit x_size y_cons y_drafted y_argumentLength y_givenLength y_steps y_blamed y_ran x_arity x_dKind x_dValue x_pKind x_pValue x_pBehind x_rKind x_rValue x_pLength x_rLength x_rows x_path x_argument x_output x_counted x_openSize y_arity y_draftKind y_draftWith y_kind y_with y_patternLength y_resultLength y_rows y_argument y_given y_counts y_openSize y_open y_known x_counts x_firstOpen
theorem i_up {k : Nat} {u : SX} {v : SY} (h : i_Rel k u v) : i_Rel (k + 4) u v := h
theorem fg_el {P : SX → SY → Prop} {k : Nat} {u : SX} {v : SY} (h : ∀ (x_cons x_drafted x_given x_cells x_calls x_opened x_held x_steps x_outcome x_culprit x_size x_kinds : Int32) (x_arity x_dKind x_dValue x_behind x_pKind x_pValue x_pBehind x_rKind x_rValue x_pLength x_rLength x_rows x_path x_argument x_cCon x_cFirst x_cSecond x_cSize x_table : Nat → Int32) (x_sets : Nat → Int64) (x_learnt x_pile x_callRow x_callAt x_callOpen x_bound x_openToken x_lacks x_output x_kSize : Nat → Int32) (x_kSet x_kMany x_kList x_counts : Nat → Int64) (x_counted : Nat → Int32) (x_firstOpen : Nat → Int64) (x_openSize x_values : Nat → Int32) (y_cons y_drafted y_nodes y_length y_argumentLength y_givenLength y_steps y_blamed y_how y_ran y_working : Int32) (y_arity y_draftKind y_draftWith y_kind y_with y_patternLength y_resultLength y_rows y_head y_left y_right y_size y_list y_stack y_starts y_argument y_given y_fits y_ends y_places y_bound y_workKind y_workWith y_owner y_counts y_openSize y_open y_known : Nat → Int32) (g : fg_C) (nd : Nat) (DK DV : Nat → Nat) (t w : fg_T), fg_Rl0 g nd DK DV t w x_cons x_drafted x_given x_steps x_outcome x_culprit x_size y_cons y_drafted y_argumentLength y_givenLength y_steps y_blamed y_ran x_arity x_dKind x_dValue x_pKind x_pValue x_pBehind x_rKind x_rValue x_pLength x_rLength x_rows x_path x_argument x_output x_counted x_openSize y_arity y_draftKind y_draftWith y_kind y_with y_patternLength y_resultLength y_rows y_argument y_given y_counts y_openSize y_open y_known x_counts x_firstOpen → P (x_cons, x_drafted, x_given, x_cells, x_calls, x_opened, x_held, x_steps, x_outcome, x_culprit, x_size, x_kinds, x_arity, x_dKind, x_dValue, x_behind, x_pKind, x_pValue, x_pBehind, x_rKind, x_rValue, x_pLength, x_rLength, x_rows, x_path, x_argument, x_cCon, x_cFirst, x_cSecond, x_cSize, x_table, x_sets, x_learnt, x_pile, x_callRow, x_callAt, x_callOpen, x_bound, x_openToken, x_lacks, x_output, x_kSize, x_kSet, x_kMany, x_kList, x_counts, x_counted, x_firstOpen, x_openSize, x_values) (y_cons, y_drafted, y_nodes, y_length, y_argumentLength, y_givenLength, y_steps, y_blamed, y_how, y_ran, y_working, y_arity, y_draftKind, y_draftWith, y_kind, y_with, y_patternLength, y_resultLength, y_rows, y_head, y_left, y_right, y_size, y_list, y_stack, y_starts, y_argument, y_given, y_fits, y_ends, y_places, y_bound, y_workKind, y_workWith, y_owner, y_counts, y_openSize, y_open, y_known)) (I : i_Rel k u v) : P u v := by
  obtain ⟨x_cons, x_drafted, x_given, x_cells, x_calls, x_opened, x_held, x_steps, x_outcome, x_culprit, x_size, x_kinds, x_arity, x_dKind, x_dValue, x_behind, x_pKind, x_pValue, x_pBehind, x_rKind, x_rValue, x_pLength, x_rLength, x_rows, x_path, x_argument, x_cCon, x_cFirst, x_cSecond, x_cSize, x_table, x_sets, x_learnt, x_pile, x_callRow, x_callAt, x_callOpen, x_bound, x_openToken, x_lacks, x_output, x_kSize, x_kSet, x_kMany, x_kList, x_counts, x_counted, x_firstOpen, x_openSize, x_values⟩ := u
  obtain ⟨y_cons, y_drafted, y_nodes, y_length, y_argumentLength, y_givenLength, y_steps, y_blamed, y_how, y_ran, y_working, y_arity, y_draftKind, y_draftWith, y_kind, y_with, y_patternLength, y_resultLength, y_rows, y_head, y_left, y_right, y_size, y_list, y_stack, y_starts, y_argument, y_given, y_fits, y_ends, y_places, y_bound, y_workKind, y_workWith, y_owner, y_counts, y_openSize, y_open, y_known⟩ := v
  obtain ⟨g, nd, DK, DV, t, w, h0⟩ := I
  exact h x_cons x_drafted x_given x_cells x_calls x_opened x_held x_steps x_outcome x_culprit x_size x_kinds x_arity x_dKind x_dValue x_behind x_pKind x_pValue x_pBehind x_rKind x_rValue x_pLength x_rLength x_rows x_path x_argument x_cCon x_cFirst x_cSecond x_cSize x_table x_sets x_learnt x_pile x_callRow x_callAt x_callOpen x_bound x_openToken x_lacks x_output x_kSize x_kSet x_kMany x_kList x_counts x_counted x_firstOpen x_openSize x_values y_cons y_drafted y_nodes y_length y_argumentLength y_givenLength y_steps y_blamed y_how y_ran y_working y_arity y_draftKind y_draftWith y_kind y_with y_patternLength y_resultLength y_rows y_head y_left y_right y_size y_list y_stack y_starts y_argument y_given y_fits y_ends y_places y_bound y_workKind y_workWith y_owner y_counts y_openSize y_open y_known g nd DK DV t w h0
theorem fg_mk {k : Nat} (x_cons x_drafted x_given x_steps x_outcome x_culprit x_size y_cons y_drafted y_argumentLength y_givenLength y_steps y_blamed y_ran : Int32) (x_arity x_dKind x_dValue x_pKind x_pValue x_pBehind x_rKind x_rValue x_pLength x_rLength x_rows x_path x_argument x_output x_counted x_openSize y_arity y_draftKind y_draftWith y_kind y_with y_patternLength y_resultLength y_rows y_argument y_given y_counts y_openSize y_open y_known : Nat → Int32) (x_counts x_firstOpen : Nat → Int64) (g : fg_C) (nd : Nat) (DK DV : Nat → Nat) (t w : fg_T) (h : fg_Rl0 g nd DK DV t w x_cons x_drafted x_given x_steps x_outcome x_culprit x_size y_cons y_drafted y_argumentLength y_givenLength y_steps y_blamed y_ran x_arity x_dKind x_dValue x_pKind x_pValue x_pBehind x_rKind x_rValue x_pLength x_rLength x_rows x_path x_argument x_output x_counted x_openSize y_arity y_draftKind y_draftWith y_kind y_with y_patternLength y_resultLength y_rows y_argument y_given y_counts y_openSize y_open y_known x_counts x_firstOpen) : fg_Rl x_cons x_drafted x_given x_steps x_outcome x_culprit x_size y_cons y_drafted y_argumentLength y_givenLength y_steps y_blamed y_ran x_arity x_dKind x_dValue x_pKind x_pValue x_pBehind x_rKind x_rValue x_pLength x_rLength x_rows x_path x_argument x_output x_counted x_openSize y_arity y_draftKind y_draftWith y_kind y_with y_patternLength y_resultLength y_rows y_argument y_given y_counts y_openSize y_open y_known x_counts x_firstOpen := ⟨g, nd, DK, DV, t, w, h⟩
theorem i_vc0 : wpX_init (fun u => wpY_init (fun v => i_Rel 0 u v)) := by
  refine ⟨(0, fun _ => 0, fun _ => 0, fun _ => 0, fun _ => 0, fun _ _ => 0, fun _ _ => 0, fun _ _ => 0, fun _ _ => 0, fun _ _ => 0), 0, fun _ => 0, fun _ => 0, fg_nil, fg_nil, ?_⟩
  refine ⟨⟨Nat.zero_le _, fun _ => Nat.zero_le _, fun _ _ => Nat.zero_le _, fun f r _ hr => absurd hr (Nat.not_lt_zero _)⟩, rfl, rfl, rfl, rfl, ⟨fun _ => rfl, fun _ _ => rfl, fun f r _ hr => absurd hr (Nat.not_lt_zero _)⟩, ⟨fun _ => rfl, fun _ _ => rfl, fun f r _ hr => absurd hr (Nat.not_lt_zero _)⟩, ⟨Nat.zero_le _, fun i hi => absurd hi (Nat.not_lt_zero _)⟩, ⟨True.intro, Nat.zero_le _, rfl, rfl, fg_at_nil, fg_at_nil⟩, ⟨True.intro, Nat.zero_le _, rfl, fg_at_nil, fg_at_nil, Or.inl ⟨rfl, rfl, rfl⟩⟩, fun f hf => ⟨rfl, Or.inl rfl⟩⟩
end
section
/-! small methods -/
theorem fg_P_cg {o o' be : Nat → Nat} {n : Nat} (h : ∀ i, i < n → o' i = o i) (hP : fg_P o be n) : fg_P o' be n := by
  intro i hi
  rw [h i hi]
  exact hP i hi
theorem fg_G_cg {o o' : Nat → Nat} {N : Nat} (ho : ∀ j, j < N → o' j = o j) : ∀ (n m i : Nat), N - i = n → fg_G o' N m i = fg_G o N m i := by
  intro n
  induction n with
  | zero =>
    intro m i hn
    cases m with
    | zero => rw [fg_G0, fg_G0]
    | succ m => rw [fg_Ge (by omega), fg_Ge (by omega)]
  | succ n ih =>
    intro m i hn
    cases m with
    | zero => rw [fg_G0, fg_G0]
    | succ m => rw [fg_Gs (by omega), fg_Gs (by omega), ho i (by omega), ih _ _ (by omega)]
theorem fg_x4t {post : Int32 → Prop} {f : Nat} (hf : f < 4) (h : post 1) : wpX_isFour post (nI f) := br_f (nI_pos (by omega)) (br_f (nI_ge (b := 4) hf (by decide)) h)
theorem fg_x4f {post : Int32 → Prop} {v : Int32} (hv : v < 0 ∨ nI 4 ≤ v) (h : post 0) : wpX_isFour post v := by
  rcases hv with hv | hv
  · exact br_t hv h
  · exact br_c (fun _ => h) (fun _ => br_t hv h)
theorem fg_yint {post : Int32 → Prop} {p a b : Int32} (h1 : ¬ p < a) (h2 : ¬ b < p) (h : post 1) : wpY_in post p a b := br_f h1 (br_f h2 h)
theorem fg_yinf {post : Int32 → Prop} {p a b : Int32} (hv : p < a ∨ b < p) (h : post 0) : wpY_in post p a b := by
  rcases hv with hv | hv
  · exact br_t hv h
  · exact br_c (fun _ => h) (fun _ => br_t hv h)
theorem fg_le_lt {x y : Int32} {n : Nat} (hn : n + 1 < 2 ^ 31) (h : nI (n + 1) ≤ x) (e : y = nI n) : y < x := by
  subst e
  rw [Int32.le_iff_toInt_le, nI_toInt hn] at h
  rw [Int32.lt_iff_toInt_lt, nI_toInt (by omega)]
  omega
theorem fg_y4t {post : Int32 → Prop} {f : Nat} (hf : f < 4) (h : post 1) : wpY_in post (nI f) 0 3 := fg_yint (nI_pos (by omega)) (nI_nlt (b := f) (a := 3) (by omega) (by decide)) h
theorem fg_y4f {post : Int32 → Prop} {v : Int32} (hv : v < 0 ∨ nI 4 ≤ v) (h : post 0) : wpY_in post v 0 3 := fg_yinf (hv.imp id (fun q => fg_le_lt (by decide) q rfl)) h
section
variable {x_cons x_drafted x_given x_cells x_calls x_opened x_held x_steps x_outcome x_culprit x_size x_kinds : Int32} {x_arity x_dKind x_dValue x_behind x_pKind x_pValue x_pBehind x_rKind x_rValue x_pLength x_rLength x_rows x_path x_argument x_cCon x_cFirst x_cSecond x_cSize x_table x_learnt x_pile x_callRow x_callAt x_callOpen x_bound x_openToken x_lacks x_output x_kSize x_counted x_openSize x_values : Nat → Int32} {x_sets x_kSet x_kMany x_kList x_counts x_firstOpen : Nat → Int64}
variable {y_cons y_drafted y_nodes y_length y_argumentLength y_givenLength y_steps y_blamed y_how y_ran y_working : Int32} {y_arity y_draftKind y_draftWith y_kind y_with y_patternLength y_resultLength y_rows y_head y_left y_right y_size y_list y_stack y_starts y_argument y_given y_fits y_ends y_places y_bound y_workKind y_workWith y_owner y_counts y_openSize y_open y_known : Nat → Int32}
variable {k : Nat} {g : fg_C} {nd : Nat} {DK DV : Nat → Nat} {t w : fg_T}
theorem fg_rel (R0 : fg_Rl0 g nd DK DV t w x_cons x_drafted x_given x_steps x_outcome x_culprit x_size y_cons y_drafted y_argumentLength y_givenLength y_steps y_blamed y_ran x_arity x_dKind x_dValue x_pKind x_pValue x_pBehind x_rKind x_rValue x_pLength x_rLength x_rows x_path x_argument x_output x_counted x_openSize y_arity y_draftKind y_draftWith y_kind y_with y_patternLength y_resultLength y_rows y_argument y_given y_counts y_openSize y_open y_known x_counts x_firstOpen) : i_Rel k (x_cons, x_drafted, x_given, x_cells, x_calls, x_opened, x_held, x_steps, x_outcome, x_culprit, x_size, x_kinds, x_arity, x_dKind, x_dValue, x_behind, x_pKind, x_pValue, x_pBehind, x_rKind, x_rValue, x_pLength, x_rLength, x_rows, x_path, x_argument, x_cCon, x_cFirst, x_cSecond, x_cSize, x_table, x_sets, x_learnt, x_pile, x_callRow, x_callAt, x_callOpen, x_bound, x_openToken, x_lacks, x_output, x_kSize, x_kSet, x_kMany, x_kList, x_counts, x_counted, x_firstOpen, x_openSize, x_values) (y_cons, y_drafted, y_nodes, y_length, y_argumentLength, y_givenLength, y_steps, y_blamed, y_how, y_ran, y_working, y_arity, y_draftKind, y_draftWith, y_kind, y_with, y_patternLength, y_resultLength, y_rows, y_head, y_left, y_right, y_size, y_list, y_stack, y_starts, y_argument, y_given, y_fits, y_ends, y_places, y_bound, y_workKind, y_workWith, y_owner, y_counts, y_openSize, y_open, y_known) := ⟨g, nd, DK, DV, t, w, R0⟩
theorem fg_rel' (g : fg_C) (nd : Nat) (DK DV : Nat → Nat) (t w : fg_T) (R0 : fg_Rl0 g nd DK DV t w x_cons x_drafted x_given x_steps x_outcome x_culprit x_size y_cons y_drafted y_argumentLength y_givenLength y_steps y_blamed y_ran x_arity x_dKind x_dValue x_pKind x_pValue x_pBehind x_rKind x_rValue x_pLength x_rLength x_rows x_path x_argument x_output x_counted x_openSize y_arity y_draftKind y_draftWith y_kind y_with y_patternLength y_resultLength y_rows y_argument y_given y_counts y_openSize y_open y_known x_counts x_firstOpen) : i_Rel k (x_cons, x_drafted, x_given, x_cells, x_calls, x_opened, x_held, x_steps, x_outcome, x_culprit, x_size, x_kinds, x_arity, x_dKind, x_dValue, x_behind, x_pKind, x_pValue, x_pBehind, x_rKind, x_rValue, x_pLength, x_rLength, x_rows, x_path, x_argument, x_cCon, x_cFirst, x_cSecond, x_cSize, x_table, x_sets, x_learnt, x_pile, x_callRow, x_callAt, x_callOpen, x_bound, x_openToken, x_lacks, x_output, x_kSize, x_kSet, x_kMany, x_kList, x_counts, x_counted, x_firstOpen, x_openSize, x_values) (y_cons, y_drafted, y_nodes, y_length, y_argumentLength, y_givenLength, y_steps, y_blamed, y_how, y_ran, y_working, y_arity, y_draftKind, y_draftWith, y_kind, y_with, y_patternLength, y_resultLength, y_rows, y_head, y_left, y_right, y_size, y_list, y_stack, y_starts, y_argument, y_given, y_fits, y_ends, y_places, y_bound, y_workKind, y_workWith, y_owner, y_counts, y_openSize, y_open, y_known) := ⟨g, nd, DK, DV, t, w, R0⟩
end
theorem i_vc_drop {k : Nat} {u : SX} {v : SY} (I : i_Rel k u v) (hk : k + 4 ≤ 2048) (v1 : Int32) : wpX_drop (fun r u' => wpY_drop (fun r' v' => r' = r ∧ i_Rel (k + 4) u' v') v v1) u v1 := by
  refine fg_el (P := fun u v => wpX_drop (fun r u' => wpY_drop (fun r' v' => r' = r ∧ i_Rel (k + 4) u' v') v v1) u v1) ?_ I
  intro x_cons x_drafted x_given x_cells x_calls x_opened x_held x_steps x_outcome x_culprit x_size x_kinds x_arity x_dKind x_dValue x_behind x_pKind x_pValue x_pBehind x_rKind x_rValue x_pLength x_rLength x_rows x_path x_argument x_cCon x_cFirst x_cSecond x_cSize x_table x_sets x_learnt x_pile x_callRow x_callAt x_callOpen x_bound x_openToken x_lacks x_output x_kSize x_kSet x_kMany x_kList x_counts x_counted x_firstOpen x_openSize x_values y_cons y_drafted y_nodes y_length y_argumentLength y_givenLength y_steps y_blamed y_how y_ran y_working y_arity y_draftKind y_draftWith y_kind y_with y_patternLength y_resultLength y_rows y_head y_left y_right y_size y_list y_stack y_starts y_argument y_given y_fits y_ends y_places y_bound y_workKind y_workWith y_owner y_counts y_openSize y_open y_known g nd DK DV t w R0
  have bad : (v1 < 0 ∨ nI 4 ≤ v1) → wpX_drop (fun r u' => wpY_drop (fun r' v' => r' = r ∧ i_Rel (k + 4) u' v') (y_cons, y_drafted, y_nodes, y_length, y_argumentLength, y_givenLength, y_steps, y_blamed, y_how, y_ran, y_working, y_arity, y_draftKind, y_draftWith, y_kind, y_with, y_patternLength, y_resultLength, y_rows, y_head, y_left, y_right, y_size, y_list, y_stack, y_starts, y_argument, y_given, y_fits, y_ends, y_places, y_bound, y_workKind, y_workWith, y_owner, y_counts, y_openSize, y_open, y_known) v1) (x_cons, x_drafted, x_given, x_cells, x_calls, x_opened, x_held, x_steps, x_outcome, x_culprit, x_size, x_kinds, x_arity, x_dKind, x_dValue, x_behind, x_pKind, x_pValue, x_pBehind, x_rKind, x_rValue, x_pLength, x_rLength, x_rows, x_path, x_argument, x_cCon, x_cFirst, x_cSecond, x_cSize, x_table, x_sets, x_learnt, x_pile, x_callRow, x_callAt, x_callOpen, x_bound, x_openToken, x_lacks, x_output, x_kSize, x_kSet, x_kMany, x_kList, x_counts, x_counted, x_firstOpen, x_openSize, x_values) v1 := by
    intro h
    unfold wpX_drop
    dsimp only
    refine fg_x4f h (br_t rfl ?_)
    unfold wpY_drop
    dsimp only
    exact fg_y4f h (br_t rfl ⟨rfl, fg_rel R0⟩)
  rcases pk_ix v1 (n := 4) (by decide) with h | h | ⟨f, hf, rfl⟩
  · exact bad (Or.inl h)
  · exact bad (Or.inr h)
  · obtain ⟨⟨w1, w2, w3, w4⟩, r2, r3, r4, r5, ⟨cx1, cx2, cx3⟩, ⟨cy1, cy2, cy3⟩, r8, r9, r10, r11⟩ := R0
    have vf : vp_in (nI f) 4 := vp_in_nI hf (by decide)
    have cf : (nI f).toNatClampNeg = f := nI_clamp (by omega)
    unfold wpX_drop
    dsimp only
    refine fg_x4t hf (br_f (by decide) (And.intro vf ?_))
    rw [cf]
    refine nm_e (And.intro vf (nm_e (And.intro vf (nm_e ?_))))
    unfold wpY_drop
    dsimp only
    refine fg_y4t hf (br_f (by decide) (And.intro vf ?_))
    rw [cf]
    refine nm_e (And.intro vf (nm_e (And.intro vf (nm_e ⟨(cy2 f hf).trans (cx2 f hf).symm, ?_⟩))))
    refine fg_rel' (g.1, g.2.1, fun j => if j = f then 0 else fg_rw g j, g.2.2.2) nd DK DV t w ?_
    have hrw : ∀ j, fg_rw (g.1, g.2.1, fun j => if j = f then 0 else fg_rw g j, g.2.2.2) j = if j = f then 0 else fg_rw g j := fun _ => rfl
    have lt : ∀ j r, r < (if j = f then 0 else fg_rw g j) → r < fg_rw g j := by
      intro j r h
      by_cases z : j = f
      · rw [if_pos z] at h; omega
      · rw [if_neg z] at h; exact h
    have rows : ∀ (a : Nat → Int32), (∀ j, j < 4 → a j = nI (fg_rw g j)) → ∀ (z : Int32), z = 0 → ∀ j, j < 4 → upd a f z j = nI (if j = f then 0 else fg_rw g j) := by
      intro a ha z hz j hj
      by_cases q : j = f
      · subst q; rw [pk_us, if_pos rfl, hz]; rfl
      · rw [pk_un q, if_neg q]; exact ha j hj
    refine ⟨⟨w1, w2, fun j hj => ?_, fun j r hj h => w4 j r hj (lt j r h)⟩, r2, r3, r4, r5, ⟨cx1, rows _ cx2 _ rfl, fun j r hj h => cx3 j r hj (lt j r h)⟩, ⟨cy1, rows _ cy2 _ rfl, fun j r hj h => cy3 j r hj (lt j r h)⟩, r8, r9, r10, fun j hj => ?_⟩
    · rw [hrw]
      split
      · omega
      · exact w3 j hj
    · obtain ⟨q1, q2⟩ := r11 j hj
      by_cases z : j = f
      · subst z
        rw [pk_us, pk_us]
        exact ⟨rfl, Or.inl rfl⟩
      · rw [pk_un z, pk_un z, hrw, if_neg z]
        exact ⟨q1, q2⟩
theorem i_vc_result {k : Nat} {u : SX} {v : SY} (I : i_Rel k u v) (hk : k + 4 ≤ 2048) (v1 : Int32) : wpX_result (fun r => wpY_result (fun r' => r' = r ∧ i_Rel (k + 4) u v) v v1) u v1 := by
  refine fg_el (P := fun u v => wpX_result (fun r => wpY_result (fun r' => r' = r ∧ i_Rel (k + 4) u v) v v1) u v1) ?_ I
  intro x_cons x_drafted x_given x_cells x_calls x_opened x_held x_steps x_outcome x_culprit x_size x_kinds x_arity x_dKind x_dValue x_behind x_pKind x_pValue x_pBehind x_rKind x_rValue x_pLength x_rLength x_rows x_path x_argument x_cCon x_cFirst x_cSecond x_cSize x_table x_sets x_learnt x_pile x_callRow x_callAt x_callOpen x_bound x_openToken x_lacks x_output x_kSize x_kSet x_kMany x_kList x_counts x_counted x_firstOpen x_openSize x_values y_cons y_drafted y_nodes y_length y_argumentLength y_givenLength y_steps y_blamed y_how y_ran y_working y_arity y_draftKind y_draftWith y_kind y_with y_patternLength y_resultLength y_rows y_head y_left y_right y_size y_list y_stack y_starts y_argument y_given y_fits y_ends y_places y_bound y_workKind y_workWith y_owner y_counts y_openSize y_open y_known g nd DK DV t w R0
  have hR : i_Rel (k + 4) (x_cons, x_drafted, x_given, x_cells, x_calls, x_opened, x_held, x_steps, x_outcome, x_culprit, x_size, x_kinds, x_arity, x_dKind, x_dValue, x_behind, x_pKind, x_pValue, x_pBehind, x_rKind, x_rValue, x_pLength, x_rLength, x_rows, x_path, x_argument, x_cCon, x_cFirst, x_cSecond, x_cSize, x_table, x_sets, x_learnt, x_pile, x_callRow, x_callAt, x_callOpen, x_bound, x_openToken, x_lacks, x_output, x_kSize, x_kSet, x_kMany, x_kList, x_counts, x_counted, x_firstOpen, x_openSize, x_values) (y_cons, y_drafted, y_nodes, y_length, y_argumentLength, y_givenLength, y_steps, y_blamed, y_how, y_ran, y_working, y_arity, y_draftKind, y_draftWith, y_kind, y_with, y_patternLength, y_resultLength, y_rows, y_head, y_left, y_right, y_size, y_list, y_stack, y_starts, y_argument, y_given, y_fits, y_ends, y_places, y_bound, y_workKind, y_workWith, y_owner, y_counts, y_openSize, y_open, y_known) := fg_rel R0
  obtain ⟨o1, o2, o3, o4, o5, o6⟩ := R0.2.2.2.2.2.2.2.2.2.1
  have ybad : (v1 < 0 ∨ nI (fg_sz w) ≤ v1) → wpY_result (fun r' => r' = -1 ∧ i_Rel (k + 4) (x_cons, x_drafted, x_given, x_cells, x_calls, x_opened, x_held, x_steps, x_outcome, x_culprit, x_size, x_kinds, x_arity, x_dKind, x_dValue, x_behind, x_pKind, x_pValue, x_pBehind, x_rKind, x_rValue, x_pLength, x_rLength, x_rows, x_path, x_argument, x_cCon, x_cFirst, x_cSecond, x_cSize, x_table, x_sets, x_learnt, x_pile, x_callRow, x_callAt, x_callOpen, x_bound, x_openToken, x_lacks, x_output, x_kSize, x_kSet, x_kMany, x_kList, x_counts, x_counted, x_firstOpen, x_openSize, x_values) (y_cons, y_drafted, y_nodes, y_length, y_argumentLength, y_givenLength, y_steps, y_blamed, y_how, y_ran, y_working, y_arity, y_draftKind, y_draftWith, y_kind, y_with, y_patternLength, y_resultLength, y_rows, y_head, y_left, y_right, y_size, y_list, y_stack, y_starts, y_argument, y_given, y_fits, y_ends, y_places, y_bound, y_workKind, y_workWith, y_owner, y_counts, y_openSize, y_open, y_known)) (y_cons, y_drafted, y_nodes, y_length, y_argumentLength, y_givenLength, y_steps, y_blamed, y_how, y_ran, y_working, y_arity, y_draftKind, y_draftWith, y_kind, y_with, y_patternLength, y_resultLength, y_rows, y_head, y_left, y_right, y_size, y_list, y_stack, y_starts, y_argument, y_given, y_fits, y_ends, y_places, y_bound, y_workKind, y_workWith, y_owner, y_counts, y_openSize, y_open, y_known) v1 := by
    intro h
    unfold wpY_result
    dsimp only
    refine fg_yinf (h.imp id (fun q => ?_)) (br_t rfl ⟨rfl, hR⟩)
    rw [o3]
    rcases Nat.eq_zero_or_pos (fg_sz w) with z | z
    · rw [z] at q ⊢
      exact Int32.lt_of_lt_of_le (by decide) q
    · obtain ⟨n, hn⟩ : ∃ n, fg_sz w = n + 1 := ⟨fg_sz w - 1, by omega⟩
      rw [hn] at q ⊢
      rw [nI_pred]
      exact fg_le_lt (by omega) q rfl
  have none : w = fg_nil → wpY_result (fun r' => r' = -1 ∧ i_Rel (k + 4) (x_cons, x_drafted, x_given, x_cells, x_calls, x_opened, x_held, x_steps, x_outcome, x_culprit, x_size, x_kinds, x_arity, x_dKind, x_dValue, x_behind, x_pKind, x_pValue, x_pBehind, x_rKind, x_rValue, x_pLength, x_rLength, x_rows, x_path, x_argument, x_cCon, x_cFirst, x_cSecond, x_cSize, x_table, x_sets, x_learnt, x_pile, x_callRow, x_callAt, x_callOpen, x_bound, x_openToken, x_lacks, x_output, x_kSize, x_kSet, x_kMany, x_kList, x_counts, x_counted, x_firstOpen, x_openSize, x_values) (y_cons, y_drafted, y_nodes, y_length, y_argumentLength, y_givenLength, y_steps, y_blamed, y_how, y_ran, y_working, y_arity, y_draftKind, y_draftWith, y_kind, y_with, y_patternLength, y_resultLength, y_rows, y_head, y_left, y_right, y_size, y_list, y_stack, y_starts, y_argument, y_given, y_fits, y_ends, y_places, y_bound, y_workKind, y_workWith, y_owner, y_counts, y_openSize, y_open, y_known)) (y_cons, y_drafted, y_nodes, y_length, y_argumentLength, y_givenLength, y_steps, y_blamed, y_how, y_ran, y_working, y_arity, y_draftKind, y_draftWith, y_kind, y_with, y_patternLength, y_resultLength, y_rows, y_head, y_left, y_right, y_size, y_list, y_stack, y_starts, y_argument, y_given, y_fits, y_ends, y_places, y_bound, y_workKind, y_workWith, y_owner, y_counts, y_openSize, y_open, y_known) v1 := by
    intro hw
    apply ybad
    rw [hw]
    rcases pk_ix v1 (n := 0) (by decide) with h | h | ⟨f, hf, rfl⟩
    · exact Or.inl h
    · exact Or.inr h
    · omega
  rcases o6 with ⟨q1, q2, q3⟩ | ⟨q1, q2, q3, q4, ⟨q5, q6⟩ | ⟨o, p1, p2, p3, p4⟩⟩
  · refine br_f (by rw [q1]; decide) (none q3)
  · refine br_t q5 ?_
    have hs : x_size = nI (fg_sz w) := q2.trans o3
    rcases pk_ix v1 (n := fg_sz w) (by omega) with h | h | ⟨j, hj, rfl⟩
    · exact br_t h (ybad (Or.inl h))
    · exact br_c (fun _ => ybad (Or.inr h)) (fun _ => br_t (by rw [hs]; exact h) (ybad (Or.inr h)))
    · refine br_f (nI_pos (by omega)) (br_f (by rw [hs]; exact nI_ge hj (by omega)) (And.intro (vp_in_nI (by omega) (by decide)) ?_))
      rw [nI_clamp (by omega)]
      unfold wpY_result
      dsimp only
      obtain ⟨n, hn⟩ : ∃ n, fg_sz w = n + 1 := ⟨fg_sz w - 1, by omega⟩
      refine fg_yint (nI_pos (by omega)) (by rw [o3, hn, nI_pred]; exact nI_nlt (by omega) (by omega)) (br_f (by decide) (And.intro (vp_in_nI (by omega) (by decide)) ⟨?_, hR⟩))
      rw [nI_clamp (by omega)]
      have e1 := fg_at_hd o4 hj
      have e2 := fg_at_hd o5 hj
      rw [Nat.zero_add] at e1 e2
      rw [e1, e2]
  · refine br_f (by rw [p3]; exact nI_ne0 p1 (by omega)) (none p4)
theorem i_vc_ran {k : Nat} {u : SX} {v : SY} (I : i_Rel k u v) (hk : k + 4 ≤ 2048) (v1 : Int32) : wpX_ran (fun r => wpY_ran (fun r' => r' = r ∧ i_Rel (k + 4) u v) v v1) u v1 := by
  refine fg_el (P := fun u v => wpX_ran (fun r => wpY_ran (fun r' => r' = r ∧ i_Rel (k + 4) u v) v v1) u v1) ?_ I
  intro x_cons x_drafted x_given x_cells x_calls x_opened x_held x_steps x_outcome x_culprit x_size x_kinds x_arity x_dKind x_dValue x_behind x_pKind x_pValue x_pBehind x_rKind x_rValue x_pLength x_rLength x_rows x_path x_argument x_cCon x_cFirst x_cSecond x_cSize x_table x_sets x_learnt x_pile x_callRow x_callAt x_callOpen x_bound x_openToken x_lacks x_output x_kSize x_kSet x_kMany x_kList x_counts x_counted x_firstOpen x_openSize x_values y_cons y_drafted y_nodes y_length y_argumentLength y_givenLength y_steps y_blamed y_how y_ran y_working y_arity y_draftKind y_draftWith y_kind y_with y_patternLength y_resultLength y_rows y_head y_left y_right y_size y_list y_stack y_starts y_argument y_given y_fits y_ends y_places y_bound y_workKind y_workWith y_owner y_counts y_openSize y_open y_known g nd DK DV t w R0
  have hR : i_Rel (k + 4) (x_cons, x_drafted, x_given, x_cells, x_calls, x_opened, x_held, x_steps, x_outcome, x_culprit, x_size, x_kinds, x_arity, x_dKind, x_dValue, x_behind, x_pKind, x_pValue, x_pBehind, x_rKind, x_rValue, x_pLength, x_rLength, x_rows, x_path, x_argument, x_cCon, x_cFirst, x_cSecond, x_cSize, x_table, x_sets, x_learnt, x_pile, x_callRow, x_callAt, x_callOpen, x_bound, x_openToken, x_lacks, x_output, x_kSize, x_kSet, x_kMany, x_kList, x_counts, x_counted, x_firstOpen, x_openSize, x_values) (y_cons, y_drafted, y_nodes, y_length, y_argumentLength, y_givenLength, y_steps, y_blamed, y_how, y_ran, y_working, y_arity, y_draftKind, y_draftWith, y_kind, y_with, y_patternLength, y_resultLength, y_rows, y_head, y_left, y_right, y_size, y_list, y_stack, y_starts, y_argument, y_given, y_fits, y_ends, y_places, y_bound, y_workKind, y_workWith, y_owner, y_counts, y_openSize, y_open, y_known) := fg_rel R0
  obtain ⟨o1, o2, o3, o4, o5, o6⟩ := R0.2.2.2.2.2.2.2.2.2.1
  rcases o6 with ⟨q1, q2, q3⟩ | ⟨q1, q2, q3, q4, q5⟩
  · refine br_t (by rw [q1]; decide) ?_
    exact br_t q2 ⟨rfl, hR⟩
  · refine br_f (by rcases q5 with ⟨z, -⟩ | ⟨o, p1, p2, p3, -⟩
                    · rw [z]; decide
                    · rw [p3]; exact nI_pos (by omega)) ?_
    have yb : (v1 < 0 ∨ nI 3 ≤ v1) → wpY_ran (fun r' => r' = -1 ∧ i_Rel (k + 4) (x_cons, x_drafted, x_given, x_cells, x_calls, x_opened, x_held, x_steps, x_outcome, x_culprit, x_size, x_kinds, x_arity, x_dKind, x_dValue, x_behind, x_pKind, x_pValue, x_pBehind, x_rKind, x_rValue, x_pLength, x_rLength, x_rows, x_path, x_argument, x_cCon, x_cFirst, x_cSecond, x_cSize, x_table, x_sets, x_learnt, x_pile, x_callRow, x_callAt, x_callOpen, x_bound, x_openToken, x_lacks, x_output, x_kSize, x_kSet, x_kMany, x_kList, x_counts, x_counted, x_firstOpen, x_openSize, x_values) (y_cons, y_drafted, y_nodes, y_length, y_argumentLength, y_givenLength, y_steps, y_blamed, y_how, y_ran, y_working, y_arity, y_draftKind, y_draftWith, y_kind, y_with, y_patternLength, y_resultLength, y_rows, y_head, y_left, y_right, y_size, y_list, y_stack, y_starts, y_argument, y_given, y_fits, y_ends, y_places, y_bound, y_workKind, y_workWith, y_owner, y_counts, y_openSize, y_open, y_known)) (y_cons, y_drafted, y_nodes, y_length, y_argumentLength, y_givenLength, y_steps, y_blamed, y_how, y_ran, y_working, y_arity, y_draftKind, y_draftWith, y_kind, y_with, y_patternLength, y_resultLength, y_rows, y_head, y_left, y_right, y_size, y_list, y_stack, y_starts, y_argument, y_given, y_fits, y_ends, y_places, y_bound, y_workKind, y_workWith, y_owner, y_counts, y_openSize, y_open, y_known) v1 := by
      intro h
      unfold wpY_ran
      dsimp only
      exact br_f (by rw [q1]; decide) (fg_yinf (h.imp id (fun q => fg_le_lt (by decide) q rfl)) (br_t rfl ⟨rfl, hR⟩))
    rcases pk_ix v1 (n := 3) (by decide) with h | h | ⟨j, hj, rfl⟩
    · exact br_t h (yb (Or.inl h))
    · refine br_c (fun _ => yb (Or.inr h)) (fun _ => br_f (fun z => ?_) (yb (Or.inr h)))
      exact absurd (fg_le_lt (by decide) h rfl) (Int32.not_lt.mpr z)
    · refine br_f (nI_pos (by omega)) (br_t (nI_le (b := 2) (by omega) (by decide)) ?_)
      have yg : ∀ r, (j = 0 → r = y_givenLength) → (j = 1 → r = y_steps) → (j = 2 → r = y_blamed) → wpY_ran (fun r' => r' = r ∧ i_Rel (k + 4) (x_cons, x_drafted, x_given, x_cells, x_calls, x_opened, x_held, x_steps, x_outcome, x_culprit, x_size, x_kinds, x_arity, x_dKind, x_dValue, x_behind, x_pKind, x_pValue, x_pBehind, x_rKind, x_rValue, x_pLength, x_rLength, x_rows, x_path, x_argument, x_cCon, x_cFirst, x_cSecond, x_cSize, x_table, x_sets, x_learnt, x_pile, x_callRow, x_callAt, x_callOpen, x_bound, x_openToken, x_lacks, x_output, x_kSize, x_kSet, x_kMany, x_kList, x_counts, x_counted, x_firstOpen, x_openSize, x_values) (y_cons, y_drafted, y_nodes, y_length, y_argumentLength, y_givenLength, y_steps, y_blamed, y_how, y_ran, y_working, y_arity, y_draftKind, y_draftWith, y_kind, y_with, y_patternLength, y_resultLength, y_rows, y_head, y_left, y_right, y_size, y_list, y_stack, y_starts, y_argument, y_given, y_fits, y_ends, y_places, y_bound, y_workKind, y_workWith, y_owner, y_counts, y_openSize, y_open, y_known)) (y_cons, y_drafted, y_nodes, y_length, y_argumentLength, y_givenLength, y_steps, y_blamed, y_how, y_ran, y_working, y_arity, y_draftKind, y_draftWith, y_kind, y_with, y_patternLength, y_resultLength, y_rows, y_head, y_left, y_right, y_size, y_list, y_stack, y_starts, y_argument, y_given, y_fits, y_ends, y_places, y_bound, y_workKind, y_workWith, y_owner, y_counts, y_openSize, y_open, y_known) (nI j) := by
        intro r h0 h1 h2
        unfold wpY_ran
        dsimp only
        refine br_f (by rw [q1]; decide) (fg_yint (nI_pos (by omega)) (nI_nlt (a := 2) (by omega) (by decide)) (br_f (by decide) ?_))
        refine pk_eq j 0 (fun z => ⟨(h0 z).symm, hR⟩) (fun z => ?_)
        refine pk_eq j 1 (fun z => ⟨(h1 z).symm, hR⟩) (fun z => ⟨(h2 (by omega)).symm, hR⟩)
      refine pk_eq j 0 (fun z => ?_) (fun z => ?_)
      · exact yg _ (fun _ => q2) (fun _ => by omega) (fun _ => by omega)
      · refine pk_eq j 1 (fun z => ?_) (fun z => ?_)
        · exact yg _ (fun _ => by omega) (fun _ => q3) (fun _ => by omega)
        · exact yg _ (fun _ => by omega) (fun _ => by omega) (fun _ => q4)
end
section
/-! constructors, tokens -/
section
variable {x_cons x_drafted x_given x_cells x_calls x_opened x_held x_steps x_outcome x_culprit x_size x_kinds : Int32} {x_arity x_dKind x_dValue x_behind x_pKind x_pValue x_pBehind x_rKind x_rValue x_pLength x_rLength x_rows x_path x_argument x_cCon x_cFirst x_cSecond x_cSize x_table x_learnt x_pile x_callRow x_callAt x_callOpen x_bound x_openToken x_lacks x_output x_kSize x_counted x_openSize x_values : Nat → Int32} {x_sets x_kSet x_kMany x_kList x_counts x_firstOpen : Nat → Int64}
theorem fg_xcon33 {post : Int32 → SX → Prop} {nc : Nat} (hp : ∀ cn : Nat → Int32, (∀ f, f < 4 → cn f = 0) → post (nI nc) (nI (nc + 1), x_drafted, x_given, x_cells, x_calls, x_opened, x_held, x_steps, x_outcome, x_culprit, x_size, x_kinds, x_arity, x_dKind, x_dValue, x_behind, x_pKind, x_pValue, x_pBehind, x_rKind, x_rValue, x_pLength, x_rLength, x_rows, x_path, x_argument, x_cCon, x_cFirst, x_cSecond, x_cSize, x_table, x_sets, x_learnt, x_pile, x_callRow, x_callAt, x_callOpen, x_bound, x_openToken, x_lacks, x_output, x_kSize, x_kSet, x_kMany, x_kList, x_counts, cn, x_firstOpen, x_openSize, x_values)) :
    ∀ (d i : Nat) (cn : Nat → Int32), i + d = 4 → (∀ f, f < i → cn f = 0) → wX_con_33 post (nI nc) x_drafted x_given x_cells x_calls x_opened x_held x_steps x_outcome x_culprit x_size x_kinds (d + 1) (nI i) x_arity x_dKind x_dValue x_behind x_pKind x_pValue x_pBehind x_rKind x_rValue x_pLength x_rLength x_rows x_path x_argument x_cCon x_cFirst x_cSecond x_cSize x_table x_sets x_learnt x_pile x_callRow x_callAt x_callOpen x_bound x_openToken x_lacks x_output x_kSize x_kSet x_kMany x_kList x_counts cn x_firstOpen x_openSize x_values := by
  intro d
  induction d with
  | zero =>
    intro i cn hd h
    exact pk_le 4 i (fun _ => nm_r (nI_1 nc) (hp cn (fun f hf => h f (by omega)))) (fun h => by omega)
  | succ d ih =>
    intro i cn hd h
    refine pk_le 4 i (fun h => by omega) (fun _ => And.intro (vp_in_nI (by omega) (by decide)) ?_)
    rw [nI_clamp (by omega)]
    refine nm_e (nm_r (nI_1 i) (ih (i + 1) _ (by omega) (fun f hf => ?_)))
    by_cases z : f = i
    · rw [z, pk_us]; rfl
    · rw [pk_un z]; exact h f (by omega)
end
section
variable {y_cons y_drafted y_nodes y_length y_argumentLength y_givenLength y_steps y_blamed y_how y_ran y_working : Int32} {y_arity y_draftKind y_draftWith y_kind y_with y_patternLength y_resultLength y_rows y_head y_left y_right y_size y_list y_stack y_starts y_argument y_given y_fits y_ends y_places y_bound y_workKind y_workWith y_owner y_counts y_openSize y_open y_known : Nat → Int32}
theorem fg_ycon39 {post : Int32 → SY → Prop} {nc : Nat} (hp : ∀ cn : Nat → Int32, (∀ f, f < 4 → cn f = 0) → post (nI nc) (nI (nc + 1), y_drafted, y_nodes, y_length, y_argumentLength, y_givenLength, y_steps, y_blamed, y_how, y_ran, y_working, y_arity, y_draftKind, y_draftWith, y_kind, y_with, y_patternLength, y_resultLength, y_rows, y_head, y_left, y_right, y_size, y_list, y_stack, y_starts, y_argument, y_given, y_fits, y_ends, y_places, y_bound, y_workKind, y_workWith, y_owner, y_counts, y_openSize, y_open, cn)) :
    ∀ (d i : Nat) (cn : Nat → Int32), i + d = 4 → (∀ f, f < i → cn f = 0) → wY_con_39 post (nI (nc + 1)) y_drafted y_nodes y_length y_argumentLength y_givenLength y_steps y_blamed y_how y_ran y_working (d + 1) (nI i) y_arity y_draftKind y_draftWith y_kind y_with y_patternLength y_resultLength y_rows y_head y_left y_right y_size y_list y_stack y_starts y_argument y_given y_fits y_ends y_places y_bound y_workKind y_workWith y_owner y_counts y_openSize y_open cn := by
  intro d
  induction d with
  | zero =>
    intro i cn hd h
    refine pk_le 4 i (fun _ => ?_) (fun h => by omega)
    rw [nI_pred]
    exact hp cn (fun f hf => h f (by omega))
  | succ d ih =>
    intro i cn hd h
    refine pk_le 4 i (fun h => by omega) (fun _ => And.intro (vp_in_nI (by omega) (by decide)) ?_)
    rw [nI_clamp (by omega)]
    refine nm_e (nm_r (nI_1 i) (ih (i + 1) _ (by omega) (fun f hf => ?_)))
    by_cases z : f = i
    · rw [z, pk_us]; rfl
    · rw [pk_un z]; exact h f (by omega)
end
/-- the context with one more constructor -/
def fg_gc (g : fg_C) (n : Nat) : fg_C := (g.1 + 1, (fun c => if c = g.1 then n else g.2.1 c), g.2.2)
theorem fg_gc_op {g : fg_C} {n : Nat} {k v : Nat → Nat} {i : Nat} (h : k i = 2 → v i < fg_nc g) : fg_op (fg_ar (fg_gc g n)) k v i = fg_op (fg_ar g) k v i := by
  unfold fg_op
  by_cases z : k i = 2
  · rw [if_pos z, if_pos z]
    show (if v i = g.1 then n else g.2.1 (v i)) = g.2.1 (v i)
    have hv := h z
    rw [if_neg (fun e => by rw [e] at hv; exact absurd hv (Nat.lt_irrefl _))]
  · rw [if_neg z, if_neg z]
theorem fg_gc_RW {g : fg_C} {n R : Nat} (h : fg_RW g R) : fg_RW (fg_gc g n) R := by
  obtain ⟨h1, h2, h3, h4, h5, h6, h7, h8⟩ := h
  refine ⟨h1, fg_P_cg (fun i hi => fg_gc_op (h4 i hi).2.1) h2, h3, fun i hi => ⟨(h4 i hi).1, fun z => Nat.lt_succ_of_lt ((h4 i hi).2.1 z), (h4 i hi).2.2⟩, h5, h6, fun i hi => ⟨(h7 i hi).1, fun z => Nat.lt_succ_of_lt ((h7 i hi).2.1 z), (h7 i hi).2.2⟩, ?_⟩
  exact (fg_G_cg (fun i hi => fg_gc_op (h7 i hi).2.1) _ _ _ rfl).trans h8
theorem fg_gc_ok {g : fg_C} {n : Nat} {t : fg_T} (h : fg_ok (fg_nc g) (fg_ar g) t) : fg_ok (fg_nc (fg_gc g n)) (fg_ar (fg_gc g n)) t :=
  fg_ok_mono (Nat.le_succ _) (fun c hc => if_neg (fun e => by rw [e] at hc; exact absurd hc (Nat.lt_irrefl _))) t h
theorem i_vc_con {k : Nat} {u : SX} {v : SY} (I : i_Rel k u v) (hk : k + 4 ≤ 2048) (v1 : Int32) : wpX_con (fun r u' => wpY_con (fun r' v' => r' = r ∧ i_Rel (k + 4) u' v') v v1) u v1 := by
  refine fg_el (P := fun u v => wpX_con (fun r u' => wpY_con (fun r' v' => r' = r ∧ i_Rel (k + 4) u' v') v v1) u v1) ?_ I
  intro x_cons x_drafted x_given x_cells x_calls x_opened x_held x_steps x_outcome x_culprit x_size x_kinds x_arity x_dKind x_dValue x_behind x_pKind x_pValue x_pBehind x_rKind x_rValue x_pLength x_rLength x_rows x_path x_argument x_cCon x_cFirst x_cSecond x_cSize x_table x_sets x_learnt x_pile x_callRow x_callAt x_callOpen x_bound x_openToken x_lacks x_output x_kSize x_kSet x_kMany x_kList x_counts x_counted x_firstOpen x_openSize x_values y_cons y_drafted y_nodes y_length y_argumentLength y_givenLength y_steps y_blamed y_how y_ran y_working y_arity y_draftKind y_draftWith y_kind y_with y_patternLength y_resultLength y_rows y_head y_left y_right y_size y_list y_stack y_starts y_argument y_given y_fits y_ends y_places y_bound y_workKind y_workWith y_owner y_counts y_openSize y_open y_known g nd DK DV t w R0
  have r2 := R0.2.1
  have r3 := R0.2.2.1
  have hn6 : fg_nc g ≤ 6 := R0.1.1
  subst r2 r3
  have hR : i_Rel (k + 4) (nI (fg_nc g), x_drafted, x_given, x_cells, x_calls, x_opened, x_held, x_steps, x_outcome, x_culprit, x_size, x_kinds, x_arity, x_dKind, x_dValue, x_behind, x_pKind, x_pValue, x_pBehind, x_rKind, x_rValue, x_pLength, x_rLength, x_rows, x_path, x_argument, x_cCon, x_cFirst, x_cSecond, x_cSize, x_table, x_sets, x_learnt, x_pile, x_callRow, x_callAt, x_callOpen, x_bound, x_openToken, x_lacks, x_output, x_kSize, x_kSet, x_kMany, x_kList, x_counts, x_counted, x_firstOpen, x_openSize, x_values) (nI (fg_nc g), y_drafted, y_nodes, y_length, y_argumentLength, y_givenLength, y_steps, y_blamed, y_how, y_ran, y_working, y_arity, y_draftKind, y_draftWith, y_kind, y_with, y_patternLength, y_resultLength, y_rows, y_head, y_left, y_right, y_size, y_list, y_stack, y_starts, y_argument, y_given, y_fits, y_ends, y_places, y_bound, y_workKind, y_workWith, y_owner, y_counts, y_openSize, y_open, y_known) := fg_rel R0
  have ybad : (fg_nc g = 6 ∨ v1 < 0 ∨ nI 3 ≤ v1) → wpY_con (fun r' v' => r' = -1 ∧ i_Rel (k + 4) (nI (fg_nc g), x_drafted, x_given, x_cells, x_calls, x_opened, x_held, x_steps, x_outcome, x_culprit, x_size, x_kinds, x_arity, x_dKind, x_dValue, x_behind, x_pKind, x_pValue, x_pBehind, x_rKind, x_rValue, x_pLength, x_rLength, x_rows, x_path, x_argument, x_cCon, x_cFirst, x_cSecond, x_cSize, x_table, x_sets, x_learnt, x_pile, x_callRow, x_callAt, x_callOpen, x_bound, x_openToken, x_lacks, x_output, x_kSize, x_kSet, x_kMany, x_kList, x_counts, x_counted, x_firstOpen, x_openSize, x_values) v') (nI (fg_nc g), y_drafted, y_nodes, y_length, y_argumentLength, y_givenLength, y_steps, y_blamed, y_how, y_ran, y_working, y_arity, y_draftKind, y_draftWith, y_kind, y_with, y_patternLength, y_resultLength, y_rows, y_head, y_left, y_right, y_size, y_list, y_stack, y_starts, y_argument, y_given, y_fits, y_ends, y_places, y_bound, y_workKind, y_workWith, y_owner, y_counts, y_openSize, y_open, y_known) v1 := by
    intro h
    unfold wpY_con
    dsimp only
    refine pk_eq (fg_nc g) 6 (fun _ => ⟨rfl, hR⟩) (fun z => ?_)
    have h' : v1 < 0 ∨ nI 3 ≤ v1 := h.resolve_left z
    exact fg_yinf (h'.imp id (fun q => fg_le_lt (by decide) q rfl)) (br_t rfl ⟨rfl, hR⟩)
  rcases pk_ix v1 (n := 3) (by decide) with h | h | ⟨n, hn, rfl⟩
  · exact br_t h (ybad (Or.inr (Or.inl h)))
  · refine br_c (fun _ => ybad (Or.inr (Or.inr h))) (fun _ => br_t (fg_le_lt (by decide) h rfl) (ybad (Or.inr (Or.inr h))))
  · refine br_f (nI_pos (by omega)) (br_f (nI_nlt (a := 2) (by omega) (by decide)) ?_)
    refine pk_eq (fg_nc g) 6 (fun z => ybad (Or.inl z)) (fun z => ?_)
    have v6 : vp_in (nI (fg_nc g)) 6 := vp_in_nI (by omega) (by decide)
    have c6 : (nI (fg_nc g)).toNatClampNeg = fg_nc g := nI_clamp (by omega)
    refine And.intro v6 ?_
    rw [c6, fg_w8 (by omega)]
    refine nm_e ⟨5, ?_⟩
    refine fg_xcon33 (fun cn hcn => ?_) 4 0 _ rfl (fun f hf => absurd hf (Nat.not_lt_zero _))
    unfold wpY_con
    dsimp only
    refine pk_eq (fg_nc g) 6 (fun z' => absurd z' z) (fun _ => ?_)
    refine fg_yint (nI_pos (by omega)) (nI_nlt (a := 2) (by omega) (by decide)) (br_f (by decide) (nm_r (nI_1 _) (And.intro v6 ?_)))
    rw [c6]
    refine nm_e ⟨5, ?_⟩
    refine fg_ycon39 (fun cm hcm => ⟨rfl, ?_⟩) 4 0 _ rfl (fun f hf => absurd hf (Nat.not_lt_zero _))
    obtain ⟨⟨w1, w2, w3, w4⟩, -, -, r4, r5, ⟨cx1, cx2, cx3⟩, ⟨cy1, cy2, cy3⟩, r8, r9, r10, r11⟩ := R0
    have hu : ∀ a : Nat → Int32, (∀ c, a c = nI (fg_ar g c)) → ∀ c, upd a (fg_nc g) (nI n) c = nI (fg_ar (fg_gc g n) c) := by
      intro a ha c
      by_cases q : c = fg_nc g
      · subst q
        rw [pk_us]
        exact (congrArg nI (if_pos rfl)).symm
      · rw [pk_un q, ha c]
        exact (congrArg nI (if_neg q)).symm
    refine fg_rel' (fg_gc g n) nd DK DV t w ⟨⟨?_, fun c => ?_, w3, fun f r hf hr => fg_gc_RW (w4 f r hf hr)⟩, rfl, rfl, r4, r5, ⟨hu _ cx1, cx2, cx3⟩, ⟨hu _ cy1, cy2, cy3⟩, ⟨r8.1, fun i hi => ?_⟩, ⟨fg_gc_ok r9.1, r9.2⟩, ⟨fg_gc_ok r10.1, r10.2⟩, fun f hf => ⟨(hcn f hf).trans (hcm f hf).symm, Or.inl (hcn f hf)⟩⟩
    · show fg_nc g + 1 ≤ 6
      omega
    · show (if c = g.1 then n else g.2.1 c) ≤ 2
      split
      · omega
      · exact w2 c
    · obtain ⟨d1, d2, d3, d4, d5, d6, d7⟩ := r8.2 i hi
      exact ⟨d1, d2, d3, d4, d5, d6, fun z => ⟨Nat.lt_succ_of_lt (d7 z).1, (d7 z).2⟩⟩
/-- a token is good -/
def fg_tg (nc : Nat) (v1 v2 : Int32) : Prop := ∃ K, K ≤ 5 ∧ v1 = nI K ∧ (K = 1 ∨ K = 5 → ∃ j, j < 4 ∧ v2 = nI j) ∧ (K = 2 → ∃ j, j < nc ∧ v2 = nI j)
theorem fg_tg_k {nc K : Nat} {v2 : Int32} (hK : K ≤ 5) (h : fg_tg nc (nI K) v2) : (K = 1 ∨ K = 5 → ∃ j, j < 4 ∧ v2 = nI j) ∧ (K = 2 → ∃ j, j < nc ∧ v2 = nI j) := by
  obtain ⟨K', h1, h2, h3⟩ := h
  have := (nI_eq (by omega) (by omega)).mp h2
  subst this
  exact h3
theorem fg_not4 {v : Int32} (h : v < 0 ∨ nI 4 ≤ v) : ¬ ∃ j, j < 4 ∧ v = nI j := by
  rintro ⟨j, hj, rfl⟩
  rcases h with h | h
  · exact nI_pos (by omega) h
  · exact nI_ge hj (by decide) h
section
variable {x_cons x_drafted x_given x_cells x_calls x_opened x_held x_steps x_outcome x_culprit x_size x_kinds : Int32} {x_arity x_dKind x_dValue x_behind x_pKind x_pValue x_pBehind x_rKind x_rValue x_pLength x_rLength x_rows x_path x_argument x_cCon x_cFirst x_cSecond x_cSize x_table x_learnt x_pile x_callRow x_callAt x_callOpen x_bound x_openToken x_lacks x_output x_kSize x_counted x_openSize x_values : Nat → Int32} {x_sets x_kSet x_kMany x_kList x_counts x_firstOpen : Nat → Int64}
theorem fg_xtoken {post : Int32 → SX → Prop} {nd nc : Nat} {v1 v2 : Int32} (hnc : nc ≤ 6) (hnd : nd ≤ 40) (hb : (nd = 40 ∨ ¬ fg_tg nc v1 v2) → post (-1) (nI nc, nI nd, x_given, x_cells, x_calls, x_opened, x_held, x_steps, x_outcome, x_culprit, x_size, x_kinds, x_arity, x_dKind, x_dValue, x_behind, x_pKind, x_pValue, x_pBehind, x_rKind, x_rValue, x_pLength, x_rLength, x_rows, x_path, x_argument, x_cCon, x_cFirst, x_cSecond, x_cSize, x_table, x_sets, x_learnt, x_pile, x_callRow, x_callAt, x_callOpen, x_bound, x_openToken, x_lacks, x_output, x_kSize, x_kSet, x_kMany, x_kList, x_counts, x_counted, x_firstOpen, x_openSize, x_values))
    (hg : ∀ K V : Nat, nd < 40 → K ≤ 5 → V < 6 → v1 = nI K → (K = 1 ∨ K = 5 → V < 4 ∧ v2 = nI V) → (K = 2 → V < nc ∧ v2 = nI V) → post (nI (nd + 1)) (nI nc, nI (nd + 1), x_given, x_cells, x_calls, x_opened, x_held, x_steps, x_outcome, x_culprit, x_size, x_kinds, x_arity, upd x_dKind nd (nI K), upd x_dValue nd (nI V), x_behind, x_pKind, x_pValue, x_pBehind, x_rKind, x_rValue, x_pLength, x_rLength, x_rows, x_path, x_argument, x_cCon, x_cFirst, x_cSecond, x_cSize, x_table, x_sets, x_learnt, x_pile, x_callRow, x_callAt, x_callOpen, x_bound, x_openToken, x_lacks, x_output, x_kSize, x_kSet, x_kMany, x_kList, x_counts, x_counted, x_firstOpen, x_openSize, x_values)) :
    wpX_token post (nI nc, nI nd, x_given, x_cells, x_calls, x_opened, x_held, x_steps, x_outcome, x_culprit, x_size, x_kinds, x_arity, x_dKind, x_dValue, x_behind, x_pKind, x_pValue, x_pBehind, x_rKind, x_rValue, x_pLength, x_rLength, x_rows, x_path, x_argument, x_cCon, x_cFirst, x_cSecond, x_cSize, x_table, x_sets, x_learnt, x_pile, x_callRow, x_callAt, x_callOpen, x_bound, x_openToken, x_lacks, x_output, x_kSize, x_kSet, x_kMany, x_kList, x_counts, x_counted, x_firstOpen, x_openSize, x_values) v1 v2 := by
  refine pk_eq nd 40 (fun z => hb (Or.inl z)) (fun z => ?_)
  have hnd' : nd < 40 := by omega
  have bad : (v1 < 0 ∨ nI 6 ≤ v1) → post (-1) (nI nc, nI nd, x_given, x_cells, x_calls, x_opened, x_held, x_steps, x_outcome, x_culprit, x_size, x_kinds, x_arity, x_dKind, x_dValue, x_behind, x_pKind, x_pValue, x_pBehind, x_rKind, x_rValue, x_pLength, x_rLength, x_rows, x_path, x_argument, x_cCon, x_cFirst, x_cSecond, x_cSize, x_table, x_sets, x_learnt, x_pile, x_callRow, x_callAt, x_callOpen, x_bound, x_openToken, x_lacks, x_output, x_kSize, x_kSet, x_kMany, x_kList, x_counts, x_counted, x_firstOpen, x_openSize, x_values) := by
    intro h
    refine hb (Or.inr ?_)
    rintro ⟨K, k1, rfl, -⟩
    rcases h with h | h
    · exact nI_pos (by omega) h
    · exact nI_ge (by omega) (by decide) h
  rcases pk_ix v1 (n := 6) (by decide) with h | h | ⟨K, hK, rfl⟩
  · exact br_t h (bad (Or.inl h))
  · refine br_c (fun _ => bad (Or.inr h)) (fun _ => br_f (fun q => ?_) (bad (Or.inr h)))
    exact absurd (fg_le_lt (by decide) h rfl) (Int32.not_lt.mpr q)
  · have vd : vp_in (nI nd) 40 := vp_in_nI hnd' (by decide)
    have cd : (nI nd).toNatClampNeg = nd := nI_clamp (by omega)
    -- the stores
    have st : ∀ V : Nat, V < 6 → (K = 1 ∨ K = 5 → V < 4 ∧ v2 = nI V) → (K = 2 → V < nc ∧ v2 = nI V) → (K = 1 ∨ K = 2 ∨ K = 5 → v2 = nI V) → (¬ (K = 1 ∨ K = 2 ∨ K = 5) → V = 0) → wX_token_56 post (nI K) v2 (nI nc) (nI nd) x_given x_cells x_calls x_opened x_held x_steps x_outcome x_culprit x_size x_kinds x_arity x_dKind x_dValue x_behind x_pKind x_pValue x_pBehind x_rKind x_rValue x_pLength x_rLength x_rows x_path x_argument x_cCon x_cFirst x_cSecond x_cSize x_table x_sets x_learnt x_pile x_callRow x_callAt x_callOpen x_bound x_openToken x_lacks x_output x_kSize x_kSet x_kMany x_kList x_counts x_counted x_firstOpen x_openSize x_values := by
      intro V hV h1 h2 h3 h4
      have w95 : wX_token_95 post (nI V) (nI nd) (nI nc) (nI nd) x_given x_cells x_calls x_opened x_held x_steps x_outcome x_culprit x_size x_kinds x_arity (upd x_dKind nd (nI K)) x_dValue x_behind x_pKind x_pValue x_pBehind x_rKind x_rValue x_pLength x_rLength x_rows x_path x_argument x_cCon x_cFirst x_cSecond x_cSize x_table x_sets x_learnt x_pile x_callRow x_callAt x_callOpen x_bound x_openToken x_lacks x_output x_kSize x_kSet x_kMany x_kList x_counts x_counted x_firstOpen x_openSize x_values := by
        unfold wX_token_95
        rw [cd, fg_w8 (by omega), nI_1]
        exact And.intro vd (nm_e (nm_e (hg K V hnd' (by omega) hV rfl h1 h2)))
      unfold wX_token_56
      rw [cd, fg_w8 (by omega)]
      refine And.intro vd (nm_e ?_)
      have w90 : (K = 1 ∨ K = 2 ∨ K = 5) → wX_token_90 post v2 (nI nd) (nI nc) (nI nd) x_given x_cells x_calls x_opened x_held x_steps x_outcome x_culprit x_size x_kinds x_arity (upd x_dKind nd (nI K)) x_dValue x_behind x_pKind x_pValue x_pBehind x_rKind x_rValue x_pLength x_rLength x_rows x_path x_argument x_cCon x_cFirst x_cSecond x_cSize x_table x_sets x_learnt x_pile x_callRow x_callAt x_callOpen x_bound x_openToken x_lacks x_output x_kSize x_kSet x_kMany x_kList x_counts x_counted x_firstOpen x_openSize x_values := by
        intro h
        unfold wX_token_90
        rw [h3 h]
        exact w95
      refine pk_eq K 1 (fun z => w90 (Or.inl z)) (fun z1 => ?_)
      refine pk_eq K 2 (fun z => w90 (Or.inr (Or.inl z))) (fun z2 => ?_)
      refine pk_eq K 5 (fun z => w90 (Or.inr (Or.inr z))) (fun z5 => ?_)
      rw [h4 (by omega)] at w95
      exact w95
    have w37 : (K = 1 ∨ K = 5 → ∃ j, j < 4 ∧ v2 = nI j) → wX_token_37 post (nI K) v2 (nI nc) (nI nd) x_given x_cells x_calls x_opened x_held x_steps x_outcome x_culprit x_size x_kinds x_arity x_dKind x_dValue x_behind x_pKind x_pValue x_pBehind x_rKind x_rValue x_pLength x_rLength x_rows x_path x_argument x_cCon x_cFirst x_cSecond x_cSize x_table x_sets x_learnt x_pile x_callRow x_callAt x_callOpen x_bound x_openToken x_lacks x_output x_kSize x_kSet x_kMany x_kList x_counts x_counted x_firstOpen x_openSize x_values := by
      intro h15
      unfold wX_token_37
      refine pk_eq K 2 (fun z2 => ?_) (fun z2 => ?_)
      · have bad2 : (v2 < 0 ∨ nI nc ≤ v2) → post (-1) (nI nc, nI nd, x_given, x_cells, x_calls, x_opened, x_held, x_steps, x_outcome, x_culprit, x_size, x_kinds, x_arity, x_dKind, x_dValue, x_behind, x_pKind, x_pValue, x_pBehind, x_rKind, x_rValue, x_pLength, x_rLength, x_rows, x_path, x_argument, x_cCon, x_cFirst, x_cSecond, x_cSize, x_table, x_sets, x_learnt, x_pile, x_callRow, x_callAt, x_callOpen, x_bound, x_openToken, x_lacks, x_output, x_kSize, x_kSet, x_kMany, x_kList, x_counts, x_counted, x_firstOpen, x_openSize, x_values) := by
          intro h
          refine hb (Or.inr (fun q => ?_))
          obtain ⟨j, hj, rfl⟩ := (fg_tg_k (by omega) q).2 z2
          rcases h with h | h
          · exact nI_pos (by omega) h
          · exact nI_ge (by omega) (by omega) h
        rcases pk_ix v2 (n := nc) (by omega) with h | h | ⟨j, hj, rfl⟩
        · exact br_t h (bad2 (Or.inl h))
        · refine br_c (fun _ => bad2 (Or.inr h)) (fun _ => br_f (fun q => ?_) (bad2 (Or.inr h)))
          exact absurd q (Int32.not_lt.mpr h)
        · refine br_f (nI_pos (by omega)) (br_t (nI_lt hj (by omega)) ?_)
          exact st j (by omega) (fun _ => by omega) (fun _ => ⟨hj, rfl⟩) (fun _ => rfl) (fun q => by omega)
      · by_cases z15 : K = 1 ∨ K = 5
        · obtain ⟨j, hj, e⟩ := h15 z15
          exact st j (by omega) (fun _ => ⟨hj, e⟩) (fun q => absurd q z2) (fun _ => e) (fun q => by omega)
        · exact st 0 (by omega) (fun q => absurd q z15) (fun q => absurd q z2) (fun q => by omega) (fun _ => rfl)
    have w30 : (K = 1 ∨ K = 5) → wX_token_30 post (nI K) v2 (nI nc) (nI nd) x_given x_cells x_calls x_opened x_held x_steps x_outcome x_culprit x_size x_kinds x_arity x_dKind x_dValue x_behind x_pKind x_pValue x_pBehind x_rKind x_rValue x_pLength x_rLength x_rows x_path x_argument x_cCon x_cFirst x_cSecond x_cSize x_table x_sets x_learnt x_pile x_callRow x_callAt x_callOpen x_bound x_openToken x_lacks x_output x_kSize x_kSet x_kMany x_kList x_counts x_counted x_firstOpen x_openSize x_values := by
      intro z15
      unfold wX_token_30
      have bad4 : (v2 < 0 ∨ nI 4 ≤ v2) → wpX_isFour (fun r_5 => (((r_5 = 0 → (post (-1) (nI nc, nI nd, x_given, x_cells, x_calls, x_opened, x_held, x_steps, x_outcome, x_culprit, x_size, x_kinds, x_arity, x_dKind, x_dValue, x_behind, x_pKind, x_pValue, x_pBehind, x_rKind, x_rValue, x_pLength, x_rLength, x_rows, x_path, x_argument, x_cCon, x_cFirst, x_cSecond, x_cSize, x_table, x_sets, x_learnt, x_pile, x_callRow, x_callAt, x_callOpen, x_bound, x_openToken, x_lacks, x_output, x_kSize, x_kSet, x_kMany, x_kList, x_counts, x_counted, x_firstOpen, x_openSize, x_values))) ∧ (¬ r_5 = 0 → (wX_token_37 post (nI K) v2 (nI nc) (nI nd) x_given x_cells x_calls x_opened x_held x_steps x_outcome x_culprit x_size x_kinds x_arity x_dKind x_dValue x_behind x_pKind x_pValue x_pBehind x_rKind x_rValue x_pLength x_rLength x_rows x_path x_argument x_cCon x_cFirst x_cSecond x_cSize x_table x_sets x_learnt x_pile x_callRow x_callAt x_callOpen x_bound x_openToken x_lacks x_output x_kSize x_kSet x_kMany x_kList x_counts x_counted x_firstOpen x_openSize x_values))))) v2 := by
        intro h
        refine fg_x4f h (br_t rfl (hb (Or.inr (fun q => ?_))))
        exact fg_not4 h ((fg_tg_k (by omega) q).1 z15)
      rcases pk_ix v2 (n := 4) (by decide) with h | h | ⟨j, hj, rfl⟩
      · exact bad4 (Or.inl h)
      · exact bad4 (Or.inr h)
      · exact fg_x4t hj (br_f (by decide) (w37 (fun _ => ⟨j, hj, rfl⟩)))
    refine br_f (nI_pos (by omega)) (br_t (nI_le (b := 5) (by omega) (by decide)) ?_)
    refine pk_eq K 1 (fun z => w30 (Or.inl z)) (fun z1 => ?_)
    refine pk_eq K 5 (fun z => w30 (Or.inr z)) (fun z5 => ?_)
    exact w37 (fun q => by omega)
end
section
variable {y_cons y_drafted y_nodes y_length y_argumentLength y_givenLength y_steps y_blamed y_how y_ran y_working : Int32} {y_arity y_draftKind y_draftWith y_kind y_with y_patternLength y_resultLength y_rows y_head y_left y_right y_size y_list y_stack y_starts y_argument y_given y_fits y_ends y_places y_bound y_workKind y_workWith y_owner y_counts y_openSize y_open y_known : Nat → Int32}
theorem fg_ytoken {post : Int32 → SY → Prop} {nd nc : Nat} {v1 v2 : Int32} (hnc : nc ≤ 6) (hnd : nd ≤ 40) (hb : (nd = 40 ∨ ¬ fg_tg nc v1 v2) → post (-1) (nI nc, nI nd, y_nodes, y_length, y_argumentLength, y_givenLength, y_steps, y_blamed, y_how, y_ran, y_working, y_arity, y_draftKind, y_draftWith, y_kind, y_with, y_patternLength, y_resultLength, y_rows, y_head, y_left, y_right, y_size, y_list, y_stack, y_starts, y_argument, y_given, y_fits, y_ends, y_places, y_bound, y_workKind, y_workWith, y_owner, y_counts, y_openSize, y_open, y_known))
    (hg : nd < 40 → fg_tg nc v1 v2 → post (nI (nd + 1)) (nI nc, nI (nd + 1), y_nodes, y_length, y_argumentLength, y_givenLength, y_steps, y_blamed, y_how, y_ran, y_working, y_arity, upd y_draftKind nd v1, upd y_draftWith nd v2, y_kind, y_with, y_patternLength, y_resultLength, y_rows, y_head, y_left, y_right, y_size, y_list, y_stack, y_starts, y_argument, y_given, y_fits, y_ends, y_places, y_bound, y_workKind, y_workWith, y_owner, y_counts, y_openSize, y_open, y_known)) :
    wpY_token post (nI nc, nI nd, y_nodes, y_length, y_argumentLength, y_givenLength, y_steps, y_blamed, y_how, y_ran, y_working, y_arity, y_draftKind, y_draftWith, y_kind, y_with, y_patternLength, y_resultLength, y_rows, y_head, y_left, y_right, y_size, y_list, y_stack, y_starts, y_argument, y_given, y_fits, y_ends, y_places, y_bound, y_workKind, y_workWith, y_owner, y_counts, y_openSize, y_open, y_known) v1 v2 := by
  have vd : nd < 40 → vp_in (nI nd) 40 := fun h => vp_in_nI h (by decide)
  have cd : (nI nd).toNatClampNeg = nd := nI_clamp (by omega)
  have w39 : ∀ z0 : Int32, (z0 = 0 ∧ ¬ fg_tg nc v1 v2) ∨ (z0 = 1 ∧ ((v1 < 0 ∨ nI 6 ≤ v1) ∨ fg_tg nc v1 v2)) → wY_token_39 post v1 v2 z0 (nI nc) (nI nd) y_nodes y_length y_argumentLength y_givenLength y_steps y_blamed y_how y_ran y_working y_arity y_draftKind y_draftWith y_kind y_with y_patternLength y_resultLength y_rows y_head y_left y_right y_size y_list y_stack y_starts y_argument y_given y_fits y_ends y_places y_bound y_workKind y_workWith y_owner y_counts y_openSize y_open y_known := by
    intro z0 hz
    unfold wY_token_39
    have bad : (v1 < 0 ∨ nI 6 ≤ v1) → post (-1) (nI nc, nI nd, y_nodes, y_length, y_argumentLength, y_givenLength, y_steps, y_blamed, y_how, y_ran, y_working, y_arity, y_draftKind, y_draftWith, y_kind, y_with, y_patternLength, y_resultLength, y_rows, y_head, y_left, y_right, y_size, y_list, y_stack, y_starts, y_argument, y_given, y_fits, y_ends, y_places, y_bound, y_workKind, y_workWith, y_owner, y_counts, y_openSize, y_open, y_known) := by
      intro h
      refine hb (Or.inr ?_)
      rintro ⟨K, k1, rfl, -⟩
      rcases h with h | h
      · exact nI_pos (by omega) h
      · exact nI_ge (by omega) (by decide) h
    rcases pk_ix v1 (n := 6) (by decide) with h | h | ⟨K, hK, hK'⟩
    · exact fg_yinf (Or.inl h) (br_t rfl (bad (Or.inl h)))
    · exact fg_yinf (Or.inr (fg_le_lt (by decide) h rfl)) (br_t rfl (bad (Or.inr h)))
    · refine fg_yint (by rw [hK']; exact nI_pos (by omega)) (by rw [hK']; exact nI_nlt (a := 5) (by omega) (by decide)) (br_f (by decide) ?_)
      rcases hz with ⟨z, n⟩ | ⟨z, n⟩
      · exact br_t z (hb (Or.inr n))
      · have n' : fg_tg nc v1 v2 := by
          rcases n with n | n
          · rw [hK'] at n
            rcases n with n | n
            · exact absurd n (nI_pos (by omega))
            · exact absurd n (nI_ge hK (by decide))
          · exact n
        refine br_f (by rw [z]; decide) ?_
        refine pk_eq nd 40 (fun z => hb (Or.inl z)) (fun z => ?_)
        have hn : nd < 40 := by omega
        rw [cd, nI_1]
        exact And.intro (vd hn) (nm_e (And.intro (vd hn) (nm_e (nm_e (hg hn n')))))
  have w10 : ∀ K : Nat, (K = 1 ∨ K = 5) → v1 = nI K → wY_token_10 post v1 v2 (nI nc) (nI nd) y_nodes y_length y_argumentLength y_givenLength y_steps y_blamed y_how y_ran y_working y_arity y_draftKind y_draftWith y_kind y_with y_patternLength y_resultLength y_rows y_head y_left y_right y_size y_list y_stack y_starts y_argument y_given y_fits y_ends y_places y_bound y_workKind y_workWith y_owner y_counts y_openSize y_open y_known := by
    intro K hK e
    unfold wY_token_10
    have no : (v2 < 0 ∨ nI 4 ≤ v2) → ¬ fg_tg nc v1 v2 := by
      intro h q
      rw [e] at q
      exact fg_not4 h ((fg_tg_k (by omega) q).1 hK)
    rcases pk_ix v2 (n := 4) (by decide) with h | h | ⟨j, hj, hj'⟩
    · exact fg_y4f (Or.inl h) (w39 0 (Or.inl ⟨rfl, no (Or.inl h)⟩))
    · exact fg_y4f (Or.inr h) (w39 0 (Or.inl ⟨rfl, no (Or.inr h)⟩))
    · have w := w39 1 (Or.inr ⟨rfl, Or.inr ⟨K, by omega, e, fun _ => ⟨j, hj, hj'⟩, fun q => by omega⟩⟩)
      rw [hj'] at w ⊢
      exact fg_y4t hj w
  refine br_c (fun e => w10 1 (Or.inl rfl) e) (fun n1 => ?_)
  refine br_c (fun e => w10 5 (Or.inr rfl) e) (fun n5 => ?_)
  refine br_c (fun e => ?_) (fun n2 => ?_)
  · have no : (v2 < 0 ∨ nI nc ≤ v2) → ¬ fg_tg nc v1 v2 := by
      intro h q
      rw [e] at q
      obtain ⟨j, hj, rfl⟩ := (fg_tg_k (K := 2) (by omega) q).2 rfl
      rcases h with h | h
      · exact nI_pos (by omega) h
      · exact nI_ge (by omega) (by omega) h
    rcases pk_ix v2 (n := nc) (by omega) with h | h | ⟨j, hj, hj'⟩
    · exact fg_yinf (Or.inl h) (w39 0 (Or.inl ⟨rfl, no (Or.inl h)⟩))
    · refine fg_yinf ?_ (w39 0 (Or.inl ⟨rfl, no (Or.inr h)⟩))
      rcases Nat.eq_zero_or_pos nc with z | z
      · subst z
        exact Or.inr (Int32.lt_of_lt_of_le (by decide) h)
      · obtain ⟨q, hq⟩ : ∃ q, nc = q + 1 := ⟨nc - 1, by omega⟩
        subst hq
        exact Or.inr (fg_le_lt (by omega) h (nI_pred q))
    · have w := w39 1 (Or.inr ⟨rfl, Or.inr ⟨2, by omega, e, fun q => by omega, fun _ => ⟨j, hj, hj'⟩⟩⟩)
      obtain ⟨q, hq⟩ : ∃ q, nc = q + 1 := ⟨nc - 1, by omega⟩
      refine fg_yint (by rw [hj']; exact nI_pos (by omega)) (by rw [hj', hq, nI_pred]; exact nI_nlt (by omega) (by omega)) w
  · refine w39 1 (Or.inr ⟨rfl, ?_⟩)
    rcases pk_ix v1 (n := 6) (by decide) with h | h | ⟨K, hK, hK'⟩
    · exact Or.inl (Or.inl h)
    · exact Or.inl (Or.inr h)
    · refine Or.inr ⟨K, by omega, hK', fun q => ?_, fun q => ?_⟩
      · rcases q with q | q
        · subst q; exact absurd hK' n1
        · subst q; exact absurd hK' n5
      · subst q; exact absurd hK' n2
end
theorem i_vc_token {k : Nat} {u : SX} {v : SY} (I : i_Rel k u v) (hk : k + 4 ≤ 2048) (v1 : Int32) (v2 : Int32) : wpX_token (fun r u' => wpY_token (fun r' v' => r' = r ∧ i_Rel (k + 4) u' v') v v1 v2) u v1 v2 := by
  refine fg_el (P := fun u v => wpX_token (fun r u' => wpY_token (fun r' v' => r' = r ∧ i_Rel (k + 4) u' v') v v1 v2) u v1 v2) ?_ I
  intro x_cons x_drafted x_given x_cells x_calls x_opened x_held x_steps x_outcome x_culprit x_size x_kinds x_arity x_dKind x_dValue x_behind x_pKind x_pValue x_pBehind x_rKind x_rValue x_pLength x_rLength x_rows x_path x_argument x_cCon x_cFirst x_cSecond x_cSize x_table x_sets x_learnt x_pile x_callRow x_callAt x_callOpen x_bound x_openToken x_lacks x_output x_kSize x_kSet x_kMany x_kList x_counts x_counted x_firstOpen x_openSize x_values y_cons y_drafted y_nodes y_length y_argumentLength y_givenLength y_steps y_blamed y_how y_ran y_working y_arity y_draftKind y_draftWith y_kind y_with y_patternLength y_resultLength y_rows y_head y_left y_right y_size y_list y_stack y_starts y_argument y_given y_fits y_ends y_places y_bound y_workKind y_workWith y_owner y_counts y_openSize y_open y_known g nd DK DV t w R0
  have r2 := R0.2.1
  have r3 := R0.2.2.1
  have r4 := R0.2.2.2.1
  have r5 := R0.2.2.2.2.1
  have hn6 : fg_nc g ≤ 6 := R0.1.1
  have hd40 : nd ≤ 40 := R0.2.2.2.2.2.2.2.1.1
  subst r2 r3 r4 r5
  refine fg_xtoken hn6 hd40 (fun hb => ?_) (fun K V h1 h2 h3 h4 h5 h6 => ?_)
  · refine fg_ytoken hn6 hd40 (fun _ => ⟨rfl, fg_rel R0⟩) (fun q1 q2 => ?_)
    rcases hb with z | z
    · omega
    · exact absurd q2 z
  · refine fg_ytoken hn6 hd40 (fun hb => ?_) (fun q1 q2 => ⟨rfl, ?_⟩)
    · rcases hb with z | z
      · omega
      · exact absurd ⟨K, h2, h4, fun q => ⟨V, h5 q⟩, fun q => ⟨V, h6 q⟩⟩ z
    · obtain ⟨w1, -, -, -, -, cx, cy, r8, r9⟩ := R0
      refine fg_rel' g (nd + 1) (fun i => if i = nd then K else DK i) (fun i => if i = nd then V else DV i) t w ⟨w1, rfl, rfl, rfl, rfl, cx, cy, ⟨by omega, fun i hi => ?_⟩, r9⟩
      by_cases z : i = nd
      · subst z
        simp only [if_pos, pk_us]
        exact ⟨h2, h3, trivial, h4, trivial, h5, h6⟩
      · simp only [if_neg z, pk_un z]
        exact r8.2 i (by omega)
end
section
/-! use, taken -/
theorem fg_at_of {a : Nat → Int32} {t : fg_T} (h : ∀ p, p < fg_sz t → a p = nI (fg_hd (fg_sub t p))) : fg_at a 0 (fg_fl t) := by
  intro i x e
  have hi : i < fg_sz t := by
    rcases Nat.lt_or_ge i (fg_sz t) with z | z
    · exact z
    · rw [List.getElem?_eq_none (by rw [fg_fl_len]; exact z)] at e; exact nomatch e
  rw [fg_sub_fl t i hi] at e
  injection e with e
  rw [Nat.zero_add, h i hi, e]
theorem fg_at_h0 {a : Nat → Int32} {t : fg_T} (h : fg_at a 0 (fg_fl t)) {p : Nat} (hp : p < fg_sz t) : a p = nI (fg_hd (fg_sub t p)) := by
  have := fg_at_hd h hp
  rwa [Nat.zero_add] at this
section
variable {x_cons x_drafted x_given x_cells x_calls x_opened x_held x_steps x_outcome x_culprit x_size x_kinds : Int32} {x_arity x_dKind x_dValue x_behind x_pKind x_pValue x_pBehind x_rKind x_rValue x_pLength x_rLength x_rows x_path x_argument x_cCon x_cFirst x_cSecond x_cSize x_table x_learnt x_pile x_callRow x_callAt x_callOpen x_bound x_openToken x_lacks x_output x_kSize x_counted x_openSize x_values : Nat → Int32} {x_sets x_kSet x_kMany x_kList x_counts x_firstOpen : Nat → Int64}
theorem fg_xuse11 {post : Int32 → SX → Prop} {g : fg_C} {w : fg_T} (hok : fg_ok (fg_nc g) (fg_ar g) w) (h6 : fg_nc g ≤ 6) (h40 : fg_sz w ≤ 40) (ho : fg_at x_output 0 (fg_fl w))
    (hp : ∀ ag : Nat → Int32, fg_at ag 0 (fg_fl w) → post (nI (fg_sz w)) (x_cons, x_drafted, nI (fg_sz w), x_cells, x_calls, x_opened, x_held, x_steps, x_outcome, x_culprit, nI (fg_sz w), x_kinds, x_arity, x_dKind, x_dValue, x_behind, x_pKind, x_pValue, x_pBehind, x_rKind, x_rValue, x_pLength, x_rLength, x_rows, x_path, ag, x_cCon, x_cFirst, x_cSecond, x_cSize, x_table, x_sets, x_learnt, x_pile, x_callRow, x_callAt, x_callOpen, x_bound, x_openToken, x_lacks, x_output, x_kSize, x_kSet, x_kMany, x_kList, x_counts, x_counted, x_firstOpen, x_openSize, x_values)) :
    ∀ (d i : Nat) (ag : Nat → Int32), i + d = fg_sz w → (∀ p, p < i → ag p = nI (fg_hd (fg_sub w p))) → wX_use_11 post x_cons x_drafted x_given x_cells x_calls x_opened x_held x_steps x_outcome x_culprit (nI (fg_sz w)) x_kinds (d + 1) (nI i) x_arity x_dKind x_dValue x_behind x_pKind x_pValue x_pBehind x_rKind x_rValue x_pLength x_rLength x_rows x_path ag x_cCon x_cFirst x_cSecond x_cSize x_table x_sets x_learnt x_pile x_callRow x_callAt x_callOpen x_bound x_openToken x_lacks x_output x_kSize x_kSet x_kMany x_kList x_counts x_counted x_firstOpen x_openSize x_values := by
  intro d
  induction d with
  | zero =>
    intro i ag hd h
    exact pk_le (fg_sz w) i (fun _ => hp ag (fg_at_of (fun p hp' => h p (by omega)))) (fun h => by omega)
  | succ d ih =>
    intro i ag hd h
    have vi : vp_in (nI i) 40 := vp_in_nI (by omega) (by decide)
    refine pk_le (fg_sz w) i (fun h => by omega) (fun _ => And.intro vi (And.intro vi ?_))
    have hi : i < fg_sz w := by omega
    have hb := (fg_ok_b (fg_ok_sub w i hok) (fg_sub_ne w i hi)).1
    rw [nI_clamp (by omega), fg_at_h0 ho hi, fg_v8 (by omega)]
    refine nm_e (nm_r (nI_1 i) (ih (i + 1) _ (by omega) (fun p hp' => ?_)))
    by_cases z : p = i
    · rw [z, pk_us]
    · rw [pk_un z]; exact h p (by omega)
end
section
variable {y_cons y_drafted y_nodes y_length y_argumentLength y_givenLength y_steps y_blamed y_how y_ran y_working : Int32} {y_arity y_draftKind y_draftWith y_kind y_with y_patternLength y_resultLength y_rows y_head y_left y_right y_size y_list y_stack y_starts y_argument y_given y_fits y_ends y_places y_bound y_workKind y_workWith y_owner y_counts y_openSize y_open y_known : Nat → Int32}
theorem fg_yuse19 {post : Int32 → SY → Prop} {w : fg_T} (h40 : fg_sz w ≤ 40) (ho : fg_at y_given 0 (fg_fl w))
    (hp : ∀ ag : Nat → Int32, fg_at ag 0 (fg_fl w) → post (nI (fg_sz w)) (y_cons, y_drafted, y_nodes, y_length, nI (fg_sz w), nI (fg_sz w), y_steps, y_blamed, y_how, y_ran, y_working, y_arity, y_draftKind, y_draftWith, y_kind, y_with, y_patternLength, y_resultLength, y_rows, y_head, y_left, y_right, y_size, y_list, y_stack, y_starts, ag, y_given, y_fits, y_ends, y_places, y_bound, y_workKind, y_workWith, y_owner, y_counts, y_openSize, y_open, y_known)) :
    ∀ (d i : Nat) (ag : Nat → Int32), i + d = fg_sz w → (∀ p, p < i → ag p = nI (fg_hd (fg_sub w p))) → wY_use_19 post y_cons y_drafted y_nodes y_length (nI (fg_sz w)) (nI (fg_sz w)) y_steps y_blamed y_how y_ran y_working (d + 1) (nI i) y_arity y_draftKind y_draftWith y_kind y_with y_patternLength y_resultLength y_rows y_head y_left y_right y_size y_list y_stack y_starts ag y_given y_fits y_ends y_places y_bound y_workKind y_workWith y_owner y_counts y_openSize y_open y_known := by
  intro d
  induction d with
  | zero =>
    intro i ag hd h
    exact pk_le (fg_sz w) i (fun _ => hp ag (fg_at_of (fun p hp' => h p (by omega)))) (fun h => by omega)
  | succ d ih =>
    intro i ag hd h
    have vi : vp_in (nI i) 40 := vp_in_nI (by omega) (by decide)
    refine pk_le (fg_sz w) i (fun h => by omega) (fun _ => And.intro vi (And.intro vi ?_))
    have hi : i < fg_sz w := by omega
    rw [nI_clamp (by omega), fg_at_h0 ho hi]
    refine nm_e (nm_r (nI_1 i) (ih (i + 1) _ (by omega) (fun p hp' => ?_)))
    by_cases z : p = i
    · rw [z, pk_us]
    · rw [pk_un z]; exact h p (by omega)
theorem fg_ytake {post : SY → Prop} {t : fg_T} (h40 : fg_sz t ≤ 40) (ho : fg_at y_argument 0 (fg_fl t))
    (hp : ∀ li : Nat → Int32, fg_at li 0 (fg_fl t) → post (y_cons, y_drafted, y_nodes, nI (fg_sz t), y_argumentLength, y_givenLength, y_steps, y_blamed, y_how, y_ran, y_working, y_arity, y_draftKind, y_draftWith, y_kind, y_with, y_patternLength, y_resultLength, y_rows, y_head, y_left, y_right, y_size, li, y_stack, y_starts, y_argument, y_given, y_fits, y_ends, y_places, y_bound, y_workKind, y_workWith, y_owner, y_counts, y_openSize, y_open, y_known)) : wpY_take__argument post (y_cons, y_drafted, y_nodes, y_length, y_argumentLength, y_givenLength, y_steps, y_blamed, y_how, y_ran, y_working, y_arity, y_draftKind, y_draftWith, y_kind, y_with, y_patternLength, y_resultLength, y_rows, y_head, y_left, y_right, y_size, y_list, y_stack, y_starts, y_argument, y_given, y_fits, y_ends, y_places, y_bound, y_workKind, y_workWith, y_owner, y_counts, y_openSize, y_open, y_known) (nI (fg_sz t)) := by
  have key : ∀ (d i : Nat) (li : Nat → Int32), i + d = fg_sz t → (∀ p, p < i → li p = nI (fg_hd (fg_sub t p))) → wY_take__argument_7 post (nI (fg_sz t)) y_cons y_drafted y_nodes (nI (fg_sz t)) y_argumentLength y_givenLength y_steps y_blamed y_how y_ran y_working (d + 1) (nI i) y_arity y_draftKind y_draftWith y_kind y_with y_patternLength y_resultLength y_rows y_head y_left y_right y_size li y_stack y_starts y_argument y_given y_fits y_ends y_places y_bound y_workKind y_workWith y_owner y_counts y_openSize y_open y_known := by
    intro d
    induction d with
    | zero =>
      intro i li hd h
      exact pk_le (fg_sz t) i (fun _ => hp li (fg_at_of (fun p hp' => h p (by omega)))) (fun h => by omega)
    | succ d ih =>
      intro i li hd h
      have vi : vp_in (nI i) 40 := vp_in_nI (by omega) (by decide)
      refine pk_le (fg_sz t) i (fun h => by omega) (fun _ => And.intro vi (And.intro vi ?_))
      have hi : i < fg_sz t := by omega
      rw [nI_clamp (by omega), fg_at_h0 ho hi]
      refine nm_e (nm_r (nI_1 i) (ih (i + 1) _ (by omega) (fun p hp' => ?_)))
      by_cases z : p = i
      · rw [z, pk_us]
      · rw [pk_un z]; exact h p (by omega)
  exact ⟨_, key (fg_sz t) 0 y_list (by omega) (fun p hp' => by omega)⟩
end
theorem i_vc_use {k : Nat} {u : SX} {v : SY} (I : i_Rel k u v) (hk : k + 4 ≤ 2048) : wpX_use (fun r u' => wpY_use (fun r' v' => r' = r ∧ i_Rel (k + 4) u' v') v) u := by
  refine fg_el (P := fun u v => wpX_use (fun r u' => wpY_use (fun r' v' => r' = r ∧ i_Rel (k + 4) u' v') v) u) ?_ I
  intro x_cons x_drafted x_given x_cells x_calls x_opened x_held x_steps x_outcome x_culprit x_size x_kinds x_arity x_dKind x_dValue x_behind x_pKind x_pValue x_pBehind x_rKind x_rValue x_pLength x_rLength x_rows x_path x_argument x_cCon x_cFirst x_cSecond x_cSize x_table x_sets x_learnt x_pile x_callRow x_callAt x_callOpen x_bound x_openToken x_lacks x_output x_kSize x_kSet x_kMany x_kList x_counts x_counted x_firstOpen x_openSize x_values y_cons y_drafted y_nodes y_length y_argumentLength y_givenLength y_steps y_blamed y_how y_ran y_working y_arity y_draftKind y_draftWith y_kind y_with y_patternLength y_resultLength y_rows y_head y_left y_right y_size y_list y_stack y_starts y_argument y_given y_fits y_ends y_places y_bound y_workKind y_workWith y_owner y_counts y_openSize y_open y_known g nd DK DV t w R0
  obtain ⟨o1, o2, o3, o4, o5, o6⟩ := R0.2.2.2.2.2.2.2.2.2.1
  have none : w = fg_nil → wpY_use (fun r' v' => r' = -1 ∧ i_Rel (k + 4) (x_cons, x_drafted, x_given, x_cells, x_calls, x_opened, x_held, x_steps, x_outcome, x_culprit, x_size, x_kinds, x_arity, x_dKind, x_dValue, x_behind, x_pKind, x_pValue, x_pBehind, x_rKind, x_rValue, x_pLength, x_rLength, x_rows, x_path, x_argument, x_cCon, x_cFirst, x_cSecond, x_cSize, x_table, x_sets, x_learnt, x_pile, x_callRow, x_callAt, x_callOpen, x_bound, x_openToken, x_lacks, x_output, x_kSize, x_kSet, x_kMany, x_kList, x_counts, x_counted, x_firstOpen, x_openSize, x_values) v') (y_cons, y_drafted, y_nodes, y_length, y_argumentLength, y_givenLength, y_steps, y_blamed, y_how, y_ran, y_working, y_arity, y_draftKind, y_draftWith, y_kind, y_with, y_patternLength, y_resultLength, y_rows, y_head, y_left, y_right, y_size, y_list, y_stack, y_starts, y_argument, y_given, y_fits, y_ends, y_places, y_bound, y_workKind, y_workWith, y_owner, y_counts, y_openSize, y_open, y_known) := by
    intro hw
    exact br_t (by rw [o3, hw]; rfl) ⟨rfl, fg_rel R0⟩
  rcases o6 with ⟨q1, q2, q3⟩ | ⟨q1, q2, q3, q4, ⟨q5, q6⟩ | ⟨o, p1, p2, p3, p4⟩⟩
  · exact br_f (by rw [q1]; decide) (none q3)
  · refine br_t q5 ⟨fg_sz w + 1, ?_⟩
    have hs : x_size = nI (fg_sz w) := q2.trans o3
    subst hs o3
    refine fg_xuse11 o1 R0.1.1 o2 o4 (fun ag ha => ?_) (fg_sz w) 0 x_argument (by omega) (fun p hp => absurd hp (Nat.not_lt_zero _))
    refine br_f (nI_ne0 (fg_szp q6) (by omega)) ⟨fg_sz w + 1, ?_⟩
    refine fg_yuse19 o2 o5 (fun ag' ha' => ⟨rfl, ?_⟩) (fg_sz w) 0 y_argument (by omega) (fun p hp => absurd hp (Nat.not_lt_zero _))
    obtain ⟨w1, r2, r3, r4, r5, cx, cy, r8, r9, r10, r11⟩ := R0
    exact fg_rel' g nd DK DV w w ⟨w1, r2, r3, r4, r5, cx, cy, r8, ⟨o1, o2, rfl, rfl, ha, ha'⟩, r10, r11⟩
  · exact br_f (by rw [p3]; exact nI_ne0 p1 (by omega)) (none p4)
theorem i_vc_taken {k : Nat} {u : SX} {v : SY} (I : i_Rel k u v) (hk : k + 4 ≤ 2048) (v1 : Int32) : wpX_taken (fun r u' => wpY_taken (fun r' v' => r' = r ∧ i_Rel (k + 4) u' v') v v1) u v1 := by
  refine fg_el (P := fun u v => wpX_taken (fun r u' => wpY_taken (fun r' v' => r' = r ∧ i_Rel (k + 4) u' v') v v1) u v1) ?_ I
  intro x_cons x_drafted x_given x_cells x_calls x_opened x_held x_steps x_outcome x_culprit x_size x_kinds x_arity x_dKind x_dValue x_behind x_pKind x_pValue x_pBehind x_rKind x_rValue x_pLength x_rLength x_rows x_path x_argument x_cCon x_cFirst x_cSecond x_cSize x_table x_sets x_learnt x_pile x_callRow x_callAt x_callOpen x_bound x_openToken x_lacks x_output x_kSize x_kSet x_kMany x_kList x_counts x_counted x_firstOpen x_openSize x_values y_cons y_drafted y_nodes y_length y_argumentLength y_givenLength y_steps y_blamed y_how y_ran y_working y_arity y_draftKind y_draftWith y_kind y_with y_patternLength y_resultLength y_rows y_head y_left y_right y_size y_list y_stack y_starts y_argument y_given y_fits y_ends y_places y_bound y_workKind y_workWith y_owner y_counts y_openSize y_open y_known g nd DK DV t w R0
  have bad : (v1 < 0 ∨ nI 4 ≤ v1) → wpX_taken (fun r u' => wpY_taken (fun r' v' => r' = r ∧ i_Rel (k + 4) u' v') (y_cons, y_drafted, y_nodes, y_length, y_argumentLength, y_givenLength, y_steps, y_blamed, y_how, y_ran, y_working, y_arity, y_draftKind, y_draftWith, y_kind, y_with, y_patternLength, y_resultLength, y_rows, y_head, y_left, y_right, y_size, y_list, y_stack, y_starts, y_argument, y_given, y_fits, y_ends, y_places, y_bound, y_workKind, y_workWith, y_owner, y_counts, y_openSize, y_open, y_known) v1) (x_cons, x_drafted, x_given, x_cells, x_calls, x_opened, x_held, x_steps, x_outcome, x_culprit, x_size, x_kinds, x_arity, x_dKind, x_dValue, x_behind, x_pKind, x_pValue, x_pBehind, x_rKind, x_rValue, x_pLength, x_rLength, x_rows, x_path, x_argument, x_cCon, x_cFirst, x_cSecond, x_cSize, x_table, x_sets, x_learnt, x_pile, x_callRow, x_callAt, x_callOpen, x_bound, x_openToken, x_lacks, x_output, x_kSize, x_kSet, x_kMany, x_kList, x_counts, x_counted, x_firstOpen, x_openSize, x_values) v1 := by
    intro h
    unfold wpX_taken
    dsimp only
    refine fg_x4f h (br_t rfl ?_)
    unfold wpY_taken
    dsimp only
    exact fg_y4f h (br_t rfl ⟨rfl, fg_rel R0⟩)
  rcases pk_ix v1 (n := 4) (by decide) with h | h | ⟨f, hf, rfl⟩
  · exact bad (Or.inl h)
  · exact bad (Or.inr h)
  · have R0' := R0
    obtain ⟨hW, r2, r3, r4, r5, cx, cy, r8, ⟨a1, a2, a3, a4, a5, a6⟩, r10, r11⟩ := R0'
    subst a3 a4
    unfold wpX_taken
    dsimp only
    refine fg_x4t hf (br_f (by decide) ?_)
    rcases Nat.eq_zero_or_pos (fg_sz t) with z | z
    · refine br_t (by rw [z]; rfl) ?_
      unfold wpY_taken
      dsimp only
      exact fg_y4t hf (br_f (by decide) (br_t (by rw [z]; rfl) ⟨rfl, fg_rel R0⟩))
    · have ht : t ≠ fg_nil := fun e => by rw [fg_sz0.mpr e] at z; exact absurd z (Nat.lt_irrefl _)
      refine br_f (nI_ne0 z (by omega)) ?_
      refine fg_xload hW.1 cx.1 ht a1 a2 a5 (fun n N T pile con fst snd siz tab lea h1 h2 h3 h4 => ?_)
      refine fg_xsetOf hW cx hf (by omega) h4.1 h4.2.2 h1 (fun pile lea sts hLe => ?_)
      rw [h2]
      refine fg_xfirst hW cx hf ht ?_
      unfold wpY_taken
      dsimp only
      refine fg_y4t hf (br_f (by decide) (br_f (nI_ne0 z (by omega)) ?_))
      refine fg_ytake a2 a6 (fun li hli => ?_)
      refine fg_ytakes hW cy hf a1 ht a2 hli (fun en fits hE => ⟨rfl, ?_⟩)
      exact fg_rel' g nd DK DV t w R0
end
section
/-! the draft's parts; give -/
/-- the tree of a row of constructors -/
theorem fg_parse {nc d : Nat} {ar DK DV : Nat → Nat} (har : ∀ c, ar c ≤ 2) : ∀ (n i e : Nat), d - i = n → i ≤ d → fg_G (fg_op ar DK DV) d 1 i = some e → (∀ j, i ≤ j → j < e → DK j = 2 ∧ DV j < nc) →
    ∃ t : fg_T, t ≠ fg_nil ∧ fg_ok nc ar t ∧ i + fg_sz t = e ∧ ∀ p, p < fg_sz t → fg_hd (fg_sub t p) = DV (i + p) := by
  intro n
  induction n using Nat.strongRecOn with
  | ind n ih =>
    intro i e hn hi hG hc
    have hb := fg_Gle _ _ _ _ rfl hi hG
    have hid : i < d := by omega
    obtain ⟨hk, hv⟩ := hc i (Nat.le_refl _) (by omega)
    rw [show (1 : Nat) = 0 + 1 from rfl, fg_Gs hid, Nat.zero_add, fg_op2 hk] at hG
    have h2 := har (DV i)
    rcases (show ar (DV i) = 0 ∨ ar (DV i) = 1 ∨ ar (DV i) = 2 by omega) with z | z | z
    · rw [z, fg_G0] at hG
      injection hG with hG
      refine ⟨.branch (DV i) fg_nil fg_nil, fg_ne_b, ⟨hv, Or.inl ⟨z, rfl, rfl⟩, True.intro, True.intro⟩, by simp only [fg_sz]; omega, fun p hp => ?_⟩
      simp only [fg_sz] at hp
      have : p = 0 := by omega
      subst this
      rfl
    · rw [z] at hG
      obtain ⟨a, a1, a2, a3, a4⟩ := ih _ (by omega) (i + 1) e rfl (by omega) hG (fun j h1 h2 => hc j (by omega) h2)
      refine ⟨.branch (DV i) a fg_nil, fg_ne_b, ⟨hv, Or.inr (Or.inl ⟨z, a1, rfl⟩), a2, True.intro⟩, by simp only [fg_sz]; omega, fun p hp => ?_⟩
      simp only [fg_sz] at hp
      cases p with
      | zero => rfl
      | succ p =>
        rw [fg_subL (by omega), a4 p (by omega)]
        exact congrArg DV (by omega)
    · rw [z, show (2 : Nat) = 1 + 1 from rfl, fg_Gadd _ _ _ _ rfl] at hG
      cases hg : fg_G (fg_op ar DK DV) d 1 (i + 1) with
      | none => rw [hg] at hG; exact nomatch hG
      | some e1 =>
        rw [hg] at hG
        have hG2 : fg_G (fg_op ar DK DV) d 1 e1 = some e := hG
        have q1 := fg_Gle _ _ _ _ rfl (by omega) hg
        have q2 := fg_Gle _ _ _ _ rfl q1.2.1 hG2
        obtain ⟨a, a1, a2, a3, a4⟩ := ih _ (by omega) (i + 1) e1 rfl (by omega) hg (fun j h1 h2 => hc j (by omega) (by omega))
        obtain ⟨b, b1, b2, b3, b4⟩ := ih _ (by omega) e1 e rfl (by omega) hG2 (fun j h1 h2 => hc j (by omega) h2)
        refine ⟨.branch (DV i) a b, fg_ne_b, ⟨hv, Or.inr (Or.inr ⟨z, a1, b1⟩), a2, b2⟩, by simp only [fg_sz]; omega, fun p hp => ?_⟩
        simp only [fg_sz] at hp
        cases p with
        | zero => rfl
        | succ p =>
          by_cases w : p < fg_sz a
          · rw [fg_subL w, a4 p w]
            exact congrArg DV (by omega)
          · rw [fg_subR (by omega), b4 _ (by omega)]
            exact congrArg DV (by omega)
theorem fg_G1 {o : Nat → Nat} {d i : Nat} (h : i < d) : fg_G o d 1 i = fg_G o d (o i) (i + 1) := by
  have := fg_Gs (o := o) (m := 0) h
  rw [Nat.zero_add (o i)] at this; exact this
theorem fg_G1e {o : Nat → Nat} {d i : Nat} (h : d ≤ i) : fg_G o d 1 i = none := fg_Ge (m := 0) h
def fg_bh (o : Nat → Nat) (d i : Nat) : Nat := (fg_G o d 1 i).getD 99
def fg_re : Option Nat → Int32
  | some e => nI e
  | none => -1
theorem fg_bh_le {o : Nat → Nat} {d m i : Nat} (hi : i ≤ d) (hd : d ≤ 40) : (fg_G o d m i).getD 99 ≤ 99 := by
  cases h : fg_G o d m i with
  | none => exact Nat.le_refl _
  | some e =>
    have := fg_Gle _ _ _ _ rfl hi h
    show e ≤ 99
    omega
section
variable {x_cons x_drafted x_given x_cells x_calls x_opened x_held x_steps x_outcome x_culprit x_size x_kinds : Int32} {x_arity x_dKind x_dValue x_behind x_pKind x_pValue x_pBehind x_rKind x_rValue x_pLength x_rLength x_rows x_path x_argument x_cCon x_cFirst x_cSecond x_cSize x_table x_learnt x_pile x_callRow x_callAt x_callOpen x_bound x_openToken x_lacks x_output x_kSize x_counted x_openSize x_values : Nat → Int32} {x_sets x_kSet x_kMany x_kList x_counts x_firstOpen : Nat → Int64}
variable {g : fg_C} {i : Nat}
theorem fg_xop {post : Int32 → Prop} {kf vf : Nat → Nat} {K W : Int32} (ha : ∀ c, x_arity c = nI (fg_ar g c)) (hk5 : kf i ≤ 6) (hk : K = nI (kf i)) (hv : kf i = 2 → W = nI (vf i) ∧ vf i < 6) (hp : post (nI (fg_op (fg_ar g) kf vf i))) : wpX_operands post (x_cons, x_drafted, x_given, x_cells, x_calls, x_opened, x_held, x_steps, x_outcome, x_culprit, x_size, x_kinds, x_arity, x_dKind, x_dValue, x_behind, x_pKind, x_pValue, x_pBehind, x_rKind, x_rValue, x_pLength, x_rLength, x_rows, x_path, x_argument, x_cCon, x_cFirst, x_cSecond, x_cSize, x_table, x_sets, x_learnt, x_pile, x_callRow, x_callAt, x_callOpen, x_bound, x_openToken, x_lacks, x_output, x_kSize, x_kSet, x_kMany, x_kList, x_counts, x_counted, x_firstOpen, x_openSize, x_values) K W := by
  subst hk
  by_cases h2 : kf i = 2
  · obtain ⟨e, h6⟩ := hv h2
    subst e
    rw [fg_op2 h2] at hp
    refine br_t (by rw [h2]; rfl) (And.intro (vp_in_nI h6 (by decide)) ?_)
    rw [nI_clamp (by omega), ha]; exact hp
  · refine br_f (by rw [show (2 : Int32) = nI 2 from rfl, nI_eq (by omega) (by decide)]; exact h2) ?_
    by_cases h3 : kf i = 3
    · rw [fg_op3 h3] at hp
      exact br_t (by rw [h3]; rfl) hp
    · refine br_f (by rw [show (3 : Int32) = nI 3 from rfl, nI_eq (by omega) (by decide)]; exact h3) ?_
      by_cases h4 : kf i = 4
      · rw [fg_op4 h4] at hp
        exact br_t (by rw [h4]; rfl) hp
      · refine br_f (by rw [show (4 : Int32) = nI 4 from rfl, nI_eq (by omega) (by decide)]; exact h4) ?_
        by_cases h5 : kf i = 5
        · rw [fg_op5 h5] at hp
          exact br_t (by rw [h5]; rfl) hp
        · rw [fg_op0 h2 h3 h4 h5] at hp
          exact br_f (by rw [show (5 : Int32) = nI 5 from rfl, nI_eq (by omega) (by decide)]; exact h5) hp
theorem fg_xmeasure {post : SX → Prop} {nd : Nat} {DK DV : Nat → Nat} {dk dw : Nat → Int32} (hW : fg_WF g) (ha : ∀ c, x_arity c = nI (fg_ar g c)) (hD : fg_Dr g nd DK DV x_dKind x_dValue dk dw)
    (hp : ∀ be : Nat → Int32, (∀ i, i ≤ nd → be i = nI (fg_bh (fg_op (fg_ar g) DK DV) nd i)) → post (x_cons, nI nd, x_given, x_cells, x_calls, x_opened, x_held, x_steps, x_outcome, x_culprit, x_size, x_kinds, x_arity, x_dKind, x_dValue, be, x_pKind, x_pValue, x_pBehind, x_rKind, x_rValue, x_pLength, x_rLength, x_rows, x_path, x_argument, x_cCon, x_cFirst, x_cSecond, x_cSize, x_table, x_sets, x_learnt, x_pile, x_callRow, x_callAt, x_callOpen, x_bound, x_openToken, x_lacks, x_output, x_kSize, x_kSet, x_kMany, x_kList, x_counts, x_counted, x_firstOpen, x_openSize, x_values)) : wpX_measure post (x_cons, nI nd, x_given, x_cells, x_calls, x_opened, x_held, x_steps, x_outcome, x_culprit, x_size, x_kinds, x_arity, x_dKind, x_dValue, x_behind, x_pKind, x_pValue, x_pBehind, x_rKind, x_rValue, x_pLength, x_rLength, x_rows, x_path, x_argument, x_cCon, x_cFirst, x_cSecond, x_cSize, x_table, x_sets, x_learnt, x_pile, x_callRow, x_callAt, x_callOpen, x_bound, x_openToken, x_lacks, x_output, x_kSize, x_kSet, x_kMany, x_kList, x_counts, x_counted, x_firstOpen, x_openSize, x_values) := by
  obtain ⟨hd40, hD⟩ := hD
  have key : ∀ (m : Nat) (be : Nat → Int32), m ≤ nd → (∀ i, m ≤ i → i ≤ nd → be i = nI (fg_bh (fg_op (fg_ar g) DK DV) nd i)) → wX_measure_18 post x_cons (nI nd) x_given x_cells x_calls x_opened x_held x_steps x_outcome x_culprit x_size x_kinds (m + 1) (nI m - 1) x_arity x_dKind x_dValue be x_pKind x_pValue x_pBehind x_rKind x_rValue x_pLength x_rLength x_rows x_path x_argument x_cCon x_cFirst x_cSecond x_cSize x_table x_sets x_learnt x_pile x_callRow x_callAt x_callOpen x_bound x_openToken x_lacks x_output x_kSize x_kSet x_kMany x_kList x_counts x_counted x_firstOpen x_openSize x_values := by
    intro m
    induction m with
    | zero =>
      intro be _ h
      exact br_t fg_pd0 (hp be (fun i hi => h i (Nat.zero_le _) hi))
    | succ m ih =>
      intro be hm h
      rw [nI_pred]
      have vm : vp_in (nI m) 40 := vp_in_nI (by omega) (by decide)
      have vm' : vp_in (nI m) 41 := vp_in_nI (by omega) (by decide)
      have cm : (nI m).toNatClampNeg = m := nI_clamp (by omega)
      obtain ⟨d1, d2, d3, d4, d5, d6, d7⟩ := hD m hm
      refine br_f (nI_pos (by omega)) (nm_r (nI_1 m) (And.intro vm (And.intro vm ?_)))
      rw [cm]
      refine fg_xop (kf := DK) (vf := DV) (i := m) ha (by omega) d3 (fun z => ⟨d5, d2⟩) ?_
      have hop := fg_op_le (k := DK) (v := DV) (i := m) hW.2.1
      have inner : ∀ (q j : Nat), j + q = fg_op (fg_ar g) DK DV m → wX_measure_46 post (wX_measure_18 post x_cons (nI nd) x_given x_cells x_calls x_opened x_held x_steps x_outcome x_culprit x_size x_kinds (m + 1)) (nI m) (nI (fg_op (fg_ar g) DK DV m)) x_cons (nI nd) x_given x_cells x_calls x_opened x_held x_steps x_outcome x_culprit x_size x_kinds x_arity x_dKind x_dValue be x_pKind x_pValue x_pBehind x_rKind x_rValue x_pLength x_rLength x_rows x_path x_argument x_cCon x_cFirst x_cSecond x_cSize x_table x_sets x_learnt x_pile x_callRow x_callAt x_callOpen x_bound x_openToken x_lacks x_output x_kSize x_kSet x_kMany x_kList x_counts x_counted x_firstOpen x_openSize x_values (q + 1) (nI ((fg_G (fg_op (fg_ar g) DK DV) nd j (m + 1)).getD 99)) (nI j) := by
        intro q
        induction q with
        | zero =>
          intro j hj
          refine pk_le (fg_op (fg_ar g) DK DV m) j (fun _ => ?_) (fun h => by omega)
          refine And.intro vm' ?_
          rw [cm, fg_w8 (by have := fg_bh_le (o := fg_op (fg_ar g) DK DV) (d := nd) (m := j) (i := m + 1) (by omega) hd40; omega)]
          refine nm_e (nm_r (fg_pdm m) (ih _ (by omega) (fun i h1 h2 => ?_)))
          by_cases z : i = m
          · subst z
            rw [pk_us]
            unfold fg_bh
            rw [fg_G1 (by omega), show j = fg_op (fg_ar g) DK DV i by omega]
          · rw [pk_un z]
            exact h i (by omega) h2
        | succ q ihq =>
          intro j hj
          refine pk_le (fg_op (fg_ar g) DK DV m) j (fun h => by omega) (fun _ => ?_)
          have hn := ihq (j + 1) (by omega)
          rw [fg_Gadd _ _ _ _ rfl] at hn
          cases hg : fg_G (fg_op (fg_ar g) DK DV) nd j (m + 1) with
          | none =>
            rw [hg] at hn
            exact br_t (nI_le (a := nd) (b := 99) (by omega) (by decide)) (nm_r (nI_1 j) hn)
          | some e =>
            rw [hg] at hn
            have hn' : wX_measure_46 post (wX_measure_18 post x_cons (nI nd) x_given x_cells x_calls x_opened x_held x_steps x_outcome x_culprit x_size x_kinds (m + 1)) (nI m) (nI (fg_op (fg_ar g) DK DV m)) x_cons (nI nd) x_given x_cells x_calls x_opened x_held x_steps x_outcome x_culprit x_size x_kinds x_arity x_dKind x_dValue be x_pKind x_pValue x_pBehind x_rKind x_rValue x_pLength x_rLength x_rows x_path x_argument x_cCon x_cFirst x_cSecond x_cSize x_table x_sets x_learnt x_pile x_callRow x_callAt x_callOpen x_bound x_openToken x_lacks x_output x_kSize x_kSet x_kMany x_kList x_counts x_counted x_firstOpen x_openSize x_values (q + 1) (nI (fg_bh (fg_op (fg_ar g) DK DV) nd e)) (nI (j + 1)) := hn
            have he := fg_Gle _ _ _ _ rfl (by omega) hg
            refine pk_le nd e (fun z => ?_) (fun z => ?_) rfl rfl (by omega) (by omega)
            · have e0 : fg_bh (fg_op (fg_ar g) DK DV) nd e = 99 := by
                unfold fg_bh
                rw [fg_G1e z]; rfl
              rw [e0] at hn'
              exact nm_r (nI_1 j) hn'
            · refine And.intro (show vp_in (nI e) 41 from vp_in_nI (by omega) (by decide)) ?_
              refine nm_r (e' := nI (fg_bh (fg_op (fg_ar g) DK DV) nd e)) (by show be (nI e).toNatClampNeg = _; rw [nI_clamp (by omega)]; exact h e (by omega) (by omega)) (nm_r (nI_1 j) hn')
      have := inner (fg_op (fg_ar g) DK DV m) 0 (by omega)
      rw [fg_G0] at this
      exact ⟨_, this⟩
  have vd : vp_in (nI nd) 41 := vp_in_nI (by omega) (by decide)
  refine And.intro vd ?_
  rw [nI_clamp (by omega)]
  refine nm_e (nm_e ⟨nd + 1, key nd _ (Nat.le_refl _) (fun i h1 h2 => ?_)⟩)
  have : i = nd := by omega
  subst this
  rw [pk_us]
  unfold fg_bh
  rw [fg_G1e (Nat.le_refl _)]
  exact fg_v8 (n := 99) (by decide)
end
section
variable {y_cons y_drafted y_nodes y_length y_argumentLength y_givenLength y_steps y_blamed y_how y_ran y_working : Int32} {y_arity y_draftKind y_draftWith y_kind y_with y_patternLength y_resultLength y_rows y_head y_left y_right y_size y_list y_stack y_starts y_argument y_given y_fits y_ends y_places y_bound y_workKind y_workWith y_owner y_counts y_openSize y_open y_known : Nat → Int32}
variable {g : fg_C} {i : Nat}
theorem fg_yend4 {post : Int32 → Prop} {nd : Nat} {DK DV : Nat → Nat} {xk xv : Nat → Int32} (hW : fg_WF g) (ha : ∀ c, y_arity c = nI (fg_ar g c)) (hD : fg_Dr g nd DK DV xk xv y_draftKind y_draftWith) :
    ∀ (d i m n : Nat), nd - i = d → i ≤ nd → m + 2 * d < 1000 → d < n → post (fg_re (fg_G (fg_op (fg_ar g) DK DV) nd m i)) → wY_endOf_4 post y_cons (nI nd) y_nodes y_length y_argumentLength y_givenLength y_steps y_blamed y_how y_ran y_working y_arity y_draftKind y_draftWith y_kind y_with y_patternLength y_resultLength y_rows y_head y_left y_right y_size y_list y_stack y_starts y_argument y_given y_fits y_ends y_places y_bound y_workKind y_workWith y_owner y_counts y_openSize y_open y_known n (nI m) (nI i) := by
  obtain ⟨hd40, hD⟩ := hD
  intro d
  induction d with
  | zero =>
    intro i m n hd hi hm hn hp
    obtain ⟨n, rfl⟩ : ∃ q, n = q + 1 := ⟨n - 1, by omega⟩
    cases m with
    | zero => rw [fg_G0] at hp; exact br_t (by decide) hp
    | succ m =>
      rw [fg_Ge (by omega)] at hp
      exact br_f (nI_nle (by omega) (by omega)) (br_t (congrArg nI (by omega)) hp)
  | succ d ih =>
    intro i m n hd hi hm hn hp
    obtain ⟨n, rfl⟩ : ∃ q, n = q + 1 := ⟨n - 1, by omega⟩
    cases m with
    | zero => rw [fg_G0] at hp; exact br_t (by decide) hp
    | succ m =>
      rw [fg_Gs (by omega)] at hp
      have vi : vp_in (nI i) 40 := vp_in_nI (by omega) (by decide)
      obtain ⟨d1, d2, d3, d4, d5, d6, d7⟩ := hD i (by omega)
      refine br_f (nI_nle (by omega) (by omega)) ?_
      refine pk_eq i nd (fun z => by omega) (fun z => ?_) rfl rfl (by omega) (by omega)
      refine And.intro vi (And.intro vi ?_)
      rw [nI_clamp (by omega)]
      refine fg_yop (kf := DK) (vf := DV) (i := i) ha (by omega) d4 (fun z => ⟨(d7 z).2, d2⟩) ?_
      have hop := fg_op_le (k := DK) (v := DV) (i := i) hW.2.1
      refine nm_r (e' := nI (m + fg_op (fg_ar g) DK DV i)) ?_ (nm_r (nI_1 i) (ih (i + 1) _ n (by omega) (by omega) (by omega) (by omega) hp))
      rw [Int32.sub_eq_add_neg, ← Int32.add_assoc, nI_add, show m + 1 + fg_op (fg_ar g) DK DV i = (m + fg_op (fg_ar g) DK DV i) + 1 by omega]
      exact pk_m1 _
theorem fg_yend {post : Int32 → Prop} {nd : Nat} {DK DV : Nat → Nat} {xk xv : Nat → Int32} (hW : fg_WF g) (ha : ∀ c, y_arity c = nI (fg_ar g c)) (hD : fg_Dr g nd DK DV xk xv y_draftKind y_draftWith) (hi : i ≤ nd)
    (hp : post (fg_re (fg_G (fg_op (fg_ar g) DK DV) nd 1 i))) : wpY_endOf post (y_cons, nI nd, y_nodes, y_length, y_argumentLength, y_givenLength, y_steps, y_blamed, y_how, y_ran, y_working, y_arity, y_draftKind, y_draftWith, y_kind, y_with, y_patternLength, y_resultLength, y_rows, y_head, y_left, y_right, y_size, y_list, y_stack, y_starts, y_argument, y_given, y_fits, y_ends, y_places, y_bound, y_workKind, y_workWith, y_owner, y_counts, y_openSize, y_open, y_known) (nI i) :=
  ⟨nd - i + 1, fg_yend4 hW ha hD _ i 1 _ rfl hi (by have := hD.1; omega) (Nat.lt_succ_self _) hp⟩
end
end
section
/-! give -/
def fg_gv (g : fg_C) (nd : Nat) (DK DV : Nat → Nat) : Prop := fg_G (fg_op (fg_ar g) DK DV) nd 1 0 = some nd ∧ ∀ i, i < nd → DK i = 2
section
variable {x_cons x_drafted x_given x_cells x_calls x_opened x_held x_steps x_outcome x_culprit x_size x_kinds : Int32} {x_arity x_dKind x_dValue x_behind x_pKind x_pValue x_pBehind x_rKind x_rValue x_pLength x_rLength x_rows x_path x_argument x_cCon x_cFirst x_cSecond x_cSize x_table x_learnt x_pile x_callRow x_callAt x_callOpen x_bound x_openToken x_lacks x_output x_kSize x_counted x_openSize x_values : Nat → Int32} {x_sets x_kSet x_kMany x_kList x_counts x_firstOpen : Nat → Int64}
variable {g : fg_C}
theorem fg_xgive {post : Int32 → SX → Prop} {nd : Nat} {DK DV : Nat → Nat} {dk dw : Nat → Int32} (hW : fg_WF g) (ha : ∀ c, x_arity c = nI (fg_ar g c)) (hD : fg_Dr g nd DK DV x_dKind x_dValue dk dw)
    (hb : ¬ fg_gv g nd DK DV → ∀ be, post (-2) (x_cons, 0, x_given, x_cells, x_calls, x_opened, x_held, x_steps, x_outcome, x_culprit, x_size, x_kinds, x_arity, x_dKind, x_dValue, be, x_pKind, x_pValue, x_pBehind, x_rKind, x_rValue, x_pLength, x_rLength, x_rows, x_path, x_argument, x_cCon, x_cFirst, x_cSecond, x_cSize, x_table, x_sets, x_learnt, x_pile, x_callRow, x_callAt, x_callOpen, x_bound, x_openToken, x_lacks, x_output, x_kSize, x_kSet, x_kMany, x_kList, x_counts, x_counted, x_firstOpen, x_openSize, x_values))
    (hg : fg_gv g nd DK DV → ∀ be ag : Nat → Int32, (∀ i, i < nd → ag i = nI (DV i)) → post (nI nd) (x_cons, 0, nI nd, x_cells, x_calls, x_opened, x_held, x_steps, x_outcome, x_culprit, x_size, x_kinds, x_arity, x_dKind, x_dValue, be, x_pKind, x_pValue, x_pBehind, x_rKind, x_rValue, x_pLength, x_rLength, x_rows, x_path, ag, x_cCon, x_cFirst, x_cSecond, x_cSize, x_table, x_sets, x_learnt, x_pile, x_callRow, x_callAt, x_callOpen, x_bound, x_openToken, x_lacks, x_output, x_kSize, x_kSet, x_kMany, x_kList, x_counts, x_counted, x_firstOpen, x_openSize, x_values)) :
    wpX_give post (x_cons, nI nd, x_given, x_cells, x_calls, x_opened, x_held, x_steps, x_outcome, x_culprit, x_size, x_kinds, x_arity, x_dKind, x_dValue, x_behind, x_pKind, x_pValue, x_pBehind, x_rKind, x_rValue, x_pLength, x_rLength, x_rows, x_path, x_argument, x_cCon, x_cFirst, x_cSecond, x_cSize, x_table, x_sets, x_learnt, x_pile, x_callRow, x_callAt, x_callOpen, x_bound, x_openToken, x_lacks, x_output, x_kSize, x_kSet, x_kMany, x_kList, x_counts, x_counted, x_firstOpen, x_openSize, x_values) := by
  unfold wpX_give
  dsimp only
  refine fg_xmeasure hW ha hD (fun be hbe => ?_)
  dsimp only
  obtain ⟨hd40, hD⟩ := hD
  have bad : ¬ fg_gv g nd DK DV → wX_give_66 post 0 x_cons (nI nd) x_given x_cells x_calls x_opened x_held x_steps x_outcome x_culprit x_size x_kinds x_arity x_dKind x_dValue be x_pKind x_pValue x_pBehind x_rKind x_rValue x_pLength x_rLength x_rows x_path x_argument x_cCon x_cFirst x_cSecond x_cSize x_table x_sets x_learnt x_pile x_callRow x_callAt x_callOpen x_bound x_openToken x_lacks x_output x_kSize x_kSet x_kMany x_kList x_counts x_counted x_firstOpen x_openSize x_values := fun h => br_t rfl (hb h be)
  have good : fg_gv g nd DK DV → wX_give_66 post 1 x_cons (nI nd) x_given x_cells x_calls x_opened x_held x_steps x_outcome x_culprit x_size x_kinds x_arity x_dKind x_dValue be x_pKind x_pValue x_pBehind x_rKind x_rValue x_pLength x_rLength x_rows x_path x_argument x_cCon x_cFirst x_cSecond x_cSize x_table x_sets x_learnt x_pile x_callRow x_callAt x_callOpen x_bound x_openToken x_lacks x_output x_kSize x_kSet x_kMany x_kList x_counts x_counted x_firstOpen x_openSize x_values := by
    intro h
    have key : ∀ (d i : Nat) (ag : Nat → Int32), i + d = nd → (∀ p, p < i → ag p = nI (DV p)) → wX_give_85 post (nI nd) x_cons 0 x_given x_cells x_calls x_opened x_held x_steps x_outcome x_culprit x_size x_kinds (d + 1) (nI i) x_arity x_dKind x_dValue be x_pKind x_pValue x_pBehind x_rKind x_rValue x_pLength x_rLength x_rows x_path ag x_cCon x_cFirst x_cSecond x_cSize x_table x_sets x_learnt x_pile x_callRow x_callAt x_callOpen x_bound x_openToken x_lacks x_output x_kSize x_kSet x_kMany x_kList x_counts x_counted x_firstOpen x_openSize x_values := by
      intro d
      induction d with
      | zero =>
        intro i ag hd hh
        exact pk_le nd i (fun _ => hg h be ag (fun p hp => hh p (by omega))) (fun h => by omega)
      | succ d ih =>
        intro i ag hd hh
        have vi : vp_in (nI i) 40 := vp_in_nI (by omega) (by decide)
        refine pk_le nd i (fun h => by omega) (fun _ => And.intro vi (And.intro vi ?_))
        obtain ⟨d1, d2, d3, d4, d5, d6, d7⟩ := hD i (by omega)
        rw [nI_clamp (by omega), d5, fg_v8 (by omega)]
        refine nm_e (nm_r (nI_1 i) (ih (i + 1) _ (by omega) (fun p hp => ?_)))
        by_cases z : p = i
        · rw [z, pk_us]
        · rw [pk_un z]; exact hh p (by omega)
    exact br_f (by decide) ⟨nd + 1, key nd 0 x_argument (by omega) (fun p hp => absurd hp (Nat.not_lt_zero _))⟩
  -- the loop once it is bad
  have lb : ∀ (n i : Nat), i ≤ 40 → ¬ fg_gv g nd DK DV → wX_give_32 post x_cons (nI nd) x_given x_cells x_calls x_opened x_held x_steps x_outcome x_culprit x_size x_kinds x_arity x_dKind x_dValue be x_pKind x_pValue x_pBehind x_rKind x_rValue x_pLength x_rLength x_rows x_path x_argument x_cCon x_cFirst x_cSecond x_cSize x_table x_sets x_learnt x_pile x_callRow x_callAt x_callOpen x_bound x_openToken x_lacks x_output x_kSize x_kSet x_kMany x_kList x_counts x_counted x_firstOpen x_openSize x_values (n + 1) 0 (nI i) := by
    intro n i hi h
    exact br_c (fun _ => bad h) (fun _ => br_t rfl (bad h))
  have lg : ∀ (d i : Nat), i + d = nd → fg_G (fg_op (fg_ar g) DK DV) nd 1 0 = some nd → (∀ j, j < i → DK j = 2) → wX_give_32 post x_cons (nI nd) x_given x_cells x_calls x_opened x_held x_steps x_outcome x_culprit x_size x_kinds x_arity x_dKind x_dValue be x_pKind x_pValue x_pBehind x_rKind x_rValue x_pLength x_rLength x_rows x_path x_argument x_cCon x_cFirst x_cSecond x_cSize x_table x_sets x_learnt x_pile x_callRow x_callAt x_callOpen x_bound x_openToken x_lacks x_output x_kSize x_kSet x_kMany x_kList x_counts x_counted x_firstOpen x_openSize x_values (d + 2) 1 (nI i) := by
    intro d
    induction d with
    | zero =>
      intro i hd h0 h
      exact br_t (nI_le (by omega) (by omega)) (good ⟨h0, fun j hj => h j (by omega)⟩)
    | succ d ih =>
      intro i hd h0 h
      refine br_f (nI_ge (by omega) (by omega)) (br_f (by decide) (And.intro (vp_in_nI (by omega) (by decide)) ?_))
      obtain ⟨d1, d2, d3, d4, d5, d6, d7⟩ := hD i (by omega)
      rw [nI_clamp (by omega), d3]
      refine pk_eq (DK i) 2 (fun z => ?_) (fun z => ?_)
      · refine nm_r (nI_1 i) (ih (i + 1) (by omega) h0 (fun j hj => ?_))
        rcases Nat.lt_or_ge j i with y | y
        · exact h j y
        · rw [show j = i by omega]; exact z
      · exact nm_r (nI_1 i) (lb (d + 1) (i + 1) (by omega) (fun q => z (q.2 i (by omega))))
  have e0 : be 0 = nI (fg_bh (fg_op (fg_ar g) DK DV) nd 0) := hbe 0 (Nat.zero_le _)
  have hle := fg_bh_le (o := fg_op (fg_ar g) DK DV) (d := nd) (m := 1) (i := 0) (Nat.zero_le _) hd40
  refine pk_le nd 0 (fun z => ?_) (fun z => ?_)
  · refine ⟨1, lb 0 0 (by omega) (fun q => ?_)⟩
    have := q.1
    rw [fg_G1e (by omega)] at this
    exact nomatch this
  · rw [e0]
    refine pk_eq (fg_bh (fg_op (fg_ar g) DK DV) nd 0) nd (fun y => ?_) (fun y => ?_) rfl rfl (by unfold fg_bh; omega) (by omega)
    · refine ⟨_, lg nd 0 (by omega) ?_ (fun j hj => absurd hj (Nat.not_lt_zero _))⟩
      unfold fg_bh at y
      cases hG : fg_G (fg_op (fg_ar g) DK DV) nd 1 0 with
      | none => rw [hG] at y; exact absurd y (by show ¬ 99 = nd; omega)
      | some e => rw [hG] at y; exact congrArg some y
    · refine ⟨1, lb 0 0 (by omega) (fun q => y ?_)⟩
      unfold fg_bh
      rw [q.1]; rfl
end
section
variable {y_cons y_drafted y_nodes y_length y_argumentLength y_givenLength y_steps y_blamed y_how y_ran y_working : Int32} {y_arity y_draftKind y_draftWith y_kind y_with y_patternLength y_resultLength y_rows y_head y_left y_right y_size y_list y_stack y_starts y_argument y_given y_fits y_ends y_places y_bound y_workKind y_workWith y_owner y_counts y_openSize y_open y_known : Nat → Int32}
variable {g : fg_C}
theorem fg_ygive {post : Int32 → SY → Prop} {nd : Nat} {DK DV : Nat → Nat} {xk xv : Nat → Int32} (hW : fg_WF g) (ha : ∀ c, y_arity c = nI (fg_ar g c)) (hD : fg_Dr g nd DK DV xk xv y_draftKind y_draftWith)
    (hb : ¬ fg_gv g nd DK DV → post (-2) (y_cons, 0, y_nodes, y_length, y_argumentLength, y_givenLength, y_steps, y_blamed, y_how, y_ran, y_working, y_arity, y_draftKind, y_draftWith, y_kind, y_with, y_patternLength, y_resultLength, y_rows, y_head, y_left, y_right, y_size, y_list, y_stack, y_starts, y_argument, y_given, y_fits, y_ends, y_places, y_bound, y_workKind, y_workWith, y_owner, y_counts, y_openSize, y_open, y_known))
    (hg : fg_gv g nd DK DV → ∀ ag : Nat → Int32, (∀ i, i < nd → ag i = nI (DV i)) → post (nI nd) (y_cons, 0, y_nodes, y_length, nI nd, y_givenLength, y_steps, y_blamed, y_how, y_ran, y_working, y_arity, y_draftKind, y_draftWith, y_kind, y_with, y_patternLength, y_resultLength, y_rows, y_head, y_left, y_right, y_size, y_list, y_stack, y_starts, ag, y_given, y_fits, y_ends, y_places, y_bound, y_workKind, y_workWith, y_owner, y_counts, y_openSize, y_open, y_known)) :
    wpY_give post (y_cons, nI nd, y_nodes, y_length, y_argumentLength, y_givenLength, y_steps, y_blamed, y_how, y_ran, y_working, y_arity, y_draftKind, y_draftWith, y_kind, y_with, y_patternLength, y_resultLength, y_rows, y_head, y_left, y_right, y_size, y_list, y_stack, y_starts, y_argument, y_given, y_fits, y_ends, y_places, y_bound, y_workKind, y_workWith, y_owner, y_counts, y_openSize, y_open, y_known) := by
  have hD' := hD
  obtain ⟨hd40, hD⟩ := hD
  have lb : ∀ (x : Int32) (d i : Nat), i + d = nd → ¬ fg_gv g nd DK DV → wY_give_26 post x y_cons (nI nd) y_nodes y_length y_argumentLength y_givenLength y_steps y_blamed y_how y_ran y_working y_arity y_draftKind y_draftWith y_kind y_with y_patternLength y_resultLength y_rows y_head y_left y_right y_size y_list y_stack y_starts y_argument y_given y_fits y_ends y_places y_bound y_workKind y_workWith y_owner y_counts y_openSize y_open y_known (d + 1) 0 (nI i) := by
    intro x d
    induction d with
    | zero =>
      intro i hd h
      exact br_t (nI_le (by omega) (by omega)) (br_t rfl (hb h))
    | succ d ih =>
      intro i hd h
      refine br_f (nI_ge (by omega) (by omega)) (And.intro (vp_in_nI (by omega) (by decide)) ?_)
      exact br_c (fun _ => nm_r (e' := 0) (by decide) (nm_r (nI_1 i) (ih (i + 1) (by omega) h))) (fun _ => nm_r (e' := 0) (by decide) (nm_r (nI_1 i) (ih (i + 1) (by omega) h)))
  have lg : ∀ (d i : Nat), i + d = nd → fg_G (fg_op (fg_ar g) DK DV) nd 1 0 = some nd → (∀ j, j < i → DK j = 2) → wY_give_26 post (nI nd) y_cons (nI nd) y_nodes y_length y_argumentLength y_givenLength y_steps y_blamed y_how y_ran y_working y_arity y_draftKind y_draftWith y_kind y_with y_patternLength y_resultLength y_rows y_head y_left y_right y_size y_list y_stack y_starts y_argument y_given y_fits y_ends y_places y_bound y_workKind y_workWith y_owner y_counts y_openSize y_open y_known (d + 1) 1 (nI i) := by
    intro d
    induction d with
    | zero =>
      intro i hd h0 h
      refine br_t (nI_le (by omega) (by omega)) (br_f (by decide) ?_)
      have key : ∀ (d i : Nat) (ag : Nat → Int32), i + d = nd → (∀ p, p < i → ag p = nI (DV p)) → wY_give_77 post (nI nd) y_cons 0 y_nodes y_length (nI nd) y_givenLength y_steps y_blamed y_how y_ran y_working (d + 1) (nI i) y_arity y_draftKind y_draftWith y_kind y_with y_patternLength y_resultLength y_rows y_head y_left y_right y_size y_list y_stack y_starts ag y_given y_fits y_ends y_places y_bound y_workKind y_workWith y_owner y_counts y_openSize y_open y_known := by
        intro d
        induction d with
        | zero =>
          intro i ag hd hh
          exact pk_le nd i (fun _ => hg ⟨h0, fun j hj => h j (by omega)⟩ ag (fun p hp => hh p (by omega))) (fun h => by omega)
        | succ d ih =>
          intro i ag hd hh
          have vi : vp_in (nI i) 40 := vp_in_nI (by omega) (by decide)
          refine pk_le nd i (fun h => by omega) (fun _ => And.intro vi (And.intro vi ?_))
          obtain ⟨d1, d2, d3, d4, d5, d6, d7⟩ := hD i (by omega)
          rw [nI_clamp (by omega), (d7 (h i (by omega))).2]
          refine nm_e (nm_r (nI_1 i) (ih (i + 1) _ (by omega) (fun p hp => ?_)))
          by_cases z : p = i
          · rw [z, pk_us]
          · rw [pk_un z]; exact hh p (by omega)
      exact ⟨nd + 1, key nd 0 y_argument (by omega) (fun p hp => absurd hp (Nat.not_lt_zero _))⟩
    | succ d ih =>
      intro i hd h0 h
      refine br_f (nI_ge (by omega) (by omega)) (And.intro (vp_in_nI (by omega) (by decide)) ?_)
      obtain ⟨d1, d2, d3, d4, d5, d6, d7⟩ := hD i (by omega)
      rw [nI_clamp (by omega), d4]
      refine pk_eq (DK i) 2 (fun z => ?_) (fun z => ?_)
      · refine nm_r (e' := 1) (by decide) (nm_r (nI_1 i) (ih (i + 1) (by omega) h0 (fun j hj => ?_)))
        rcases Nat.lt_or_ge j i with y | y
        · exact h j y
        · rw [show j = i by omega]; exact z
      · exact nm_r (e' := 0) (by decide) (nm_r (nI_1 i) (lb _ d (i + 1) (by omega) (fun q => z (q.2 i (by omega)))))
  unfold wpY_give
  dsimp only
  refine fg_yend (i := 0) hW ha hD' (Nat.zero_le _) ?_
  cases hG : fg_G (fg_op (fg_ar g) DK DV) nd 1 0 with
  | none =>
    refine br_t (by decide) ⟨nd + 1, lb _ nd 0 (by omega) (fun q => ?_)⟩
    rw [q.1] at hG
    exact nomatch hG
  | some e =>
    have he := fg_Gle _ _ _ _ rfl (Nat.zero_le _) hG
    refine br_f (nI_nle (n := e) (by omega) (by omega)) ?_
    refine pk_eq e nd (fun z => ?_) (fun z => ?_) rfl rfl (by omega) (by omega)
    · subst z
      exact ⟨e + 1, lg e 0 (by omega) hG (fun j hj => absurd hj (Nat.not_lt_zero _))⟩
    · refine ⟨nd + 1, lb _ nd 0 (by omega) (fun q => z ?_)⟩
      have := q.1
      rw [hG] at this
      injection this
end
theorem i_vc_give {k : Nat} {u : SX} {v : SY} (I : i_Rel k u v) (hk : k + 4 ≤ 2048) : wpX_give (fun r u' => wpY_give (fun r' v' => r' = r ∧ i_Rel (k + 4) u' v') v) u := by
  refine fg_el (P := fun u v => wpX_give (fun r u' => wpY_give (fun r' v' => r' = r ∧ i_Rel (k + 4) u' v') v) u) ?_ I
  intro x_cons x_drafted x_given x_cells x_calls x_opened x_held x_steps x_outcome x_culprit x_size x_kinds x_arity x_dKind x_dValue x_behind x_pKind x_pValue x_pBehind x_rKind x_rValue x_pLength x_rLength x_rows x_path x_argument x_cCon x_cFirst x_cSecond x_cSize x_table x_sets x_learnt x_pile x_callRow x_callAt x_callOpen x_bound x_openToken x_lacks x_output x_kSize x_kSet x_kMany x_kList x_counts x_counted x_firstOpen x_openSize x_values y_cons y_drafted y_nodes y_length y_argumentLength y_givenLength y_steps y_blamed y_how y_ran y_working y_arity y_draftKind y_draftWith y_kind y_with y_patternLength y_resultLength y_rows y_head y_left y_right y_size y_list y_stack y_starts y_argument y_given y_fits y_ends y_places y_bound y_workKind y_workWith y_owner y_counts y_openSize y_open y_known g nd DK DV t w R0
  obtain ⟨hW, r2, r3, r4, r5, cx, cy, r8, r9⟩ := R0
  subst r4 r5
  have hd0 : fg_Dr g 0 DK DV x_dKind x_dValue y_draftKind y_draftWith := ⟨Nat.zero_le _, fun i hi => absurd hi (Nat.not_lt_zero _)⟩
  refine fg_xgive hW cx.1 r8 (fun hb be => ?_) (fun hg be ag hag => ?_)
  · refine fg_ygive hW cy.1 r8 (fun _ => ⟨rfl, ?_⟩) (fun q => absurd q hb)
    exact fg_rel' g 0 DK DV t w ⟨hW, r2, r3, rfl, rfl, cx, cy, hd0, r9⟩
  · refine fg_ygive hW cy.1 r8 (fun q => absurd hg q) (fun _ ag' hag' => ⟨rfl, ?_⟩)
    obtain ⟨s, s1, s2, s3, s4⟩ := fg_parse (nc := fg_nc g) hW.2.1 _ 0 nd rfl (Nat.zero_le _) hg.1 (fun j _ hj => ⟨hg.2 j hj, ((r8.2 j hj).2.2.2.2.2.2 (hg.2 j hj)).1⟩)
    rw [Nat.zero_add] at s3
    have h1 : fg_at ag 0 (fg_fl s) := fg_at_of (fun p hp => by rw [hag p (by omega), s4 p hp, Nat.zero_add])
    have h2 : fg_at ag' 0 (fg_fl s) := fg_at_of (fun p hp => by rw [hag' p (by omega), s4 p hp, Nat.zero_add])
    exact fg_rel' g 0 DK DV s w ⟨hW, r2, r3, rfl, rfl, cx, cy, hd0, ⟨s2, by have := r8.1; omega, congrArg nI s3.symm, congrArg nI s3.symm, h1, h2⟩, r9.2⟩
end
section
/-! row: variables of a pattern, form of a result -/
def fg_VR (DK DV be : Nat → Nat) (e : Nat) : Prop := (∀ i, i < e → DK i ≠ 5) ∧ (∀ i j, i < j → j < e → DK i = 1 → DK j = 1 → DV i ≠ DV j) ∧ (∀ i j, (DK i = 3 ∨ DK i = 4) → i < j → j < be i → j < e → DK j ≠ 1)
def fg_vb (DK DV : Nat → Nat) (e : Nat) (M : Int32) : Prop := ∀ v, v < 32 → (bt M v = true ↔ ∃ j, j < e ∧ DK j = 1 ∧ DV j = v)
def fg_RS (DK DV : Nat → Nat) (e nd : Nat) : Prop := ∀ i, e ≤ i → i < nd → DK i = 2 ∨ DK i = 5 ∨ (DK i = 1 ∧ ∃ j, j < e ∧ DK j = 1 ∧ DV j = DV i)
theorem fg_and_one (M : Int32) {v : Nat} (hv : v < 32) : (M &&& ((1 : Int32) <<< (nI v &&& 31))) = 0 ↔ bt M v = false := by
  constructor
  · intro h
    have e := congrArg (fun x => bt x v) h
    have e' : bt (M &&& ((1 : Int32) <<< (nI v &&& 31))) v = bt 0 v := e
    rw [b_and, fg_jone hv hv, decide_eq_true rfl, Bool.and_true, b_0] at e'
    exact e'
  · intro h
    apply b_ext
    intro j hj
    rw [b_and, fg_jone hv hj, b_0]
    by_cases z : j = v
    · rw [z, h]; rfl
    · rw [decide_eq_false z, Bool.and_false]
theorem fg_nneg {M : Int32} (h : bt M 31 = false) : ¬ M < 0 := by
  rw [Int32.lt_iff_toInt_lt, show (0 : Int32).toInt = 0 from by decide]
  have e : M.toBitVec.msb = false := by rw [BitVec.msb_eq_getLsbD_last]; exact h
  have h2 : M.toBitVec.msb = decide (M.toBitVec.toInt < 0) := BitVec.msb_eq_toInt
  rw [e] at h2
  have h3 := of_decide_eq_false h2.symm
  exact h3
theorem fg_vb0 {DK DV : Nat → Nat} : fg_vb DK DV 0 0 := by
  intro v hv
  rw [b_0]
  exact ⟨(fun h => nomatch h), fun ⟨j, hj, _⟩ => absurd hj (Nat.not_lt_zero _)⟩
theorem fg_vb_s {DK DV : Nat → Nat} {i : Nat} {M : Int32} (h : fg_vb DK DV i M) (hk : DK i ≠ 1) : fg_vb DK DV (i + 1) M := by
  intro v hv
  rw [h v hv]
  constructor
  · rintro ⟨j, a, b⟩
    exact ⟨j, by omega, b⟩
  · rintro ⟨j, a, b, c⟩
    refine ⟨j, ?_, b, c⟩
    rcases Nat.lt_or_ge j i with z | z
    · exact z
    · rw [show j = i by omega] at b; exact absurd b hk
theorem fg_vb_o {DK DV : Nat → Nat} {i : Nat} {M : Int32} (h : fg_vb DK DV i M) (hk : DK i = 1) (hv : DV i < 32) : fg_vb DK DV (i + 1) (M ||| ((1 : Int32) <<< (nI (DV i) &&& 31))) := by
  intro v hv'
  rw [b_or, fg_jone hv hv', Bool.or_eq_true, h v hv', decide_eq_true_eq]
  constructor
  · rintro (⟨j, a, b⟩ | e)
    · exact ⟨j, by omega, b⟩
    · exact ⟨i, by omega, hk, e.symm⟩
  · rintro ⟨j, a, b, c⟩
    rcases Nat.lt_or_ge j i with z | z
    · exact Or.inl ⟨j, z, b, c⟩
    · rw [show j = i by omega] at c; exact Or.inr c.symm
section
variable {x_cons x_drafted x_given x_cells x_calls x_opened x_held x_steps x_outcome x_culprit x_size x_kinds : Int32} {x_arity x_dKind x_dValue x_behind x_pKind x_pValue x_pBehind x_rKind x_rValue x_pLength x_rLength x_rows x_path x_argument x_cCon x_cFirst x_cSecond x_cSize x_table x_learnt x_pile x_callRow x_callAt x_callOpen x_bound x_openToken x_lacks x_output x_kSize x_counted x_openSize x_values : Nat → Int32} {x_sets x_kSet x_kMany x_kList x_counts x_firstOpen : Nat → Int64}
variable {g : fg_C} {nd e : Nat} {DK DV be : Nat → Nat}
theorem fg_xvars {post : Int32 → Prop} {dk dw : Nat → Int32} (hD : fg_Dr g nd DK DV x_dKind x_dValue dk dw) (he : e ≤ nd) (hbe : ∀ i, i < e → x_behind i = nI (be i) ∧ i < be i ∧ be i ≤ e)
    (hb : ¬ fg_VR DK DV be e → post (-1)) (hg : fg_VR DK DV be e → ∀ M, fg_vb DK DV e M → post M) : wpX_variables post (x_cons, x_drafted, x_given, x_cells, x_calls, x_opened, x_held, x_steps, x_outcome, x_culprit, x_size, x_kinds, x_arity, x_dKind, x_dValue, x_behind, x_pKind, x_pValue, x_pBehind, x_rKind, x_rValue, x_pLength, x_rLength, x_rows, x_path, x_argument, x_cCon, x_cFirst, x_cSecond, x_cSize, x_table, x_sets, x_learnt, x_pile, x_callRow, x_callAt, x_callOpen, x_bound, x_openToken, x_lacks, x_output, x_kSize, x_kSet, x_kMany, x_kList, x_counts, x_counted, x_firstOpen, x_openSize, x_values) (nI e) := by
  obtain ⟨hd40, hD⟩ := hD
  have key : ∀ (d i ins : Nat) (M : Int32), i + d = e → fg_VR DK DV be i → (∀ a, a < i → (DK a = 3 ∨ DK a = 4) → be a ≤ ins) → (ins = 0 ∨ ∃ a, a < i ∧ (DK a = 3 ∨ DK a = 4) ∧ be a = ins) → fg_vb DK DV i M → wX_variables_7 post (nI e) x_cons x_drafted x_given x_cells x_calls x_opened x_held x_steps x_outcome x_culprit x_size x_kinds x_arity x_dKind x_dValue x_behind x_pKind x_pValue x_pBehind x_rKind x_rValue x_pLength x_rLength x_rows x_path x_argument x_cCon x_cFirst x_cSecond x_cSize x_table x_sets x_learnt x_pile x_callRow x_callAt x_callOpen x_bound x_openToken x_lacks x_output x_kSize x_kSet x_kMany x_kList x_counts x_counted x_firstOpen x_openSize x_values (d + 1) M (nI ins) (nI i) := by
    intro d
    induction d with
    | zero =>
      intro i ins M hd hV _ _ hM
      have : i = e := by omega
      subst this
      exact br_t (nI_le (Nat.le_refl _) (by omega)) (hg hV M hM)
    | succ d ih =>
      intro i ins M hd hV h1 h2 hM
      have hi : i < e := by omega
      have hins : ins ≤ 40 := by
        rcases h2 with z | ⟨a, a1, a2, a3⟩
        · omega
        · have := (hbe a (by omega)).2.2; omega
      have vi : vp_in (nI i) 40 := vp_in_nI (by omega) (by decide)
      have vi' : vp_in (nI i) 41 := vp_in_nI (by omega) (by decide)
      have ci : (nI i).toNatClampNeg = i := nI_clamp (by omega)
      obtain ⟨d1, d2, d3, d4, d5, d6, d7⟩ := hD i (by omega)
      obtain ⟨b1, b2, b3⟩ := hbe i hi
      refine br_f (nI_ge hi (by omega)) (And.intro vi ?_)
      rw [ci]
      refine nm_r d3 (And.intro vi (nm_r (e' := (1 : Int32) <<< (nI (DV i) &&& 31)) (by rw [d5]) ?_))
      -- what comes behind the checks
      have rest : DK i ≠ 5 → ∀ M', fg_vb DK DV (i + 1) M' → (DK i = 1 → (∀ a, a < i → DK a = 1 → DV a ≠ DV i) ∧ ins ≤ i) → wX_variables_71 post (wX_variables_7 post (nI e) x_cons x_drafted x_given x_cells x_calls x_opened x_held x_steps x_outcome x_culprit x_size x_kinds x_arity x_dKind x_dValue x_behind x_pKind x_pValue x_pBehind x_rKind x_rValue x_pLength x_rLength x_rows x_path x_argument x_cCon x_cFirst x_cSecond x_cSize x_table x_sets x_learnt x_pile x_callRow x_callAt x_callOpen x_bound x_openToken x_lacks x_output x_kSize x_kSet x_kMany x_kList x_counts x_counted x_firstOpen x_openSize x_values (d + 1)) (nI e) M' (nI ins) (nI i) (nI (DK i)) x_cons x_drafted x_given x_cells x_calls x_opened x_held x_steps x_outcome x_culprit x_size x_kinds x_arity x_dKind x_dValue x_behind x_pKind x_pValue x_pBehind x_rKind x_rValue x_pLength x_rLength x_rows x_path x_argument x_cCon x_cFirst x_cSecond x_cSize x_table x_sets x_learnt x_pile x_callRow x_callAt x_callOpen x_bound x_openToken x_lacks x_output x_kSize x_kSet x_kMany x_kList x_counts x_counted x_firstOpen x_openSize x_values := by
        intro h5 M' hM' hv
        have hV' : fg_VR DK DV be (i + 1) := by
          refine ⟨fun j hj => ?_, fun a j p1 p2 p3 p4 => ?_, fun a j h3 h4 h5 h6 h7 => ?_⟩
          · rcases Nat.lt_or_ge j i with z | z
            · exact hV.1 j z
            · rw [show j = i by omega]; exact h5
          · rcases Nat.lt_or_ge j i with z | z
            · exact hV.2.1 a j p1 z p3 p4
            · have : j = i := by omega
              subst this
              exact (hv p4).1 a p1 p3
          · rcases Nat.lt_or_ge j i with z | z
            · exact hV.2.2 a j h3 h4 h5 z h7
            · have : j = i := by omega
              subst this
              have := (hv h7).2
              have := h1 a h4 h3
              omega
        have go : ∀ ins', ins ≤ ins' → ((DK i = 3 ∨ DK i = 4) → be i ≤ ins') → (ins' = ins ∨ ((DK i = 3 ∨ DK i = 4) ∧ ins' = be i)) → wX_variables_7 post (nI e) x_cons x_drafted x_given x_cells x_calls x_opened x_held x_steps x_outcome x_culprit x_size x_kinds x_arity x_dKind x_dValue x_behind x_pKind x_pValue x_pBehind x_rKind x_rValue x_pLength x_rLength x_rows x_path x_argument x_cCon x_cFirst x_cSecond x_cSize x_table x_sets x_learnt x_pile x_callRow x_callAt x_callOpen x_bound x_openToken x_lacks x_output x_kSize x_kSet x_kMany x_kList x_counts x_counted x_firstOpen x_openSize x_values (d + 1) M' (nI ins') (nI (i + 1)) := by
          intro ins' g1 g2 g3
          refine ih (i + 1) ins' M' (by omega) hV' (fun a ha hn => ?_) ?_ hM'
          · rcases Nat.lt_or_ge a i with z | z
            · have := h1 a z hn; omega
            · have : a = i := by omega
              subst this
              exact g2 hn
          · rcases g3 with g3 | ⟨g3, g4⟩
            · rw [g3]
              rcases h2 with z | ⟨a, a1, a2, a3⟩
              · exact Or.inl z
              · exact Or.inr ⟨a, by omega, a2, a3⟩
            · exact Or.inr ⟨i, by omega, g3, g4.symm⟩
        have w83 : (DK i = 3 ∨ DK i = 4) → wX_variables_83 post (wX_variables_7 post (nI e) x_cons x_drafted x_given x_cells x_calls x_opened x_held x_steps x_outcome x_culprit x_size x_kinds x_arity x_dKind x_dValue x_behind x_pKind x_pValue x_pBehind x_rKind x_rValue x_pLength x_rLength x_rows x_path x_argument x_cCon x_cFirst x_cSecond x_cSize x_table x_sets x_learnt x_pile x_callRow x_callAt x_callOpen x_bound x_openToken x_lacks x_output x_kSize x_kSet x_kMany x_kList x_counts x_counted x_firstOpen x_openSize x_values (d + 1)) (nI e) M' (nI ins) (nI i) x_cons x_drafted x_given x_cells x_calls x_opened x_held x_steps x_outcome x_culprit x_size x_kinds x_arity x_dKind x_dValue x_behind x_pKind x_pValue x_pBehind x_rKind x_rValue x_pLength x_rLength x_rows x_path x_argument x_cCon x_cFirst x_cSecond x_cSize x_table x_sets x_learnt x_pile x_callRow x_callAt x_callOpen x_bound x_openToken x_lacks x_output x_kSize x_kSet x_kMany x_kList x_counts x_counted x_firstOpen x_openSize x_values := by
          intro hn
          unfold wX_variables_83
          rw [ci, b1]
          refine And.intro vi' ?_
          refine pk_le (be i) ins (fun z => ?_) (fun z => ?_)
          · exact nm_r (nI_1 i) (go ins (Nat.le_refl _) (fun _ => z) (Or.inl rfl))
          · exact And.intro vi' (nm_e (nm_r (nI_1 i) (go (be i) (by omega) (fun _ => Nat.le_refl _) (Or.inr ⟨hn, rfl⟩))))
        unfold wX_variables_71
        refine pk_eq (DK i) 3 (fun z => w83 (Or.inl z)) (fun z3 => ?_)
        refine pk_eq (DK i) 4 (fun z => w83 (Or.inr z)) (fun z4 => ?_)
        exact nm_r (nI_1 i) (go ins (Nat.le_refl _) (fun z => by omega) (Or.inl rfl))
      refine pk_eq (DK i) 5 (fun z => hb (fun q => q.1 i hi z)) (fun z5 => ?_)
      refine pk_eq (DK i) 1 (fun z1 => ?_) (fun z1 => ?_)
      · refine pk_lt i ins (fun z => hb (fun q => ?_)) (fun z => ?_)
        · rcases h2 with y | ⟨a, a1, a2, a3⟩
          · omega
          · exact q.2.2 a i a2 a1 (by omega) hi z1
        · refine ek_if (fg_and_one M (by omega)) (fun hz => ?_) (fun hz => hb (fun q => ?_))
          · unfold wX_variables_60
            refine br_t (by rw [z1]; rfl) (nm_e ?_)
            refine rest z5 _ (fg_vb_o hM z1 (by omega)) (fun _ => ⟨fun a ha hk hv => ?_, z⟩)
            have := (hM (DV i) (by omega)).mpr ⟨a, ha, hk, hv⟩
            rw [hz] at this
            exact nomatch this
          · obtain ⟨j, j1, j2, j3⟩ := (hM (DV i) (by omega)).mp (ts_nf hz)
            exact q.2.1 j i j1 hi j2 z1 j3
      · unfold wX_variables_60
        refine br_f (by rw [show (1 : Int32) = nI 1 from rfl, nI_eq (by omega) (by decide)]; exact z1) ?_
        exact rest z5 M (fg_vb_s hM z1) (fun q => absurd q z1)
  refine ⟨e + 1, key e 0 0 0 (by omega) ⟨fun i hi => absurd hi (Nat.not_lt_zero _), fun i j _ hj => absurd hj (Nat.not_lt_zero _), fun i j _ _ _ hj => absurd hj (Nat.not_lt_zero _)⟩ (fun a ha => absurd ha (Nat.not_lt_zero _)) (Or.inl rfl) fg_vb0⟩
theorem fg_xres {post : Int32 → Prop} {dk dw : Nat → Int32} {M : Int32} (hD : fg_Dr g nd DK DV x_dKind x_dValue dk dw) (he : e ≤ nd) (hM : fg_vb DK DV e M)
    (hb : ¬ fg_RS DK DV e nd → post 0) (hg : fg_RS DK DV e nd → post 1) : wpX_isResult post (x_cons, nI nd, x_given, x_cells, x_calls, x_opened, x_held, x_steps, x_outcome, x_culprit, x_size, x_kinds, x_arity, x_dKind, x_dValue, x_behind, x_pKind, x_pValue, x_pBehind, x_rKind, x_rValue, x_pLength, x_rLength, x_rows, x_path, x_argument, x_cCon, x_cFirst, x_cSecond, x_cSize, x_table, x_sets, x_learnt, x_pile, x_callRow, x_callAt, x_callOpen, x_bound, x_openToken, x_lacks, x_output, x_kSize, x_kSet, x_kMany, x_kList, x_counts, x_counted, x_firstOpen, x_openSize, x_values) (nI e) M := by
  obtain ⟨hd40, hD⟩ := hD
  have key : ∀ (d i : Nat), i + d = nd → e ≤ i → (∀ j, e ≤ j → j < i → DK j = 2 ∨ DK j = 5 ∨ (DK j = 1 ∧ ∃ q, q < e ∧ DK q = 1 ∧ DV q = DV j)) → wX_isResult_2 post M x_cons (nI nd) x_given x_cells x_calls x_opened x_held x_steps x_outcome x_culprit x_size x_kinds x_arity x_dKind x_dValue x_behind x_pKind x_pValue x_pBehind x_rKind x_rValue x_pLength x_rLength x_rows x_path x_argument x_cCon x_cFirst x_cSecond x_cSize x_table x_sets x_learnt x_pile x_callRow x_callAt x_callOpen x_bound x_openToken x_lacks x_output x_kSize x_kSet x_kMany x_kList x_counts x_counted x_firstOpen x_openSize x_values (d + 1) (nI i) := by
    intro d
    induction d with
    | zero =>
      intro i hd hi h
      exact br_t (nI_le (by omega) (by omega)) (hg (fun j h1 h2 => h j h1 (by omega)))
    | succ d ih =>
      intro i hd hi h
      have vi : vp_in (nI i) 40 := vp_in_nI (by omega) (by decide)
      have ci : (nI i).toNatClampNeg = i := nI_clamp (by omega)
      obtain ⟨d1, d2, d3, d4, d5, d6, d7⟩ := hD i (by omega)
      refine br_f (nI_ge (by omega) (by omega)) (And.intro vi ?_)
      rw [ci]
      refine nm_r d3 ?_
      have w50 : (DK i = 2 ∨ DK i = 5 ∨ (DK i = 1 ∧ ∃ q, q < e ∧ DK q = 1 ∧ DV q = DV i)) → wX_isResult_50 post (wX_isResult_2 post M x_cons (nI nd) x_given x_cells x_calls x_opened x_held x_steps x_outcome x_culprit x_size x_kinds x_arity x_dKind x_dValue x_behind x_pKind x_pValue x_pBehind x_rKind x_rValue x_pLength x_rLength x_rows x_path x_argument x_cCon x_cFirst x_cSecond x_cSize x_table x_sets x_learnt x_pile x_callRow x_callAt x_callOpen x_bound x_openToken x_lacks x_output x_kSize x_kSet x_kMany x_kList x_counts x_counted x_firstOpen x_openSize x_values (d + 1)) M (nI i) x_cons (nI nd) x_given x_cells x_calls x_opened x_held x_steps x_outcome x_culprit x_size x_kinds x_arity x_dKind x_dValue x_behind x_pKind x_pValue x_pBehind x_rKind x_rValue x_pLength x_rLength x_rows x_path x_argument x_cCon x_cFirst x_cSecond x_cSize x_table x_sets x_learnt x_pile x_callRow x_callAt x_callOpen x_bound x_openToken x_lacks x_output x_kSize x_kSet x_kMany x_kList x_counts x_counted x_firstOpen x_openSize x_values := by
        intro hq
        unfold wX_isResult_50 wX_isResult_55
        refine br_f (by decide) (nm_r (nI_1 i) (ih (i + 1) (by omega) (by omega) (fun j h1 h2 => ?_)))
        rcases Nat.lt_or_ge j i with z | z
        · exact h j h1 z
        · rw [show j = i by omega]; exact hq
      have w54 : ¬ (DK i = 2 ∨ DK i = 5 ∨ (DK i = 1 ∧ ∃ q, q < e ∧ DK q = 1 ∧ DV q = DV i)) → wX_isResult_54 post (wX_isResult_2 post M x_cons (nI nd) x_given x_cells x_calls x_opened x_held x_steps x_outcome x_culprit x_size x_kinds x_arity x_dKind x_dValue x_behind x_pKind x_pValue x_pBehind x_rKind x_rValue x_pLength x_rLength x_rows x_path x_argument x_cCon x_cFirst x_cSecond x_cSize x_table x_sets x_learnt x_pile x_callRow x_callAt x_callOpen x_bound x_openToken x_lacks x_output x_kSize x_kSet x_kMany x_kList x_counts x_counted x_firstOpen x_openSize x_values (d + 1)) M (nI i) x_cons (nI nd) x_given x_cells x_calls x_opened x_held x_steps x_outcome x_culprit x_size x_kinds x_arity x_dKind x_dValue x_behind x_pKind x_pValue x_pBehind x_rKind x_rValue x_pLength x_rLength x_rows x_path x_argument x_cCon x_cFirst x_cSecond x_cSize x_table x_sets x_learnt x_pile x_callRow x_callAt x_callOpen x_bound x_openToken x_lacks x_output x_kSize x_kSet x_kMany x_kList x_counts x_counted x_firstOpen x_openSize x_values := by
        intro hq
        unfold wX_isResult_54 wX_isResult_55
        exact br_t rfl (hb (fun q => hq (q i hi (by omega))))
      refine pk_eq (DK i) 2 (fun z => w50 (Or.inl z)) (fun z2 => ?_)
      refine pk_eq (DK i) 5 (fun z => w50 (Or.inr (Or.inl z))) (fun z5 => ?_)
      refine pk_eq (DK i) 1 (fun z1 => ?_) (fun z1 => ?_)
      · refine And.intro vi ?_
        rw [d5]
        refine ek_if (fg_jts1 M (by omega)) (fun hz => ?_) (fun hz => ?_)
        · exact w50 (Or.inr (Or.inr ⟨z1, (hM (DV i) (by omega)).mp hz⟩))
        · refine w54 (fun q => ?_)
          rcases q with q | q | ⟨-, q⟩
          · exact z2 q
          · exact z5 q
          · exact hz ((hM (DV i) (by omega)).mpr q)
      · refine w54 (fun q => ?_)
        rcases q with q | q | ⟨q, -⟩
        · exact z2 q
        · exact z5 q
        · exact z1 q
  exact ⟨_, key (nd - e) e (by omega) (Nat.le_refl _) (fun j h1 h2 => by omega)⟩
end
section
variable {y_cons y_drafted y_nodes y_length y_argumentLength y_givenLength y_steps y_blamed y_how y_ran y_working : Int32} {y_arity y_draftKind y_draftWith y_kind y_with y_patternLength y_resultLength y_rows y_head y_left y_right y_size y_list y_stack y_starts y_argument y_given y_fits y_ends y_places y_bound y_workKind y_workWith y_owner y_counts y_openSize y_open y_known : Nat → Int32}
variable {g : fg_C} {nd e : Nat} {DK DV be : Nat → Nat}
theorem fg_yvars {post : Int32 → Prop} {xk xv : Nat → Int32} (hW : fg_WF g) (ha : ∀ c, y_arity c = nI (fg_ar g c)) (hD : fg_Dr g nd DK DV xk xv y_draftKind y_draftWith) (he : e ≤ nd) (hbe : ∀ i, i < e → fg_G (fg_op (fg_ar g) DK DV) nd 1 i = some (be i) ∧ i < be i ∧ be i ≤ e)
    (hb : ¬ fg_VR DK DV be e → post (-1)) (hg : fg_VR DK DV be e → ∀ M, fg_vb DK DV e M → post M) : wpY_varsOf post (y_cons, nI nd, y_nodes, y_length, y_argumentLength, y_givenLength, y_steps, y_blamed, y_how, y_ran, y_working, y_arity, y_draftKind, y_draftWith, y_kind, y_with, y_patternLength, y_resultLength, y_rows, y_head, y_left, y_right, y_size, y_list, y_stack, y_starts, y_argument, y_given, y_fits, y_ends, y_places, y_bound, y_workKind, y_workWith, y_owner, y_counts, y_openSize, y_open, y_known) (nI e) := by
  have hD' := hD
  obtain ⟨hd40, hD⟩ := hD
  have key : ∀ (d i : Nat) (M : Int32), i + d = e → (∀ j, j < i → DK j ≠ 5) → (∀ a j, a < j → j < i → DK a = 1 → DK j = 1 → DV a ≠ DV j) → (∀ a j, (DK a = 3 ∨ DK a = 4) → a < i → a < j → j < be a → DK j ≠ 1) → fg_vb DK DV i M → wY_varsOf_4 post (nI e) y_cons (nI nd) y_nodes y_length y_argumentLength y_givenLength y_steps y_blamed y_how y_ran y_working y_arity y_draftKind y_draftWith y_kind y_with y_patternLength y_resultLength y_rows y_head y_left y_right y_size y_list y_stack y_starts y_argument y_given y_fits y_ends y_places y_bound y_workKind y_workWith y_owner y_counts y_openSize y_open y_known (d + 1) M (nI i) := by
    intro d
    induction d with
    | zero =>
      intro i M hd h1 h2 h3 hM
      have : i = e := by omega
      subst this
      exact br_t (nI_le (Nat.le_refl _) (by omega)) (hg ⟨h1, h2, fun a j ho hj hj' hji => h3 a j ho (by omega) hj hj'⟩ M hM)
    | succ d ih =>
      intro i M hd h1 h2 h3 hM
      have hi : i < e := by omega
      have vi : vp_in (nI i) 40 := vp_in_nI (by omega) (by decide)
      have ci : (nI i).toNatClampNeg = i := nI_clamp (by omega)
      obtain ⟨d1, d2, d3, d4, d5, d6, d7⟩ := hD i (by omega)
      obtain ⟨b1, b2, b3⟩ := hbe i hi
      refine br_f (nI_ge hi (by omega)) (And.intro vi ?_)
      rw [ci]
      refine nm_r d4 ?_
      have rest : DK i ≠ 5 → ∀ M', fg_vb DK DV (i + 1) M' → (DK i = 1 → ∀ a, a < i → DK a = 1 → DV a ≠ DV i) → wY_varsOf_64 post (wY_varsOf_4 post (nI e) y_cons (nI nd) y_nodes y_length y_argumentLength y_givenLength y_steps y_blamed y_how y_ran y_working y_arity y_draftKind y_draftWith y_kind y_with y_patternLength y_resultLength y_rows y_head y_left y_right y_size y_list y_stack y_starts y_argument y_given y_fits y_ends y_places y_bound y_workKind y_workWith y_owner y_counts y_openSize y_open y_known (d + 1)) (nI e) M' (nI i) (nI (DK i)) y_cons (nI nd) y_nodes y_length y_argumentLength y_givenLength y_steps y_blamed y_how y_ran y_working y_arity y_draftKind y_draftWith y_kind y_with y_patternLength y_resultLength y_rows y_head y_left y_right y_size y_list y_stack y_starts y_argument y_given y_fits y_ends y_places y_bound y_workKind y_workWith y_owner y_counts y_openSize y_open y_known := by
        intro h5 M' hM' hv
        have go : ((DK i = 3 ∨ DK i = 4) → ∀ j, i < j → j < be i → DK j ≠ 1) → wY_varsOf_4 post (nI e) y_cons (nI nd) y_nodes y_length y_argumentLength y_givenLength y_steps y_blamed y_how y_ran y_working y_arity y_draftKind y_draftWith y_kind y_with y_patternLength y_resultLength y_rows y_head y_left y_right y_size y_list y_stack y_starts y_argument y_given y_fits y_ends y_places y_bound y_workKind y_workWith y_owner y_counts y_openSize y_open y_known (d + 1) M' (nI (i + 1)) := by
          intro hs
          refine ih (i + 1) M' (by omega) (fun j hj => ?_) (fun a j g1 g2 g3 g4 => ?_) (fun a j ho g1 g2 g3 => ?_) hM'
          · rcases Nat.lt_or_ge j i with z | z
            · exact h1 j z
            · rw [show j = i by omega]; exact h5
          · rcases Nat.lt_or_ge j i with z | z
            · exact h2 a j g1 z g3 g4
            · have : j = i := by omega
              subst this
              exact hv g4 a g1 g3
          · rcases Nat.lt_or_ge a i with z | z
            · exact h3 a j ho z g2 g3
            · have : a = i := by omega
              subst this
              exact hs ho j g2 g3
        have w79 : (DK i = 3 ∨ DK i = 4) → wY_varsOf_79 post (wY_varsOf_4 post (nI e) y_cons (nI nd) y_nodes y_length y_argumentLength y_givenLength y_steps y_blamed y_how y_ran y_working y_arity y_draftKind y_draftWith y_kind y_with y_patternLength y_resultLength y_rows y_head y_left y_right y_size y_list y_stack y_starts y_argument y_given y_fits y_ends y_places y_bound y_workKind y_workWith y_owner y_counts y_openSize y_open y_known (d + 1)) (nI e) M' (nI i) y_cons (nI nd) y_nodes y_length y_argumentLength y_givenLength y_steps y_blamed y_how y_ran y_working y_arity y_draftKind y_draftWith y_kind y_with y_patternLength y_resultLength y_rows y_head y_left y_right y_size y_list y_stack y_starts y_argument y_given y_fits y_ends y_places y_bound y_workKind y_workWith y_owner y_counts y_openSize y_open y_known := by
          intro hn
          unfold wY_varsOf_79
          refine fg_yend hW ha hD' (by omega) ?_
          rw [b1]
          have scan : ∀ (q j : Nat), j + q = be i → i ≤ j → (∀ z, i < z → z < j → DK z ≠ 1) → wY_varsOf_89 post (wY_varsOf_4 post (nI e) y_cons (nI nd) y_nodes y_length y_argumentLength y_givenLength y_steps y_blamed y_how y_ran y_working y_arity y_draftKind y_draftWith y_kind y_with y_patternLength y_resultLength y_rows y_head y_left y_right y_size y_list y_stack y_starts y_argument y_given y_fits y_ends y_places y_bound y_workKind y_workWith y_owner y_counts y_openSize y_open y_known (d + 1)) (nI e) M' (nI i) (nI (be i)) y_cons (nI nd) y_nodes y_length y_argumentLength y_givenLength y_steps y_blamed y_how y_ran y_working y_arity y_draftKind y_draftWith y_kind y_with y_patternLength y_resultLength y_rows y_head y_left y_right y_size y_list y_stack y_starts y_argument y_given y_fits y_ends y_places y_bound y_workKind y_workWith y_owner y_counts y_openSize y_open y_known (q + 1) (nI j) := by
            intro q
            induction q with
            | zero =>
              intro j hq hj h
              exact br_t (nI_le (by omega) (by omega)) (nm_r (nI_1 i) (go (fun _ z z1 z2 => h z z1 (by omega))))
            | succ q ihq =>
              intro j hq hj h
              obtain ⟨f1, f2, f3, f4, f5, f6, f7⟩ := hD j (by omega)
              refine br_f (nI_ge (by omega) (by omega)) (And.intro (vp_in_nI (by omega) (by decide)) ?_)
              rw [nI_clamp (by omega), f4]
              refine pk_eq (DK j) 1 (fun z => hb (fun w => ?_)) (fun z => ?_)
              · have hne : j ≠ i := fun y => by rw [y] at z; omega
                exact w.2.2 i j hn (by omega) (by omega) (by omega) z
              · refine nm_r (nI_1 j) (ihq (j + 1) (by omega) (by omega) (fun x x1 x2 => ?_))
                rcases Nat.lt_or_ge x j with y | y
                · exact h x x1 y
                · rw [show x = j by omega]; exact z
          exact ⟨_, scan (be i - i) i (by omega) (Nat.le_refl _) (fun z z1 z2 => by omega)⟩
        unfold wY_varsOf_64
        refine pk_eq (DK i) 3 (fun z => w79 (Or.inl z)) (fun z3 => ?_)
        refine pk_eq (DK i) 4 (fun z => w79 (Or.inr z)) (fun z4 => ?_)
        exact nm_r (nI_1 i) (go (fun z => by omega))
      refine pk_eq (DK i) 5 (fun z => hb (fun q => q.1 i hi z)) (fun z5 => ?_)
      refine pk_eq (DK i) 1 (fun z1 => ?_) (fun z1 => ?_)
      · refine And.intro vi ?_
        have ew := (d6 (Or.inl z1)).2
        rw [ew]
        refine ek_if (fg_jts1 M (by omega)) (fun hz => hb (fun q => ?_)) (fun hz => ?_)
        · obtain ⟨j, j1, j2, j3⟩ := (hM (DV i) (by omega)).mp hz
          exact q.2.1 j i j1 hi j2 z1 j3
        · unfold wY_varsOf_47
          refine br_t (by rw [z1]; rfl) (And.intro vi ?_)
          rw [ci, ew]
          refine nm_e (rest z5 _ (fg_vb_o hM z1 (by omega)) (fun _ a ha' hk hv => ?_))
          exact hz ((hM (DV i) (by omega)).mpr ⟨a, ha', hk, hv⟩)
      · unfold wY_varsOf_47
        refine br_f (by rw [show (1 : Int32) = nI 1 from rfl, nI_eq (by omega) (by decide)]; exact z1) ?_
        exact rest z5 M (fg_vb_s hM z1) (fun q => absurd q z1)
  refine ⟨e + 1, key e 0 0 (by omega) (fun i hi => absurd hi (Nat.not_lt_zero _)) (fun i j _ hj => absurd hj (Nat.not_lt_zero _)) (fun a j _ h => absurd h (Nat.not_lt_zero _)) fg_vb0⟩
theorem fg_yres {post : Int32 → Prop} {xk xv : Nat → Int32} {M : Int32} (hD : fg_Dr g nd DK DV xk xv y_draftKind y_draftWith) (he : e ≤ nd) (hM : fg_vb DK DV e M)
    (hb : ¬ fg_RS DK DV e nd → post 0) (hg : fg_RS DK DV e nd → post 1) : wpY_isResult post (y_cons, nI nd, y_nodes, y_length, y_argumentLength, y_givenLength, y_steps, y_blamed, y_how, y_ran, y_working, y_arity, y_draftKind, y_draftWith, y_kind, y_with, y_patternLength, y_resultLength, y_rows, y_head, y_left, y_right, y_size, y_list, y_stack, y_starts, y_argument, y_given, y_fits, y_ends, y_places, y_bound, y_workKind, y_workWith, y_owner, y_counts, y_openSize, y_open, y_known) (nI e) M := by
  obtain ⟨hd40, hD⟩ := hD
  have key : ∀ (d i : Nat), i + d = nd → e ≤ i → (∀ j, e ≤ j → j < i → DK j = 2 ∨ DK j = 5 ∨ (DK j = 1 ∧ ∃ q, q < e ∧ DK q = 1 ∧ DV q = DV j)) → wY_isResult_2 post M y_cons (nI nd) y_nodes y_length y_argumentLength y_givenLength y_steps y_blamed y_how y_ran y_working y_arity y_draftKind y_draftWith y_kind y_with y_patternLength y_resultLength y_rows y_head y_left y_right y_size y_list y_stack y_starts y_argument y_given y_fits y_ends y_places y_bound y_workKind y_workWith y_owner y_counts y_openSize y_open y_known (d + 1) (nI i) := by
    intro d
    induction d with
    | zero =>
      intro i hd hi h
      exact br_t (nI_le (by omega) (by omega)) (hg (fun j h1 h2 => h j h1 (by omega)))
    | succ d ih =>
      intro i hd hi h
      have vi : vp_in (nI i) 40 := vp_in_nI (by omega) (by decide)
      have ci : (nI i).toNatClampNeg = i := nI_clamp (by omega)
      obtain ⟨d1, d2, d3, d4, d5, d6, d7⟩ := hD i (by omega)
      refine br_f (nI_ge (by omega) (by omega)) (And.intro vi ?_)
      rw [ci]
      refine nm_r d4 ?_
      have go : (DK i = 2 ∨ DK i = 5 ∨ (DK i = 1 ∧ ∃ q, q < e ∧ DK q = 1 ∧ DV q = DV i)) → wY_isResult_2 post M y_cons (nI nd) y_nodes y_length y_argumentLength y_givenLength y_steps y_blamed y_how y_ran y_working y_arity y_draftKind y_draftWith y_kind y_with y_patternLength y_resultLength y_rows y_head y_left y_right y_size y_list y_stack y_starts y_argument y_given y_fits y_ends y_places y_bound y_workKind y_workWith y_owner y_counts y_openSize y_open y_known (d + 1) (nI (i + 1)) := by
        intro hq
        refine ih (i + 1) (by omega) (by omega) (fun j h1 h2 => ?_)
        rcases Nat.lt_or_ge j i with z | z
        · exact h j h1 z
        · rw [show j = i by omega]; exact hq
      have no : ∀ z, DK i = z → z ≠ 2 → z ≠ 5 → z ≠ 1 → post 0 := by
        intro z hz z2 z5 z1
        refine hb (fun q => ?_)
        rcases q i hi (by omega) with q | q | ⟨q, -⟩ <;> omega
      refine pk_eq (DK i) 0 (fun z => no 0 z (by omega) (by omega) (by omega)) (fun z0 => ?_)
      refine pk_eq (DK i) 3 (fun z => no 3 z (by omega) (by omega) (by omega)) (fun z3 => ?_)
      refine pk_eq (DK i) 4 (fun z => no 4 z (by omega) (by omega) (by omega)) (fun z4 => ?_)
      refine pk_eq (DK i) 1 (fun z1 => ?_) (fun z1 => ?_)
      · refine And.intro vi ?_
        rw [(d6 (Or.inl z1)).2]
        refine ek_if (fg_jts0 M (by omega)) (fun hz => hb (fun q => ?_)) (fun hz => ?_)
        · rcases q i hi (by omega) with q | q | ⟨-, q⟩
          · omega
          · omega
          · rw [(hM (DV i) (by omega)).mpr q] at hz
            exact nomatch hz
        · exact nm_r (nI_1 i) (go (Or.inr (Or.inr ⟨z1, (hM (DV i) (by omega)).mp (ts_nf hz)⟩)))
      · exact nm_r (nI_1 i) (go (by omega))
  exact ⟨_, key (nd - e) e (by omega) (Nat.le_refl _) (fun j h1 h2 => by omega)⟩
end
end
section
/-! X: paths, keep -/
def fg_cf (s : Nat) (l : List Bool) : Nat := l.foldl (fun s b => 2 * s + (if b then 1 else 0)) s
theorem fg_cf_cons (s : Nat) (b : Bool) (l : List Bool) : fg_cf s (b :: l) = fg_cf (2 * s + (if b then 1 else 0)) l := rfl
theorem fg_cf_lt : ∀ (l : List Bool) (s k : Nat), s < 2 ^ k → fg_cf s l < 2 ^ (k + l.length)
  | [], s, k, h => h
  | b :: l, s, k, h => by
    rw [fg_cf_cons, List.length_cons, show k + (l.length + 1) = (k + 1) + l.length by omega]
    apply fg_cf_lt
    rw [Nat.pow_succ]
    split <;> omega
theorem fg_wk_len (be : Nat → Nat) (j : Nat) : ∀ n i, (fg_wk be j n i).length ≤ n
  | 0, i => Nat.le_refl _
  | n + 1, i => by
    simp only [fg_wk]
    split
    · split
      · have := fg_wk_len be j n (be (i + 1)); simp only [List.length_cons]; omega
      · have := fg_wk_len be j n (i + 1); simp only [List.length_cons]; omega
    · simp only [List.length_nil]; omega
theorem fg_cd_lt (be : Nat → Nat) (j : Nat) : fg_cd (fg_wk be j 12 0) < 8192 := by
  have h := fg_cf_lt (fg_wk be j 12 0) 1 1 (by decide)
  have hl := fg_wk_len be j 12 0
  have : 2 ^ (1 + (fg_wk be j 12 0).length) ≤ 2 ^ 13 := Nat.pow_le_pow_right (by decide) (by omega)
  exact Nat.lt_of_lt_of_le h this
section
variable {x_cons x_drafted x_given x_cells x_calls x_opened x_held x_steps x_outcome x_culprit x_size x_kinds : Int32} {x_arity x_dKind x_dValue x_behind x_pKind x_pValue x_pBehind x_rKind x_rValue x_pLength x_rLength x_rows x_path x_argument x_cCon x_cFirst x_cSecond x_cSize x_table x_learnt x_pile x_callRow x_callAt x_callOpen x_bound x_openToken x_lacks x_output x_kSize x_counted x_openSize x_values : Nat → Int32} {x_sets x_kSet x_kMany x_kList x_counts x_firstOpen : Nat → Int64}
variable {e : Nat} {be : Nat → Nat}
theorem fg_xpath {post : Int32 → Prop} {j : Nat} (he : e ≤ 12) (hbe : ∀ i, i < e → x_behind i = nI (be i) ∧ i < be i ∧ be i ≤ e) (hj : j < e) (hp : post (nI (fg_cd (fg_wk be j 12 0)))) : wpX_pathTo post (x_cons, x_drafted, x_given, x_cells, x_calls, x_opened, x_held, x_steps, x_outcome, x_culprit, x_size, x_kinds, x_arity, x_dKind, x_dValue, x_behind, x_pKind, x_pValue, x_pBehind, x_rKind, x_rValue, x_pLength, x_rLength, x_rows, x_path, x_argument, x_cCon, x_cFirst, x_cSecond, x_cSize, x_table, x_sets, x_learnt, x_pile, x_callRow, x_callAt, x_callOpen, x_bound, x_openToken, x_lacks, x_output, x_kSize, x_kSet, x_kMany, x_kList, x_counts, x_counted, x_firstOpen, x_openSize, x_values) (nI j) := by
  have key : ∀ (n i s m : Nat), j ≤ i + n → i ≤ j → n ≤ 12 → s < 2 ^ (13 - n) → n < m → post (nI (fg_cf s (fg_wk be j n i))) → wX_pathTo_4 post (nI j) x_cons x_drafted x_given x_cells x_calls x_opened x_held x_steps x_outcome x_culprit x_size x_kinds x_arity x_dKind x_dValue x_behind x_pKind x_pValue x_pBehind x_rKind x_rValue x_pLength x_rLength x_rows x_path x_argument x_cCon x_cFirst x_cSecond x_cSize x_table x_sets x_learnt x_pile x_callRow x_callAt x_callOpen x_bound x_openToken x_lacks x_output x_kSize x_kSet x_kMany x_kList x_counts x_counted x_firstOpen x_openSize x_values m (nI s) (nI i) := by
    intro n
    induction n with
    | zero =>
      intro i s m h1 h2 h3 h4 h5 hp
      obtain ⟨m, rfl⟩ : ∃ q, m = q + 1 := ⟨m - 1, by omega⟩
      exact br_t (nI_le (by omega) (by omega)) hp
    | succ n ih =>
      intro i s m h1 h2 h3 h4 h5 hp
      obtain ⟨m, rfl⟩ : ∃ q, m = q + 1 := ⟨m - 1, by omega⟩
      rw [fg_wk] at hp
      have hs : s < 8192 := Nat.lt_of_lt_of_le h4 (show 2 ^ (13 - (n + 1)) ≤ 2 ^ 13 from Nat.pow_le_pow_right (by decide) (by omega))
      have hs2 : 2 * s + 1 < 2 ^ (13 - n) := by
        rw [show 13 - n = (13 - (n + 1)) + 1 by omega, Nat.pow_succ]
        omega
      refine pk_le j i (fun z => ?_) (fun z => ?_) rfl rfl (by omega) (by omega)
      · rw [if_neg (by omega)] at hp
        exact hp
      · rw [if_pos z] at hp
        obtain ⟨b1, b2, b3⟩ := hbe (i + 1) (by omega)
        have v1 : vp_in (nI (i + 1)) 41 := vp_in_nI (by omega) (by decide)
        rw [nI_1, nI_clamp (by omega), b1]
        refine And.intro v1 ?_
        have e2 : (2 : Int32) * nI s = nI (2 * s) := fg_mulc 2 s
        refine pk_lt j (be (i + 1)) (fun y => ?_) (fun y => ?_) rfl rfl (by omega) (by omega)
        · rw [if_neg (by omega), fg_cf_cons, if_neg (by decide)] at hp
          unfold wX_pathTo_26
          refine br_t rfl ?_
          unfold wX_pathTo_41
          rw [e2]
          refine nm_r (e' := nI (2 * s + 0)) (nI_add _ 0) (br_t rfl (nm_r (nI_1 i) ?_))
          exact ih (i + 1) (2 * s + 0) m (by omega) (by omega) (by omega) (by omega) (by omega) hp
        · rw [if_pos y, fg_cf_cons, if_pos rfl] at hp
          unfold wX_pathTo_26
          refine br_f (by decide) ?_
          unfold wX_pathTo_41
          rw [e2]
          refine nm_r (e' := nI (2 * s + 1)) (nI_add _ 1) (br_f (by decide) ?_)
          rw [nI_1 i, nI_clamp (by omega), b1]
          refine And.intro v1 (nm_e ?_)
          exact ih (be (i + 1)) (2 * s + 1) m (by omega) (by omega) (by omega) (by omega) (by omega) hp
  exact ⟨13, key 12 0 1 13 (by omega) (by omega) (by decide) (by decide) (by decide) hp⟩
/-- cells of a row of 12 at R: the first n hold c, the others outside are as they were -/
def fg_rowA (a a' : Nat → Int32) (w R n : Nat) (c : Nat → Nat) : Prop := (∀ i, i < n → a' (w * R + i) = nI (c i)) ∧ (∀ j, (j < w * R ∨ w * R + w ≤ j) → a' j = a j)
theorem fg_rowA0 {a : Nat → Int32} {w R : Nat} {c : Nat → Nat} : fg_rowA a a w R 0 c := ⟨fun i hi => absurd hi (Nat.not_lt_zero _), fun _ _ => rfl⟩
theorem fg_rowAs {a a' : Nat → Int32} {w R n : Nat} {c : Nat → Nat} (h : fg_rowA a a' w R n c) (hn : n < w) : fg_rowA a (upd a' (w * R + n) (nI (c n))) w R (n + 1) c := by
  refine ⟨fun i hi => ?_, fun j hj => ?_⟩
  · by_cases z : i = n
    · rw [z, pk_us]
    · rw [pk_un (by omega)]; exact h.1 i (by omega)
  · rw [pk_un (by omega)]; exact h.2 j hj
variable {f r nd : Nat} {g : fg_C} {DK DV : Nat → Nat}
theorem fg_xkeep {post : SX → Prop} {dk dw : Nat → Int32} (hD : fg_Dr g nd DK DV x_dKind x_dValue dk dw) (hf : f < 4) (hr : r < 5) (hrow : x_rows f = nI r) (he1 : e < nd) (he : e ≤ 12) (hn : nd - e ≤ 12)
    (hbe : ∀ i, i < e → x_behind i = nI (be i) ∧ i < be i ∧ be i ≤ e) (hV : fg_VR DK DV be e)
    (hp : ∀ (pk pv pb rk rv pa : Nat → Int32), fg_rowA x_pKind pk 12 (5 * f + r) e DK → fg_rowA x_pValue pv 12 (5 * f + r) e DV → fg_rowA x_pBehind pb 12 (5 * f + r) e be →
      fg_rowA x_rKind rk 12 (5 * f + r) (nd - e) (fun i => DK (e + i)) → fg_rowA x_rValue rv 12 (5 * f + r) (nd - e) (fun i => DV (e + i)) →
      (∀ i, i < e → DK i = 1 → pa (4 * (5 * f + r) + DV i) = nI (fg_cd (fg_wk be i 12 0))) → (∀ v, v < 4 → (∀ i, i < e → DK i = 1 → DV i ≠ v) → pa (4 * (5 * f + r) + v) = 0) → (∀ j, (j < 4 * (5 * f + r) ∨ 4 * (5 * f + r) + 4 ≤ j) → pa j = x_path j) →
      post (x_cons, nI nd, x_given, x_cells, x_calls, x_opened, x_held, x_steps, x_outcome, x_culprit, x_size, x_kinds, x_arity, x_dKind, x_dValue, x_behind, pk, pv, pb, rk, rv, upd x_pLength (5 * f + r) (nI e), upd x_rLength (5 * f + r) (nI (nd - e)), upd x_rows f (nI (r + 1)), pa, x_argument, x_cCon, x_cFirst, x_cSecond, x_cSize, x_table, x_sets, x_learnt, x_pile, x_callRow, x_callAt, x_callOpen, x_bound, x_openToken, x_lacks, x_output, x_kSize, x_kSet, x_kMany, x_kList, x_counts, upd x_counted f 0, x_firstOpen, x_openSize, x_values)) :
    wpX_keep post (x_cons, nI nd, x_given, x_cells, x_calls, x_opened, x_held, x_steps, x_outcome, x_culprit, x_size, x_kinds, x_arity, x_dKind, x_dValue, x_behind, x_pKind, x_pValue, x_pBehind, x_rKind, x_rValue, x_pLength, x_rLength, x_rows, x_path, x_argument, x_cCon, x_cFirst, x_cSecond, x_cSize, x_table, x_sets, x_learnt, x_pile, x_callRow, x_callAt, x_callOpen, x_bound, x_openToken, x_lacks, x_output, x_kSize, x_kSet, x_kMany, x_kList, x_counts, x_counted, x_firstOpen, x_openSize, x_values) (nI f) (nI e) := by
  obtain ⟨hd40, hD⟩ := hD
  have vf : vp_in (nI f) 4 := vp_in_nI hf (by decide)
  have cf : (nI f).toNatClampNeg = f := nI_clamp (by omega)
  have e4 : ∀ v, ((20 : Int32) * nI f + 4 * nI r) + nI v = nI (4 * (5 * f + r) + v) := by
    intro v
    rw [show (20 : Int32) = nI 20 from rfl, show (4 : Int32) = nI 4 from rfl, fg_mulc, fg_mulc, nI_add, nI_add]
    exact congrArg nI (by omega)
  -- the result's tokens
  have l3 : ∀ (pk pv pb pa : Nat → Int32), fg_rowA x_pKind pk 12 (5 * f + r) e DK → fg_rowA x_pValue pv 12 (5 * f + r) e DV → fg_rowA x_pBehind pb 12 (5 * f + r) e be →
      (∀ i, i < e → DK i = 1 → pa (4 * (5 * f + r) + DV i) = nI (fg_cd (fg_wk be i 12 0))) → (∀ v, v < 4 → (∀ i, i < e → DK i = 1 → DV i ≠ v) → pa (4 * (5 * f + r) + v) = 0) → (∀ j, (j < 4 * (5 * f + r) ∨ 4 * (5 * f + r) + 4 ≤ j) → pa j = x_path j) →
      ∀ (d i : Nat) (rk rv : Nat → Int32), e + i + d = nd → fg_rowA x_rKind rk 12 (5 * f + r) i (fun i => DK (e + i)) → fg_rowA x_rValue rv 12 (5 * f + r) i (fun i => DV (e + i)) →
      wX_keep_193 post (nI f) (nI e) (nI (12 * (5 * f + r))) x_cons (nI nd) x_given x_cells x_calls x_opened x_held x_steps x_outcome x_culprit x_size x_kinds (d + 1) (nI (e + i)) x_arity x_dKind x_dValue x_behind pk pv pb rk rv (upd x_pLength (5 * f + r) (nI e)) (upd x_rLength (5 * f + r) (nI (nd - e))) (upd x_rows f (nI (r + 1))) pa x_argument x_cCon x_cFirst x_cSecond x_cSize x_table x_sets x_learnt x_pile x_callRow x_callAt x_callOpen x_bound x_openToken x_lacks x_output x_kSize x_kSet x_kMany x_kList x_counts x_counted x_firstOpen x_openSize x_values := by
    intro pk pv pb pa k1 k2 k3 k4 k5 k6 d
    induction d with
    | zero =>
      intro i rk rv hd h1 h2
      refine br_t (nI_le (by omega) (by omega)) (And.intro vf ?_)
      rw [cf]
      have ei : i = nd - e := by omega
      subst ei
      exact nm_e (hp pk pv pb rk rv pa k1 k2 k3 h1 h2 k4 k5 k6)
    | succ d ih =>
      intro i rk rv hd h1 h2
      have vi : vp_in (nI (e + i)) 40 := vp_in_nI (by omega) (by decide)
      obtain ⟨d1, d2, d3, d4, d5, d6, d7⟩ := hD (e + i) (by omega)
      have ex : nI (12 * (5 * f + r)) + nI (e + i) - nI e = nI (12 * (5 * f + r) + i) := by
        rw [nI_add, pk_sub (by omega)]
        exact congrArg nI (by omega)
      refine br_f (nI_ge (by omega) (by omega)) (And.intro vi ?_)
      rw [ex, nI_clamp (by omega), nI_clamp (by omega), d3, d5, fg_v8 (by omega), fg_v8 (by omega)]
      have v2 : vp_in (nI (12 * (5 * f + r) + i)) 240 := vp_in_nI (by omega) (by decide)
      refine And.intro v2 (nm_e (And.intro vi (And.intro v2 (nm_e (nm_r (nI_1 (e + i)) ?_)))))
      exact ih (i + 1) _ _ (by omega) (fg_rowAs h1 (by omega)) (fg_rowAs h2 (by omega))
  -- the pattern's tokens
  have l2 : ∀ (d i : Nat) (pk pv pb pa : Nat → Int32), i + d = e → fg_rowA x_pKind pk 12 (5 * f + r) i DK → fg_rowA x_pValue pv 12 (5 * f + r) i DV → fg_rowA x_pBehind pb 12 (5 * f + r) i be →
      (∀ q, q < i → DK q = 1 → pa (4 * (5 * f + r) + DV q) = nI (fg_cd (fg_wk be q 12 0))) → (∀ v, v < 4 → (∀ q, q < i → DK q = 1 → DV q ≠ v) → pa (4 * (5 * f + r) + v) = 0) → (∀ j, (j < 4 * (5 * f + r) ∨ 4 * (5 * f + r) + 4 ≤ j) → pa j = x_path j) →
      wX_keep_88 post (nI f) (nI e) (nI r) (nI (12 * (5 * f + r))) x_cons (nI nd) x_given x_cells x_calls x_opened x_held x_steps x_outcome x_culprit x_size x_kinds (d + 1) (nI i) x_arity x_dKind x_dValue x_behind pk pv pb x_rKind x_rValue (upd x_pLength (5 * f + r) (nI e)) (upd x_rLength (5 * f + r) (nI (nd - e))) (upd x_rows f (nI (r + 1))) pa x_argument x_cCon x_cFirst x_cSecond x_cSize x_table x_sets x_learnt x_pile x_callRow x_callAt x_callOpen x_bound x_openToken x_lacks x_output x_kSize x_kSet x_kMany x_kList x_counts x_counted x_firstOpen x_openSize x_values := by
    intro d
    induction d with
    | zero =>
      intro i pk pv pb pa hd k1 k2 k3 k4 k5 k6
      have ei : i = e := by omega
      subst ei
      refine br_t (nI_le (Nat.le_refl _) (by omega)) ⟨nd - i + 1, ?_⟩
      exact l3 pk pv pb pa k1 k2 k3 k4 k5 k6 (nd - i) 0 x_rKind x_rValue (by omega) fg_rowA0 fg_rowA0
    | succ d ih =>
      intro i pk pv pb pa hd k1 k2 k3 k4 k5 k6
      have vi : vp_in (nI i) 40 := vp_in_nI (by omega) (by decide)
      have vi' : vp_in (nI i) 41 := vp_in_nI (by omega) (by decide)
      have ci : (nI i).toNatClampNeg = i := nI_clamp (by omega)
      obtain ⟨d1, d2, d3, d4, d5, d6, d7⟩ := hD i (by omega)
      obtain ⟨b1, b2, b3⟩ := hbe i (by omega)
      refine br_f (nI_ge (by omega) (by omega)) (And.intro vi ?_)
      rw [nI_add, ci, nI_clamp (by omega), d3, d5, b1, fg_v8 (show DK i < 128 by omega), fg_v8 (show DV i < 128 by omega), fg_v8 (show be i < 128 by omega)]
      have v2 : vp_in (nI (12 * (5 * f + r) + i)) 240 := vp_in_nI (by omega) (by decide)
      refine And.intro v2 (nm_e (And.intro vi (And.intro v2 (nm_e (And.intro vi' (And.intro v2 (nm_e (And.intro vi ?_))))))))
      have m1 := fg_rowAs k1 (show i < 12 by omega)
      have m2 := fg_rowAs k2 (show i < 12 by omega)
      have m3 := fg_rowAs k3 (show i < 12 by omega)
      refine pk_eq (DK i) 1 (fun z => ?_) (fun z => ?_)
      · refine And.intro vi ?_
        have hv4 := (d6 (Or.inl z)).1
        refine fg_xpath he hbe (by omega) ?_
        rw [e4]
        refine And.intro (vp_in_nI (by omega) (by decide)) ?_
        rw [nI_clamp (by omega), fg_w16 (by have := fg_cd_lt be i; omega)]
        refine nm_e (nm_r (nI_1 i) (ih (i + 1) _ _ _ _ (by omega) m1 m2 m3 (fun q hq hk => ?_) (fun v hv hq => ?_) (fun j hj => ?_)))
        · by_cases y : q = i
          · rw [y, pk_us]
          · have := hV.2.1 q i (by omega) (by omega) hk z
            rw [pk_un (by omega)]
            exact k4 q (by omega) hk
        · have := hq i (by omega) z
          rw [pk_un (by omega)]
          exact k5 v hv (fun q h1 h2 => hq q (by omega) h2)
        · rw [pk_un (by omega)]
          exact k6 j hj
      · refine nm_r (nI_1 i) (ih (i + 1) _ _ _ _ (by omega) m1 m2 m3 (fun q hq hk => ?_) (fun v hv hq => ?_) k6)
        · refine k4 q ?_ hk
          rcases Nat.lt_or_ge q i with y | y
          · exact y
          · rw [show q = i by omega] at hk; exact absurd hk z
        · exact k5 v hv (fun q h1 h2 => hq q (by omega) h2)
  -- no paths
  have l1 : ∀ (d i : Nat) (pa : Nat → Int32), i + d = 4 → (∀ v, v < i → pa (4 * (5 * f + r) + v) = 0) → (∀ j, (j < 4 * (5 * f + r) ∨ 4 * (5 * f + r) + 4 ≤ j) → pa j = x_path j) →
      wX_keep_56 post (nI f) (nI e) (nI r) (nI (12 * (5 * f + r))) x_cons (nI nd) x_given x_cells x_calls x_opened x_held x_steps x_outcome x_culprit x_size x_kinds (d + 1) (nI i) x_arity x_dKind x_dValue x_behind x_pKind x_pValue x_pBehind x_rKind x_rValue (upd x_pLength (5 * f + r) (nI e)) (upd x_rLength (5 * f + r) (nI (nd - e))) (upd x_rows f (nI (r + 1))) pa x_argument x_cCon x_cFirst x_cSecond x_cSize x_table x_sets x_learnt x_pile x_callRow x_callAt x_callOpen x_bound x_openToken x_lacks x_output x_kSize x_kSet x_kMany x_kList x_counts x_counted x_firstOpen x_openSize x_values := by
    intro d
    induction d with
    | zero =>
      intro i pa hd h1 h2
      refine pk_le 4 i (fun _ => ⟨e + 1, ?_⟩) (fun h => by omega)
      exact l2 e 0 x_pKind x_pValue x_pBehind pa (by omega) fg_rowA0 fg_rowA0 fg_rowA0 (fun q hq => absurd hq (Nat.not_lt_zero _)) (fun v hv _ => h1 v (by omega)) h2
    | succ d ih =>
      intro i pa hd h1 h2
      refine pk_le 4 i (fun h => by omega) (fun _ => ?_)
      rw [e4]
      refine And.intro (vp_in_nI (by omega) (by decide)) ?_
      rw [nI_clamp (by omega)]
      refine nm_r (e' := upd pa (4 * (5 * f + r) + i) 0) (by rw [show vp_nar .short 0 = 0 from rfl]) (nm_r (nI_1 i) (ih (i + 1) _ (by omega) (fun v hv => ?_) (fun j hj => ?_)))
      · by_cases y : v = i
        · rw [y, pk_us]
        · rw [pk_un (by omega)]; exact h1 v (by omega)
      · rw [pk_un (by omega)]; exact h2 j hj
  have e5 : (5 : Int32) * nI f + nI r = nI (5 * f + r) := by rw [show (5 : Int32) = nI 5 from rfl, fg_mulc, nI_add]
  have v5 : vp_in (nI (5 * f + r)) 20 := vp_in_nI (by omega) (by decide)
  refine And.intro vf (And.intro vf ?_)
  rw [cf, hrow, nI_1, fg_w8 (by omega)]
  refine nm_e (nm_e (nm_r (e' := nI (12 * (5 * f + r))) (by rw [show (60 : Int32) = nI 60 from rfl, show (12 : Int32) = nI 12 from rfl, fg_mulc, fg_mulc, nI_add]; exact congrArg nI (by omega)) ?_))
  rw [e5, nI_clamp (by omega), fg_w8 (by omega), pk_sub (by omega), fg_w8 (by omega)]
  refine And.intro v5 (nm_e (And.intro v5 (nm_e ⟨5, ?_⟩)))
  exact l1 4 0 x_path rfl (fun v hv => absurd hv (Nat.not_lt_zero _)) (fun _ _ => rfl)
end
end
section
/-! row -/
def fg_RG (g : fg_C) (nd e : Nat) (DK DV : Nat → Nat) : Prop :=
  e < nd ∧ e ≤ 12 ∧ nd - e ≤ 12 ∧ fg_G (fg_op (fg_ar g) DK DV) nd 1 0 = some e ∧ fg_G (fg_op (fg_ar g) DK DV) nd 1 e = some nd ∧ fg_VR DK DV (fg_bh (fg_op (fg_ar g) DK DV) nd) e ∧ fg_RS DK DV e nd
theorem fg_bh_in {o : Nat → Nat} {nd e : Nat} (h : fg_G o nd 1 0 = some e) {i : Nat} (hi : i < e) : fg_G o nd 1 i = some (fg_bh o nd i) ∧ i < fg_bh o nd i ∧ fg_bh o nd i ≤ e := by
  obtain ⟨e', he', hle⟩ := fg_Gin _ 1 0 e i rfl (Nat.zero_le _) h (Nat.zero_le _) hi
  have hd := fg_Gle _ _ _ _ rfl (Nat.zero_le _) h
  have := fg_Gle _ _ _ _ rfl (by omega) he'
  have eb : fg_bh o nd i = e' := by unfold fg_bh; rw [he']; rfl
  rw [eb]
  exact ⟨he', by omega, hle⟩
theorem fg_vb_nn {DK DV : Nat → Nat} {e : Nat} {M : Int32} (h : fg_vb DK DV e M) (hv : ∀ i, i < e → DV i < 6) : ¬ M < 0 := by
  apply fg_nneg
  cases hb : bt M 31 with
  | false => rfl
  | true =>
    obtain ⟨j, j1, j2, j3⟩ := (h 31 (by decide)).mp hb
    have := hv j j1
    omega
section
variable {x_cons x_drafted x_given x_cells x_calls x_opened x_held x_steps x_outcome x_culprit x_size x_kinds : Int32} {x_arity x_dKind x_dValue x_behind x_pKind x_pValue x_pBehind x_rKind x_rValue x_pLength x_rLength x_rows x_path x_argument x_cCon x_cFirst x_cSecond x_cSize x_table x_learnt x_pile x_callRow x_callAt x_callOpen x_bound x_openToken x_lacks x_output x_kSize x_counted x_openSize x_values : Nat → Int32} {x_sets x_kSet x_kMany x_kList x_counts x_firstOpen : Nat → Int64}
variable {g : fg_C} {f r nd : Nat} {DK DV : Nat → Nat}
theorem fg_xrow {post : Int32 → SX → Prop} {dk dw : Nat → Int32} (hW : fg_WF g) (ha : ∀ c, x_arity c = nI (fg_ar g c)) (hD : fg_Dr g nd DK DV x_dKind x_dValue dk dw) (hf : f < 4) (hr : r < 5) (hrow : x_rows f = nI r)
    (hb : (∀ e, ¬ fg_RG g nd e DK DV) → ∀ be, post (-2) (x_cons, 0, x_given, x_cells, x_calls, x_opened, x_held, x_steps, x_outcome, x_culprit, x_size, x_kinds, x_arity, x_dKind, x_dValue, be, x_pKind, x_pValue, x_pBehind, x_rKind, x_rValue, x_pLength, x_rLength, x_rows, x_path, x_argument, x_cCon, x_cFirst, x_cSecond, x_cSize, x_table, x_sets, x_learnt, x_pile, x_callRow, x_callAt, x_callOpen, x_bound, x_openToken, x_lacks, x_output, x_kSize, x_kSet, x_kMany, x_kList, x_counts, x_counted, x_firstOpen, x_openSize, x_values))
    (hg : ∀ e, fg_RG g nd e DK DV → ∀ (be pk pv pb rk rv pa : Nat → Int32), fg_rowA x_pKind pk 12 (5 * f + r) e DK → fg_rowA x_pValue pv 12 (5 * f + r) e DV → fg_rowA x_pBehind pb 12 (5 * f + r) e (fg_bh (fg_op (fg_ar g) DK DV) nd) →
      fg_rowA x_rKind rk 12 (5 * f + r) (nd - e) (fun i => DK (e + i)) → fg_rowA x_rValue rv 12 (5 * f + r) (nd - e) (fun i => DV (e + i)) →
      (∀ i, i < e → DK i = 1 → pa (4 * (5 * f + r) + DV i) = nI (fg_cd (fg_wk (fg_bh (fg_op (fg_ar g) DK DV) nd) i 12 0))) → (∀ v, v < 4 → (∀ i, i < e → DK i = 1 → DV i ≠ v) → pa (4 * (5 * f + r) + v) = 0) → (∀ j, (j < 4 * (5 * f + r) ∨ 4 * (5 * f + r) + 4 ≤ j) → pa j = x_path j) →
      post (nI (r + 1)) (x_cons, 0, x_given, x_cells, x_calls, x_opened, x_held, x_steps, x_outcome, x_culprit, x_size, x_kinds, x_arity, x_dKind, x_dValue, be, pk, pv, pb, rk, rv, upd x_pLength (5 * f + r) (nI e), upd x_rLength (5 * f + r) (nI (nd - e)), upd x_rows f (nI (r + 1)), pa, x_argument, x_cCon, x_cFirst, x_cSecond, x_cSize, x_table, x_sets, x_learnt, x_pile, x_callRow, x_callAt, x_callOpen, x_bound, x_openToken, x_lacks, x_output, x_kSize, x_kSet, x_kMany, x_kList, x_counts, upd x_counted f 0, x_firstOpen, x_openSize, x_values)) :
    wpX_row post (x_cons, nI nd, x_given, x_cells, x_calls, x_opened, x_held, x_steps, x_outcome, x_culprit, x_size, x_kinds, x_arity, x_dKind, x_dValue, x_behind, x_pKind, x_pValue, x_pBehind, x_rKind, x_rValue, x_pLength, x_rLength, x_rows, x_path, x_argument, x_cCon, x_cFirst, x_cSecond, x_cSize, x_table, x_sets, x_learnt, x_pile, x_callRow, x_callAt, x_callOpen, x_bound, x_openToken, x_lacks, x_output, x_kSize, x_kSet, x_kMany, x_kList, x_counts, x_counted, x_firstOpen, x_openSize, x_values) (nI f) := by
  have vf : vp_in (nI f) 4 := vp_in_nI hf (by decide)
  have cf : (nI f).toNatClampNeg = f := nI_clamp (by omega)
  unfold wpX_row
  dsimp only
  refine fg_x4t hf (br_f (by decide) (And.intro vf ?_))
  rw [cf, hrow]
  refine pk_eq r 5 (fun h => by omega) (fun _ => ?_)
  refine fg_xmeasure hW ha hD (fun be hbe => ?_)
  dsimp only
  have hd40 := hD.1
  have bad : (∀ e, ¬ fg_RG g nd e DK DV) → ∀ z, wX_row_77 post (nI f) z x_cons (nI nd) x_given x_cells x_calls x_opened x_held x_steps x_outcome x_culprit x_size x_kinds x_arity x_dKind x_dValue be x_pKind x_pValue x_pBehind x_rKind x_rValue x_pLength x_rLength x_rows x_path x_argument x_cCon x_cFirst x_cSecond x_cSize x_table x_sets x_learnt x_pile x_callRow x_callAt x_callOpen x_bound x_openToken x_lacks x_output x_kSize x_kSet x_kMany x_kList x_counts x_counted x_firstOpen x_openSize x_values := by
    intro h z
    unfold wX_row_77 wX_row_78
    refine br_t rfl ?_
    unfold wX_row_94
    refine br_t (by decide) ?_
    unfold wX_row_115 wX_row_116
    refine br_t rfl ?_
    unfold wX_row_129
    exact br_t rfl (hb h be)
  have w43 : ∀ z : Nat, z = fg_bh (fg_op (fg_ar g) DK DV) nd 0 → wX_row_43 post (nI f) (nI nd) (nI z) x_cons (nI nd) x_given x_cells x_calls x_opened x_held x_steps x_outcome x_culprit x_size x_kinds x_arity x_dKind x_dValue be x_pKind x_pValue x_pBehind x_rKind x_rValue x_pLength x_rLength x_rows x_path x_argument x_cCon x_cFirst x_cSecond x_cSize x_table x_sets x_learnt x_pile x_callRow x_callAt x_callOpen x_bound x_openToken x_lacks x_output x_kSize x_kSet x_kMany x_kList x_counts x_counted x_firstOpen x_openSize x_values := by
    intro z hz
    have hzle : z ≤ 99 := by rw [hz]; exact fg_bh_le (Nat.zero_le _) hd40
    have hG : ∀ e, fg_RG g nd e DK DV → z = e := by
      intro e h
      rw [hz]
      unfold fg_bh
      rw [h.2.2.2.1]; rfl
    unfold wX_row_43
    refine pk_le nd z (fun y => bad (fun e h => ?_) _) (fun y => ?_)
    · have := hG e h; have := h.1; omega
    · refine pk_lt 12 z (fun y2 => bad (fun e h => ?_) _) (fun y2 => ?_)
      · have := hG e h; have := h.2.1; omega
      · rw [pk_sub (by omega)]
        refine pk_lt 12 (nd - z) (fun y3 => bad (fun e h => ?_) _) (fun y3 => ?_)
        · have := hG e h; have := h.2.2.1; omega
        · refine And.intro (vp_in_nI (by omega) (by decide)) ?_
          have hG0 : fg_G (fg_op (fg_ar g) DK DV) nd 1 0 = some z := by
            unfold fg_bh at hz
            cases hq : fg_G (fg_op (fg_ar g) DK DV) nd 1 0 with
            | none => rw [hq] at hz; exact absurd hz (by show ¬ z = 99; omega)
            | some e => rw [hq] at hz; exact congrArg some hz.symm
          have hle := fg_bh_le (o := fg_op (fg_ar g) DK DV) (d := nd) (m := 1) (i := z) (by omega) hd40
          rw [nI_clamp (by omega), hbe z (by omega)]
          refine pk_eq (fg_bh (fg_op (fg_ar g) DK DV) nd z) nd (fun y4 => ?_) (fun y4 => bad (fun e h => ?_) _) rfl rfl (by unfold fg_bh; omega) (by omega)
          · have hG1 : fg_G (fg_op (fg_ar g) DK DV) nd 1 z = some nd := by
              unfold fg_bh at y4
              cases hq : fg_G (fg_op (fg_ar g) DK DV) nd 1 z with
              | none => rw [hq] at y4; exact absurd y4 (by show ¬ 99 = nd; omega)
              | some e => rw [hq] at y4; exact congrArg some y4
            have hbi : ∀ i, i < z → be i = nI (fg_bh (fg_op (fg_ar g) DK DV) nd i) ∧ i < fg_bh (fg_op (fg_ar g) DK DV) nd i ∧ fg_bh (fg_op (fg_ar g) DK DV) nd i ≤ z := fun i hi => ⟨hbe i (by omega), (fg_bh_in hG0 hi).2⟩
            unfold wX_row_78
            refine br_f (by decide) ?_
            have b115 : (∀ e, ¬ fg_RG g nd e DK DV) → wX_row_115 post (nI f) (nI z) x_cons (nI nd) x_given x_cells x_calls x_opened x_held x_steps x_outcome x_culprit x_size x_kinds x_arity x_dKind x_dValue be x_pKind x_pValue x_pBehind x_rKind x_rValue x_pLength x_rLength x_rows x_path x_argument x_cCon x_cFirst x_cSecond x_cSize x_table x_sets x_learnt x_pile x_callRow x_callAt x_callOpen x_bound x_openToken x_lacks x_output x_kSize x_kSet x_kMany x_kList x_counts x_counted x_firstOpen x_openSize x_values := by
              intro h
              unfold wX_row_115 wX_row_116
              refine br_t rfl ?_
              unfold wX_row_129
              exact br_t rfl (hb h be)
            refine fg_xvars hD (by omega) hbi (fun nV => ?_) (fun hV M hM => ?_)
            · unfold wX_row_94
              refine br_t (by decide) (b115 (fun e h => nV ?_))
              have := hG e h
              subst this
              exact h.2.2.2.2.2.1
            · unfold wX_row_94
              refine br_f (fg_vb_nn hM (fun i hi => (hD.2 i (by omega)).2.1)) ?_
              refine fg_xres hD (by omega) hM (fun nR => ?_) (fun hR => ?_)
              · refine br_t rfl (b115 (fun e h => nR ?_))
                have := hG e h
                subst this
                exact h.2.2.2.2.2.2
              · refine br_f (by decide) ?_
                unfold wX_row_116
                refine br_f (by decide) ?_
                refine fg_xkeep hD hf hr hrow (by omega) (by omega) (by omega) hbi hV (fun pk pv pb rk rv pa k1 k2 k3 k4 k5 k6 k7 k8 => ?_)
                unfold wX_row_129
                refine br_f (by decide) (And.intro vf ?_)
                rw [cf, pk_us]
                exact hg z ⟨by omega, by omega, by omega, hG0, hG1, hV, hR⟩ be pk pv pb rk rv pa k1 k2 k3 k4 k5 k6 k7 k8
          · have := hG e h
            subst this
            unfold fg_bh at y4
            rw [h.2.2.2.2.1] at y4
            exact y4 rfl
  refine pk_le nd 0 (fun z => ?_) (fun z => ?_)
  · refine w43 99 ?_
    unfold fg_bh
    rw [fg_G1e (by omega)]; rfl
  · rw [hbe 0 (Nat.zero_le _)]
    exact w43 _ rfl
end
/-- Y's tokens of a row -/
def fg_to (R e q : Nat) : Nat := if q < e then 24 * R + q else 24 * R + 12 + (q - e)
section
variable {y_cons y_drafted y_nodes y_length y_argumentLength y_givenLength y_steps y_blamed y_how y_ran y_working : Int32} {y_arity y_draftKind y_draftWith y_kind y_with y_patternLength y_resultLength y_rows y_head y_left y_right y_size y_list y_stack y_starts y_argument y_given y_fits y_ends y_places y_bound y_workKind y_workWith y_owner y_counts y_openSize y_open y_known : Nat → Int32}
variable {g : fg_C} {f r nd : Nat} {DK DV : Nat → Nat}
theorem fg_yrow {post : Int32 → SY → Prop} {xk xv : Nat → Int32} (hW : fg_WF g) (ha : ∀ c, y_arity c = nI (fg_ar g c)) (hD : fg_Dr g nd DK DV xk xv y_draftKind y_draftWith) (hf : f < 4) (hr : r < 5) (hrow : y_rows f = nI r)
    (hb : (∀ e, ¬ fg_RG g nd e DK DV) → post (-2) (y_cons, 0, y_nodes, y_length, y_argumentLength, y_givenLength, y_steps, y_blamed, y_how, y_ran, y_working, y_arity, y_draftKind, y_draftWith, y_kind, y_with, y_patternLength, y_resultLength, y_rows, y_head, y_left, y_right, y_size, y_list, y_stack, y_starts, y_argument, y_given, y_fits, y_ends, y_places, y_bound, y_workKind, y_workWith, y_owner, y_counts, y_openSize, y_open, y_known))
    (hg : ∀ e, fg_RG g nd e DK DV → ∀ (ki wi : Nat → Int32), (∀ q, q < nd → ki (fg_to (5 * f + r) e q) = nI (DK q) ∧ wi (fg_to (5 * f + r) e q) = y_draftWith q) → (∀ j, (j < 24 * (5 * f + r) ∨ 24 * (5 * f + r) + 24 ≤ j) → ki j = y_kind j ∧ wi j = y_with j) →
      post (nI (r + 1)) (y_cons, 0, y_nodes, y_length, y_argumentLength, y_givenLength, y_steps, y_blamed, y_how, y_ran, y_working, y_arity, y_draftKind, y_draftWith, ki, wi, upd y_patternLength (5 * f + r) (nI e), upd y_resultLength (5 * f + r) (nI (nd - e)), upd y_rows f (nI (r + 1)), y_head, y_left, y_right, y_size, y_list, y_stack, y_starts, y_argument, y_given, y_fits, y_ends, y_places, y_bound, y_workKind, y_workWith, y_owner, y_counts, y_openSize, y_open, upd y_known f 0)) :
    wpY_row post (y_cons, nI nd, y_nodes, y_length, y_argumentLength, y_givenLength, y_steps, y_blamed, y_how, y_ran, y_working, y_arity, y_draftKind, y_draftWith, y_kind, y_with, y_patternLength, y_resultLength, y_rows, y_head, y_left, y_right, y_size, y_list, y_stack, y_starts, y_argument, y_given, y_fits, y_ends, y_places, y_bound, y_workKind, y_workWith, y_owner, y_counts, y_openSize, y_open, y_known) (nI f) := by
  have vf : vp_in (nI f) 4 := vp_in_nI hf (by decide)
  have cf : (nI f).toNatClampNeg = f := nI_clamp (by omega)
  have hd40 := hD.1
  have bad : (∀ e, ¬ fg_RG g nd e DK DV) → ∀ x2 x3, wY_row_101 post (nI f) x2 x3 y_cons (nI nd) y_nodes y_length y_argumentLength y_givenLength y_steps y_blamed y_how y_ran y_working y_arity y_draftKind y_draftWith y_kind y_with y_patternLength y_resultLength y_rows y_head y_left y_right y_size y_list y_stack y_starts y_argument y_given y_fits y_ends y_places y_bound y_workKind y_workWith y_owner y_counts y_openSize y_open y_known := by
    intro h x2 x3
    unfold wY_row_101 wY_row_102
    exact br_t rfl (hb h)
  unfold wpY_row
  dsimp only
  refine fg_y4t hf (br_f (by decide) (And.intro vf ?_))
  rw [cf, hrow]
  refine pk_eq r 5 (fun h => by omega) (fun _ => ?_)
  refine fg_yend (i := 0) hW ha hD (Nat.zero_le _) ?_
  cases hG0 : fg_G (fg_op (fg_ar g) DK DV) nd 1 0 with
  | none =>
    refine br_f (by decide) ?_
    unfold wY_row_40
    refine br_f (by decide) ?_
    unfold wY_row_54
    refine br_t (by decide) (bad (fun e h => ?_) _ _)
    have := h.2.2.2.1
    rw [hG0] at this
    exact nomatch this
  | some e =>
    have hle := fg_Gle _ _ _ _ rfl (Nat.zero_le _) hG0
    have hee : ∀ e', fg_RG g nd e' DK DV → e' = e := by
      intro e' h
      have := h.2.2.2.1
      rw [hG0] at this
      injection this with this
      exact this.symm
    refine br_t (nI_pos' (by omega)) ?_
    refine fg_yend (i := e) hW ha hD (by omega) ?_
    unfold wY_row_40
    refine br_t (nI_pos' (by omega)) ?_
    -- the checks
    have w54 : ∀ z0 : Int32, (z0 = -1 ∧ ∀ e, ¬ fg_RG g nd e DK DV) ∨ (¬ z0 < 0 ∧ fg_VR DK DV (fg_bh (fg_op (fg_ar g) DK DV) nd) e ∧ fg_vb DK DV e z0) → wY_row_54 post (nI f) (nI e) (fg_re (fg_G (fg_op (fg_ar g) DK DV) nd 1 e)) z0 y_cons (nI nd) y_nodes y_length y_argumentLength y_givenLength y_steps y_blamed y_how y_ran y_working y_arity y_draftKind y_draftWith y_kind y_with y_patternLength y_resultLength y_rows y_head y_left y_right y_size y_list y_stack y_starts y_argument y_given y_fits y_ends y_places y_bound y_workKind y_workWith y_owner y_counts y_openSize y_open y_known := by
      intro z0 hz
      unfold wY_row_54
      refine br_f (nI_nle (by omega) (by omega)) ?_
      refine pk_le 13 e (fun y => bad (fun e' h => ?_) _ _) (fun y => ?_)
      · have := hee e' h; have := h.2.1; omega
      · cases hG1 : fg_G (fg_op (fg_ar g) DK DV) nd 1 e with
        | none =>
          refine br_f (fun q => ?_) (bad (fun e' h => ?_) _ _)
          · have q' : (-1 : Int32) = nI nd := q
            exact absurd q' (fg_m1n (by omega))
          · have h1 := hee e' h
            subst h1
            have := h.2.2.2.2.1
            rw [hG1] at this
            exact nomatch this
        | some e2 =>
          have hle2 := fg_Gle _ _ _ _ rfl (by omega) hG1
          refine pk_eq e2 nd (fun y2 => ?_) (fun y2 => bad (fun e' h => ?_) _ _) rfl rfl (by omega) (by omega)
          · subst y2
            show ((13 ≤ nI e2 - nI e → _) ∧ (¬ 13 ≤ nI e2 - nI e → _))
            rw [pk_sub (by omega)]
            refine pk_le 13 (e2 - e) (fun y3 => bad (fun e' h => ?_) _ _) (fun y3 => ?_)
            · have := hee e' h; have := h.2.2.1; omega
            · rcases hz with ⟨hz, hn⟩ | ⟨hz, hV, hM⟩
              · exact br_t (by rw [hz]; decide) (bad hn _ _)
              · refine br_f hz ?_
                refine fg_yres hD (by omega) hM (fun nR => br_t rfl (bad (fun e' h => ?_) _ _)) (fun hR => br_f (by decide) ?_)
                · have h1 := hee e' h
                  subst h1
                  exact nR h.2.2.2.2.2.2
                · have hRG : fg_RG g e2 e DK DV := ⟨by omega, by omega, by omega, hG0, hG1, hV, hR⟩
                  have v5 : vp_in (nI (5 * f + r)) 20 := vp_in_nI (by omega) (by decide)
                  unfold wY_row_102
                  refine br_f (by decide) (And.intro vf ?_)
                  rw [cf, hrow]
                  refine nm_r (e' := nI (5 * f + r)) (by rw [show (5 : Int32) = nI 5 from rfl, fg_mulc, nI_add]) (And.intro vf (And.intro vf ?_))
                  rw [nI_1, nI_clamp (show 5 * f + r < 2 ^ 31 by omega), show (fg_re (some e2)) = nI e2 from rfl, pk_sub (by omega)]
                  refine nm_e (And.intro v5 (nm_e (And.intro v5 (nm_e ⟨e2 + 1, ?_⟩))))
                  have loop : ∀ (d i : Nat) (ki wi : Nat → Int32), i + d = e2 → (∀ q, q < i → ki (fg_to (5 * f + r) e q) = nI (DK q) ∧ wi (fg_to (5 * f + r) e q) = y_draftWith q) → (∀ j, (j < 24 * (5 * f + r) ∨ 24 * (5 * f + r) + 24 ≤ j) → ki j = y_kind j ∧ wi j = y_with j) →
                      wY_row_160 post (nI f) (nI e) (nI e2) (nI (5 * f + r)) y_cons (nI e2) y_nodes y_length y_argumentLength y_givenLength y_steps y_blamed y_how y_ran y_working (d + 1) (nI i) y_arity y_draftKind y_draftWith ki wi (upd y_patternLength (5 * f + r) (nI e)) (upd y_resultLength (5 * f + r) (nI (e2 - e))) (upd y_rows f (nI (r + 1))) y_head y_left y_right y_size y_list y_stack y_starts y_argument y_given y_fits y_ends y_places y_bound y_workKind y_workWith y_owner y_counts y_openSize y_open y_known := by
                    intro d
                    induction d with
                    | zero =>
                      intro i ki wi hd h1 h2
                      refine br_t (nI_le (by omega) (by omega)) (And.intro vf ?_)
                      rw [cf]
                      refine nm_e (And.intro vf ?_)
                      rw [pk_us]
                      exact hg e hRG ki wi (fun q hq => h1 q (by omega)) h2
                    | succ d ih =>
                      intro i ki wi hd h1 h2
                      refine br_f (nI_ge (by omega) (by omega)) ?_
                      have w189 : ∀ z : Nat, 24 * (5 * f + r) + z = fg_to (5 * f + r) e i → z < 24 → wY_row_189 post (wY_row_160 post (nI f) (nI e) (nI e2) (nI (5 * f + r)) y_cons (nI e2) y_nodes y_length y_argumentLength y_givenLength y_steps y_blamed y_how y_ran y_working (d + 1)) (nI f) (nI e) (nI e2) (nI (5 * f + r)) (nI i) (nI z) (24 * nI (5 * f + r)) y_cons (nI e2) y_nodes y_length y_argumentLength y_givenLength y_steps y_blamed y_how y_ran y_working y_arity y_draftKind y_draftWith ki wi (upd y_patternLength (5 * f + r) (nI e)) (upd y_resultLength (5 * f + r) (nI (e2 - e))) (upd y_rows f (nI (r + 1))) y_head y_left y_right y_size y_list y_stack y_starts y_argument y_given y_fits y_ends y_places y_bound y_workKind y_workWith y_owner y_counts y_openSize y_open y_known := by
                        intro z hz hz24
                        have vi : vp_in (nI i) 40 := vp_in_nI (by omega) (by decide)
                        have vz : vp_in (nI (fg_to (5 * f + r) e i)) 480 := vp_in_nI (by omega) (by decide)
                        obtain ⟨d1, d2, d3, d4, d5, d6, d7⟩ := hD.2 i (by omega)
                        unfold wY_row_189
                        refine nm_r (e' := nI (fg_to (5 * f + r) e i)) (by rw [show (24 : Int32) = nI 24 from rfl, fg_mulc, nI_add, hz]) ?_
                        rw [nI_clamp (show i < 2 ^ 31 by omega), nI_clamp (show fg_to (5 * f + r) e i < 2 ^ 31 by omega), d4]
                        refine And.intro vi (And.intro vz (nm_e (And.intro vi (And.intro vz (nm_e (nm_r (nI_1 i) ?_))))))
                        refine ih (i + 1) _ _ (by omega) (fun q hq => ?_) (fun j hj => ?_)
                        · by_cases y : q = i
                          · rw [y, pk_us, pk_us]; exact ⟨rfl, rfl⟩
                          · have hne : fg_to (5 * f + r) e q ≠ fg_to (5 * f + r) e i := by
                              unfold fg_to
                              by_cases x1 : q < e
                              · rw [if_pos x1]
                                by_cases x2 : i < e
                                · rw [if_pos x2]; omega
                                · rw [if_neg x2]; omega
                              · rw [if_neg x1]
                                by_cases x2 : i < e
                                · rw [if_pos x2]; omega
                                · rw [if_neg x2]; omega
                            rw [pk_un hne, pk_un hne]
                            exact h1 q (by omega)
                        · rw [pk_un (by omega), pk_un (by omega)]
                          exact h2 j hj
                      refine pk_le e i (fun y => ?_) (fun y => ?_) rfl rfl (by omega) (by omega)
                      · rw [show (12 : Int32) = nI 12 from rfl, nI_add, pk_sub (by omega)]
                        refine w189 (12 + i - e) ?_ (by omega)
                        unfold fg_to
                        rw [if_neg (by omega)]
                        omega
                      · refine w189 i ?_ (by omega)
                        unfold fg_to
                        rw [if_pos y]
                  exact loop e2 0 y_kind y_with (by omega) (fun q hq => absurd hq (Nat.not_lt_zero _)) (fun _ _ => ⟨rfl, rfl⟩)
          · have h1 := hee e' h
            subst h1
            have := h.2.2.2.2.1
            rw [hG1] at this
            injection this with this
            exact y2 this
    refine fg_yvars hW ha hD (by omega) (fun i hi => fg_bh_in hG0 hi) (fun nV => ?_) (fun hV M hM => ?_)
    · refine w54 (-1) (Or.inl ⟨rfl, fun e' h => nV ?_⟩)
      have h1 := hee e' h
      subst h1
      exact h.2.2.2.2.2.1
    · exact w54 M (Or.inr ⟨fg_vb_nn hM (fun i hi => (hD.2 i (by omega)).2.1), hV, hM⟩)
end
end
section
/-! row: the relation -/
def fg_gr (g : fg_C) (f r e nd : Nat) (DK DV be : Nat → Nat) : fg_C :=
  (g.1, g.2.1, (fun j => if j = f then r + 1 else fg_rw g j), (fun Q => if Q = 5 * f + r then e else fg_pl g Q), (fun Q => if Q = 5 * f + r then nd - e else fg_rl g Q),
   (fun Q i => if Q = 5 * f + r then DK i else fg_pk g Q i), (fun Q i => if Q = 5 * f + r then DV i else fg_pv g Q i), (fun Q i => if Q = 5 * f + r then be i else fg_pb g Q i),
   (fun Q i => if Q = 5 * f + r then DK (e + i) else fg_rk g Q i), (fun Q i => if Q = 5 * f + r then DV (e + i) else fg_rv g Q i))
section
variable {g : fg_C} {f r e nd Q : Nat} {DK DV be : Nat → Nat}
theorem fg_gr_pl (h : Q ≠ 5 * f + r) : fg_pl (fg_gr g f r e nd DK DV be) Q = fg_pl g Q := if_neg h
theorem fg_gr_rl (h : Q ≠ 5 * f + r) : fg_rl (fg_gr g f r e nd DK DV be) Q = fg_rl g Q := if_neg h
theorem fg_gr_pk (h : Q ≠ 5 * f + r) : fg_pk (fg_gr g f r e nd DK DV be) Q = fg_pk g Q := funext fun _ => if_neg h
theorem fg_gr_pv (h : Q ≠ 5 * f + r) : fg_pv (fg_gr g f r e nd DK DV be) Q = fg_pv g Q := funext fun _ => if_neg h
theorem fg_gr_pb (h : Q ≠ 5 * f + r) : fg_pb (fg_gr g f r e nd DK DV be) Q = fg_pb g Q := funext fun _ => if_neg h
theorem fg_gr_rk (h : Q ≠ 5 * f + r) : fg_rk (fg_gr g f r e nd DK DV be) Q = fg_rk g Q := funext fun _ => if_neg h
theorem fg_gr_rv (h : Q ≠ 5 * f + r) : fg_rv (fg_gr g f r e nd DK DV be) Q = fg_rv g Q := funext fun _ => if_neg h
theorem fg_gr_pl' : fg_pl (fg_gr g f r e nd DK DV be) (5 * f + r) = e := if_pos rfl
theorem fg_gr_rl' : fg_rl (fg_gr g f r e nd DK DV be) (5 * f + r) = nd - e := if_pos rfl
theorem fg_gr_pk' : fg_pk (fg_gr g f r e nd DK DV be) (5 * f + r) = DK := funext fun _ => if_pos rfl
theorem fg_gr_pv' : fg_pv (fg_gr g f r e nd DK DV be) (5 * f + r) = DV := funext fun _ => if_pos rfl
theorem fg_gr_pb' : fg_pb (fg_gr g f r e nd DK DV be) (5 * f + r) = be := funext fun _ => if_pos rfl
theorem fg_gr_rk' : fg_rk (fg_gr g f r e nd DK DV be) (5 * f + r) = fun i => DK (e + i) := funext fun _ => if_pos rfl
theorem fg_gr_rv' : fg_rv (fg_gr g f r e nd DK DV be) (5 * f + r) = fun i => DV (e + i) := funext fun _ => if_pos rfl
theorem fg_gr_ar : fg_ar (fg_gr g f r e nd DK DV be) = fg_ar g := rfl
theorem fg_gr_nc : fg_nc (fg_gr g f r e nd DK DV be) = fg_nc g := rfl
theorem fg_gr_RW (h : Q ≠ 5 * f + r) (hR : fg_RW g Q) : fg_RW (fg_gr g f r e nd DK DV be) Q := by
  unfold fg_RW
  rw [fg_gr_pl h, fg_gr_rl h, fg_gr_pk h, fg_gr_pv h, fg_gr_pb h, fg_gr_rk h, fg_gr_rv h, fg_gr_ar, fg_gr_nc]
  exact hR
theorem fg_gr_RW' {xk xv dk dw : Nat → Int32} (hW : fg_WF g) (hD : fg_Dr g nd DK DV xk xv dk dw) (hG : fg_RG g nd e DK DV) : fg_RW (fg_gr g f r e nd DK DV (fg_bh (fg_op (fg_ar g) DK DV) nd)) (5 * f + r) := by
  obtain ⟨h1, h2, h3, h4, h5, h6, h7⟩ := hG
  have hl := fg_Gle _ _ _ _ rfl (Nat.zero_le _) h4
  have bi : ∀ i, i < e → _ := fun i hi => fg_bh_in h4 hi
  unfold fg_RW
  rw [fg_gr_pl', fg_gr_rl', fg_gr_pk', fg_gr_pv', fg_gr_pb', fg_gr_rk', fg_gr_rv', fg_gr_ar, fg_gr_nc]
  refine ⟨⟨by omega, h2, by omega, h3⟩, ?_, ?_, fun i hi => ?_, fun i j hi hj hk1 hk2 hv => ?_, fun i j hi ho hij hj => ?_, fun i hi => ?_, ?_⟩
  · refine fg_GP (d := nd) (by omega) (fun i _ => fg_op_le hW.2.1) h4 (fun i e' hi he => ?_)
    unfold fg_bh
    rw [he]; rfl
  · unfold fg_bh
    rw [h4]; rfl
  · obtain ⟨d1, d2, d3, d4, d5, d6, d7⟩ := hD.2 i (by omega)
    have := h6.1 i hi
    exact ⟨by omega, fun z => (d7 z).1, fun z => (d6 (Or.inl z)).1⟩
  · rcases Nat.lt_trichotomy i j with z | z | z
    · exact absurd hv (h6.2.1 i j z hj hk1 hk2)
    · exact z
    · exact absurd hv.symm (h6.2.1 j i z hi hk2 hk1)
  · have := (bi i hi).2.2
    exact h6.2.2 i j ho hij hj (by omega)
  · obtain ⟨d1, d2, d3, d4, d5, d6, d7⟩ := hD.2 (e + i) (by omega)
    refine ⟨?_, fun z => (d7 z).1, fun z => (d6 (Or.inr z)).1, fun z => ⟨(d6 (Or.inl z)).1, ?_⟩⟩
    · rcases h7 (e + i) (by omega) (by omega) with q | q | ⟨q, -⟩
      · exact Or.inr (Or.inl q)
      · exact Or.inr (Or.inr q)
      · exact Or.inl q
    · have z' : DK (e + i) = 1 := z
      rcases h7 (e + i) (by omega) (by omega) with q | q | ⟨-, q⟩
      · omega
      · omega
      · exact q
  · have sh := fg_Gshift (o := fg_op (fg_ar g) DK DV) (o' := fg_op (fg_ar g) (fun i => DK (e + i)) (fun i => DV (e + i))) (s := e) (N := nd - e) (fun j _ => rfl) _ 1 0 rfl
    rw [show e + (nd - e) = nd by omega, Nat.add_zero, h5] at sh
    cases hq : fg_G (fg_op (fg_ar g) (fun i => DK (e + i)) (fun i => DV (e + i))) (nd - e) 1 0 with
    | none => rw [hq] at sh; exact nomatch sh
    | some z =>
      rw [hq] at sh
      have sh' : some nd = some (e + z) := sh
      injection sh' with sh'
      exact congrArg some (by omega)
end
theorem i_vc_row {k : Nat} {u : SX} {v : SY} (I : i_Rel k u v) (hk : k + 4 ≤ 2048) (v1 : Int32) : wpX_row (fun r u' => wpY_row (fun r' v' => r' = r ∧ i_Rel (k + 4) u' v') v v1) u v1 := by
  refine fg_el (P := fun u v => wpX_row (fun r u' => wpY_row (fun r' v' => r' = r ∧ i_Rel (k + 4) u' v') v v1) u v1) ?_ I
  intro x_cons x_drafted x_given x_cells x_calls x_opened x_held x_steps x_outcome x_culprit x_size x_kinds x_arity x_dKind x_dValue x_behind x_pKind x_pValue x_pBehind x_rKind x_rValue x_pLength x_rLength x_rows x_path x_argument x_cCon x_cFirst x_cSecond x_cSize x_table x_sets x_learnt x_pile x_callRow x_callAt x_callOpen x_bound x_openToken x_lacks x_output x_kSize x_kSet x_kMany x_kList x_counts x_counted x_firstOpen x_openSize x_values y_cons y_drafted y_nodes y_length y_argumentLength y_givenLength y_steps y_blamed y_how y_ran y_working y_arity y_draftKind y_draftWith y_kind y_with y_patternLength y_resultLength y_rows y_head y_left y_right y_size y_list y_stack y_starts y_argument y_given y_fits y_ends y_places y_bound y_workKind y_workWith y_owner y_counts y_openSize y_open y_known g nd DK DV t w R0
  have bad : (v1 < 0 ∨ nI 4 ≤ v1) → wpX_row (fun r u' => wpY_row (fun r' v' => r' = r ∧ i_Rel (k + 4) u' v') (y_cons, y_drafted, y_nodes, y_length, y_argumentLength, y_givenLength, y_steps, y_blamed, y_how, y_ran, y_working, y_arity, y_draftKind, y_draftWith, y_kind, y_with, y_patternLength, y_resultLength, y_rows, y_head, y_left, y_right, y_size, y_list, y_stack, y_starts, y_argument, y_given, y_fits, y_ends, y_places, y_bound, y_workKind, y_workWith, y_owner, y_counts, y_openSize, y_open, y_known) v1) (x_cons, x_drafted, x_given, x_cells, x_calls, x_opened, x_held, x_steps, x_outcome, x_culprit, x_size, x_kinds, x_arity, x_dKind, x_dValue, x_behind, x_pKind, x_pValue, x_pBehind, x_rKind, x_rValue, x_pLength, x_rLength, x_rows, x_path, x_argument, x_cCon, x_cFirst, x_cSecond, x_cSize, x_table, x_sets, x_learnt, x_pile, x_callRow, x_callAt, x_callOpen, x_bound, x_openToken, x_lacks, x_output, x_kSize, x_kSet, x_kMany, x_kList, x_counts, x_counted, x_firstOpen, x_openSize, x_values) v1 := by
    intro h
    unfold wpX_row
    dsimp only
    refine fg_x4f h (br_t rfl ?_)
    unfold wpY_row
    dsimp only
    exact fg_y4f h (br_t rfl ⟨rfl, fg_rel R0⟩)
  rcases pk_ix v1 (n := 4) (by decide) with h | h | ⟨f, hf, rfl⟩
  · exact bad (Or.inl h)
  · exact bad (Or.inr h)
  · have R0' := R0
    obtain ⟨hW, r2, r3, r4, r5, cx, cy, r8, r9, r10, r11⟩ := R0'
    have vf : vp_in (nI f) 4 := vp_in_nI hf (by decide)
    have cf : (nI f).toNatClampNeg = f := nI_clamp (by omega)
    have h5 := hW.2.2.1 f hf
    have xr := cx.2.1 f hf
    have yr := cy.2.1 f hf
    rcases Nat.eq_or_lt_of_le h5 with z | z
    · unfold wpX_row
      dsimp only
      refine fg_x4t hf (br_f (by decide) (And.intro vf ?_))
      refine br_t (by rw [cf, xr, z]; rfl) ?_
      unfold wpY_row
      dsimp only
      refine fg_y4t hf (br_f (by decide) (And.intro vf ?_))
      exact br_t (by rw [cf, yr, z]; rfl) ⟨rfl, fg_rel R0⟩
    · subst r4 r5
      have hd0 : fg_Dr g 0 DK DV x_dKind x_dValue y_draftKind y_draftWith := ⟨Nat.zero_le _, fun i hi => absurd hi (Nat.not_lt_zero _)⟩
      refine fg_xrow hW cx.1 r8 hf z xr (fun hb be => ?_) (fun e hG be pk pv pb rk rv pa k1 k2 k3 k4 k5 k6 k7 k8 => ?_)
      · refine fg_yrow hW cy.1 r8 hf z yr (fun _ => ⟨rfl, ?_⟩) (fun e q => absurd q (hb e))
        exact fg_rel' g 0 DK DV t w ⟨hW, r2, r3, rfl, rfl, cx, cy, hd0, r9, r10, r11⟩
      · refine fg_yrow hW cy.1 r8 hf z yr (fun q => absurd hG (q e)) (fun e' hG' ki wi y1 y2 => ⟨rfl, ?_⟩)
        have ee : e' = e := by
          have a := hG.2.2.2.1
          have b := hG'.2.2.2.1
          rw [a] at b
          injection b with b
          exact b.symm
        subst ee
        generalize hR : fg_rw g f = r at *
        have hrw : ∀ j, fg_rw (fg_gr g f r e' nd DK DV (fg_bh (fg_op (fg_ar g) DK DV) nd)) j = if j = f then r + 1 else fg_rw g j := fun _ => rfl
        have sp : ∀ j q, j < 4 → q < (if j = f then r + 1 else fg_rw g j) → (j = f ∧ q = r) ∨ (5 * j + q ≠ 5 * f + r ∧ q < fg_rw g j) := by
          intro j q hj hq
          by_cases y : j = f
          · rw [if_pos y] at hq
            subst y
            rcases Nat.lt_or_ge q r with x | x
            · exact Or.inr ⟨by omega, by omega⟩
            · exact Or.inl ⟨rfl, by omega⟩
          · rw [if_neg y] at hq
            have := hW.2.2.1 j hj
            exact Or.inr ⟨by omega, hq⟩
        have rows : ∀ (a : Nat → Int32), (∀ j, j < 4 → a j = nI (fg_rw g j)) → ∀ j, j < 4 → upd a f (nI (r + 1)) j = nI (if j = f then r + 1 else fg_rw g j) := by
          intro a ha j hj
          by_cases q : j = f
          · subst q; rw [pk_us, if_pos rfl]
          · rw [pk_un q, if_neg q]; exact ha j hj
        have hd40 := r8.1
        obtain ⟨g1, g2, g3, g4, g5, g6, g7⟩ := hG
        refine fg_rel' (fg_gr g f r e' nd DK DV (fg_bh (fg_op (fg_ar g) DK DV) nd)) 0 DK DV t w ⟨⟨hW.1, hW.2.1, fun j hj => ?_, fun j q hj hq => ?_⟩, r2, r3, rfl, rfl, ⟨cx.1, rows _ cx.2.1, fun j q hj hq => ?_⟩, ⟨cy.1, rows _ cy.2.1, fun j q hj hq => ?_⟩, hd0, r9, r10, fun j hj => ?_⟩
        · rw [hrw]
          split
          · omega
          · exact hW.2.2.1 j hj
        · rcases sp j q hj hq with ⟨s1, s2⟩ | ⟨s1, s2⟩
          · subst s1 s2
            exact fg_gr_RW' hW r8 ⟨g1, g2, g3, g4, g5, g6, g7⟩
          · exact fg_gr_RW s1 (hW.2.2.2 j q hj s2)
        · rcases sp j q hj hq with ⟨s1, s2⟩ | ⟨s1, s2⟩
          · subst s1 s2
            unfold fg_XR
            rw [fg_gr_pl', fg_gr_rl', fg_gr_pk', fg_gr_pv', fg_gr_pb', fg_gr_rk', fg_gr_rv']
            exact ⟨pk_us, pk_us, fun i hi => ⟨k1.1 i hi, k2.1 i hi, k3.1 i hi⟩, fun i hi => ⟨k4.1 i hi, k5.1 i hi⟩, k6, k7⟩
          · obtain ⟨o1, o2, o3, o4, o5, o6⟩ := cx.2.2 j q hj s2
            have hRW := (hW.2.2.2 j q hj s2)
            have l12 := hRW.1
            unfold fg_XR
            rw [fg_gr_pl s1, fg_gr_rl s1, fg_gr_pk s1, fg_gr_pv s1, fg_gr_pb s1, fg_gr_rk s1, fg_gr_rv s1]
            refine ⟨by rw [pk_un s1]; exact o1, by rw [pk_un s1]; exact o2, fun i hi => ?_, fun i hi => ?_, fun i hi hv => ?_, fun v hv hq' => ?_⟩
            · rw [k1.2 _ (by omega), k2.2 _ (by omega), k3.2 _ (by omega)]; exact o3 i hi
            · rw [k4.2 _ (by omega), k5.2 _ (by omega)]; exact o4 i hi
            · have := (hRW.2.2.2.1 i hi).2.2 hv
              rw [k8 _ (by omega)]; exact o5 i hi hv
            · rw [k8 _ (by omega)]; exact o6 v hv hq'
        · rcases sp j q hj hq with ⟨s1, s2⟩ | ⟨s1, s2⟩
          · subst s1 s2
            unfold fg_YR
            rw [fg_gr_pl', fg_gr_rl', fg_gr_pk', fg_gr_pv', fg_gr_rk', fg_gr_rv']
            refine ⟨pk_us, pk_us, fun i hi => ?_, fun i hi => ?_⟩
            · obtain ⟨a1, a2⟩ := y1 i (by omega)
              have et : fg_to (5 * j + q) e' i = 24 * (5 * j + q) + i := if_pos hi
              rw [et] at a1 a2
              obtain ⟨d1, d2, d3, d4, d5, d6, d7⟩ := r8.2 i (by omega)
              refine ⟨a1, fun x => ?_⟩
              rw [a2]
              rcases x with x | x
              · exact (d6 (Or.inl x)).2
              · exact (d7 x).2
            · obtain ⟨a1, a2⟩ := y1 (e' + i) (by omega)
              have et : fg_to (5 * j + q) e' (e' + i) = 24 * (5 * j + q) + 12 + i := by
                unfold fg_to
                rw [if_neg (by omega), Nat.add_sub_cancel_left]
              rw [et] at a1 a2
              obtain ⟨d1, d2, d3, d4, d5, d6, d7⟩ := r8.2 (e' + i) (by omega)
              refine ⟨a1, ?_⟩
              rw [a2]
              rcases g7 (e' + i) (by omega) (by omega) with x | x | ⟨x, -⟩
              · exact (d7 x).2
              · exact (d6 (Or.inr x)).2
              · exact (d6 (Or.inl x)).2
          · obtain ⟨o1, o2, o3, o4⟩ := cy.2.2 j q hj s2
            have l12 := (hW.2.2.2 j q hj s2).1
            unfold fg_YR
            rw [fg_gr_pl s1, fg_gr_rl s1, fg_gr_pk s1, fg_gr_pv s1, fg_gr_rk s1, fg_gr_rv s1]
            refine ⟨by rw [pk_un s1]; exact o1, by rw [pk_un s1]; exact o2, fun i hi => ?_, fun i hi => ?_⟩
            · obtain ⟨a1, a2⟩ := y2 (24 * (5 * j + q) + i) (by omega)
              rw [a1, a2]; exact o3 i hi
            · obtain ⟨a1, a2⟩ := y2 (24 * (5 * j + q) + 12 + i) (by omega)
              rw [a1, a2]; exact o4 i hi
        · obtain ⟨q1, q2⟩ := r11 j hj
          by_cases y : j = f
          · subst y
            rw [pk_us, pk_us]
            exact ⟨rfl, Or.inl rfl⟩
          · rw [pk_un y, pk_un y, hrw, if_neg y]
            exact ⟨q1, q2⟩
end
section
/-! numbers of trees -/
theorem fg_bs_lt {b : Nat} {d : Nat → Nat} : ∀ s, (∀ i, i < s → d i < b) → fg_bs b d s < b ^ s
  | 0, _ => by simp [fg_bs]
  | s + 1, h => by
    have ih := fg_bs_lt s (fun i hi => h i (by omega))
    have hd := h s (by omega)
    simp only [fg_bs, Nat.pow_succ]
    have : b * (fg_bs b d s + 1) ≤ b * b ^ s := Nat.mul_le_mul_left b ih
    rw [Nat.mul_add, Nat.mul_one] at this
    rw [Nat.mul_comm (b ^ s) b]
    omega
theorem fg_bs_cg {b : Nat} {d d' : Nat → Nat} : ∀ s, (∀ i, i < s → d i = d' i) → fg_bs b d s = fg_bs b d' s
  | 0, _ => rfl
  | s + 1, h => by
    simp only [fg_bs]
    rw [fg_bs_cg s (fun i hi => h i (by omega)), h s (by omega)]
theorem fg_mdiv {b x x' d d' : Nat} (hd : d < b) (hd' : d' < b) (h : b * x + d = b * x' + d') : x = x' ∧ d = d' := by
  have e1 : (b * x + d) / b = x := by rw [Nat.mul_add_div (by omega), Nat.div_eq_of_lt hd, Nat.add_zero]
  have e2 : (b * x' + d') / b = x' := by rw [Nat.mul_add_div (by omega), Nat.div_eq_of_lt hd', Nat.add_zero]
  have : x = x' := by rw [← e1, ← e2, h]
  subst this
  exact ⟨rfl, by omega⟩
theorem fg_mlt {b x x' d d' : Nat} (hd : d < b) (hd' : d' < b) (h : b * x + d < b * x' + d') : x < x' ∨ (x = x' ∧ d < d') := by
  rcases Nat.lt_trichotomy x x' with z | z | z
  · exact Or.inl z
  · subst z; exact Or.inr ⟨rfl, by omega⟩
  · have : b * (x' + 1) ≤ b * x := Nat.mul_le_mul_left b z
    rw [Nat.mul_add, Nat.mul_one] at this
    omega
theorem fg_bs_inj {b : Nat} {d d' : Nat → Nat} : ∀ s, (∀ i, i < s → d i < b) → (∀ i, i < s → d' i < b) → fg_bs b d s = fg_bs b d' s → ∀ i, i < s → d i = d' i
  | 0, _, _, _ => fun i hi => absurd hi (Nat.not_lt_zero _)
  | s + 1, h, h', e => by
    simp only [fg_bs] at e
    obtain ⟨e1, e2⟩ := fg_mdiv (h s (by omega)) (h' s (by omega)) e
    intro i hi
    rcases Nat.lt_or_ge i s with z | z
    · exact fg_bs_inj s (fun i hi => h i (by omega)) (fun i hi => h' i (by omega)) e1 i z
    · rw [show i = s by omega]; exact e2
theorem fg_bs_mono {b B : Nat} {d d' : Nat → Nat} (hB : b ≤ B) : ∀ s, (∀ i, i < s → d i < b) → (∀ i, i < s → d' i < b) → fg_bs b d s < fg_bs b d' s → fg_bs B d s < fg_bs B d' s
  | 0, _, _, e => by simp [fg_bs] at e
  | s + 1, h, h', e => by
    simp only [fg_bs] at e ⊢
    have hd := h s (by omega)
    rcases fg_mlt hd (h' s (by omega)) e with z | ⟨z1, z2⟩
    · have ih := fg_bs_mono hB s (fun i hi => h i (by omega)) (fun i hi => h' i (by omega)) z
      have : B * (fg_bs B d s + 1) ≤ B * fg_bs B d' s := Nat.mul_le_mul_left B ih
      rw [Nat.mul_add, Nat.mul_one] at this
      omega
    · have e' := fg_bs_inj s (fun i hi => h i (by omega)) (fun i hi => h' i (by omega)) z1
      rw [fg_bs_cg s e']
      omega
theorem fg_bs_app {b : Nat} {d : Nat → Nat} (m : Nat) : ∀ n, fg_bs b d (m + n) = fg_bs b d m * b ^ n + fg_bs b (fun i => d (m + i)) n
  | 0 => by simp [fg_bs]
  | n + 1 => by
    rw [← Nat.add_assoc]
    simp only [fg_bs]
    rw [fg_bs_app m n, Nat.pow_succ, Nat.mul_add, Nat.add_assoc]
    congr 1
    rw [Nat.mul_comm b, Nat.mul_assoc]
theorem fg_bs_dig {b : Nat} {d : Nat → Nat} {s k : Nat} (hk : k < s) (h : ∀ i, i < s → d i < b) : fg_bs b d s / b ^ (s - 1 - k) % b = d k := by
  have e := fg_bs_app (b := b) (d := d) (k + 1) (s - 1 - k)
  rw [show k + 1 + (s - 1 - k) = s by omega] at e
  have hl := fg_bs_lt (b := b) (d := fun i => d (k + 1 + i)) (s - 1 - k) (fun i hi => h _ (by omega))
  have hb : 0 < b := by have := h k hk; omega
  rw [e, Nat.mul_comm, Nat.mul_add_div (Nat.pow_pos hb), Nat.div_eq_of_lt hl, Nat.add_zero]
  simp only [fg_bs]
  rw [Nat.mul_add_mod, Nat.mod_eq_of_lt (h k hk)]
/-! how many -/
def fg_Ca (D : fg_T → Prop) (q : Nat) : Prop := ∃ P : List fg_T, P.Nodup ∧ (∀ t, t ∈ P ↔ D t) ∧ P.length = q
theorem fg_Ca_le {D E : fg_T → Prop} {q q' : Nat} (h : fg_Ca D q) (h' : fg_Ca E q') (hs : ∀ t, D t → E t) : q ≤ q' := by
  obtain ⟨P, p1, p2, p3⟩ := h
  obtain ⟨Q, q1, q2, q3⟩ := h'
  rw [← p3, ← q3]
  exact List.Nodup.length_le_of_subset p1 (fun t ht => (q2 t).mpr (hs t ((p2 t).mp ht)))
theorem fg_Ca_uniq {D : fg_T → Prop} {q q' : Nat} (h : fg_Ca D q) (h' : fg_Ca D q') : q = q' := Nat.le_antisymm (fg_Ca_le h h' (fun _ z => z)) (fg_Ca_le h' h (fun _ z => z))
theorem fg_Ca_iff {D E : fg_T → Prop} {q : Nat} (h : fg_Ca D q) (he : ∀ t, D t ↔ E t) : fg_Ca E q := by
  obtain ⟨P, p1, p2, p3⟩ := h
  exact ⟨P, p1, fun t => (p2 t).trans (he t), p3⟩
theorem fg_Ca_0 {D : fg_T → Prop} (h : ∀ t, ¬ D t) : fg_Ca D 0 := ⟨[], List.nodup_nil, fun t => ⟨(fun z => nomatch z), fun z => absurd z (h t)⟩, rfl⟩
theorem fg_Ca_1 (a : fg_T) : fg_Ca (fun t => t = a) 1 := ⟨[a], by simp, fun t => by simp, rfl⟩
theorem fg_Ca_add {D E F : fg_T → Prop} {q q' : Nat} (h : fg_Ca D q) (h' : fg_Ca E q') (hd : ∀ t, D t → E t → False) (hF : ∀ t, F t ↔ D t ∨ E t) : fg_Ca F (q + q') := by
  obtain ⟨P, p1, p2, p3⟩ := h
  obtain ⟨Q, q1, q2, q3⟩ := h'
  refine ⟨P ++ Q, ?_, fun t => ?_, by rw [List.length_append, p3, q3]⟩
  · refine List.pairwise_append.mpr ⟨p1, q1, fun a ha b hb e => ?_⟩
    subst e
    exact hd a ((p2 a).mp ha) ((q2 a).mp hb)
  · rw [List.mem_append, p2, q2, hF]
theorem fg_Ca_pos {D : fg_T → Prop} {q : Nat} (h : fg_Ca D q) {t : fg_T} (ht : D t) : 0 < q := by
  obtain ⟨P, p1, p2, p3⟩ := h
  rw [← p3]
  exact List.length_pos_of_mem ((p2 t).mpr ht)
theorem fg_Ca_prod {D E : fg_T → Prop} {q q' : Nat} (c : Nat) (h : fg_Ca D q) (h' : fg_Ca E q') : fg_Ca (fun t => ∃ a b, D a ∧ E b ∧ t = .branch c a b) (q * q') := by
  obtain ⟨P, p1, p2, p3⟩ := h
  have key : ∀ P : List fg_T, P.Nodup → fg_Ca (fun t => ∃ a b, a ∈ P ∧ E b ∧ t = .branch c a b) (P.length * q') := by
    intro P
    induction P with
    | nil => intro _; exact (by simpa using fg_Ca_0 (D := fun t => ∃ a b, a ∈ ([] : List fg_T) ∧ E b ∧ t = .branch c a b) (fun t ⟨a, b, ha, _⟩ => nomatch ha))
    | cons x P ih =>
      intro hn
      obtain ⟨n1, n2⟩ := List.nodup_cons.mp hn
      have hx : fg_Ca (fun t => ∃ b, E b ∧ t = .branch c x b) q' := by
        obtain ⟨Q, q1, q2, q3⟩ := h'
        refine ⟨Q.map (fun b => .branch c x b), ?_, fun t => ?_, by rw [List.length_map, q3]⟩
        · refine List.pairwise_map.mpr (List.Pairwise.imp ?_ q1)
          intro a b hab e
          injection e with _ _ e
          exact hab e
        · rw [List.mem_map]
          constructor
          · rintro ⟨b, hb, rfl⟩
            exact ⟨b, (q2 b).mp hb, rfl⟩
          · rintro ⟨b, hb, rfl⟩
            exact ⟨b, (q2 b).mpr hb, rfl⟩
      have := fg_Ca_add (F := fun t => ∃ a b, a ∈ x :: P ∧ E b ∧ t = .branch c a b) hx (ih n2) ?_ ?_
      · rw [List.length_cons, Nat.add_mul, Nat.one_mul, Nat.add_comm]; exact this
      · rintro t ⟨b, _, rfl⟩ ⟨a, b', ha, _, e⟩
        injection e with _ e _
        subst e
        exact n1 ha
      · intro t
        constructor
        · rintro ⟨a, b, ha, hb, rfl⟩
          rcases List.mem_cons.mp ha with rfl | ha
          · exact Or.inl ⟨b, hb, rfl⟩
          · exact Or.inr ⟨a, b, ha, hb, rfl⟩
        · rintro (⟨b, hb, rfl⟩ | ⟨a, b, ha, hb, rfl⟩)
          · exact ⟨x, b, List.mem_cons_self, hb, rfl⟩
          · exact ⟨a, b, List.mem_cons_of_mem _ ha, hb, rfl⟩
  have := key P p1
  rw [p3] at this
  exact fg_Ca_iff this (fun t => ⟨fun ⟨a, b, h1, h2, h3⟩ => ⟨a, b, (p2 a).mp h1, h2, h3⟩, fun ⟨a, b, h1, h2, h3⟩ => ⟨a, b, (p2 a).mpr h1, h2, h3⟩⟩)
theorem fg_Ca_K {D : fg_T → Prop} {q K : Nat} (h : fg_Ca D q) (x : Nat → fg_T) (hx : ∀ k, k < K → D (x k)) (hi : ∀ k k', k < K → k' < K → x k = x k' → k = k') : K ≤ q := by
  obtain ⟨P, p1, p2, p3⟩ := h
  have hn : ((List.range K).map x).Nodup := by
    refine List.pairwise_map.mpr (List.Pairwise.imp_of_mem ?_ (List.nodup_range (n := K)))
    intro a b ha hb hab e
    exact hab (hi a b (List.mem_range.mp ha) (List.mem_range.mp hb) e)
  have := List.Nodup.length_le_of_subset hn (l₂ := P) (fun t ht => by
    obtain ⟨k, hk, rfl⟩ := List.mem_map.mp ht
    exact (p2 _).mpr (hx k (List.mem_range.mp hk)))
  rw [List.length_map, List.length_range, p3] at this
  exact this
/-- a value -/
def fg_V (g : fg_C) (t : fg_T) : Prop := t ≠ fg_nil ∧ fg_ok (fg_nc g) (fg_ar g) t
def fg_U (g : fg_C) (n : Nat) (t : fg_T) : Prop := fg_V g t ∧ fg_sz t = n
def fg_cA (ar : Nat → Nat) (k : Nat) : Nat → Nat
  | 0 => 0
  | c + 1 => fg_cA ar k c + (if ar c = k then 1 else 0)
theorem fg_cA_sum {ar : Nat → Nat} (h : ∀ c, ar c ≤ 2) : ∀ c, fg_cA ar 0 c + fg_cA ar 1 c + fg_cA ar 2 c = c
  | 0 => rfl
  | c + 1 => by
    have ih := fg_cA_sum h c
    have := h c
    simp only [fg_cA]
    rcases (show ar c = 0 ∨ ar c = 1 ∨ ar c = 2 by omega) with z | z | z <;> simp only [z] <;> simp <;> omega
/-- values of a size, by the counts of smaller sizes and of pairs -/
theorem fg_U_n {g : fg_C} (hW : fg_WF g) {n t0 t1 t2 : Nat}
    (h0 : ∀ c, fg_ar g c = 0 → c < fg_nc g → fg_Ca (fun t => fg_U g n t ∧ fg_hd t = c) t0)
    (h1 : ∀ c, fg_ar g c = 1 → c < fg_nc g → fg_Ca (fun t => fg_U g n t ∧ fg_hd t = c) t1)
    (h2 : ∀ c, fg_ar g c = 2 → c < fg_nc g → fg_Ca (fun t => fg_U g n t ∧ fg_hd t = c) t2) :
    fg_Ca (fg_U g n) (fg_cA (fg_ar g) 0 (fg_nc g) * t0 + fg_cA (fg_ar g) 1 (fg_nc g) * t1 + fg_cA (fg_ar g) 2 (fg_nc g) * t2) := by
  have key : ∀ c, c ≤ fg_nc g → fg_Ca (fun t => fg_U g n t ∧ fg_hd t < c) (fg_cA (fg_ar g) 0 c * t0 + fg_cA (fg_ar g) 1 c * t1 + fg_cA (fg_ar g) 2 c * t2) := by
    intro c
    induction c with
    | zero => intro _; simp only [fg_cA, Nat.zero_mul, Nat.add_zero]; exact fg_Ca_0 (fun t h => Nat.not_lt_zero _ h.2)
    | succ c ih =>
      intro hc
      have ih := ih (by omega)
      have ha := hW.2.1 c
      have hF : ∀ t, (fg_U g n t ∧ fg_hd t < c + 1) ↔ (fg_U g n t ∧ fg_hd t < c) ∨ (fg_U g n t ∧ fg_hd t = c) := by
        intro t
        constructor
        · rintro ⟨a, b⟩
          rcases Nat.lt_or_ge (fg_hd t) c with z | z
          · exact Or.inl ⟨a, z⟩
          · exact Or.inr ⟨a, by omega⟩
        · rintro (⟨a, b⟩ | ⟨a, b⟩)
          · exact ⟨a, by omega⟩
          · exact ⟨a, by omega⟩
      have hd : ∀ t, (fg_U g n t ∧ fg_hd t < c) → (fg_U g n t ∧ fg_hd t = c) → False := fun t a b => by have := a.2; have := b.2; omega
      rcases (show fg_ar g c = 0 ∨ fg_ar g c = 1 ∨ fg_ar g c = 2 by omega) with z | z | z
      · have := fg_Ca_add ih (h0 c z (by omega)) hd hF
        have e : fg_cA (fg_ar g) 0 (c + 1) * t0 + fg_cA (fg_ar g) 1 (c + 1) * t1 + fg_cA (fg_ar g) 2 (c + 1) * t2 = fg_cA (fg_ar g) 0 c * t0 + fg_cA (fg_ar g) 1 c * t1 + fg_cA (fg_ar g) 2 c * t2 + t0 := by
          simp only [fg_cA, z]
          simp [Nat.add_mul]
          omega
        rw [e]; exact this
      · have := fg_Ca_add ih (h1 c z (by omega)) hd hF
        have e : fg_cA (fg_ar g) 0 (c + 1) * t0 + fg_cA (fg_ar g) 1 (c + 1) * t1 + fg_cA (fg_ar g) 2 (c + 1) * t2 = fg_cA (fg_ar g) 0 c * t0 + fg_cA (fg_ar g) 1 c * t1 + fg_cA (fg_ar g) 2 c * t2 + t1 := by
          simp only [fg_cA, z]
          simp [Nat.add_mul]
          omega
        rw [e]; exact this
      · have := fg_Ca_add ih (h2 c z (by omega)) hd hF
        have e : fg_cA (fg_ar g) 0 (c + 1) * t0 + fg_cA (fg_ar g) 1 (c + 1) * t1 + fg_cA (fg_ar g) 2 (c + 1) * t2 = fg_cA (fg_ar g) 0 c * t0 + fg_cA (fg_ar g) 1 c * t1 + fg_cA (fg_ar g) 2 c * t2 + t2 := by
          simp only [fg_cA, z]
          simp [Nat.add_mul]
          omega
        rw [e]; exact this
  refine fg_Ca_iff (key (fg_nc g) (Nat.le_refl _)) (fun t => ⟨fun h => h.1, fun h => ⟨h, (fg_ok_b h.1.2 h.1.1).1⟩⟩)
theorem fg_U_sh {g : fg_C} {n : Nat} {t : fg_T} (h : fg_U g n t) : ∃ c a b, t = .branch c a b ∧ c < fg_nc g ∧ fg_sh (fg_ar g c) a b ∧ fg_ok (fg_nc g) (fg_ar g) a ∧ fg_ok (fg_nc g) (fg_ar g) b ∧ 1 + fg_sz a + fg_sz b = n := by
  obtain ⟨⟨h1, h2⟩, h3⟩ := h
  obtain ⟨a1, a2, a3, a4⟩ := fg_ok_b h2 h1
  exact ⟨_, _, _, fg_br h1, a1, a2, a3, a4, by rw [← h3, fg_sz_br h1]⟩
theorem fg_U_arity0 {g : fg_C} {c : Nat} (hc : c < fg_nc g) (h : fg_ar g c = 0) (n : Nat) : fg_Ca (fun t => fg_U g n t ∧ fg_hd t = c) (if n = 1 then 1 else 0) := by
  have sh : ∀ t, (fg_U g n t ∧ fg_hd t = c) → t = .branch c fg_nil fg_nil ∧ n = 1 := by
    rintro t ⟨hu, hh⟩
    obtain ⟨c', a, b, rfl, -, hs, -, -, hn⟩ := fg_U_sh hu
    have : c' = c := hh
    subst this
    rcases hs with ⟨-, rfl, rfl⟩ | ⟨z, -⟩ | ⟨z, -⟩
    · exact ⟨rfl, by simp only [fg_sz] at hn; omega⟩
    · omega
    · omega
  by_cases z : n = 1
  · rw [if_pos z]
    refine fg_Ca_iff (fg_Ca_1 (.branch c fg_nil fg_nil)) (fun t => ⟨?_, fun q => (sh t q).1⟩)
    rintro rfl
    exact ⟨⟨⟨fg_ne_b, hc, Or.inl ⟨h, rfl, rfl⟩, True.intro, True.intro⟩, by simp only [fg_sz]; omega⟩, rfl⟩
  · rw [if_neg z]
    exact fg_Ca_0 (fun t q => z (sh t q).2)
theorem fg_U_arity1 {g : fg_C} {c : Nat} (hc : c < fg_nc g) (h : fg_ar g c = 1) {n q : Nat} (hq : fg_Ca (fg_U g n) q) : fg_Ca (fun t => fg_U g (n + 1) t ∧ fg_hd t = c) q := by
  have := fg_Ca_prod c hq (fg_Ca_1 fg_nil)
  rw [Nat.mul_one] at this
  refine fg_Ca_iff this (fun t => ⟨?_, ?_⟩)
  · rintro ⟨a, b, ha, rfl, rfl⟩
    exact ⟨⟨⟨fg_ne_b, hc, Or.inr (Or.inl ⟨h, ha.1.1, rfl⟩), ha.1.2, True.intro⟩, by have := ha.2; simp only [fg_sz]; omega⟩, rfl⟩
  · rintro ⟨hu, hh⟩
    obtain ⟨c', a, b, rfl, -, hs, oa, -, hn⟩ := fg_U_sh hu
    have : c' = c := hh
    subst this
    rcases hs with ⟨z, -⟩ | ⟨-, z1, rfl⟩ | ⟨z, -⟩
    · omega
    · exact ⟨a, fg_nil, ⟨⟨z1, oa⟩, by simp only [fg_sz] at hn; omega⟩, rfl, rfl⟩
    · omega
theorem fg_U_arity1z {g : fg_C} {c : Nat} (h : fg_ar g c = 1) : fg_Ca (fun t => fg_U g 1 t ∧ fg_hd t = c) 0 := by
  refine fg_Ca_0 ?_
  rintro t ⟨hu, hh⟩
  obtain ⟨c', a, b, rfl, -, hs, -, -, hn⟩ := fg_U_sh hu
  have : c' = c := hh
  subst this
  rcases hs with ⟨z, -⟩ | ⟨-, z1, -⟩ | ⟨z, -⟩
  · omega
  · have := fg_szp z1; omega
  · omega
/-- pairs of sizes x + y = n -/
theorem fg_U_arity2 {g : fg_C} {c : Nat} (hc : c < fg_nc g) (h : fg_ar g c = 2) {x y p q : Nat} (hp : fg_Ca (fg_U g x) p) (hq : fg_Ca (fg_U g y) q) : fg_Ca (fun t => (fg_U g (1 + x + y) t ∧ fg_hd t = c) ∧ fg_sz (fg_L t) = x) (p * q) := by
  refine fg_Ca_iff (fg_Ca_prod c hp hq) (fun t => ⟨?_, ?_⟩)
  · rintro ⟨a, b, ha, hb, rfl⟩
    exact ⟨⟨⟨⟨fg_ne_b, hc, Or.inr (Or.inr ⟨h, ha.1.1, hb.1.1⟩), ha.1.2, hb.1.2⟩, by have := ha.2; have := hb.2; simp only [fg_sz]; omega⟩, rfl⟩, ha.2⟩
  · rintro ⟨⟨hu, hh⟩, hl⟩
    obtain ⟨c', a, b, rfl, -, hs, oa, ob, hn⟩ := fg_U_sh hu
    have : c' = c := hh
    subst this
    have hl' : fg_sz a = x := hl
    rcases hs with ⟨z, -⟩ | ⟨z, -⟩ | ⟨-, z1, z2⟩
    · omega
    · omega
    · exact ⟨a, b, ⟨⟨z1, oa⟩, hl'⟩, ⟨⟨z2, ob⟩, by omega⟩, rfl⟩
theorem fg_U_2sz {g : fg_C} {c n : Nat} {t : fg_T} (h : fg_ar g c = 2) (hu : fg_U g n t) (hh : fg_hd t = c) : 1 ≤ fg_sz (fg_L t) ∧ fg_sz (fg_L t) + 2 ≤ n := by
  obtain ⟨c', a, b, rfl, -, hs, oa, ob, hn⟩ := fg_U_sh hu
  have : c' = c := hh
  subst this
  rcases hs with ⟨z, -⟩ | ⟨z, -⟩ | ⟨-, z1, z2⟩
  · omega
  · omega
  · have := fg_szp z1
    have := fg_szp z2
    exact ⟨by show 1 ≤ fg_sz a; omega, by show fg_sz a + 2 ≤ n; omega⟩
theorem fg_T4 : ∀ a, a < 7 → ∀ b, b < 7 → ∀ c, c < 7 → a + b + c ≤ 6 → a + b * a + (b * (b * a) + c * (a * a)) + (b * (b * (b * a) + c * (a * a)) + c * (a * (b * a) + b * a * a)) ≤ 170 := by decide +kernel
theorem fg_U4 {g : fg_C} (hW : fg_WF g) : ∃ q, q ≤ 170 ∧ fg_Ca (fun t => fg_V g t ∧ fg_sz t ≤ 4) q := by
  have hs := fg_cA_sum hW.2.1 (fg_nc g)
  have hn := hW.1
  generalize e0 : fg_cA (fg_ar g) 0 (fg_nc g) = n0 at hs
  generalize e1 : fg_cA (fg_ar g) 1 (fg_nc g) = n1 at hs
  generalize e2 : fg_cA (fg_ar g) 2 (fg_nc g) = n2 at hs
  have u1 : fg_Ca (fg_U g 1) n0 := by
    have := fg_U_n hW (n := 1) (t0 := 1) (t1 := 0) (t2 := 0) (fun c h hc => fg_U_arity0 hc h 1) (fun c h hc => fg_U_arity1z h) (fun c h hc => fg_Ca_0 (fun t ht => by have := fg_U_2sz h ht.1 ht.2; omega))
    rw [e0, Nat.mul_zero, Nat.mul_zero, Nat.mul_one, Nat.add_zero] at this
    exact this
  have u2 : fg_Ca (fg_U g 2) (n1 * n0) := by
    have := fg_U_n hW (n := 2) (t0 := 0) (t1 := n0) (t2 := 0) (fun c h hc => fg_U_arity0 hc h 2) (fun c h hc => fg_U_arity1 hc h u1) (fun c h hc => fg_Ca_0 (fun t ht => by have := fg_U_2sz h ht.1 ht.2; omega))
    rw [e1, Nat.mul_zero, Nat.mul_zero, Nat.add_zero, Nat.zero_add] at this
    exact this
  have u3 : fg_Ca (fg_U g 3) (n1 * (n1 * n0) + n2 * (n0 * n0)) := by
    have := fg_U_n hW (n := 3) (t0 := 0) (t1 := n1 * n0) (t2 := n0 * n0) (fun c h hc => fg_U_arity0 hc h 3) (fun c h hc => fg_U_arity1 hc h u2) (fun c h hc => fg_Ca_iff (fg_U_arity2 hc h u1 u1) (fun t => ⟨fun z => z.1, fun z => ⟨z, by have := fg_U_2sz h z.1 z.2; omega⟩⟩))
    rw [e1, e2, Nat.mul_zero, Nat.zero_add] at this
    exact this
  have u4 : fg_Ca (fg_U g 4) (n1 * (n1 * (n1 * n0) + n2 * (n0 * n0)) + n2 * (n0 * (n1 * n0) + n1 * n0 * n0)) := by
    have := fg_U_n hW (n := 4) (t0 := 0) (t1 := n1 * (n1 * n0) + n2 * (n0 * n0)) (t2 := n0 * (n1 * n0) + n1 * n0 * n0) (fun c h hc => fg_U_arity0 hc h 4) (fun c h hc => fg_U_arity1 hc h u3)
      (fun c h hc => fg_Ca_add (fg_U_arity2 hc h u1 u2) (fg_U_arity2 hc h u2 u1) (fun t a b => by have := a.2; have := b.2; omega) (fun t => ⟨fun z => by
        have := fg_U_2sz h z.1 z.2
        rcases (show fg_sz (fg_L t) = 1 ∨ fg_sz (fg_L t) = 2 by omega) with w | w
        · exact Or.inl ⟨z, w⟩
        · exact Or.inr ⟨z, w⟩, fun z => z.elim (fun w => w.1) (fun w => w.1)⟩))
    rw [e1, e2, Nat.mul_zero, Nat.zero_add] at this
    exact this
  refine ⟨_, fg_T4 n0 (by omega) n1 (by omega) n2 (by omega) (by omega), ?_⟩
  refine fg_Ca_add (D := fun t => fg_V g t ∧ fg_sz t ≤ 3) (E := fg_U g 4) ?_ u4 (fun t a b => by have := a.2; have := b.2; omega) (fun t => ⟨fun z => ?_, fun z => ?_⟩)
  · refine fg_Ca_add (D := fun t => fg_V g t ∧ fg_sz t ≤ 2) (E := fg_U g 3) ?_ u3 (fun t a b => by have := a.2; have := b.2; omega) (fun t => ⟨fun z => ?_, fun z => ?_⟩)
    · refine fg_Ca_add (D := fg_U g 1) (E := fg_U g 2) u1 u2 (fun t a b => by have := a.2; have := b.2; omega) (fun t => ⟨fun z => ?_, fun z => ?_⟩)
      · have := fg_szp z.1.1
        rcases (show fg_sz t = 1 ∨ fg_sz t = 2 by have := z.2; omega) with w | w
        · exact Or.inl ⟨z.1, w⟩
        · exact Or.inr ⟨z.1, w⟩
      · rcases z with z | z
        · exact ⟨z.1, by have := z.2; omega⟩
        · exact ⟨z.1, by have := z.2; omega⟩
    · rcases (show fg_sz t ≤ 2 ∨ fg_sz t = 3 by have := z.2; omega) with w | w
      · exact Or.inl ⟨z.1, w⟩
      · exact Or.inr ⟨z.1, w⟩
    · rcases z with z | z
      · exact ⟨z.1, by have := z.2; omega⟩
      · exact ⟨z.1, by have := z.2; omega⟩
  · rcases (show fg_sz t ≤ 3 ∨ fg_sz t = 4 by have := z.2; omega) with w | w
    · exact Or.inl ⟨z.1, w⟩
    · exact Or.inr ⟨z.1, w⟩
  · rcases z with z | z
    · exact ⟨z.1, by have := z.2; omega⟩
    · exact ⟨z.1, by have := z.2; omega⟩
end
section
/-! kinds of values -/
theorem fg_fr_cg {p p' : Nat → Bool} : ∀ n, (∀ r, r < n → p r = p' r) → fg_fr p n = fg_fr p' n
  | 0, _ => rfl
  | n + 1, h => by
    simp only [fg_fr]
    rw [fg_fr_cg n (fun r hr => h r (by omega)), h n (by omega)]
theorem fg_M_cg {ar k v be : Nat → Nat} {N c : Nat} {a b a' b' : fg_T} (hP : fg_P (fg_op ar k v) be N) (hN : N ≤ 12) (h2 : ar c ≤ 2)
    (ha : ar c ≠ 0 → ∀ j, j < N → fg_M ar k v be j a = fg_M ar k v be j a') (hb : ar c = 2 → ∀ j, j < N → fg_M ar k v be j b = fg_M ar k v be j b') :
    ∀ (n i : Nat), N - i ≤ n → i < N → fg_M ar k v be i (.branch c a b) = fg_M ar k v be i (.branch c a' b') := by
  intro n
  induction n with
  | zero => intro i h hi; omega
  | succ n ih =>
    intro i h hi
    by_cases k2 : k i = 2
    · rw [fg_M2 hP hN hi k2, fg_M2 hP hN hi k2]
      show ((c == v i) && (ar (v i) == 0 || fg_M ar k v be (i + 1) a) && (decide (ar (v i) ≤ 1) || fg_M ar k v be (be (i + 1)) b)) = ((c == v i) && (ar (v i) == 0 || fg_M ar k v be (i + 1) a') && (decide (ar (v i) ≤ 1) || fg_M ar k v be (be (i + 1)) b'))
      have ho : fg_op ar k v i = ar (v i) := fg_op2 k2
      by_cases e : c = v i
      · subst e
        have e1 : (ar (v i) == 0 || fg_M ar k v be (i + 1) a) = (ar (v i) == 0 || fg_M ar k v be (i + 1) a') := by
          by_cases z : ar (v i) = 0
          · rw [z]; rfl
          · rw [ha z _ (fg_P1 hP hi (by omega))]
        have e2 : (decide (ar (v i) ≤ 1) || fg_M ar k v be (be (i + 1)) b) = (decide (ar (v i) ≤ 1) || fg_M ar k v be (be (i + 1)) b') := by
          by_cases z : ar (v i) ≤ 1
          · rw [decide_eq_true z]; rfl
          · rw [hb (by omega) _ (fg_P2 hP hi (by omega)).2.1]
        rw [e1, e2]
      · rw [show (c == v i) = false from beq_eq_false_iff_ne.mpr e]; rfl
    · by_cases k3 : k i = 3
      · have q := fg_P2 hP hi (fg_op3 k3)
        rw [fg_M3 hP hN hi k3, fg_M3 hP hN hi k3, ih (i + 1) (by omega) (by omega), ih (be (i + 1)) (by omega) (by omega)]
      · by_cases k4 : k i = 4
        · have q := fg_P1 hP hi (by rw [fg_op4 k4]; omega)
          rw [fg_M4 hP hN hi k4, fg_M4 hP hN hi k4, ih (i + 1) (by omega) q]
        · rw [fg_M0 k2 k3 k4, fg_M0 k2 k3 k4]
section
variable {g : fg_C} {f : Nat}
theorem fg_st_bits (hW : fg_WF g) (hf : f < 4) {t t' : fg_T} (ht : t ≠ fg_nil) (ht' : t' ≠ fg_nil) (e : fg_st g f t = fg_st g f t') {r j : Nat} (hr : r < fg_rw g f) (hj : j < fg_pl g (5 * f + r)) : fg_mr g (5 * f + r) j t = fg_mr g (5 * f + r) j t' := by
  have p12 := (hW.2.2.2 f r hf hr).1.2.1
  have h5 := hW.2.2.1 f hf
  have key : ∀ q : fg_T, q ≠ fg_nil → fg_bt (fg_st g f q) (12 * r + j) = fg_mr g (5 * f + r) j q := by
    intro q hq
    rw [fg_st_b hq, fg_set_bt, fg_bf_at hr (by omega), decide_eq_true (show 12 * r + j < 60 by omega), decide_eq_true hj]; rfl
  rw [← key t ht, ← key t' ht', e]
theorem fg_st_of {t t' : fg_T} (ht : t ≠ fg_nil) (ht' : t' ≠ fg_nil) (h : ∀ r j, r < fg_rw g f → j < fg_pl g (5 * f + r) → fg_mr g (5 * f + r) j t = fg_mr g (5 * f + r) j t') : fg_st g f t = fg_st g f t' := by
  rw [fg_st_b ht, fg_st_b ht']
  congr 1
  funext j
  unfold fg_bf
  by_cases h1 : j / 12 < fg_rw g f
  · by_cases h2 : j % 12 < fg_pl g (5 * f + j / 12)
    · rw [h _ _ h1 h2]
    · rw [decide_eq_false h2, Bool.and_false, Bool.false_and, Bool.false_and]
  · rw [decide_eq_false h1, Bool.false_and, Bool.false_and, Bool.false_and]
theorem fg_tk_cg (hW : fg_WF g) (hf : f < 4) {t t' : fg_T} (ht : t ≠ fg_nil) (ht' : t' ≠ fg_nil) (e : fg_st g f t = fg_st g f t') : fg_tk g f t = fg_tk g f t' :=
  fg_fr_cg _ (fun r hr => fg_st_bits hW hf ht ht' e hr (hW.2.2.2 f r hf hr).1.1)
theorem fg_st_nd (hW : fg_WF g) (hf : f < 4) {c : Nat} {a b a' b' : fg_T} (h : fg_sh (fg_ar g c) a b) (h' : fg_sh (fg_ar g c) a' b') (ea : fg_st g f a = fg_st g f a') (eb : fg_st g f b = fg_st g f b') : fg_st g f (.branch c a b) = fg_st g f (.branch c a' b') := by
  refine fg_st_of fg_ne_b fg_ne_b (fun r j hr hj => ?_)
  obtain ⟨⟨-, p12, -, -⟩, hP, -⟩ := hW.2.2.2 f r hf hr
  have h2 := hW.2.1 c
  refine fg_M_cg hP p12 h2 (fun z j hj => ?_) (fun z j hj => ?_) _ j (Nat.le_refl _) hj
  · have n1 : a ≠ fg_nil := by rcases h with q | q | q; omega; exact q.2.1; exact q.2.1
    have n2 : a' ≠ fg_nil := by rcases h' with q | q | q; omega; exact q.2.1; exact q.2.1
    exact fg_st_bits hW hf n1 n2 ea hr hj
  · have n1 : b ≠ fg_nil := by rcases h with q | q | q; omega; omega; exact q.2.2
    have n2 : b' ≠ fg_nil := by rcases h' with q | q | q; omega; omega; exact q.2.2
    exact fg_st_bits hW hf n1 n2 eb hr hj
end
def fg_dg (t : fg_T) (p : Nat) : Nat := fg_hd (fg_sub t p)
def fg_co (t : fg_T) : Nat := fg_bs 16 (fg_dg t) (fg_sz t)
theorem fg_dg_lt {g : fg_C} {t : fg_T} (h : fg_V g t) {p : Nat} (hp : p < fg_sz t) : fg_dg t p < fg_nc g := (fg_ok_b (fg_ok_sub t p h.2) (fg_sub_ne t p hp)).1
theorem fg_bs_nd {b c : Nat} {t u : fg_T} : fg_bs b (fg_dg (.branch c t u)) (fg_sz (.branch c t u : fg_T)) = (c * b ^ fg_sz t + fg_bs b (fg_dg t) (fg_sz t)) * b ^ fg_sz u + fg_bs b (fg_dg u) (fg_sz u) := by
  have e1 := fg_bs_app (b := b) (d := fg_dg (.branch c t u)) (1 + fg_sz t) (fg_sz u)
  have e2 := fg_bs_app (b := b) (d := fg_dg (.branch c t u)) 1 (fg_sz t)
  have e3 : fg_bs b (fg_dg (.branch c t u)) 1 = c := by simp only [fg_bs, Nat.mul_zero, Nat.zero_add]; rfl
  have e4 : fg_bs b (fun i => fg_dg (.branch c t u) (1 + i)) (fg_sz t) = fg_bs b (fg_dg t) (fg_sz t) := fg_bs_cg _ (fun i hi => by
    show fg_hd (fg_sub (.branch c t u) (1 + i)) = _
    rw [Nat.add_comm, fg_subL hi]; rfl)
  have e5 : fg_bs b (fun i => fg_dg (.branch c t u) (1 + fg_sz t + i)) (fg_sz u) = fg_bs b (fg_dg u) (fg_sz u) := fg_bs_cg _ (fun i hi => by
    show fg_hd (fg_sub (.branch c t u) (1 + fg_sz t + i)) = _
    rw [show 1 + fg_sz t + i = (fg_sz t + i) + 1 by omega, fg_subR (by omega), Nat.add_sub_cancel_left]; rfl)
  rw [e2, e3, e4, e5] at e1
  exact e1
theorem fg_co_lt {g : fg_C} (h6 : fg_nc g ≤ 6) {t : fg_T} (h : fg_V g t) : fg_co t < 16 ^ fg_sz t := fg_bs_lt _ (fun i hi => by have := fg_dg_lt h hi; omega)
/-! what is held of kinds, counts, the first open one; W: what is gone through -/
section
variable (g : fg_C) (f : Nat) (W : fg_T → Prop)
def fg_ix (r : Nat) : Nat := if r < fg_rw g f then r else 5
def fg_IA (counts : Nat → Int64) : Prop := ∀ r n, r ≤ fg_rw g f → n < 5 → ∃ q, counts (30 * f + 5 * fg_ix g f r + n) = lN q ∧ fg_Ca (fun t => W t ∧ fg_sz t = n + 1 ∧ fg_tk g f t = r) q
def fg_IB (K : Nat) (kSize : Nat → Int32) (kSet kMany kList : Nat → Int64) : Prop :=
  (∀ k, k < K → ∃ s, 1 ≤ s ∧ s ≤ 4 ∧ kSize k = nI s ∧ (∃ q, kMany k = lN q ∧ fg_Ca (fun t => W t ∧ fg_sz t = s ∧ fg_st g f t = kSet k) q) ∧ ∃ t, W t ∧ fg_sz t = s ∧ fg_st g f t = kSet k ∧ kList k = lN (fg_co t) ∧ ∀ t', W t' → fg_sz t' = s → fg_st g f t' = kSet k → fg_co t ≤ fg_co t') ∧
  (∀ k k', k < K → k' < K → kSize k = kSize k' → kSet k = kSet k' → k = k') ∧
  (∀ t, W t → fg_sz t ≤ 4 → ∃ k, k < K ∧ kSize k = nI (fg_sz t) ∧ kSet k = fg_st g f t)
def fg_IC (firstOpen : Nat → Int64) (openSize : Nat → Int32) : Prop := ∃ os, os ≤ 5 ∧ openSize f = nI os ∧ (os = 0 → ∀ t, W t → fg_tk g f t ≠ fg_rw g f) ∧
  (os ≠ 0 → ∃ t, W t ∧ fg_tk g f t = fg_rw g f ∧ fg_sz t = os ∧ firstOpen f = lN (fg_co t) ∧ ∀ t', W t' → fg_tk g f t' = fg_rw g f → os ≤ fg_sz t' ∧ (fg_sz t' = os → fg_co t ≤ fg_co t'))
end
section
variable {g : fg_C} {f n q r K : Nat} {W E : fg_T → Prop} {counts kSet kMany kList firstOpen : Nat → Int64} {kSize openSize : Nat → Int32} {x : Int64}
theorem fg_ix_inj (h5 : fg_rw g f ≤ 5) {r r' : Nat} (hr : r ≤ fg_rw g f) (hr' : r' ≤ fg_rw g f) (e : fg_ix g f r = fg_ix g f r') : r = r' := by
  unfold fg_ix at e
  by_cases z : r < fg_rw g f
  · rw [if_pos z] at e
    by_cases z' : r' < fg_rw g f
    · rw [if_pos z'] at e; exact e
    · rw [if_neg z'] at e; omega
  · rw [if_neg z] at e
    by_cases z' : r' < fg_rw g f
    · rw [if_pos z'] at e; omega
    · omega
theorem fg_ix_le (h5 : fg_rw g f ≤ 5) (r : Nat) : fg_ix g f r ≤ 5 := by
  unfold fg_ix
  split <;> omega
theorem fg_IA_up (h5 : fg_rw g f ≤ 5) (h : fg_IA g f W counts) (hr : r ≤ fg_rw g f) (hn : n < 5) (hE : ∀ t, E t → ¬ W t ∧ fg_sz t = n + 1 ∧ fg_tk g f t = r) (hq : fg_Ca E q) :
    fg_IA g f (fun t => W t ∨ E t) (vp_updL counts (30 * f + 5 * fg_ix g f r + n) (counts (30 * f + 5 * fg_ix g f r + n) + lN q)) := by
  intro r' n' hr' hn'
  obtain ⟨q', c1, c2⟩ := h r' n' hr' hn'
  by_cases e : r' = r ∧ n' = n
  · obtain ⟨rfl, rfl⟩ := e
    refine ⟨q' + q, by rw [pk_uLs, c1, lN_add], fg_Ca_add c2 hq (fun t a b => (hE t b).1 a.1) (fun t => ⟨?_, ?_⟩)⟩
    · rintro ⟨a | a, b⟩
      · exact Or.inl ⟨a, b⟩
      · exact Or.inr a
    · rintro (⟨a, b⟩ | a)
      · exact ⟨Or.inl a, b⟩
      · exact ⟨Or.inr a, (hE t a).2⟩
  · have hne : 30 * f + 5 * fg_ix g f r' + n' ≠ 30 * f + 5 * fg_ix g f r + n := by
      intro z
      have i1 : fg_ix g f r' = fg_ix g f r := by omega
      exact e ⟨fg_ix_inj h5 hr' hr i1, by omega⟩
    refine ⟨q', by rw [pk_uLn hne]; exact c1, fg_Ca_iff c2 (fun t => ⟨fun ⟨a, b⟩ => ⟨Or.inl a, b⟩, ?_⟩)⟩
    rintro ⟨a | a, b1, b2⟩
    · exact ⟨a, b1, b2⟩
    · obtain ⟨-, e1, e2⟩ := hE t a
      exact absurd ⟨by omega, by omega⟩ e
theorem fg_IB_5 (h : fg_IB g f W K kSize kSet kMany kList) (hE : ∀ t, E t → fg_sz t = 5) : fg_IB g f (fun t => W t ∨ E t) K kSize kSet kMany kList := by
  obtain ⟨h1, h2, h3⟩ := h
  refine ⟨fun k hk => ?_, h2, fun t ht hs => ?_⟩
  · obtain ⟨s, s1, s2, s3, ⟨q, s4, s5⟩, t, t1, t2, t3, t4, t5⟩ := h1 k hk
    refine ⟨s, s1, s2, s3, ⟨q, s4, fg_Ca_iff s5 (fun t => ⟨fun ⟨a, b⟩ => ⟨Or.inl a, b⟩, ?_⟩)⟩, t, Or.inl t1, t2, t3, t4, ?_⟩
    · rintro ⟨a | a, b, c⟩
      · exact ⟨a, b, c⟩
      · have := hE t a; omega
    · rintro t' (a | a) b c
      · exact t5 t' a b c
      · have := hE t' a; omega
  · rcases ht with ht | ht
    · exact h3 t ht hs
    · have := hE t ht; omega
theorem fg_IB_old {k m : Nat} {ml : Nat → Int64} (h : fg_IB g f W K kSize kSet kMany kList) (hk : k < K) (hs : kSize k = nI n) (hx : kSet k = x) (hn : 1 ≤ n ∧ n ≤ 4) (hE : ∀ t, E t → ¬ W t ∧ fg_sz t = n ∧ fg_st g f t = x ∧ m ≤ fg_co t) (he : ∃ t, E t ∧ fg_co t = m) (hq : fg_Ca E q)
    (hW6 : ∀ t, W t ∨ E t → fg_co t < 2 ^ 63) (hml : (kList k ≤ lN m ∧ ml = kList) ∨ (¬ kList k ≤ lN m ∧ ml = vp_updL kList k (lN m))) :
    fg_IB g f (fun t => W t ∨ E t) K kSize kSet (vp_updL kMany k (kMany k + lN q)) ml := by
  obtain ⟨h1, h2, h3⟩ := h
  obtain ⟨te, e1, e2⟩ := he
  refine ⟨fun k' hk' => ?_, h2, fun t ht hs' => ?_⟩
  · obtain ⟨s, s1, s2, s3, ⟨q', s4, s5⟩, t, t1, t2, t3, t4, t5⟩ := h1 k' hk'
    by_cases z : k' = k
    · subst z
      have hsn : s = n := by rw [s3] at hs; exact (nI_eq (by omega) (by omega)).mp hs
      subst hsn
      refine ⟨s, s1, s2, s3, ⟨q' + q, by rw [pk_uLs, s4, lN_add], fg_Ca_add s5 hq (fun t a b => (hE t b).1 a.1) (fun t => ⟨?_, ?_⟩)⟩, ?_⟩
      · rintro ⟨a | a, b⟩
        · exact Or.inl ⟨a, b⟩
        · exact Or.inr a
      · rintro (⟨a, b⟩ | a)
        · exact ⟨Or.inl a, b⟩
        · exact ⟨Or.inr a, (hE t a).2.1, by rw [(hE t a).2.2.1, hx]⟩
      · have bt1 := hW6 t (Or.inl t1)
        have bm : m < 2 ^ 63 := by rw [← e2]; exact hW6 te (Or.inr e1)
        rcases hml with ⟨m1, m2⟩ | ⟨m1, m2⟩
        · rw [m2]
          rw [t4, pk_lLE bt1 bm] at m1
          refine ⟨t, Or.inl t1, t2, t3, t4, ?_⟩
          rintro t' (a | a) b c
          · exact t5 t' a b c
          · have := (hE t' a).2.2.2; omega
        · rw [m2, pk_uLs]
          rw [t4, pk_lLE bt1 bm] at m1
          refine ⟨te, Or.inr e1, (hE te e1).2.1, by rw [(hE te e1).2.2.1, hx], by rw [e2], ?_⟩
          rintro t' (a | a) b c
          · have := t5 t' a b c; omega
          · have := (hE t' a).2.2.2; omega
    · have hne : ¬ (s = n ∧ kSet k' = x) := fun ⟨a, b⟩ => z (h2 k' k hk' hk (by rw [s3, hs, a]) (by rw [b, hx]))
      have hml' : ml k' = kList k' := by
        rcases hml with ⟨-, m2⟩ | ⟨-, m2⟩
        · rw [m2]
        · rw [m2, pk_uLn z]
      refine ⟨s, s1, s2, s3, ⟨q', by rw [pk_uLn z]; exact s4, fg_Ca_iff s5 (fun t => ⟨fun ⟨a, b⟩ => ⟨Or.inl a, b⟩, ?_⟩)⟩, t, Or.inl t1, t2, t3, by rw [hml']; exact t4, ?_⟩
      · rintro ⟨a | a, b, c⟩
        · exact ⟨a, b, c⟩
        · obtain ⟨-, w1, w2, -⟩ := hE t a
          exact absurd ⟨by omega, by rw [← c, w2]⟩ hne
      · rintro t' (a | a) b c
        · exact t5 t' a b c
        · obtain ⟨-, w1, w2, -⟩ := hE t' a
          exact absurd ⟨by omega, by rw [← c, w2]⟩ hne
  · rcases ht with ht | ht
    · exact h3 t ht hs'
    · obtain ⟨-, w1, w2, -⟩ := hE t ht
      exact ⟨k, hk, by rw [hs, w1], by rw [hx, w2]⟩
theorem fg_IB_new {m : Nat} (h : fg_IB g f W K kSize kSet kMany kList) (hno : ∀ k, k < K → ¬ (kSize k = nI n ∧ kSet k = x)) (hn : 1 ≤ n ∧ n ≤ 4) (hE : ∀ t, E t → ¬ W t ∧ fg_sz t = n ∧ fg_st g f t = x ∧ m ≤ fg_co t) (he : ∃ t, E t ∧ fg_co t = m) (hq : fg_Ca E q) :
    fg_IB g f (fun t => W t ∨ E t) (K + 1) (upd kSize K (nI n)) (vp_updL kSet K x) (vp_updL kMany K (lN q)) (vp_updL kList K (lN m)) := by
  obtain ⟨h1, h2, h3⟩ := h
  obtain ⟨te, e1, e2⟩ := he
  have noW : ∀ t, W t → ¬ (fg_sz t = n ∧ fg_st g f t = x) := by
    rintro t ht ⟨a, b⟩
    obtain ⟨k, k1, k2, k3⟩ := h3 t ht (by omega)
    exact hno k k1 ⟨by rw [k2, a], by rw [k3, b]⟩
  refine ⟨fun k hk => ?_, fun k k' hk hk' es ex => ?_, fun t ht hs => ?_⟩
  · rcases Nat.lt_or_ge k K with z | z
    · have hz : k ≠ K := by omega
      obtain ⟨s, s1, s2, s3, ⟨q', s4, s5⟩, t, t1, t2, t3, t4, t5⟩ := h1 k z
      rw [pk_un hz, pk_uLn hz, pk_uLn hz, pk_uLn hz]
      have hne : ¬ (s = n ∧ kSet k = x) := fun ⟨a, b⟩ => hno k z ⟨by rw [s3, a], b⟩
      refine ⟨s, s1, s2, s3, ⟨q', s4, fg_Ca_iff s5 (fun t => ⟨fun ⟨a, b⟩ => ⟨Or.inl a, b⟩, ?_⟩)⟩, t, Or.inl t1, t2, t3, t4, ?_⟩
      · rintro ⟨a | a, b, c⟩
        · exact ⟨a, b, c⟩
        · obtain ⟨-, w1, w2, -⟩ := hE t a
          exact absurd ⟨by omega, by rw [← c, w2]⟩ hne
      · rintro t' (a | a) b c
        · exact t5 t' a b c
        · obtain ⟨-, w1, w2, -⟩ := hE t' a
          exact absurd ⟨by omega, by rw [← c, w2]⟩ hne
    · have : k = K := by omega
      subst this
      rw [pk_us, pk_uLs, pk_uLs, pk_uLs]
      refine ⟨n, hn.1, hn.2, rfl, ⟨q, rfl, fg_Ca_iff hq (fun t => ⟨fun a => ⟨Or.inr a, (hE t a).2.1, (hE t a).2.2.1⟩, ?_⟩)⟩, te, Or.inr e1, (hE te e1).2.1, (hE te e1).2.2.1, by rw [e2], ?_⟩
      · rintro ⟨a | a, b⟩
        · exact absurd b (noW t a)
        · exact a
      · rintro t' (a | a) b c
        · exact absurd ⟨b, c⟩ (noW t' a)
        · have := (hE t' a).2.2.2; omega
  · rcases Nat.lt_or_ge k K with z | z
    · rcases Nat.lt_or_ge k' K with z' | z'
      · rw [pk_un (by omega), pk_un (by omega)] at es
        rw [pk_uLn (by omega), pk_uLn (by omega)] at ex
        exact h2 k k' z z' es ex
      · have : k' = K := by omega
        subst this
        rw [pk_un (by omega), pk_us] at es
        rw [pk_uLn (by omega), pk_uLs] at ex
        exact absurd ⟨es, ex⟩ (hno k z)
    · have : k = K := by omega
      subst this
      rcases Nat.lt_or_ge k' k with z' | z'
      · rw [pk_us, pk_un (by omega)] at es
        rw [pk_uLs, pk_uLn (by omega)] at ex
        exact absurd ⟨es.symm, ex.symm⟩ (hno k' z')
      · omega
  · rcases ht with ht | ht
    · obtain ⟨k, k1, k2, k3⟩ := h3 t ht hs
      exact ⟨k, by omega, by rw [pk_un (by omega)]; exact k2, by rw [pk_uLn (by omega)]; exact k3⟩
    · obtain ⟨-, w1, w2, -⟩ := hE t ht
      exact ⟨K, Nat.lt_succ_self _, by rw [pk_us, w1], by rw [pk_uLs, w2]⟩
theorem fg_IC_no (h : fg_IC g f W firstOpen openSize) (hE : ∀ t, E t → fg_tk g f t ≠ fg_rw g f) : fg_IC g f (fun t => W t ∨ E t) firstOpen openSize := by
  obtain ⟨os, o1, o2, o3, o4⟩ := h
  refine ⟨os, o1, o2, fun z t ht => ?_, fun z => ?_⟩
  · rcases ht with ht | ht
    · exact o3 z t ht
    · exact hE t ht
  · obtain ⟨t, t1, t2, t3, t4, t5⟩ := o4 z
    refine ⟨t, Or.inl t1, t2, t3, t4, ?_⟩
    rintro t' (a | a) b
    · exact t5 t' a b
    · exact absurd b (hE t' a)
/-- an open one that is no better -/
theorem fg_IC_keep {os m : Nat} (ho : openSize f = nI os) (hos : os ≠ 0) (hos5 : os ≤ 5) (h : fg_IC g f W firstOpen openSize) (hle : ∀ t, W t → fg_sz t ≤ n) (hE : ∀ t, E t → fg_sz t = n ∧ m ≤ fg_co t) (hWc : ∀ t, W t → fg_co t < 2 ^ 63) (hm : m < 2 ^ 63) (hk : os = n → firstOpen f ≤ lN m) : fg_IC g f (fun t => W t ∨ E t) firstOpen openSize := by
  obtain ⟨os', o1, o2, o3, o4⟩ := h
  have : os' = os := by rw [ho] at o2; exact ((nI_eq (by omega) (by omega)).mp o2).symm
  subst this
  obtain ⟨t, t1, t2, t3, t4, t5⟩ := o4 hos
  refine ⟨os', o1, o2, fun z => absurd z hos, fun _ => ⟨t, Or.inl t1, t2, t3, t4, ?_⟩⟩
  rintro t' (a | a) b
  · exact t5 t' a b
  · obtain ⟨w1, w2⟩ := hE t' a
    have := hle t t1
    refine ⟨by omega, fun z => ?_⟩
    have hk' := hk (by omega)
    rw [t4, pk_lLE (hWc t t1) hm] at hk'
    omega
theorem fg_IC_set {m : Nat} {te : fg_T} (h : fg_IC g f W firstOpen openSize) (hn : 1 ≤ n ∧ n ≤ 5) (hle : ∀ t, W t → fg_sz t ≤ n) (hE : ∀ t, E t → fg_sz t = n ∧ fg_tk g f t = fg_rw g f ∧ m ≤ fg_co t) (he : E te) (hc : fg_co te = m) (hWc : ∀ t, W t → fg_co t < 2 ^ 63) (hm : m < 2 ^ 63)
    (hk : openSize f = 0 ∨ (openSize f = nI n ∧ ¬ firstOpen f ≤ lN m)) : fg_IC g f (fun t => W t ∨ E t) (vp_updL firstOpen f (lN m)) (upd openSize f (nI n)) := by
  obtain ⟨os, o1, o2, o3, o4⟩ := h
  refine ⟨n, hn.2, pk_us, fun z => by omega, fun _ => ⟨te, Or.inr he, (hE te he).2.1, (hE te he).1, by rw [pk_uLs, hc], ?_⟩⟩
  rintro t' (a | a) b
  · rcases Nat.eq_zero_or_pos os with z | z
    · exact absurd b (o3 z t' a)
    · have hos : os = n := by
        rcases hk with hk | ⟨hk, -⟩
        · rw [o2] at hk
          have := (nI_eq (b := 0) (by omega) (by decide)).mp hk
          omega
        · rw [o2] at hk
          exact (nI_eq (by omega) (by omega)).mp hk
      obtain ⟨t, t1, t2, t3, t4, t5⟩ := o4 (by omega)
      obtain ⟨u1, u2⟩ := t5 t' a b
      refine ⟨by omega, fun y => ?_⟩
      rcases hk with hk | ⟨-, hk⟩
      · rw [o2] at hk
        have := (nI_eq (b := 0) (by omega) (by decide)).mp hk
        omega
      · rw [t4, pk_lLE (hWc t t1) hm] at hk
        have := u2 (by omega)
        omega
  · obtain ⟨w1, w2, w3⟩ := hE t' a
    exact ⟨by omega, fun _ => by omega⟩
end
end
section
/-! X: found -/
theorem fg_uL2 {m : Nat → Int64} {K : Nat} {a b : Int64} : vp_updL (vp_updL m K a) K b = vp_updL m K b := by
  funext j
  by_cases z : j = K
  · subst z; rw [pk_uLs, pk_uLs]
  · rw [pk_uLn z, pk_uLn z, pk_uLn z]
theorem fg_IB_K {g : fg_C} {f K : Nat} {W : fg_T → Prop} {kSize : Nat → Int32} {kSet kMany kList : Nat → Int64} (hG : fg_WF g) (h : fg_IB g f W K kSize kSet kMany kList) (hV : ∀ t, W t → fg_V g t) : K ≤ 170 := by
  obtain ⟨q, q1, q2⟩ := fg_U4 hG
  obtain ⟨h1, h2, -⟩ := h
  have hx : ∀ k, ∃ t, k < K → (W t ∧ fg_sz t ≤ 4 ∧ kSize k = nI (fg_sz t) ∧ kSet k = fg_st g f t) := by
    intro k
    by_cases z : k < K
    · obtain ⟨s, s1, s2, s3, -, t, t1, t2, t3, -⟩ := h1 k z
      exact ⟨t, fun _ => ⟨t1, by omega, by rw [s3, t2], t3.symm⟩⟩
    · exact ⟨fg_nil, fun y => absurd y z⟩
  obtain ⟨x, hx⟩ := Classical.skolem.mp hx
  have := fg_Ca_K q2 x (K := K) (fun k hk => ⟨hV _ (hx k hk).1, (hx k hk).2.1⟩) (fun k k' hk hk' e => h2 k k' hk hk' (by rw [(hx k hk).2.2.1, (hx k' hk').2.2.1, e]) (by rw [(hx k hk).2.2.2, (hx k' hk').2.2.2, e]))
  omega
section
variable {x_cons x_drafted x_given x_cells x_calls x_opened x_held x_steps x_outcome x_culprit x_size x_kinds : Int32} {x_arity x_dKind x_dValue x_behind x_pKind x_pValue x_pBehind x_rKind x_rValue x_pLength x_rLength x_rows x_path x_argument x_cCon x_cFirst x_cSecond x_cSize x_table x_learnt x_pile x_callRow x_callAt x_callOpen x_bound x_openToken x_lacks x_output x_kSize x_counted x_openSize x_values : Nat → Int32} {x_sets x_kSet x_kMany x_kList x_counts x_firstOpen : Nat → Int64}
variable {g : fg_C} {f n q m K c : Nat} {W E : fg_T → Prop} {x : Int64}
theorem fg_xf226 {post : SX → Prop} (hG : fg_WF g) (hIB : fg_IB g f W K x_kSize x_kSet x_kMany x_kList) (hV : ∀ t, W t ∨ E t → fg_V g t ∧ fg_sz t ≤ 5) (hn : 1 ≤ n ∧ n ≤ 5)
    (hE : ∀ t, E t → ¬ W t ∧ fg_sz t = n ∧ fg_st g f t = x ∧ m ≤ fg_co t) (he : ∃ t, E t ∧ fg_co t = m) (hq : fg_Ca E q)
    (hp : ∀ (K' : Nat) (kSize : Nat → Int32) (kSet kMany kList : Nat → Int64), fg_IB g f (fun t => W t ∨ E t) K' kSize kSet kMany kList → K ≤ K' → (∀ k, k < K → kSize k = x_kSize k ∧ kSet k = x_kSet k) → post (x_cons, x_drafted, x_given, x_cells, x_calls, x_opened, x_held, x_steps, x_outcome, x_culprit, x_size, nI K', x_arity, x_dKind, x_dValue, x_behind, x_pKind, x_pValue, x_pBehind, x_rKind, x_rValue, x_pLength, x_rLength, x_rows, x_path, x_argument, x_cCon, x_cFirst, x_cSecond, x_cSize, x_table, x_sets, x_learnt, x_pile, x_callRow, x_callAt, x_callOpen, x_bound, x_openToken, x_lacks, x_output, kSize, kSet, kMany, kList, x_counts, x_counted, x_firstOpen, x_openSize, x_values)) :
    wX_found_226 post (nI n) x (lN q) (lN m) x_cons x_drafted x_given x_cells x_calls x_opened x_held x_steps x_outcome x_culprit x_size (nI K) x_arity x_dKind x_dValue x_behind x_pKind x_pValue x_pBehind x_rKind x_rValue x_pLength x_rLength x_rows x_path x_argument x_cCon x_cFirst x_cSecond x_cSize x_table x_sets x_learnt x_pile x_callRow x_callAt x_callOpen x_bound x_openToken x_lacks x_output x_kSize x_kSet x_kMany x_kList x_counts x_counted x_firstOpen x_openSize x_values := by
  have hK := fg_IB_K hG hIB (fun t ht => (hV t (Or.inl ht)).1)
  have h6 := hG.1
  have cob : ∀ t, W t ∨ E t → fg_co t < 2 ^ 63 := by
    intro t ht
    obtain ⟨a, b⟩ := hV t ht
    have c := fg_co_lt h6 a
    have d : 16 ^ fg_sz t ≤ 16 ^ 5 := Nat.pow_le_pow_right (by decide) b
    omega
  have bm : m < 2 ^ 63 := by
    obtain ⟨t, t1, t2⟩ := he
    rw [← t2]; exact cob t (Or.inr t1)
  unfold wX_found_226
  refine pk_eq n 5 (fun z => ?_) (fun z => ?_)
  · exact hp K _ _ _ _ (fg_IB_5 hIB (fun t ht => by have := (hE t ht).2.1; omega)) (Nat.le_refl _) (fun _ _ => ⟨rfl, rfl⟩)
  · have old : ∀ k, k < K → x_kSize k = nI n → x_kSet k = x → wX_found_274 post (nI n) x (lN q) (lN m) (nI k) x_cons x_drafted x_given x_cells x_calls x_opened x_held x_steps x_outcome x_culprit x_size (nI K) x_arity x_dKind x_dValue x_behind x_pKind x_pValue x_pBehind x_rKind x_rValue x_pLength x_rLength x_rows x_path x_argument x_cCon x_cFirst x_cSecond x_cSize x_table x_sets x_learnt x_pile x_callRow x_callAt x_callOpen x_bound x_openToken x_lacks x_output x_kSize x_kSet x_kMany x_kList x_counts x_counted x_firstOpen x_openSize x_values := by
      intro k hk k1 k2
      have vk : vp_in (nI k) 260 := vp_in_nI (by omega) (by decide)
      unfold wX_found_274
      refine pk_eq k K (fun z => by omega) (fun _ => ?_) rfl rfl (by omega) (by omega)
      unfold wX_found_328
      rw [nI_clamp (by omega)]
      refine And.intro vk (And.intro vk (nm_e (And.intro vk ?_)))
      refine br_c (fun y => ?_) (fun y => And.intro vk (nm_e ?_))
      · exact hp K _ _ _ _ (fg_IB_old hIB hk k1 k2 ⟨hn.1, by omega⟩ hE he hq cob (Or.inl ⟨y, rfl⟩)) (Nat.le_refl _) (fun _ _ => ⟨rfl, rfl⟩)
      · exact hp K _ _ _ _ (fg_IB_old hIB hk k1 k2 ⟨hn.1, by omega⟩ hE he hq cob (Or.inr ⟨y, rfl⟩)) (Nat.le_refl _) (fun _ _ => ⟨rfl, rfl⟩)
    have new : (∀ k, k < K → ¬ (x_kSize k = nI n ∧ x_kSet k = x)) → wX_found_274 post (nI n) x (lN q) (lN m) (nI K) x_cons x_drafted x_given x_cells x_calls x_opened x_held x_steps x_outcome x_culprit x_size (nI K) x_arity x_dKind x_dValue x_behind x_pKind x_pValue x_pBehind x_rKind x_rValue x_pLength x_rLength x_rows x_path x_argument x_cCon x_cFirst x_cSecond x_cSize x_table x_sets x_learnt x_pile x_callRow x_callAt x_callOpen x_bound x_openToken x_lacks x_output x_kSize x_kSet x_kMany x_kList x_counts x_counted x_firstOpen x_openSize x_values := by
      intro hno
      have vk : vp_in (nI K) 260 := vp_in_nI (by omega) (by decide)
      have hnew := fg_IB_new hIB hno ⟨hn.1, by omega⟩ hE he hq
      unfold wX_found_274
      refine br_t rfl (nm_r (nI_1 K) ?_)
      rw [nI_clamp (by omega), fg_w8 (by omega)]
      refine And.intro vk (nm_e (And.intro vk (nm_e (And.intro vk (nm_e (And.intro vk (nm_e ?_)))))))
      unfold wX_found_328
      rw [nI_clamp (by omega), pk_uLs, pk_uLs, fg_uL2]
      refine And.intro vk (And.intro vk (nm_r (e' := vp_updL x_kMany K (lN q)) (by rw [Int64.zero_add]) (And.intro vk (br_t Int64.le_rfl ?_))))
      exact hp (K + 1) _ _ _ _ hnew (Nat.le_succ _) (fun k hk => ⟨pk_un (by omega), pk_uLn (by omega)⟩)
    have scan : ∀ (d k : Nat), k + d = K → (∀ j, j < k → ¬ (x_kSize j = nI n ∧ x_kSet j = x)) → wX_found_235 post (nI n) x (lN q) (lN m) x_cons x_drafted x_given x_cells x_calls x_opened x_held x_steps x_outcome x_culprit x_size (nI K) x_arity x_dKind x_dValue x_behind x_pKind x_pValue x_pBehind x_rKind x_rValue x_pLength x_rLength x_rows x_path x_argument x_cCon x_cFirst x_cSecond x_cSize x_table x_sets x_learnt x_pile x_callRow x_callAt x_callOpen x_bound x_openToken x_lacks x_output x_kSize x_kSet x_kMany x_kList x_counts x_counted x_firstOpen x_openSize x_values (d + 1) (nI k) := by
      intro d
      induction d with
      | zero =>
        intro k hd h
        have : k = K := by omega
        subst this
        exact br_t (nI_le (Nat.le_refl _) (by omega)) (new h)
      | succ d ih =>
        intro k hd h
        have vk : vp_in (nI k) 260 := vp_in_nI (by omega) (by decide)
        refine br_f (nI_ge (by omega) (by omega)) (And.intro vk ?_)
        rw [nI_clamp (by omega)]
        have nx : ¬ (x_kSize k = nI n ∧ x_kSet k = x) → wX_found_235 post (nI n) x (lN q) (lN m) x_cons x_drafted x_given x_cells x_calls x_opened x_held x_steps x_outcome x_culprit x_size (nI K) x_arity x_dKind x_dValue x_behind x_pKind x_pValue x_pBehind x_rKind x_rValue x_pLength x_rLength x_rows x_path x_argument x_cCon x_cFirst x_cSecond x_cSize x_table x_sets x_learnt x_pile x_callRow x_callAt x_callOpen x_bound x_openToken x_lacks x_output x_kSize x_kSet x_kMany x_kList x_counts x_counted x_firstOpen x_openSize x_values (d + 1) (nI (k + 1)) := by
          intro hno
          refine ih (k + 1) (by omega) (fun j hj => ?_)
          rcases Nat.lt_or_ge j k with y | y
          · exact h j y
          · rw [show j = k by omega]; exact hno
        refine br_c (fun y1 => And.intro vk (br_c (fun y2 => ?_) (fun y2 => ?_))) (fun y1 => ?_)
        · exact old k (by omega) y1 y2
        · exact nm_r (nI_1 k) (nx (fun w => y2 w.2))
        · exact nm_r (nI_1 k) (nx (fun w => y1 w.1))
    exact ⟨K + 1, scan K 0 (by omega) (fun j hj => absurd hj (Nat.not_lt_zero _))⟩
theorem fg_xf133 {post : SX → Prop} {te : fg_T} (hG : fg_WF g) (hX : fg_CX g x_arity x_rows x_pLength x_rLength x_pKind x_pValue x_pBehind x_rKind x_rValue x_path) (hf : f < 4)
    (hIA : fg_IA g f W x_counts) (hIB : fg_IB g f W K x_kSize x_kSet x_kMany x_kList) (hIC : fg_IC g f W x_firstOpen x_openSize) (hV : ∀ t, W t ∨ E t → fg_V g t ∧ fg_sz t ≤ n) (hn : 1 ≤ n ∧ n ≤ 5)
    (hE : ∀ t, E t → ¬ W t ∧ fg_sz t = n ∧ fg_st g f t = fg_st g f te ∧ m ≤ fg_co t) (he : E te) (hm : fg_co te = m) (hq : fg_Ca E q)
    (hp : ∀ (K' : Nat) (kSize : Nat → Int32) (kSet kMany kList counts firstOpen : Nat → Int64) (openSize : Nat → Int32), fg_IA g f (fun t => W t ∨ E t) counts → fg_IB g f (fun t => W t ∨ E t) K' kSize kSet kMany kList → fg_IC g f (fun t => W t ∨ E t) firstOpen openSize →
      K ≤ K' → (∀ k, k < K → kSize k = x_kSize k ∧ kSet k = x_kSet k) → (∀ j, (j < 30 * f ∨ 30 * f + 30 ≤ j) → counts j = x_counts j) → (∀ j, j ≠ f → firstOpen j = x_firstOpen j ∧ openSize j = x_openSize j) →
      post (x_cons, x_drafted, x_given, x_cells, x_calls, x_opened, x_held, x_steps, x_outcome, x_culprit, x_size, nI K', x_arity, x_dKind, x_dValue, x_behind, x_pKind, x_pValue, x_pBehind, x_rKind, x_rValue, x_pLength, x_rLength, x_rows, x_path, x_argument, x_cCon, x_cFirst, x_cSecond, x_cSize, x_table, x_sets, x_learnt, x_pile, x_callRow, x_callAt, x_callOpen, x_bound, x_openToken, x_lacks, x_output, kSize, kSet, kMany, kList, counts, x_counted, firstOpen, openSize, x_values)) :
    wX_found_133 post (nI f) (nI n) (fg_st g f te) (lN q) (lN m) x_cons x_drafted x_given x_cells x_calls x_opened x_held x_steps x_outcome x_culprit x_size (nI K) x_arity x_dKind x_dValue x_behind x_pKind x_pValue x_pBehind x_rKind x_rValue x_pLength x_rLength x_rows x_path x_argument x_cCon x_cFirst x_cSecond x_cSize x_table x_sets x_learnt x_pile x_callRow x_callAt x_callOpen x_bound x_openToken x_lacks x_output x_kSize x_kSet x_kMany x_kList x_counts x_counted x_firstOpen x_openSize x_values := by
  have h5 := hG.2.2.1 f hf
  have h6 := hG.1
  have vf : vp_in (nI f) 4 := vp_in_nI hf (by decide)
  have cf : (nI f).toNatClampNeg = f := nI_clamp (by omega)
  have hte : te ≠ fg_nil := (hV te (Or.inr he)).1.1
  have hEtk : ∀ t, E t → fg_tk g f t = fg_tk g f te := fun t ht => fg_tk_cg hG hf (hV t (Or.inr ht)).1.1 hte (hE t ht).2.2.1
  have htk := (fg_fr_sp (p := fun r => fg_mr g (5 * f + r) 0 te) (fg_rw g f)).1
  have htk' : fg_tk g f te ≤ fg_rw g f := htk
  have cob : ∀ t, W t ∨ E t → fg_co t < 2 ^ 63 := by
    intro t ht
    obtain ⟨a, b⟩ := hV t ht
    have c := fg_co_lt h6 a
    have d : 16 ^ fg_sz t ≤ 16 ^ 5 := Nat.pow_le_pow_right (by decide) (by omega)
    omega
  have bm : m < 2 ^ 63 := by rw [← hm]; exact cob te (Or.inr he)
  obtain ⟨n', rfl⟩ : ∃ n', n = n' + 1 := ⟨n - 1, by omega⟩
  have hIA' := fg_IA_up (q := q) h5 hIA htk' (show n' < 5 by omega) (fun t ht => ⟨(hE t ht).1, (hE t ht).2.1, hEtk t ht⟩) hq
  have ixl := fg_ix_le h5 (fg_tk g f te)
  -- behind the counts
  have w162 : ∀ r z0 : Int32, (fg_tk g f te < fg_rw g f → ¬ r < 0) → (¬ fg_tk g f te < fg_rw g f → r = -1) → z0 = nI (fg_ix g f (fg_tk g f te)) → wX_found_162 post (nI f) (nI (n' + 1)) (fg_st g f te) (lN q) (lN m) r z0 5 (30 * nI f) x_cons x_drafted x_given x_cells x_calls x_opened x_held x_steps x_outcome x_culprit x_size (nI K) x_arity x_dKind x_dValue x_behind x_pKind x_pValue x_pBehind x_rKind x_rValue x_pLength x_rLength x_rows x_path x_argument x_cCon x_cFirst x_cSecond x_cSize x_table x_sets x_learnt x_pile x_callRow x_callAt x_callOpen x_bound x_openToken x_lacks x_output x_kSize x_kSet x_kMany x_kList x_counts x_counted x_firstOpen x_openSize x_values := by
    intro r z0 hr1 hr2 hz
    subst hz
    have ei : (30 : Int32) * nI f + 5 * nI (fg_ix g f (fg_tk g f te)) + nI (n' + 1) - 1 = nI (30 * f + 5 * fg_ix g f (fg_tk g f te) + n') := by
      rw [show (30 : Int32) = nI 30 from rfl, show (5 : Int32) = nI 5 from rfl, fg_mulc, fg_mulc, nI_add, nI_add]
      exact nI_pred (30 * f + 5 * fg_ix g f (fg_tk g f te) + n')
    have vi : vp_in (nI (30 * f + 5 * fg_ix g f (fg_tk g f te) + n')) 120 := vp_in_nI (by omega) (by decide)
    have fr : ∀ (c' : Int64) j, (j < 30 * f ∨ 30 * f + 30 ≤ j) → vp_updL x_counts (30 * f + 5 * fg_ix g f (fg_tk g f te) + n') c' j = x_counts j := fun c' j hj => pk_uLn (by omega)
    unfold wX_found_162
    rw [ei, nI_clamp (by omega)]
    refine And.intro vi (And.intro vi (nm_e ?_))
    by_cases hr : fg_tk g f te < fg_rw g f
    · refine br_t (Int32.not_lt.mp (hr1 hr)) ?_
      refine fg_xf226 hG hIB (fun t ht => ⟨(hV t ht).1, by have := (hV t ht).2; omega⟩) hn hE ⟨te, he, hm⟩ hq (fun K' kSize kSet kMany kList b1 b2 b3 => ?_)
      exact hp K' kSize kSet kMany kList _ _ _ hIA' b1 (fg_IC_no hIC (fun t ht => by rw [hEtk t ht]; omega)) b2 b3 (fr _) (fun _ _ => ⟨rfl, rfl⟩)
    · have htk2 : fg_tk g f te = fg_rw g f := by omega
      refine br_f (by rw [hr2 hr]; exact fg_m1le) (And.intro vf ?_)
      rw [cf]
      have w210 : (x_openSize f = 0 ∨ (x_openSize f = nI (n' + 1) ∧ ¬ x_firstOpen f ≤ lN m)) → wX_found_210 post (nI f) (nI (n' + 1)) (fg_st g f te) (lN q) (lN m) x_cons x_drafted x_given x_cells x_calls x_opened x_held x_steps x_outcome x_culprit x_size (nI K) x_arity x_dKind x_dValue x_behind x_pKind x_pValue x_pBehind x_rKind x_rValue x_pLength x_rLength x_rows x_path x_argument x_cCon x_cFirst x_cSecond x_cSize x_table x_sets x_learnt x_pile x_callRow x_callAt x_callOpen x_bound x_openToken x_lacks x_output x_kSize x_kSet x_kMany x_kList (vp_updL x_counts (30 * f + 5 * fg_ix g f (fg_tk g f te) + n') (x_counts (30 * f + 5 * fg_ix g f (fg_tk g f te) + n') + lN q)) x_counted x_firstOpen x_openSize x_values := by
        intro hk
        unfold wX_found_210
        rw [cf, fg_w8 (by omega)]
        refine And.intro vf (nm_e (And.intro vf (nm_e ?_)))
        refine fg_xf226 hG hIB (fun t ht => ⟨(hV t ht).1, by have := (hV t ht).2; omega⟩) hn hE ⟨te, he, hm⟩ hq (fun K' kSize kSet kMany kList b1 b2 b3 => ?_)
        exact hp K' kSize kSet kMany kList _ _ _ hIA' b1 (fg_IC_set hIC hn (fun t ht => (hV t (Or.inl ht)).2) (fun t ht => ⟨(hE t ht).2.1, by rw [hEtk t ht, htk2], (hE t ht).2.2.2⟩) he hm (fun t ht => cob t (Or.inl ht)) bm hk) b2 b3 (fr _) (fun j hj => ⟨pk_uLn hj, pk_un hj⟩)
      have w226 : ∀ os, x_openSize f = nI os → os ≠ 0 → os ≤ 5 → (os = n' + 1 → x_firstOpen f ≤ lN m) → wX_found_226 post (nI (n' + 1)) (fg_st g f te) (lN q) (lN m) x_cons x_drafted x_given x_cells x_calls x_opened x_held x_steps x_outcome x_culprit x_size (nI K) x_arity x_dKind x_dValue x_behind x_pKind x_pValue x_pBehind x_rKind x_rValue x_pLength x_rLength x_rows x_path x_argument x_cCon x_cFirst x_cSecond x_cSize x_table x_sets x_learnt x_pile x_callRow x_callAt x_callOpen x_bound x_openToken x_lacks x_output x_kSize x_kSet x_kMany x_kList (vp_updL x_counts (30 * f + 5 * fg_ix g f (fg_tk g f te) + n') (x_counts (30 * f + 5 * fg_ix g f (fg_tk g f te) + n') + lN q)) x_counted x_firstOpen x_openSize x_values := by
        intro os ho hos hos5 hk
        refine fg_xf226 hG hIB (fun t ht => ⟨(hV t ht).1, by have := (hV t ht).2; omega⟩) hn hE ⟨te, he, hm⟩ hq (fun K' kSize kSet kMany kList b1 b2 b3 => ?_)
        exact hp K' kSize kSet kMany kList _ _ _ hIA' b1 (fg_IC_keep ho hos hos5 hIC (fun t ht => (hV t (Or.inl ht)).2) (fun t ht => ⟨(hE t ht).2.1, (hE t ht).2.2.2⟩) (fun t ht => cob t (Or.inl ht)) bm hk) b2 b3 (fr _) (fun _ _ => ⟨rfl, rfl⟩)
      obtain ⟨os, o1, o2, -⟩ := hIC
      refine br_c (fun y => w210 (Or.inl y)) (fun y => And.intro vf ?_)
      have hos : os ≠ 0 := fun z => y (by rw [o2, z]; rfl)
      refine br_c (fun y2 => And.intro vf (br_c (fun y3 => ?_) (fun y3 => ?_))) (fun y2 => ?_)
      · exact w226 os o2 hos o1 (fun _ => y3)
      · exact w210 (Or.inr ⟨y2, y3⟩)
      · exact w226 os o2 hos o1 (fun z => absurd (by rw [o2, z]) y2)
  unfold wX_found_133
  refine fg_xfirst hG hX hf hte ?_
  unfold fg_an
  by_cases hr : fg_tk g f te < fg_rw g f
  · rw [if_pos hr]
    refine br_t (nI_pos' (by omega)) (w162 _ _ (fun _ => nI_pos (by omega)) (fun z => absurd hr z) ?_)
    unfold fg_ix
    rw [if_pos hr]
  · rw [if_neg hr]
    refine br_f fg_m1le (w162 _ _ (fun z => absurd z hr) (fun _ => rfl) ?_)
    unfold fg_ix
    rw [if_neg hr]; rfl
/-- a kind by its number, or none -/
def fg_kq (K : Nat) (kSize : Nat → Int32) (kSet kMany kList : Nat → Int64) (A : Int32) (s q c : Nat) (x : Int64) : Prop :=
  (A = -1 ∧ s = 0 ∧ q = 1 ∧ c = 0 ∧ x = 0) ∨ (∃ a, a < K ∧ A = nI a ∧ kSize a = nI s ∧ s ≤ 4 ∧ kSet a = x ∧ kMany a = lN q ∧ kList a = lN c ∧ c < 16 ^ s)
theorem fg_shor {a s c : Nat} (hs : s ≤ 4) (ha : a < 2 ^ 40) (hc : c < 16 ^ s) : (lN a <<< (((4 : Int32) * nI s).toInt64 &&& 63)) ||| lN c = lN (a * 16 ^ s + c) := by
  rw [show (4 : Int32) = nI 4 from rfl, fg_mulc, wb_shl a (show 4 * s < 64 by omega)]
  have e : 2 ^ (4 * s) = 16 ^ s := by rw [Nat.pow_mul]
  rw [e]
  refine g_or (k := 4 * s) e hc ?_
  · have h1 : 16 ^ s ≤ 16 ^ 4 := Nat.pow_le_pow_right (by decide) hs
    have h2 : a * 16 ^ s ≤ 2 ^ 40 * 16 ^ 4 := Nat.mul_le_mul (by omega) h1
    omega
theorem fg_xfound {post : SX → Prop} {A B : Int32} {sa sb qa qb ca cb : Nat} {ta tb : fg_T} (hG : fg_WF g) (hX : fg_CX g x_arity x_rows x_pLength x_rLength x_pKind x_pValue x_pBehind x_rKind x_rValue x_path) (hf : f < 4)
    (hIA : fg_IA g f W x_counts) (hIB : fg_IB g f W K x_kSize x_kSet x_kMany x_kList) (hIC : fg_IC g f W x_firstOpen x_openSize) (hV : ∀ t, W t ∨ E t → fg_V g t ∧ fg_sz t ≤ n) (hn : n ≤ 5)
    (hA : fg_kq K x_kSize x_kSet x_kMany x_kList A sa qa ca (fg_st g f ta)) (hB : fg_kq K x_kSize x_kSet x_kMany x_kList B sb qb cb (fg_st g f tb)) (hsz : 1 + sa + sb = n)
    (hE : ∀ t, E t → ¬ W t ∧ fg_sz t = n ∧ fg_st g f t = fg_st g f (.branch c ta tb) ∧ (c * 16 ^ sa + ca) * 16 ^ sb + cb ≤ fg_co t) (he : E (.branch c ta tb)) (hm : fg_co (.branch c ta tb) = (c * 16 ^ sa + ca) * 16 ^ sb + cb) (hq : fg_Ca E (qa * qb))
    (hp : ∀ (K' : Nat) (kSize : Nat → Int32) (kSet kMany kList counts firstOpen : Nat → Int64) (openSize : Nat → Int32), fg_IA g f (fun t => W t ∨ E t) counts → fg_IB g f (fun t => W t ∨ E t) K' kSize kSet kMany kList → fg_IC g f (fun t => W t ∨ E t) firstOpen openSize →
      K ≤ K' → (∀ k, k < K → kSize k = x_kSize k ∧ kSet k = x_kSet k) → (∀ j, (j < 30 * f ∨ 30 * f + 30 ≤ j) → counts j = x_counts j) → (∀ j, j ≠ f → firstOpen j = x_firstOpen j ∧ openSize j = x_openSize j) →
      post (x_cons, x_drafted, x_given, x_cells, x_calls, x_opened, x_held, x_steps, x_outcome, x_culprit, x_size, nI K', x_arity, x_dKind, x_dValue, x_behind, x_pKind, x_pValue, x_pBehind, x_rKind, x_rValue, x_pLength, x_rLength, x_rows, x_path, x_argument, x_cCon, x_cFirst, x_cSecond, x_cSize, x_table, x_sets, x_learnt, x_pile, x_callRow, x_callAt, x_callOpen, x_bound, x_openToken, x_lacks, x_output, kSize, kSet, kMany, kList, counts, x_counted, firstOpen, openSize, x_values)) :
    wpX_found post (x_cons, x_drafted, x_given, x_cells, x_calls, x_opened, x_held, x_steps, x_outcome, x_culprit, x_size, nI K, x_arity, x_dKind, x_dValue, x_behind, x_pKind, x_pValue, x_pBehind, x_rKind, x_rValue, x_pLength, x_rLength, x_rows, x_path, x_argument, x_cCon, x_cFirst, x_cSecond, x_cSize, x_table, x_sets, x_learnt, x_pile, x_callRow, x_callAt, x_callOpen, x_bound, x_openToken, x_lacks, x_output, x_kSize, x_kSet, x_kMany, x_kList, x_counts, x_counted, x_firstOpen, x_openSize, x_values) (nI f) (nI n) (nI c) A B := by
  have hK := fg_IB_K hG hIB (fun t ht => (hV t (Or.inl ht)).1)
  have h6 := hG.1
  obtain ⟨⟨tn, tok⟩, -⟩ := hV _ (Or.inr he)
  have hc6 : c < fg_nc g := tok.1
  have w133 := fg_xf133 (post := post) (te := .branch c ta tb) hG hX hf hIA hIB hIC hV ⟨by omega, hn⟩ hE he hm hq hp
  have p4 : ∀ s, s ≤ 4 → 16 ^ s ≤ 65536 := fun s hs => Nat.le_trans (Nat.pow_le_pow_right (by decide) hs) (by decide)
  -- the list of the second
  have w106 : ∀ y : Int64, y = lN (c * 16 ^ sa + ca) → sa ≤ 4 → ca < 16 ^ sa ∨ ca = 0 → wX_found_106 post (nI f) (nI n) B (fg_st g f (.branch c ta tb)) (lN (qa * qb)) y x_cons x_drafted x_given x_cells x_calls x_opened x_held x_steps x_outcome x_culprit x_size (nI K) x_arity x_dKind x_dValue x_behind x_pKind x_pValue x_pBehind x_rKind x_rValue x_pLength x_rLength x_rows x_path x_argument x_cCon x_cFirst x_cSecond x_cSize x_table x_sets x_learnt x_pile x_callRow x_callAt x_callOpen x_bound x_openToken x_lacks x_output x_kSize x_kSet x_kMany x_kList x_counts x_counted x_firstOpen x_openSize x_values := by
    intro y hy hsa hca
    subst hy
    unfold wX_found_106
    rcases hB with ⟨b1, b2, b3, b4, -⟩ | ⟨b, b0, b1, b2, b3, b4, b5, b6, b7⟩
    · refine br_t (by rw [b1]; exact fg_m1neg) ?_
      rw [b2, b4, Nat.pow_zero, Nat.mul_one, Nat.add_zero] at w133
      exact w133
    · have vb : vp_in B 260 := by rw [b1]; exact vp_in_nI (by omega) (by decide)
      have cb' : B.toNatClampNeg = b := by rw [b1, nI_clamp (by omega)]
      refine br_f (by rw [b1]; exact nI_pos (by omega)) (And.intro vb (And.intro vb ?_))
      rw [cb', b2, b6]
      refine nm_r (fg_shor b3 ?_ b7) w133
      have := p4 sa hsa
      have h1 : c * 16 ^ sa ≤ 6 * 65536 := Nat.mul_le_mul (by omega) this
      omega
  have w72 : wX_found_72 post (nI f) (nI n) (nI c) A B (fg_st g f (.branch c ta tb)) (lN qb) (lN qa) x_cons x_drafted x_given x_cells x_calls x_opened x_held x_steps x_outcome x_culprit x_size (nI K) x_arity x_dKind x_dValue x_behind x_pKind x_pValue x_pBehind x_rKind x_rValue x_pLength x_rLength x_rows x_path x_argument x_cCon x_cFirst x_cSecond x_cSize x_table x_sets x_learnt x_pile x_callRow x_callAt x_callOpen x_bound x_openToken x_lacks x_output x_kSize x_kSet x_kMany x_kList x_counts x_counted x_firstOpen x_openSize x_values := by
    unfold wX_found_72
    refine nm_r (lN_mul qa qb) ?_
    have ec : (nI c).toInt64 = lN c := nI_l (by omega)
    rcases hA with ⟨a1, a2, a3, a4, -⟩ | ⟨a, a0, a1, a2, a3, a4, a5, a6, a7⟩
    · refine br_t (by rw [a1]; exact fg_m1neg) (w106 _ ?_ (by omega) (Or.inr a4))
      rw [ec, a2, a4, Nat.pow_zero, Nat.mul_one, Nat.add_zero]
    · have va : vp_in A 260 := by rw [a1]; exact vp_in_nI (by omega) (by decide)
      have ca' : A.toNatClampNeg = a := by rw [a1, nI_clamp (by omega)]
      refine br_f (by rw [a1]; exact nI_pos (by omega)) (And.intro va (And.intro va ?_))
      rw [ca', a2, a6, ec]
      exact nm_r (fg_shor a3 (by omega) a7) (w106 _ rfl a3 (Or.inl a7))
  have w56 : wX_found_56 post (nI f) (nI n) (nI c) A B (fg_st g f (.branch c ta tb)) (lN qa) x_cons x_drafted x_given x_cells x_calls x_opened x_held x_steps x_outcome x_culprit x_size (nI K) x_arity x_dKind x_dValue x_behind x_pKind x_pValue x_pBehind x_rKind x_rValue x_pLength x_rLength x_rows x_path x_argument x_cCon x_cFirst x_cSecond x_cSize x_table x_sets x_learnt x_pile x_callRow x_callAt x_callOpen x_bound x_openToken x_lacks x_output x_kSize x_kSet x_kMany x_kList x_counts x_counted x_firstOpen x_openSize x_values := by
    unfold wX_found_56
    rcases hB with ⟨b1, b2, b3, b4, b5⟩ | ⟨b, b0, b1, b2, b3, b4, b5, b6, b7⟩
    · refine br_f (by rw [b1]; exact fg_m1le) ?_
      rw [b3] at w72
      exact w72
    · refine br_t (by rw [b1]; exact nI_pos' (by omega)) (And.intro (by rw [b1]; exact vp_in_nI (by omega) (by decide)) ?_)
      rw [show B.toNatClampNeg = b by rw [b1, nI_clamp (by omega)], b5]
      exact w72
  have w35 : wX_found_35 post (nI f) (nI n) (nI c) A B (fg_st g f tb) (fg_st g f ta) (nI c) (nI f) x_cons x_drafted x_given x_cells x_calls x_opened x_held x_steps x_outcome x_culprit x_size (nI K) x_arity x_dKind x_dValue x_behind x_pKind x_pValue x_pBehind x_rKind x_rValue x_pLength x_rLength x_rows x_path x_argument x_cCon x_cFirst x_cSecond x_cSize x_table x_sets x_learnt x_pile x_callRow x_callAt x_callOpen x_bound x_openToken x_lacks x_output x_kSize x_kSet x_kMany x_kList x_counts x_counted x_firstOpen x_openSize x_values := by
    unfold wX_found_35
    refine fg_xmatch (t := .branch c ta tb) hG hX hf tn tok rfl ?_
    rcases hA with ⟨a1, a2, a3, a4, a5⟩ | ⟨a, a0, a1, a2, a3, a4, a5, a6, a7⟩
    · refine br_f (by rw [a1]; exact fg_m1le) ?_
      rw [a3] at w56
      exact w56
    · refine br_t (by rw [a1]; exact nI_pos' (by omega)) (And.intro (by rw [a1]; exact vp_in_nI (by omega) (by decide)) ?_)
      rw [show A.toNatClampNeg = a by rw [a1, nI_clamp (by omega)], a5]
      exact w56
  have w19 : wX_found_19 post (nI f) (nI n) (nI c) A B (fg_st g f ta) (nI c) (nI f) x_cons x_drafted x_given x_cells x_calls x_opened x_held x_steps x_outcome x_culprit x_size (nI K) x_arity x_dKind x_dValue x_behind x_pKind x_pValue x_pBehind x_rKind x_rValue x_pLength x_rLength x_rows x_path x_argument x_cCon x_cFirst x_cSecond x_cSize x_table x_sets x_learnt x_pile x_callRow x_callAt x_callOpen x_bound x_openToken x_lacks x_output x_kSize x_kSet x_kMany x_kList x_counts x_counted x_firstOpen x_openSize x_values := by
    unfold wX_found_19
    rcases hB with ⟨b1, b2, b3, b4, b5⟩ | ⟨b, b0, b1, b2, b3, b4, b5, b6, b7⟩
    · refine br_f (by rw [b1]; exact fg_m1le) ?_
      rw [b5] at w35
      exact w35
    · refine br_t (by rw [b1]; exact nI_pos' (by omega)) (And.intro (by rw [b1]; exact vp_in_nI (by omega) (by decide)) ?_)
      rw [show B.toNatClampNeg = b by rw [b1, nI_clamp (by omega)], b4]
      exact w35
  rcases hA with ⟨a1, a2, a3, a4, a5⟩ | ⟨a, a0, a1, a2, a3, a4, a5, a6, a7⟩
  · refine br_f (by rw [a1]; exact fg_m1le) ?_
    rw [a5] at w19
    exact w19
  · refine br_t (by rw [a1]; exact nI_pos' (by omega)) (And.intro (by rw [a1]; exact vp_in_nI (by omega) (by decide)) ?_)
    rw [show A.toNatClampNeg = a by rw [a1, nI_clamp (by omega)], a4]
    exact w19
end
end
section
/-! X: learn -/
theorem fg_co_nd {c : Nat} {t u : fg_T} : fg_co (.branch c t u) = (c * 16 ^ fg_sz t + fg_co t) * 16 ^ fg_sz u + fg_co u := fg_bs_nd
section
variable (g : fg_C) (f : Nat) (kS0 : Nat → Int32) (kX0 : Nat → Int64)
def fg_Kd (k : Nat) (t : fg_T) : Prop := fg_sz t ≤ 4 ∧ kS0 k = nI (fg_sz t) ∧ kX0 k = fg_st g f t
def fg_WN (n : Nat) (t : fg_T) : Prop := fg_V g t ∧ fg_sz t < n
def fg_WC (n c : Nat) (t : fg_T) : Prop := fg_V g t ∧ (fg_sz t < n ∨ (fg_sz t = n ∧ fg_hd t < c))
def fg_WA (n c a : Nat) (t : fg_T) : Prop := fg_V g t ∧ (fg_sz t < n ∨ (fg_sz t = n ∧ (fg_hd t < c ∨ (fg_hd t = c ∧ ∃ k, k < a ∧ fg_Kd g f kS0 kX0 k (fg_L t)))))
def fg_WB (n c a b : Nat) (t : fg_T) : Prop := fg_V g t ∧ (fg_sz t < n ∨ (fg_sz t = n ∧ (fg_hd t < c ∨ (fg_hd t = c ∧ ((∃ k, k < a ∧ fg_Kd g f kS0 kX0 k (fg_L t)) ∨ (fg_Kd g f kS0 kX0 a (fg_L t) ∧ ∃ k, k < b ∧ fg_Kd g f kS0 kX0 k (fg_R t)))))))
/-- the kinds of smaller sizes -/
def fg_HB (n K0 : Nat) : Prop :=
  (∀ k, k < K0 → ∃ s, 1 ≤ s ∧ s ≤ 4 ∧ s < n ∧ kS0 k = nI s) ∧ (∀ k k', k < K0 → k' < K0 → kS0 k = kS0 k' → kX0 k = kX0 k' → k = k') ∧ (∀ t, fg_V g t → fg_sz t < n → fg_sz t ≤ 4 → ∃ k, k < K0 ∧ fg_Kd g f kS0 kX0 k t)
def fg_GS (W : fg_T → Prop) (K0 : Nat) (c0 fo0 : Nat → Int64) (os0 : Nat → Int32) (K : Nat) (kSize : Nat → Int32) (kSet kMany kList counts firstOpen : Nat → Int64) (openSize : Nat → Int32) : Prop :=
  fg_IA g f W counts ∧ fg_IB g f W K kSize kSet kMany kList ∧ fg_IC g f W firstOpen openSize ∧ K0 ≤ K ∧ (∀ k, k < K0 → kSize k = kS0 k ∧ kSet k = kX0 k) ∧ (∀ j, (j < 30 * f ∨ 30 * f + 30 ≤ j) → counts j = c0 j) ∧ (∀ j, j ≠ f → firstOpen j = fo0 j ∧ openSize j = os0 j)
end
theorem fg_HB_of {g : fg_C} {f n K : Nat} {kSize : Nat → Int32} {kSet kMany kList : Nat → Int64} (h : fg_IB g f (fg_WN g n) K kSize kSet kMany kList) : fg_HB g f kSize kSet n K := by
  obtain ⟨h1, h2, h3⟩ := h
  refine ⟨fun k hk => ?_, h2, fun t ht hs h4 => ?_⟩
  · obtain ⟨s, s1, s2, s3, -, t, t1, t2, -⟩ := h1 k hk
    exact ⟨s, s1, s2, by have := t1.2; omega, s3⟩
  · obtain ⟨k, k1, k2, k3⟩ := h3 t ⟨ht, hs⟩ h4
    exact ⟨k, k1, h4, k2, k3⟩
section
variable {g : fg_C} {f n c a b K0 : Nat} {kS0 : Nat → Int32} {kX0 : Nat → Int64}
theorem fg_Kd_uniq (hH : fg_HB g f kS0 kX0 n K0) {k k' : Nat} {t : fg_T} (hk : k < K0) (hk' : k' < K0) (h : fg_Kd g f kS0 kX0 k t) (h' : fg_Kd g f kS0 kX0 k' t) : k = k' :=
  hH.2.1 k k' hk hk' (h.2.1.trans h'.2.1.symm) (h.2.2.trans h'.2.2.symm)
theorem fg_V_ch {t : fg_T} (h : fg_V g t) : ∃ c a b, t = .branch c a b ∧ c < fg_nc g ∧ fg_sh (fg_ar g c) a b ∧ fg_ok (fg_nc g) (fg_ar g) a ∧ fg_ok (fg_nc g) (fg_ar g) b ∧ fg_sz t = 1 + fg_sz a + fg_sz b := by
  obtain ⟨c, a, b, h1, h2, h3, h4, h5, h6⟩ := fg_U_sh (n := fg_sz t) ⟨h, rfl⟩
  exact ⟨c, a, b, h1, h2, h3, h4, h5, h6.symm⟩
/-- the end of the second loop -/
theorem fg_WB_end (hH : fg_HB g f kS0 kX0 n K0) (hn : n ≤ 5) (h2 : fg_ar g c = 2) (t : fg_T) : fg_WB g f kS0 kX0 n c a K0 t ↔ fg_WA g f kS0 kX0 n c (a + 1) t := by
  constructor
  · rintro ⟨hV, h⟩
    refine ⟨hV, ?_⟩
    rcases h with h | ⟨hs, h | ⟨hh, ⟨k, k1, k2⟩ | ⟨k1, -⟩⟩⟩
    · exact Or.inl h
    · exact Or.inr ⟨hs, Or.inl h⟩
    · exact Or.inr ⟨hs, Or.inr ⟨hh, k, by omega, k2⟩⟩
    · exact Or.inr ⟨hs, Or.inr ⟨hh, a, by omega, k1⟩⟩
  · rintro ⟨hV, h⟩
    refine ⟨hV, ?_⟩
    rcases h with h | ⟨hs, h | ⟨hh, k, k1, k2⟩⟩
    · exact Or.inl h
    · exact Or.inr ⟨hs, Or.inl h⟩
    · refine Or.inr ⟨hs, Or.inr ⟨hh, ?_⟩⟩
      rcases Nat.lt_or_ge k a with z | z
      · exact Or.inl ⟨k, z, k2⟩
      · have : k = a := by omega
        subst this
        obtain ⟨c', x, y, e, e1, e2, e3, e4, e5⟩ := fg_V_ch hV
        subst e
        have : c' = c := hh
        subst this
        rcases e2 with ⟨q, -⟩ | ⟨q, -⟩ | ⟨-, q1, q2⟩
        · omega
        · omega
        · have := fg_szp q1
          obtain ⟨k', w1, w2⟩ := hH.2.2 y ⟨q2, e4⟩ (by omega) (by omega)
          exact Or.inr ⟨k2, k', w1, w2⟩
theorem fg_WA_end (hH : fg_HB g f kS0 kX0 n K0) (hn : n ≤ 5) (h0 : fg_ar g c ≠ 0) (t : fg_T) : fg_WA g f kS0 kX0 n c K0 t ↔ fg_WC g n (c + 1) t := by
  constructor
  · rintro ⟨hV, h⟩
    refine ⟨hV, ?_⟩
    rcases h with h | ⟨hs, h | ⟨hh, -⟩⟩
    · exact Or.inl h
    · exact Or.inr ⟨hs, by omega⟩
    · exact Or.inr ⟨hs, by omega⟩
  · rintro ⟨hV, h⟩
    refine ⟨hV, ?_⟩
    rcases h with h | ⟨hs, h⟩
    · exact Or.inl h
    · rcases Nat.lt_or_ge (fg_hd t) c with z | z
      · exact Or.inr ⟨hs, Or.inl z⟩
      · have hh : fg_hd t = c := by omega
        refine Or.inr ⟨hs, Or.inr ⟨hh, ?_⟩⟩
        obtain ⟨c', x, y, e, e1, e2, e3, e4, e5⟩ := fg_V_ch hV
        subst e
        have : c' = c := hh
        subst this
        have q : x ≠ fg_nil := by
          rcases e2 with ⟨q, -⟩ | ⟨-, q, -⟩ | ⟨-, q, -⟩
          · omega
          · exact q
          · exact q
        exact hH.2.2 x ⟨q, e3⟩ (by omega) (by omega)
theorem fg_WA_0 (t : fg_T) : fg_WC g n c t ↔ fg_WA g f kS0 kX0 n c 0 t := by
  constructor
  · rintro ⟨hV, h | ⟨hs, h⟩⟩
    · exact ⟨hV, Or.inl h⟩
    · exact ⟨hV, Or.inr ⟨hs, Or.inl h⟩⟩
  · rintro ⟨hV, h | ⟨hs, h | ⟨-, k, k1, -⟩⟩⟩
    · exact ⟨hV, Or.inl h⟩
    · exact ⟨hV, Or.inr ⟨hs, h⟩⟩
    · omega
theorem fg_WB_0 (t : fg_T) : fg_WA g f kS0 kX0 n c a t ↔ fg_WB g f kS0 kX0 n c a 0 t := by
  constructor
  · rintro ⟨hV, h | ⟨hs, h | ⟨hh, h⟩⟩⟩
    · exact ⟨hV, Or.inl h⟩
    · exact ⟨hV, Or.inr ⟨hs, Or.inl h⟩⟩
    · exact ⟨hV, Or.inr ⟨hs, Or.inr ⟨hh, Or.inl h⟩⟩⟩
  · rintro ⟨hV, h | ⟨hs, h | ⟨hh, h | ⟨-, k, k1, -⟩⟩⟩⟩
    · exact ⟨hV, Or.inl h⟩
    · exact ⟨hV, Or.inr ⟨hs, Or.inl h⟩⟩
    · exact ⟨hV, Or.inr ⟨hs, Or.inr ⟨hh, h⟩⟩⟩
    · omega
theorem fg_GS_iff {W W' : fg_T → Prop} {c0 fo0 : Nat → Int64} {os0 : Nat → Int32} {K : Nat} {kSize : Nat → Int32} {kSet kMany kList counts firstOpen : Nat → Int64} {openSize : Nat → Int32} (h : fg_GS g f kS0 kX0 W K0 c0 fo0 os0 K kSize kSet kMany kList counts firstOpen openSize) (e : ∀ t, W t ↔ W' t) : fg_GS g f kS0 kX0 W' K0 c0 fo0 os0 K kSize kSet kMany kList counts firstOpen openSize := by
  have : W = W' := funext fun t => propext (e t)
  rw [← this]; exact h
/-- a kind of a smaller size, in full -/
theorem fg_kd_in (hG : fg_WF g) (hH : fg_HB g f kS0 kX0 n K0) {W : fg_T → Prop} (hWn : ∀ t, fg_sz t < n → (W t ↔ fg_V g t)) {c0 fo0 : Nat → Int64} {os0 : Nat → Int32} {K : Nat} {kSize : Nat → Int32} {kSet kMany kList counts firstOpen : Nat → Int64} {openSize : Nat → Int32}
    (h : fg_GS g f kS0 kX0 W K0 c0 fo0 os0 K kSize kSet kMany kList counts firstOpen openSize) (ha : a < K0) :
    ∃ s q ta, 1 ≤ s ∧ s ≤ 4 ∧ s < n ∧ kSize a = nI s ∧ fg_kq K kSize kSet kMany kList (nI a) s q (fg_co ta) (fg_st g f ta) ∧ fg_V g ta ∧ fg_sz ta = s ∧ fg_Kd g f kS0 kX0 a ta ∧ fg_Ca (fun t => fg_V g t ∧ fg_Kd g f kS0 kX0 a t) q ∧
      ∀ t, fg_V g t → fg_Kd g f kS0 kX0 a t → fg_sz t = s ∧ fg_st g f t = fg_st g f ta ∧ fg_co ta ≤ fg_co t := by
  obtain ⟨-, hB, -, hK, hst, -⟩ := h
  obtain ⟨s, s1, s2, s3, ⟨q, s4, s5⟩, ta, t1, t2, t3, t4, t5⟩ := hB.1 a (by omega)
  obtain ⟨e1, e2⟩ := hst a ha
  obtain ⟨s', u1, u2, u3, u4⟩ := hH.1 a ha
  have es : s' = s := by
    rw [← e1, s3] at u4
    exact ((nI_eq (by omega) (by omega)).mp u4).symm
  subst es
  have hVa : fg_V g ta := (hWn ta (by omega)).mp t1
  have kd : ∀ t, fg_Kd g f kS0 kX0 a t ↔ fg_sz t = s' ∧ fg_st g f t = kSet a := by
    intro t
    constructor
    · rintro ⟨w1, w2, w3⟩
      rw [← e1, s3] at w2
      exact ⟨((nI_eq (by omega) (by omega)).mp w2).symm, by rw [e2, w3]⟩
    · rintro ⟨w1, w2⟩
      exact ⟨by omega, by rw [← e1, s3, w1], by rw [← e2, w2]⟩
  refine ⟨s', q, ta, s1, s2, u3, s3, Or.inr ⟨a, by omega, rfl, s3, s2, t3.symm, s4, t4, by rw [← t2]; exact fg_co_lt hG.1 hVa⟩, hVa, t2, (kd ta).mpr ⟨t2, t3⟩, fg_Ca_iff s5 (fun t => ?_), fun t ht hk => ?_⟩
  · rw [kd t]
    constructor
    · rintro ⟨w1, w2, w3⟩
      exact ⟨(hWn t (by omega)).mp w1, w2, w3⟩
    · rintro ⟨w1, w2, w3⟩
      exact ⟨(hWn t (by omega)).mpr w1, w2, w3⟩
  · obtain ⟨w1, w2⟩ := (kd t).mp hk
    exact ⟨w1, by rw [w2, t3], t5 t ((hWn t (by omega)).mpr ht) w1 w2⟩
end
section
variable {x_cons x_drafted x_given x_cells x_calls x_opened x_held x_steps x_outcome x_culprit x_size x_kinds : Int32} {x_arity x_dKind x_dValue x_behind x_pKind x_pValue x_pBehind x_rKind x_rValue x_pLength x_rLength x_rows x_path x_argument x_cCon x_cFirst x_cSecond x_cSize x_table x_learnt x_pile x_callRow x_callAt x_callOpen x_bound x_openToken x_lacks x_output x_kSize x_counted x_openSize x_values : Nat → Int32} {x_sets x_kSet x_kMany x_kList x_counts x_firstOpen : Nat → Int64}
variable {g : fg_C} {f n c K0 : Nat} {kS0 : Nat → Int32} {kX0 c0 fo0 : Nat → Int64} {os0 : Nat → Int32}
theorem fg_xg70 {post : SX → Prop} {J : Int32 → Int32 → Int32 → Int32 → Int32 → Int32 → Int32 → Int32 → Int32 → Int32 → Int32 → Int32 → Int32 → (Nat → Int32) → (Nat → Int32) → (Nat → Int32) → (Nat → Int32) → (Nat → Int32) → (Nat → Int32) → (Nat → Int32) → (Nat → Int32) → (Nat → Int32) → (Nat → Int32) → (Nat → Int32) → (Nat → Int32) → (Nat → Int32) → (Nat → Int32) → (Nat → Int32) → (Nat → Int32) → (Nat → Int32) → (Nat → Int32) → (Nat → Int32) → (Nat → Int64) → (Nat → Int32) → (Nat → Int32) → (Nat → Int32) → (Nat → Int32) → (Nat → Int32) → (Nat → Int32) → (Nat → Int32) → (Nat → Int32) → (Nat → Int32) → (Nat → Int32) → (Nat → Int64) → (Nat → Int64) → (Nat → Int64) → (Nat → Int64) → (Nat → Int32) → (Nat → Int64) → (Nat → Int32) → (Nat → Int32) → Prop} {a : Nat} (hG : fg_WF g) (hX : fg_CX g x_arity x_rows x_pLength x_rLength x_pKind x_pValue x_pBehind x_rKind x_rValue x_path) (hf : f < 4) (hn : 1 ≤ n ∧ n ≤ 5) (hc : c < fg_nc g) (hH : fg_HB g f kS0 kX0 n K0) (hK0 : K0 ≤ 170) (ha : a < K0) (h2 : fg_ar g c = 2)
    (hJ : ∀ (K : Nat) (kSize : Nat → Int32) (kSet kMany kList counts firstOpen : Nat → Int64) (openSize : Nat → Int32), fg_GS g f kS0 kX0 (fg_WA g f kS0 kX0 n c (a + 1)) K0 c0 fo0 os0 K kSize kSet kMany kList counts firstOpen openSize → J (nI (a + 1)) x_cons x_drafted x_given x_cells x_calls x_opened x_held x_steps x_outcome x_culprit x_size (nI K) x_arity x_dKind x_dValue x_behind x_pKind x_pValue x_pBehind x_rKind x_rValue x_pLength x_rLength x_rows x_path x_argument x_cCon x_cFirst x_cSecond x_cSize x_table x_sets x_learnt x_pile x_callRow x_callAt x_callOpen x_bound x_openToken x_lacks x_output kSize kSet kMany kList counts x_counted firstOpen openSize x_values) :
    ∀ (d b : Nat) (K : Nat) (kSize : Nat → Int32) (kSet kMany kList counts firstOpen : Nat → Int64) (openSize : Nat → Int32), b + d = K0 → fg_GS g f kS0 kX0 (fg_WB g f kS0 kX0 n c a b) K0 c0 fo0 os0 K kSize kSet kMany kList counts firstOpen openSize → wX_grow_70 post J (nI f) (nI c) (nI n) (nI K0) (nI a) (d + 1) (nI b) x_cons x_drafted x_given x_cells x_calls x_opened x_held x_steps x_outcome x_culprit x_size (nI K) x_arity x_dKind x_dValue x_behind x_pKind x_pValue x_pBehind x_rKind x_rValue x_pLength x_rLength x_rows x_path x_argument x_cCon x_cFirst x_cSecond x_cSize x_table x_sets x_learnt x_pile x_callRow x_callAt x_callOpen x_bound x_openToken x_lacks x_output kSize kSet kMany kList counts x_counted firstOpen openSize x_values := by
  have h6 := hG.1
  intro d
  induction d with
  | zero =>
    intro b K kSize kSet kMany kList counts firstOpen openSize hd h
    have : b = K0 := by omega
    subst this
    exact br_t (nI_le (Nat.le_refl _) (by omega)) (nm_r (nI_1 a) (hJ _ _ _ _ _ _ _ _ (fg_GS_iff h (fg_WB_end hH hn.2 h2))))
  | succ d ih =>
    intro b K kSize kSet kMany kList counts firstOpen openSize hd h
    have hb : b < K0 := by omega
    have hWn : ∀ t, fg_sz t < n → (fg_WB g f kS0 kX0 n c a b t ↔ fg_V g t) := fun t ht => ⟨fun z => z.1, fun z => ⟨z, Or.inl ht⟩⟩
    obtain ⟨sa, qa, ta, a1, a2, a3, a4, a5, a6, a7, a8, a9, a10⟩ := fg_kd_in hG hH hWn h ha
    obtain ⟨sb, qb, tb, b1, b2, b3, b4, b5, b6, b7, b8, b9, b10⟩ := fg_kd_in hG hH hWn h hb
    refine br_f (nI_ge hb (by omega)) (And.intro (vp_in_nI (by omega) (by decide)) ?_)
    refine br_t (by rw [nI_clamp (by omega), hX.1 c, h2]; rfl) ?_
    refine And.intro (vp_in_nI (by omega) (by decide)) (And.intro (vp_in_nI (by omega) (by decide)) ?_)
    obtain ⟨n', rfl⟩ : ∃ n', n = n' + 1 := ⟨n - 1, by omega⟩
    rw [nI_clamp (by omega), nI_clamp (by omega), a4, b4, nI_add, nI_pred]
    refine pk_eq (sa + sb) n' (fun z => ?_) (fun z => ?_)
    · refine fg_xfound (E := fun t => ∃ x y, (fg_V g x ∧ fg_Kd g f kS0 kX0 a x) ∧ (fg_V g y ∧ fg_Kd g f kS0 kX0 b y) ∧ t = .branch c x y) (ta := ta) (tb := tb) hG hX hf h.1 h.2.1 h.2.2.1 ?_ hn.2 a5 b5 (by omega) ?_ ⟨ta, tb, ⟨a6, a8⟩, ⟨b6, b8⟩, rfl⟩ ?_ (fg_Ca_prod c a9 b9) (fun K' kSize' kSet' kMany' kList' counts' firstOpen' openSize' p1 p2 p3 p4 p5 p6 p7 => ?_)
      · rintro t (ht | ⟨x, y, ⟨x1, x2⟩, ⟨y1, y2⟩, rfl⟩)
        · refine ⟨ht.1, ?_⟩
          rcases ht.2 with w | w
          · omega
          · omega
        · have e1 := (a10 x x1 x2).1
          have e2 := (b10 y y1 y2).1
          exact ⟨⟨fg_ne_b, hc, Or.inr (Or.inr ⟨h2, x1.1, y1.1⟩), x1.2, y1.2⟩, by simp only [fg_sz]; omega⟩
      · rintro t ⟨x, y, ⟨x1, x2⟩, ⟨y1, y2⟩, rfl⟩
        obtain ⟨e1, e2, e3⟩ := a10 x x1 x2
        obtain ⟨f1, f2, f3⟩ := b10 y y1 y2
        refine ⟨?_, by simp only [fg_sz]; omega, fg_st_nd hG hf (Or.inr (Or.inr ⟨h2, x1.1, y1.1⟩)) (Or.inr (Or.inr ⟨h2, a6.1, b6.1⟩)) e2 f2, ?_⟩
        · rintro ⟨-, w | ⟨-, w | ⟨-, ⟨k, k1, k2⟩ | ⟨-, k, k1, k2⟩⟩⟩⟩
          · simp only [fg_sz] at w; omega
          · exact absurd w (Nat.lt_irrefl _)
          · have := fg_Kd_uniq hH (by omega) ha k2 x2; omega
          · have := fg_Kd_uniq hH (by omega) hb k2 y2; omega
        · rw [fg_co_nd, e1, f1]
          exact Nat.add_le_add (Nat.mul_le_mul_right _ (Nat.add_le_add_left e3 _)) f3
      · rw [fg_co_nd, a7, b7]
      · obtain ⟨g1, g2, g3, g4, g5, g6, g7⟩ := h
        refine nm_r (nI_1 b) (ih (b + 1) _ _ _ _ _ _ _ _ (by omega) (fg_GS_iff ⟨p1, p2, p3, by omega, fun k hk => ?_, fun j hj => (p6 j hj).trans (g6 j hj), fun j hj => ⟨(p7 j hj).1.trans (g7 j hj).1, (p7 j hj).2.trans (g7 j hj).2⟩⟩ (fun t => ?_)))
        · obtain ⟨w1, w2⟩ := p5 k (by omega)
          obtain ⟨w3, w4⟩ := g5 k hk
          exact ⟨w1.trans w3, w2.trans w4⟩
        · constructor
          · rintro (⟨hV, w | ⟨ws, w | ⟨wh, w | ⟨w, k, k1, k2⟩⟩⟩⟩ | ⟨x, y, ⟨x1, x2⟩, ⟨y1, y2⟩, rfl⟩)
            · exact ⟨hV, Or.inl w⟩
            · exact ⟨hV, Or.inr ⟨ws, Or.inl w⟩⟩
            · exact ⟨hV, Or.inr ⟨ws, Or.inr ⟨wh, Or.inl w⟩⟩⟩
            · exact ⟨hV, Or.inr ⟨ws, Or.inr ⟨wh, Or.inr ⟨w, k, by omega, k2⟩⟩⟩⟩
            · have e1 := (a10 x x1 x2).1
              have e2 := (b10 y y1 y2).1
              exact ⟨⟨fg_ne_b, hc, Or.inr (Or.inr ⟨h2, x1.1, y1.1⟩), x1.2, y1.2⟩, Or.inr ⟨by simp only [fg_sz]; omega, Or.inr ⟨rfl, Or.inr ⟨x2, b, by omega, y2⟩⟩⟩⟩
          · rintro ⟨hV, w | ⟨ws, w | ⟨wh, w | ⟨w, k, k1, k2⟩⟩⟩⟩
            · exact Or.inl ⟨hV, Or.inl w⟩
            · exact Or.inl ⟨hV, Or.inr ⟨ws, Or.inl w⟩⟩
            · exact Or.inl ⟨hV, Or.inr ⟨ws, Or.inr ⟨wh, Or.inl w⟩⟩⟩
            · rcases Nat.lt_or_ge k b with y | y
              · exact Or.inl ⟨hV, Or.inr ⟨ws, Or.inr ⟨wh, Or.inr ⟨w, k, y, k2⟩⟩⟩⟩
              · have : k = b := by omega
                subst this
                obtain ⟨c', x, y, e, e1, e2, e3, e4, e5⟩ := fg_V_ch hV
                subst e
                have : c' = c := wh
                subst this
                rcases e2 with ⟨q, -⟩ | ⟨q, -⟩ | ⟨-, q1, q2⟩
                · omega
                · omega
                · exact Or.inr ⟨x, y, ⟨⟨q1, e3⟩, w⟩, ⟨⟨q2, e4⟩, k2⟩, rfl⟩
    · refine nm_r (nI_1 b) (ih (b + 1) _ _ _ _ _ _ _ _ (by omega) (fg_GS_iff h (fun t => ?_)))
      constructor
      · rintro ⟨hV, w | ⟨ws, w | ⟨wh, w | ⟨w, k, k1, k2⟩⟩⟩⟩
        · exact ⟨hV, Or.inl w⟩
        · exact ⟨hV, Or.inr ⟨ws, Or.inl w⟩⟩
        · exact ⟨hV, Or.inr ⟨ws, Or.inr ⟨wh, Or.inl w⟩⟩⟩
        · exact ⟨hV, Or.inr ⟨ws, Or.inr ⟨wh, Or.inr ⟨w, k, by omega, k2⟩⟩⟩⟩
      · rintro ⟨hV, w | ⟨ws, w | ⟨wh, w | ⟨w, k, k1, k2⟩⟩⟩⟩
        · exact ⟨hV, Or.inl w⟩
        · exact ⟨hV, Or.inr ⟨ws, Or.inl w⟩⟩
        · exact ⟨hV, Or.inr ⟨ws, Or.inr ⟨wh, Or.inl w⟩⟩⟩
        · rcases Nat.lt_or_ge k b with y | y
          · exact ⟨hV, Or.inr ⟨ws, Or.inr ⟨wh, Or.inr ⟨w, k, y, k2⟩⟩⟩⟩
          · have : k = b := by omega
            subst this
            obtain ⟨c', x, y, e, e1, e2, e3, e4, e5⟩ := fg_V_ch hV
            subst e
            have : c' = c := wh
            subst this
            rcases e2 with ⟨q, -⟩ | ⟨q, -⟩ | ⟨-, q1, q2⟩
            · omega
            · omega
            · have z1 := (a10 x ⟨q1, e3⟩ w).1
              have z2 := (b10 y ⟨q2, e4⟩ k2).1
              omega
theorem fg_xg27 {post : SX → Prop} (hG : fg_WF g) (hX : fg_CX g x_arity x_rows x_pLength x_rLength x_pKind x_pValue x_pBehind x_rKind x_rValue x_path) (hf : f < 4) (hn : 1 ≤ n ∧ n ≤ 5) (hc : c < fg_nc g) (hH : fg_HB g f kS0 kX0 n K0) (hK0 : K0 ≤ 170) (h0 : fg_ar g c ≠ 0)
    (hp : ∀ (K : Nat) (kSize : Nat → Int32) (kSet kMany kList counts firstOpen : Nat → Int64) (openSize : Nat → Int32), fg_GS g f kS0 kX0 (fg_WC g n (c + 1)) K0 c0 fo0 os0 K kSize kSet kMany kList counts firstOpen openSize → post (x_cons, x_drafted, x_given, x_cells, x_calls, x_opened, x_held, x_steps, x_outcome, x_culprit, x_size, nI K, x_arity, x_dKind, x_dValue, x_behind, x_pKind, x_pValue, x_pBehind, x_rKind, x_rValue, x_pLength, x_rLength, x_rows, x_path, x_argument, x_cCon, x_cFirst, x_cSecond, x_cSize, x_table, x_sets, x_learnt, x_pile, x_callRow, x_callAt, x_callOpen, x_bound, x_openToken, x_lacks, x_output, kSize, kSet, kMany, kList, counts, x_counted, firstOpen, openSize, x_values)) :
    ∀ (d a : Nat) (K : Nat) (kSize : Nat → Int32) (kSet kMany kList counts firstOpen : Nat → Int64) (openSize : Nat → Int32), a + d = K0 → fg_GS g f kS0 kX0 (fg_WA g f kS0 kX0 n c a) K0 c0 fo0 os0 K kSize kSet kMany kList counts firstOpen openSize → wX_grow_27 post (nI f) (nI c) (nI n) (nI K0) (d + 1) (nI a) x_cons x_drafted x_given x_cells x_calls x_opened x_held x_steps x_outcome x_culprit x_size (nI K) x_arity x_dKind x_dValue x_behind x_pKind x_pValue x_pBehind x_rKind x_rValue x_pLength x_rLength x_rows x_path x_argument x_cCon x_cFirst x_cSecond x_cSize x_table x_sets x_learnt x_pile x_callRow x_callAt x_callOpen x_bound x_openToken x_lacks x_output kSize kSet kMany kList counts x_counted firstOpen openSize x_values := by
  have h6 := hG.1
  have ha2 := hG.2.1 c
  intro d
  induction d with
  | zero =>
    intro a K kSize kSet kMany kList counts firstOpen openSize hd h
    have : a = K0 := by omega
    subst this
    exact br_t (nI_le (Nat.le_refl _) (by omega)) (hp _ _ _ _ _ _ _ _ (fg_GS_iff h (fg_WA_end hH hn.2 h0)))
  | succ d ih =>
    intro a K kSize kSet kMany kList counts firstOpen openSize hd h
    have ha : a < K0 := by omega
    refine br_f (nI_ge ha (by omega)) (And.intro (vp_in_nI (by omega) (by decide)) ?_)
    have nxt : ∀ (K : Nat) (kSize : Nat → Int32) (kSet kMany kList counts firstOpen : Nat → Int64) (openSize : Nat → Int32), fg_GS g f kS0 kX0 (fg_WA g f kS0 kX0 n c (a + 1)) K0 c0 fo0 os0 K kSize kSet kMany kList counts firstOpen openSize → wX_grow_27 post (nI f) (nI c) (nI n) (nI K0) (d + 1) (nI (a + 1)) x_cons x_drafted x_given x_cells x_calls x_opened x_held x_steps x_outcome x_culprit x_size (nI K) x_arity x_dKind x_dValue x_behind x_pKind x_pValue x_pBehind x_rKind x_rValue x_pLength x_rLength x_rows x_path x_argument x_cCon x_cFirst x_cSecond x_cSize x_table x_sets x_learnt x_pile x_callRow x_callAt x_callOpen x_bound x_openToken x_lacks x_output kSize kSet kMany kList counts x_counted firstOpen openSize x_values := fun K kSize kSet kMany kList counts firstOpen openSize h' => ih (a + 1) _ _ _ _ _ _ _ _ (by omega) h'
    have c6 : (nI c).toNatClampNeg = c := nI_clamp (by omega)
    -- one value: no second loop
    have one : fg_ar g c = 1 → ∀ (K : Nat) (kSize : Nat → Int32) (kSet kMany kList counts firstOpen : Nat → Int64) (openSize : Nat → Int32), fg_GS g f kS0 kX0 (fg_WA g f kS0 kX0 n c (a + 1)) K0 c0 fo0 os0 K kSize kSet kMany kList counts firstOpen openSize → wX_grow_70 post (wX_grow_27 post (nI f) (nI c) (nI n) (nI K0) (d + 1)) (nI f) (nI c) (nI n) (nI K0) (nI a) 1 0 x_cons x_drafted x_given x_cells x_calls x_opened x_held x_steps x_outcome x_culprit x_size (nI K) x_arity x_dKind x_dValue x_behind x_pKind x_pValue x_pBehind x_rKind x_rValue x_pLength x_rLength x_rows x_path x_argument x_cCon x_cFirst x_cSecond x_cSize x_table x_sets x_learnt x_pile x_callRow x_callAt x_callOpen x_bound x_openToken x_lacks x_output kSize kSet kMany kList counts x_counted firstOpen openSize x_values := by
      intro h1 K kSize kSet kMany kList counts firstOpen openSize h'
      refine br_c (fun _ => nm_r (nI_1 a) (nxt _ _ _ _ _ _ _ _ h')) (fun _ => And.intro (vp_in_nI (by omega) (by decide)) ?_)
      exact br_f (by rw [c6, hX.1 c, h1]; decide) (nm_r (nI_1 a) (nxt _ _ _ _ _ _ _ _ h'))
    rcases (show fg_ar g c = 1 ∨ fg_ar g c = 2 by omega) with h1 | h2
    · refine br_t (by rw [c6, hX.1 c, h1]; rfl) (And.intro (vp_in_nI (by omega) (by decide)) ?_)
      have hWn : ∀ t, fg_sz t < n → (fg_WA g f kS0 kX0 n c a t ↔ fg_V g t) := fun t ht => ⟨fun z => z.1, fun z => ⟨z, Or.inl ht⟩⟩
      obtain ⟨sa, qa, ta, a1, a2, a3, a4, a5, a6, a7, a8, a9, a10⟩ := fg_kd_in hG hH hWn h ha
      obtain ⟨n', rfl⟩ : ∃ n', n = n' + 1 := ⟨n - 1, by omega⟩
      rw [nI_clamp (by omega), a4, nI_pred]
      refine pk_eq sa n' (fun z => ?_) (fun z => ?_)
      · have hq := fg_Ca_prod c a9 (fg_Ca_1 fg_nil)
        refine fg_xfound (E := fun t => ∃ x y, (fg_V g x ∧ fg_Kd g f kS0 kX0 a x) ∧ y = fg_nil ∧ t = .branch c x y) (ta := ta) (tb := fg_nil) (sb := 0) (qb := 1) (cb := 0) hG hX hf h.1 h.2.1 h.2.2.1 ?_ hn.2 a5 (Or.inl ⟨rfl, rfl, rfl, rfl, rfl⟩) (by omega) ?_ ⟨ta, fg_nil, ⟨a6, a8⟩, rfl, rfl⟩ ?_ hq (fun K' kSize' kSet' kMany' kList' counts' firstOpen' openSize' p1 p2 p3 p4 p5 p6 p7 => ?_)
        · rintro t (ht | ⟨x, y, ⟨x1, x2⟩, rfl, rfl⟩)
          · refine ⟨ht.1, ?_⟩
            rcases ht.2 with w | w
            · omega
            · omega
          · have e1 := (a10 x x1 x2).1
            exact ⟨⟨fg_ne_b, hc, Or.inr (Or.inl ⟨h1, x1.1, rfl⟩), x1.2, True.intro⟩, by simp only [fg_sz]; omega⟩
        · rintro t ⟨x, y, ⟨x1, x2⟩, rfl, rfl⟩
          obtain ⟨e1, e2, e3⟩ := a10 x x1 x2
          refine ⟨?_, by simp only [fg_sz]; omega, fg_st_nd hG hf (Or.inr (Or.inl ⟨h1, x1.1, rfl⟩)) (Or.inr (Or.inl ⟨h1, a6.1, rfl⟩)) e2 rfl, ?_⟩
          · rintro ⟨-, w | ⟨-, w | ⟨-, k, k1, k2⟩⟩⟩
            · simp only [fg_sz] at w; omega
            · exact absurd w (Nat.lt_irrefl _)
            · have := fg_Kd_uniq hH (by omega) ha k2 x2; omega
          · rw [fg_co_nd, e1]
            exact Nat.add_le_add (Nat.mul_le_mul_right _ (Nat.add_le_add_left e3 _)) (Nat.zero_le _)
        · rw [fg_co_nd, a7]; rfl
        · obtain ⟨g1, g2, g3, g4, g5, g6, g7⟩ := h
          refine ⟨1, one h1 _ _ _ _ _ _ _ _ (fg_GS_iff ⟨p1, p2, p3, by omega, fun k hk => ?_, fun j hj => (p6 j hj).trans (g6 j hj), fun j hj => ⟨(p7 j hj).1.trans (g7 j hj).1, (p7 j hj).2.trans (g7 j hj).2⟩⟩ (fun t => ?_))⟩
          · obtain ⟨w1, w2⟩ := p5 k (by omega)
            obtain ⟨w3, w4⟩ := g5 k hk
            exact ⟨w1.trans w3, w2.trans w4⟩
          · constructor
            · rintro (⟨hV, w | ⟨ws, w | ⟨wh, k, k1, k2⟩⟩⟩ | ⟨x, y, ⟨x1, x2⟩, rfl, rfl⟩)
              · exact ⟨hV, Or.inl w⟩
              · exact ⟨hV, Or.inr ⟨ws, Or.inl w⟩⟩
              · exact ⟨hV, Or.inr ⟨ws, Or.inr ⟨wh, k, by omega, k2⟩⟩⟩
              · have e1 := (a10 x x1 x2).1
                exact ⟨⟨fg_ne_b, hc, Or.inr (Or.inl ⟨h1, x1.1, rfl⟩), x1.2, True.intro⟩, Or.inr ⟨by simp only [fg_sz]; omega, Or.inr ⟨rfl, a, by omega, x2⟩⟩⟩
            · rintro ⟨hV, w | ⟨ws, w | ⟨wh, k, k1, k2⟩⟩⟩
              · exact Or.inl ⟨hV, Or.inl w⟩
              · exact Or.inl ⟨hV, Or.inr ⟨ws, Or.inl w⟩⟩
              · rcases Nat.lt_or_ge k a with y | y
                · exact Or.inl ⟨hV, Or.inr ⟨ws, Or.inr ⟨wh, k, y, k2⟩⟩⟩
                · have : k = a := by omega
                  subst this
                  obtain ⟨c', x, y, e, e1, e2, e3, e4, e5⟩ := fg_V_ch hV
                  subst e
                  have : c' = c := wh
                  subst this
                  rcases e2 with ⟨q, -⟩ | ⟨-, q1, q2⟩ | ⟨q, -⟩
                  · omega
                  · exact Or.inr ⟨x, y, ⟨⟨q1, e3⟩, k2⟩, q2, rfl⟩
                  · omega
      · refine ⟨1, one h1 _ _ _ _ _ _ _ _ (fg_GS_iff h (fun t => ?_))⟩
        constructor
        · rintro ⟨hV, w | ⟨ws, w | ⟨wh, k, k1, k2⟩⟩⟩
          · exact ⟨hV, Or.inl w⟩
          · exact ⟨hV, Or.inr ⟨ws, Or.inl w⟩⟩
          · exact ⟨hV, Or.inr ⟨ws, Or.inr ⟨wh, k, by omega, k2⟩⟩⟩
        · rintro ⟨hV, w | ⟨ws, w | ⟨wh, k, k1, k2⟩⟩⟩
          · exact ⟨hV, Or.inl w⟩
          · exact ⟨hV, Or.inr ⟨ws, Or.inl w⟩⟩
          · rcases Nat.lt_or_ge k a with y | y
            · exact ⟨hV, Or.inr ⟨ws, Or.inr ⟨wh, k, y, k2⟩⟩⟩
            · have : k = a := by omega
              subst this
              obtain ⟨c', x, y, e, e1, e2, e3, e4, e5⟩ := fg_V_ch hV
              subst e
              have : c' = c := wh
              subst this
              rcases e2 with ⟨q, -⟩ | ⟨-, q1, q2⟩ | ⟨q, -⟩
              · omega
              · have z1 := (a10 x ⟨q1, e3⟩ k2).1
                rw [q2] at e5
                simp only [fg_sz] at e5
                simp only [fg_sz] at ws
                have : fg_sz y = 0 := fg_sz0.mpr q2
                omega
              · omega
    · refine br_f (by rw [c6, hX.1 c, h2]; decide) ⟨K0 + 1, ?_⟩
      exact fg_xg70 hG hX hf hn hc hH hK0 ha h2 nxt K0 0 _ _ _ _ _ _ _ _ (by omega) (fg_GS_iff h fg_WB_0)
theorem fg_xgrow {post : SX → Prop} (K : Nat) (kSize : Nat → Int32) (kSet kMany kList counts firstOpen : Nat → Int64) (openSize : Nat → Int32) (hG : fg_WF g) (hX : fg_CX g x_arity x_rows x_pLength x_rLength x_pKind x_pValue x_pBehind x_rKind x_rValue x_path) (hf : f < 4) (hn : 1 ≤ n ∧ n ≤ 5) (hc : c < fg_nc g) (hH : fg_HB g f kS0 kX0 n K0) (hK0 : K0 ≤ 170) (h : fg_GS g f kS0 kX0 (fg_WC g n c) K0 c0 fo0 os0 K kSize kSet kMany kList counts firstOpen openSize)
    (hp : ∀ (K : Nat) (kSize : Nat → Int32) (kSet kMany kList counts firstOpen : Nat → Int64) (openSize : Nat → Int32), fg_GS g f kS0 kX0 (fg_WC g n (c + 1)) K0 c0 fo0 os0 K kSize kSet kMany kList counts firstOpen openSize → post (x_cons, x_drafted, x_given, x_cells, x_calls, x_opened, x_held, x_steps, x_outcome, x_culprit, x_size, nI K, x_arity, x_dKind, x_dValue, x_behind, x_pKind, x_pValue, x_pBehind, x_rKind, x_rValue, x_pLength, x_rLength, x_rows, x_path, x_argument, x_cCon, x_cFirst, x_cSecond, x_cSize, x_table, x_sets, x_learnt, x_pile, x_callRow, x_callAt, x_callOpen, x_bound, x_openToken, x_lacks, x_output, kSize, kSet, kMany, kList, counts, x_counted, firstOpen, openSize, x_values)) : wpX_grow post (x_cons, x_drafted, x_given, x_cells, x_calls, x_opened, x_held, x_steps, x_outcome, x_culprit, x_size, nI K, x_arity, x_dKind, x_dValue, x_behind, x_pKind, x_pValue, x_pBehind, x_rKind, x_rValue, x_pLength, x_rLength, x_rows, x_path, x_argument, x_cCon, x_cFirst, x_cSecond, x_cSize, x_table, x_sets, x_learnt, x_pile, x_callRow, x_callAt, x_callOpen, x_bound, x_openToken, x_lacks, x_output, kSize, kSet, kMany, kList, counts, x_counted, firstOpen, openSize, x_values) (nI f) (nI c) (nI n) (nI K0) := by
  have h6 := hG.1
  have c6 : (nI c).toNatClampNeg = c := nI_clamp (by omega)
  refine And.intro (vp_in_nI (by omega) (by decide)) ?_
  rw [c6, hX.1 c]
  refine pk_eq (fg_ar g c) 0 (fun z => ?_) (fun z => ?_) rfl rfl (by have := hG.2.1 c; omega) (by decide)
  · have sh : ∀ t, fg_V g t → fg_hd t = c → t = .branch c fg_nil fg_nil := by
      intro t hV hh
      obtain ⟨c', x, y, e, e1, e2, e3, e4, e5⟩ := fg_V_ch hV
      subst e
      have : c' = c := hh
      subst this
      rcases e2 with ⟨-, rfl, rfl⟩ | ⟨q, -⟩ | ⟨q, -⟩
      · rfl
      · omega
      · omega
    have hVc : fg_V g (.branch c fg_nil fg_nil) := ⟨fg_ne_b, hc, Or.inl ⟨z, rfl, rfl⟩, True.intro, True.intro⟩
    refine pk_eq n 1 (fun n1 => ?_) (fun n1 => ?_)
    · subst n1
      refine fg_xfound (E := fun t => t = .branch c fg_nil fg_nil) (ta := fg_nil) (tb := fg_nil) (sa := 0) (sb := 0) (qa := 1) (qb := 1) (ca := 0) (cb := 0) hG hX hf h.1 h.2.1 h.2.2.1 ?_ (by decide) (Or.inl ⟨rfl, rfl, rfl, rfl, rfl⟩) (Or.inl ⟨rfl, rfl, rfl, rfl, rfl⟩) rfl ?_ rfl ?_ (fg_Ca_1 _) (fun K' kSize' kSet' kMany' kList' counts' firstOpen' openSize' p1 p2 p3 p4 p5 p6 p7 => ?_)
      · rintro t (ht | rfl)
        · refine ⟨ht.1, ?_⟩
          rcases ht.2 with w | w
          · omega
          · omega
        · exact ⟨hVc, by simp [fg_sz]⟩
      · rintro t rfl
        refine ⟨?_, by simp [fg_sz], rfl, ?_⟩
        · rintro ⟨-, w | ⟨-, w⟩⟩
          · simp [fg_sz] at w
          · exact absurd w (Nat.lt_irrefl _)
        · rw [fg_co_nd]; exact Nat.le_refl _
      · rw [fg_co_nd]; rfl
      · obtain ⟨g1, g2, g3, g4, g5, g6, g7⟩ := h
        refine hp _ _ _ _ _ _ _ _ (fg_GS_iff ⟨p1, p2, p3, by omega, fun k hk => ?_, fun j hj => (p6 j hj).trans (g6 j hj), fun j hj => ⟨(p7 j hj).1.trans (g7 j hj).1, (p7 j hj).2.trans (g7 j hj).2⟩⟩ (fun t => ?_))
        · obtain ⟨w1, w2⟩ := p5 k (by omega)
          obtain ⟨w3, w4⟩ := g5 k hk
          exact ⟨w1.trans w3, w2.trans w4⟩
        · constructor
          · rintro (⟨hV, w | ⟨ws, w⟩⟩ | rfl)
            · exact ⟨hV, Or.inl w⟩
            · exact ⟨hV, Or.inr ⟨ws, by omega⟩⟩
            · exact ⟨hVc, Or.inr ⟨by simp [fg_sz], Nat.lt_succ_self _⟩⟩
          · rintro ⟨hV, w | ⟨ws, w⟩⟩
            · exact Or.inl ⟨hV, Or.inl w⟩
            · rcases Nat.lt_or_ge (fg_hd t) c with y | y
              · exact Or.inl ⟨hV, Or.inr ⟨ws, y⟩⟩
              · exact Or.inr (sh t hV (by omega))
    · refine hp _ _ _ _ _ _ _ _ (fg_GS_iff h (fun t => ?_))
      constructor
      · rintro ⟨hV, w | ⟨ws, w⟩⟩
        · exact ⟨hV, Or.inl w⟩
        · exact ⟨hV, Or.inr ⟨ws, by omega⟩⟩
      · rintro ⟨hV, w | ⟨ws, w⟩⟩
        · exact ⟨hV, Or.inl w⟩
        · rcases Nat.lt_or_ge (fg_hd t) c with y | y
          · exact ⟨hV, Or.inr ⟨ws, y⟩⟩
          · have e := sh t hV (by omega)
            rw [e] at ws
            simp [fg_sz] at ws
            omega
  · exact ⟨K0 + 1, fg_xg27 hG hX hf hn hc hH hK0 z hp K0 0 _ _ _ _ _ _ _ _ (by omega) (fg_GS_iff h fg_WA_0)⟩
end
end
section
/-! X: learn, the whole -/
section
variable {x_cons x_drafted x_given x_cells x_calls x_opened x_held x_steps x_outcome x_culprit x_size x_kinds : Int32} {x_arity x_dKind x_dValue x_behind x_pKind x_pValue x_pBehind x_rKind x_rValue x_pLength x_rLength x_rows x_path x_argument x_cCon x_cFirst x_cSecond x_cSize x_table x_learnt x_pile x_callRow x_callAt x_callOpen x_bound x_openToken x_lacks x_output x_kSize x_counted x_openSize x_values : Nat → Int32} {x_sets x_kSet x_kMany x_kList x_counts x_firstOpen : Nat → Int64}
variable {g : fg_C} {f n K0 : Nat} {kS0 : Nat → Int32} {kX0 c0 fo0 : Nat → Int64} {os0 : Nat → Int32}
theorem fg_xl71 {post : SX → Prop} {J : Int32 → Int32 → Int32 → Int32 → Int32 → Int32 → Int32 → Int32 → Int32 → Int32 → Int32 → Int32 → Int32 → (Nat → Int32) → (Nat → Int32) → (Nat → Int32) → (Nat → Int32) → (Nat → Int32) → (Nat → Int32) → (Nat → Int32) → (Nat → Int32) → (Nat → Int32) → (Nat → Int32) → (Nat → Int32) → (Nat → Int32) → (Nat → Int32) → (Nat → Int32) → (Nat → Int32) → (Nat → Int32) → (Nat → Int32) → (Nat → Int32) → (Nat → Int32) → (Nat → Int64) → (Nat → Int32) → (Nat → Int32) → (Nat → Int32) → (Nat → Int32) → (Nat → Int32) → (Nat → Int32) → (Nat → Int32) → (Nat → Int32) → (Nat → Int32) → (Nat → Int32) → (Nat → Int64) → (Nat → Int64) → (Nat → Int64) → (Nat → Int64) → (Nat → Int32) → (Nat → Int64) → (Nat → Int32) → (Nat → Int32) → Prop} (hG : fg_WF g) (hX : fg_CX g x_arity x_rows x_pLength x_rLength x_pKind x_pValue x_pBehind x_rKind x_rValue x_path) (hf : f < 4) (hn : 1 ≤ n ∧ n ≤ 5) (hH : fg_HB g f kS0 kX0 n K0) (hK0 : K0 ≤ 170)
    (hJ : ∀ (K : Nat) (kSize : Nat → Int32) (kSet kMany kList counts firstOpen : Nat → Int64) (openSize : Nat → Int32), fg_GS g f kS0 kX0 (fg_WC g n (fg_nc g)) K0 c0 fo0 os0 K kSize kSet kMany kList counts firstOpen openSize → J (nI (n + 1)) (nI (fg_nc g)) x_drafted x_given x_cells x_calls x_opened x_held x_steps x_outcome x_culprit x_size (nI K) x_arity x_dKind x_dValue x_behind x_pKind x_pValue x_pBehind x_rKind x_rValue x_pLength x_rLength x_rows x_path x_argument x_cCon x_cFirst x_cSecond x_cSize x_table x_sets x_learnt x_pile x_callRow x_callAt x_callOpen x_bound x_openToken x_lacks x_output kSize kSet kMany kList counts x_counted firstOpen openSize x_values) :
    ∀ (d c : Nat) (K : Nat) (kSize : Nat → Int32) (kSet kMany kList counts firstOpen : Nat → Int64) (openSize : Nat → Int32), c + d = fg_nc g → fg_GS g f kS0 kX0 (fg_WC g n c) K0 c0 fo0 os0 K kSize kSet kMany kList counts firstOpen openSize → wX_learn_71 post J (nI f) (nI n) (nI K0) (d + 1) (nI c) (nI (fg_nc g)) x_drafted x_given x_cells x_calls x_opened x_held x_steps x_outcome x_culprit x_size (nI K) x_arity x_dKind x_dValue x_behind x_pKind x_pValue x_pBehind x_rKind x_rValue x_pLength x_rLength x_rows x_path x_argument x_cCon x_cFirst x_cSecond x_cSize x_table x_sets x_learnt x_pile x_callRow x_callAt x_callOpen x_bound x_openToken x_lacks x_output kSize kSet kMany kList counts x_counted firstOpen openSize x_values := by
  have h6 := hG.1
  intro d
  induction d with
  | zero =>
    intro c K kSize kSet kMany kList counts firstOpen openSize hd h
    have : c = fg_nc g := by omega
    subst this
    exact br_t (nI_le (Nat.le_refl _) (by omega)) (nm_r (nI_1 n) (hJ _ _ _ _ _ _ _ _ h))
  | succ d ih =>
    intro c K kSize kSet kMany kList counts firstOpen openSize hd h
    refine br_f (nI_ge (by omega) (by omega)) ?_
    refine fg_xgrow _ _ _ _ _ _ _ _ hG hX hf hn (by omega) hH hK0 h (fun K kSize kSet kMany kList counts firstOpen openSize h' => ?_)
    exact nm_r (nI_1 c) (ih (c + 1) _ _ _ _ _ _ _ _ (by omega) h')
theorem fg_xl57 {post : SX → Prop} (hG : fg_WF g) (hX : fg_CX g x_arity x_rows x_pLength x_rLength x_pKind x_pValue x_pBehind x_rKind x_rValue x_path) (hf : f < 4)
    (hp : ∀ (K : Nat) (kSize : Nat → Int32) (kSet kMany kList counts firstOpen : Nat → Int64) (openSize : Nat → Int32), fg_IA g f (fg_WN g 6) counts → fg_IC g f (fg_WN g 6) firstOpen openSize → (∀ j, (j < 30 * f ∨ 30 * f + 30 ≤ j) → counts j = c0 j) → (∀ j, j ≠ f → firstOpen j = fo0 j ∧ openSize j = os0 j) → post (nI (fg_nc g), x_drafted, x_given, x_cells, x_calls, x_opened, x_held, x_steps, x_outcome, x_culprit, x_size, nI K, x_arity, x_dKind, x_dValue, x_behind, x_pKind, x_pValue, x_pBehind, x_rKind, x_rValue, x_pLength, x_rLength, x_rows, x_path, x_argument, x_cCon, x_cFirst, x_cSecond, x_cSize, x_table, x_sets, x_learnt, x_pile, x_callRow, x_callAt, x_callOpen, x_bound, x_openToken, x_lacks, x_output, kSize, kSet, kMany, kList, counts, x_counted, firstOpen, openSize, x_values)) :
    ∀ (d n : Nat) (K : Nat) (kSize : Nat → Int32) (kSet kMany kList counts firstOpen : Nat → Int64) (openSize : Nat → Int32), 1 ≤ n → n + d = 6 → fg_IA g f (fg_WN g n) counts → fg_IB g f (fg_WN g n) K kSize kSet kMany kList → fg_IC g f (fg_WN g n) firstOpen openSize → (∀ j, (j < 30 * f ∨ 30 * f + 30 ≤ j) → counts j = c0 j) → (∀ j, j ≠ f → firstOpen j = fo0 j ∧ openSize j = os0 j) → wX_learn_57 post (nI f) (d + 1) (nI n) (nI (fg_nc g)) x_drafted x_given x_cells x_calls x_opened x_held x_steps x_outcome x_culprit x_size (nI K) x_arity x_dKind x_dValue x_behind x_pKind x_pValue x_pBehind x_rKind x_rValue x_pLength x_rLength x_rows x_path x_argument x_cCon x_cFirst x_cSecond x_cSize x_table x_sets x_learnt x_pile x_callRow x_callAt x_callOpen x_bound x_openToken x_lacks x_output kSize kSet kMany kList counts x_counted firstOpen openSize x_values := by
  have h6 := hG.1
  intro d
  induction d with
  | zero =>
    intro n K kSize kSet kMany kList counts firstOpen openSize h1 hd hA hB hC q1 q2
    have : n = 6 := by omega
    subst this
    exact br_t (by decide) (hp _ _ _ _ _ _ _ _ hA hC q1 q2)
  | succ d ih =>
    intro n K kSize kSet kMany kList counts firstOpen openSize h1 hd hA hB hC q1 q2
    refine pk_le 6 n (fun h => by omega) (fun _ => ⟨fg_nc g + 1, ?_⟩)
    have hK := fg_IB_K hG hB (fun t ht => ht.1)
    refine fg_xl71 hG hX hf ⟨h1, by omega⟩ (fg_HB_of hB) hK (fun K' kSize' kSet' kMany' kList' counts' firstOpen' openSize' h => ?_) (fg_nc g) 0 _ _ _ _ _ _ _ _ (by omega) (fg_GS_iff (W := fg_WN g n) ⟨hA, hB, hC, Nat.le_refl _, fun _ _ => ⟨rfl, rfl⟩, q1, q2⟩ (fun t => ?_))
    · have h' := fg_GS_iff (W' := fg_WN g (n + 1)) h (fun t => ?_)
      · exact ih (n + 1) _ _ _ _ _ _ _ _ (by omega) (by omega) h'.1 h'.2.1 h'.2.2.1 h'.2.2.2.2.2.1 h'.2.2.2.2.2.2
      · constructor
        · rintro ⟨hV, w | ⟨w, -⟩⟩
          · exact ⟨hV, by omega⟩
          · exact ⟨hV, by omega⟩
        · rintro ⟨hV, w⟩
          refine ⟨hV, ?_⟩
          rcases Nat.lt_or_ge (fg_sz t) n with y | y
          · exact Or.inl y
          · exact Or.inr ⟨by omega, (fg_ok_b hV.2 hV.1).1⟩
    · constructor
      · rintro ⟨hV, w⟩
        exact ⟨hV, Or.inl w⟩
      · rintro ⟨hV, w | ⟨-, w⟩⟩
        · exact ⟨hV, w⟩
        · omega
theorem fg_xlearn0 {post : SX → Prop} (hG : fg_WF g) (hX : fg_CX g x_arity x_rows x_pLength x_rLength x_pKind x_pValue x_pBehind x_rKind x_rValue x_path) (hf : f < 4) (h0 : x_counted f = 0)
    (hp : ∀ (K : Nat) (kSize : Nat → Int32) (kSet kMany kList counts firstOpen : Nat → Int64) (openSize : Nat → Int32), fg_IA g f (fg_WN g 6) counts → fg_IC g f (fg_WN g 6) firstOpen openSize → (∀ j, (j < 30 * f ∨ 30 * f + 30 ≤ j) → counts j = x_counts j) → (∀ j, j ≠ f → firstOpen j = x_firstOpen j ∧ openSize j = x_openSize j) → post (nI (fg_nc g), x_drafted, x_given, x_cells, x_calls, x_opened, x_held, x_steps, x_outcome, x_culprit, x_size, nI K, x_arity, x_dKind, x_dValue, x_behind, x_pKind, x_pValue, x_pBehind, x_rKind, x_rValue, x_pLength, x_rLength, x_rows, x_path, x_argument, x_cCon, x_cFirst, x_cSecond, x_cSize, x_table, x_sets, x_learnt, x_pile, x_callRow, x_callAt, x_callOpen, x_bound, x_openToken, x_lacks, x_output, kSize, kSet, kMany, kList, counts, upd x_counted f 1, firstOpen, openSize, x_values)) :
    wpX_learn post (nI (fg_nc g), x_drafted, x_given, x_cells, x_calls, x_opened, x_held, x_steps, x_outcome, x_culprit, x_size, x_kinds, x_arity, x_dKind, x_dValue, x_behind, x_pKind, x_pValue, x_pBehind, x_rKind, x_rValue, x_pLength, x_rLength, x_rows, x_path, x_argument, x_cCon, x_cFirst, x_cSecond, x_cSize, x_table, x_sets, x_learnt, x_pile, x_callRow, x_callAt, x_callOpen, x_bound, x_openToken, x_lacks, x_output, x_kSize, x_kSet, x_kMany, x_kList, x_counts, x_counted, x_firstOpen, x_openSize, x_values) (nI f) := by
  have vf : vp_in (nI f) 4 := vp_in_nI hf (by decide)
  have cf : (nI f).toNatClampNeg = f := nI_clamp (by omega)
  have h5 := hG.2.2.1 f hf
  refine And.intro vf (br_t (by rw [cf]; exact h0) (And.intro vf ?_))
  rw [cf]
  refine nm_r (e' := upd x_counted f 1) (by rw [show vp_nar .boolean 1 = 1 from rfl]) (And.intro vf (nm_r (e' := upd x_openSize f 0) (by rw [show vp_nar .byte 0 = 0 from rfl]) ?_))
  have key : ∀ (d i : Nat) (counts : Nat → Int64), i + d = 30 → (∀ j, j < i → counts (30 * f + j) = 0) → (∀ j, (j < 30 * f ∨ 30 * f + 30 ≤ j) → counts j = x_counts j) → wX_learn_31 post (nI f) (nI (fg_nc g)) x_drafted x_given x_cells x_calls x_opened x_held x_steps x_outcome x_culprit x_size 0 (d + 1) (nI i) x_arity x_dKind x_dValue x_behind x_pKind x_pValue x_pBehind x_rKind x_rValue x_pLength x_rLength x_rows x_path x_argument x_cCon x_cFirst x_cSecond x_cSize x_table x_sets x_learnt x_pile x_callRow x_callAt x_callOpen x_bound x_openToken x_lacks x_output x_kSize x_kSet x_kMany x_kList counts (upd x_counted f 1) x_firstOpen (upd x_openSize f 0) x_values := by
    intro d
    induction d with
    | zero =>
      intro i counts hd h1 h2
      refine pk_le 30 i (fun _ => ⟨6, ?_⟩) (fun h => by omega)
      have noW : ∀ t, ¬ fg_WN g 1 t := fun t ht => by have := fg_szp ht.1.1; have := ht.2; omega
      refine fg_xl57 hG hX hf (c0 := x_counts) (fo0 := x_firstOpen) (os0 := x_openSize) (fun K kSize kSet kMany kList counts firstOpen openSize a1 a2 a3 a4 => hp _ _ _ _ _ _ _ _ a1 a2 a3 a4) 5 1 0 _ _ _ _ _ _ _ (Nat.le_refl _) rfl ?_ ?_ ?_ h2 (fun j hj => ⟨rfl, pk_un hj⟩)
      · intro r n hr hn
        have il := fg_ix_le h5 r
        refine ⟨0, ?_, fg_Ca_0 (fun t ht => noW t ht.1)⟩
        rw [show 30 * f + 5 * fg_ix g f r + n = 30 * f + (5 * fg_ix g f r + n) by omega]
        exact h1 _ (by omega)
      · exact ⟨fun k hk => absurd hk (Nat.not_lt_zero _), fun k k' hk => absurd hk (Nat.not_lt_zero _), fun t ht => absurd ht (noW t)⟩
      · exact ⟨0, by decide, pk_us, fun _ t ht => absurd ht (noW t), fun h => absurd rfl h⟩
    | succ d ih =>
      intro i counts hd h1 h2
      refine pk_le 30 i (fun h => by omega) (fun _ => ?_)
      rw [show (30 : Int32) * nI f + nI i = nI (30 * f + i) by rw [show (30 : Int32) = nI 30 from rfl, fg_mulc, nI_add], nI_clamp (by omega)]
      refine And.intro (vp_in_nI (by omega) (by decide)) (nm_e (nm_r (nI_1 i) (ih (i + 1) _ (by omega) (fun j hj => ?_) (fun j hj => ?_))))
      · by_cases z : j = i
        · rw [z, pk_uLs]
        · rw [pk_uLn (by omega)]; exact h1 j (by omega)
      · rw [pk_uLn (by omega)]; exact h2 j hj
  exact ⟨31, key 30 0 x_counts rfl (fun j hj => absurd hj (Nat.not_lt_zero _)) (fun _ _ => rfl)⟩
end
end
section
/-! Y: know -/
def fg_nm (g : fg_C) (t : fg_T) : Nat := fg_bs (fg_nc g) (fg_dg t) (fg_sz t)
theorem fg_bs_div {b x s : Nat} (hx : x < b ^ s) : ∀ j, j ≤ s → fg_bs b (fun i => x / b ^ (s - 1 - i) % b) j = x / b ^ (s - j)
  | 0, _ => by simp only [fg_bs, Nat.sub_zero]; rw [Nat.div_eq_of_lt hx]
  | j + 1, hj => by
    simp only [fg_bs]
    rw [fg_bs_div hx j (by omega), show s - j = (s - 1 - j) + 1 by omega, Nat.pow_succ, ← Nat.div_div_eq_div_mul, show s - (j + 1) = s - 1 - j by omega]
    exact Nat.div_add_mod (x / b ^ (s - 1 - j)) b
theorem fg_G_tree {ar : Nat → Nat} {nc D : Nat} {o : Nat → Nat} : ∀ (t : fg_T) (i : Nat), t ≠ fg_nil → fg_ok nc ar t → (∀ p, p < fg_sz t → o (i + p) = ar (fg_hd (fg_sub t p))) → i + fg_sz t ≤ D → fg_G o D 1 i = some (i + fg_sz t) := by
  intro t
  induction t with
  | leaf u => intro i h; exact absurd rfl h
  | branch c a b iha ihb =>
    intro i _ hok ho hD
    have hs : fg_sz (.branch c a b : fg_T) = 1 + fg_sz a + fg_sz b := rfl
    obtain ⟨-, hsh, oa, ob⟩ := (show c < nc ∧ fg_sh (ar c) a b ∧ fg_ok nc ar a ∧ fg_ok nc ar b from hok)
    have o0 : o i = ar c := ho 0 (by omega)
    rw [fg_G1 (by omega), o0]
    have ha : a ≠ fg_nil → fg_G o D 1 (i + 1) = some (i + 1 + fg_sz a) := fun h => iha (i + 1) h oa (fun p hp => by
      have := ho (p + 1) (by omega)
      rw [fg_subL hp] at this
      rw [show i + 1 + p = i + (p + 1) by omega]; exact this) (by omega)
    rcases hsh with ⟨k0, a0, b0⟩ | ⟨k1, a0, b0⟩ | ⟨k2, a0, b0⟩
    · rw [k0, fg_G0, hs, fg_sz0.mpr a0, fg_sz0.mpr b0]
    · rw [k1, ha a0, hs, fg_sz0.mpr b0]
      exact congrArg some (by omega)
    · rw [k2, show (2 : Nat) = 1 + 1 from rfl, fg_Gadd _ _ _ _ rfl, ha a0]
      show fg_G o D 1 (i + 1 + fg_sz a) = _
      rw [ihb (i + 1 + fg_sz a) b0 ob (fun p hp => by
        have := ho (fg_sz a + p + 1) (by omega)
        rw [fg_subR (by omega), Nat.add_sub_cancel_left] at this
        rw [show i + 1 + fg_sz a + p = i + (fg_sz a + p + 1) by omega]; exact this) (by omega), hs]
      exact congrArg some (by omega)
theorem fg_fl_inj {nc : Nat} {ar : Nat → Nat} : ∀ (t u : fg_T), fg_ok nc ar t → fg_ok nc ar u → fg_sz t = fg_sz u → (∀ p, p < fg_sz t → fg_dg t p = fg_dg u p) → t = u := by
  -- prefixes: a value at the head of a list is determined
  have key : ∀ (t u : fg_T) (x y : Nat → Nat), t ≠ fg_nil → u ≠ fg_nil → fg_ok nc ar t → fg_ok nc ar u → (∀ p, p < fg_sz t → x p = fg_dg t p) → (∀ p, p < fg_sz u → x p = fg_dg u p) → t = u := by
    intro t
    induction t with
    | leaf w => intro u x y h; exact absurd rfl h
    | branch c a b iha ihb =>
      intro u x y _ hu ot ou h1 h2
      cases u with
      | leaf w => exact absurd rfl hu
      | branch c' a' b' =>
        have s1 : fg_sz (.branch c a b : fg_T) = 1 + fg_sz a + fg_sz b := rfl
        have s2 : fg_sz (.branch c' a' b' : fg_T) = 1 + fg_sz a' + fg_sz b' := rfl
        have ec : c = c' := (h1 0 (by omega)).symm.trans (h2 0 (by omega))
        subst ec
        obtain ⟨-, sh, oa, ob⟩ := (show c < nc ∧ fg_sh (ar c) a b ∧ fg_ok nc ar a ∧ fg_ok nc ar b from ot)
        obtain ⟨-, sh', oa', ob'⟩ := (show c < nc ∧ fg_sh (ar c) a' b' ∧ fg_ok nc ar a' ∧ fg_ok nc ar b' from ou)
        have hA : a ≠ fg_nil → a' ≠ fg_nil → a = a' := fun q q' => iha a' (fun p => x (p + 1)) y q q' oa oa' (fun p hp => by
          show x (p + 1) = _
          rw [h1 (p + 1) (by omega)]
          show fg_hd (fg_sub _ (p + 1)) = _
          rw [fg_subL hp]; rfl) (fun p hp => by
          show x (p + 1) = _
          rw [h2 (p + 1) (by omega)]
          show fg_hd (fg_sub _ (p + 1)) = _
          rw [fg_subL hp]; rfl)
        have hBB : a = a' → b ≠ fg_nil → b' ≠ fg_nil → b = b' := fun e q q' => by
          subst e
          exact ihb b' (fun p => x (p + fg_sz a + 1)) y q q' ob ob' (fun p hp => by
            show x (p + fg_sz a + 1) = _
            rw [h1 (p + fg_sz a + 1) (by omega)]
            show fg_hd (fg_sub _ (p + fg_sz a + 1)) = _
            rw [fg_subR (by omega), Nat.add_sub_cancel]; rfl) (fun p hp => by
            show x (p + fg_sz a + 1) = _
            rw [h2 (p + fg_sz a + 1) (by omega)]
            show fg_hd (fg_sub _ (p + fg_sz a + 1)) = _
            rw [fg_subR (by omega), Nat.add_sub_cancel]; rfl)
        rcases sh with ⟨k, p1, p2⟩ | ⟨k, p1, p2⟩ | ⟨k, p1, p2⟩
        · rcases sh' with ⟨_, q1, q2⟩ | ⟨k', _⟩ | ⟨k', _⟩
          · rw [p1, p2, q1, q2]
          · omega
          · omega
        · rcases sh' with ⟨k', _⟩ | ⟨_, q1, q2⟩ | ⟨k', _⟩
          · omega
          · rw [hA p1 q1, p2, q2]
          · omega
        · rcases sh' with ⟨k', _⟩ | ⟨k', _⟩ | ⟨_, q1, q2⟩
          · omega
          · omega
          · have e := hA p1 q1
            rw [e, hBB e p2 q2]
  intro t u ot ou hs hd
  by_cases z : t = fg_nil
  · rw [z]
    rw [z] at hs
    exact (fg_sz0.mp hs.symm).symm
  · have zu : u ≠ fg_nil := fun e => z (fg_sz0.mp (by rw [hs, e]; rfl))
    exact key t u (fg_dg t) (fun _ => 0) z zu ot ou (fun _ _ => rfl) (fun p hp => hd p (by omega))
section
variable (g : fg_C) (f : Nat) (W : fg_T → Prop)
def fg_iy (r : Nat) : Nat := if r < fg_rw g f then r + 1 else 0
def fg_YA (counts : Nat → Int32) : Prop := ∀ r n, r ≤ fg_rw g f → n < 5 → ∃ q, counts (30 * f + 5 * fg_iy g f r + n) = nI q ∧ fg_Ca (fun t => W t ∧ fg_sz t = n + 1 ∧ fg_tk g f t = r) q
def fg_YC (opn openSize : Nat → Int32) : Prop := ∃ os, os ≤ 5 ∧ openSize f = nI os ∧ (os = 0 → ∀ t, W t → fg_tk g f t ≠ fg_rw g f) ∧
  (os ≠ 0 → ∃ t, W t ∧ fg_tk g f t = fg_rw g f ∧ fg_sz t = os ∧ (∀ k, k < os → opn (5 * f + k) = nI (fg_dg t k)) ∧ ∀ t', W t' → fg_tk g f t' = fg_rw g f → os ≤ fg_sz t' ∧ (fg_sz t' = os → fg_nm g t ≤ fg_nm g t'))
end
section
variable {g : fg_C} {f n r : Nat} {W : fg_T → Prop} {counts opn openSize : Nat → Int32} {te : fg_T}
theorem fg_iy_inj {r r' : Nat} (hr : r ≤ fg_rw g f) (hr' : r' ≤ fg_rw g f) (e : fg_iy g f r = fg_iy g f r') : r = r' := by
  unfold fg_iy at e
  by_cases z : r < fg_rw g f
  · rw [if_pos z] at e
    by_cases z' : r' < fg_rw g f
    · rw [if_pos z'] at e; omega
    · rw [if_neg z'] at e; omega
  · rw [if_neg z] at e
    by_cases z' : r' < fg_rw g f
    · rw [if_pos z'] at e; omega
    · omega
theorem fg_iy_le (h5 : fg_rw g f ≤ 5) (r : Nat) : fg_iy g f r ≤ 5 := by
  unfold fg_iy
  split <;> omega
theorem fg_YA_up (h5 : fg_rw g f ≤ 5) (h : fg_YA g f W counts) (hr : fg_tk g f te ≤ fg_rw g f) (hn : n < 5) (hE : ¬ W te) (hs : fg_sz te = n + 1) :
    fg_YA g f (fun t => W t ∨ t = te) (upd counts (30 * f + 5 * fg_iy g f (fg_tk g f te) + n) (counts (30 * f + 5 * fg_iy g f (fg_tk g f te) + n) + 1)) := by
  intro r' n' hr' hn'
  obtain ⟨q', c1, c2⟩ := h r' n' hr' hn'
  by_cases e : r' = fg_tk g f te ∧ n' = n
  · obtain ⟨rfl, rfl⟩ := e
    refine ⟨q' + 1, by rw [pk_us, c1, nI_1], fg_Ca_add c2 (fg_Ca_1 te) (fun t a b => by subst b; exact hE a.1) (fun t => ⟨?_, ?_⟩)⟩
    · rintro ⟨a | a, b⟩
      · exact Or.inl ⟨a, b⟩
      · exact Or.inr a
    · rintro (⟨a, b⟩ | rfl)
      · exact ⟨Or.inl a, b⟩
      · exact ⟨Or.inr rfl, hs, rfl⟩
  · have hne : 30 * f + 5 * fg_iy g f r' + n' ≠ 30 * f + 5 * fg_iy g f (fg_tk g f te) + n := by
      intro z
      have i1 : fg_iy g f r' = fg_iy g f (fg_tk g f te) := by omega
      exact e ⟨fg_iy_inj hr' hr i1, by omega⟩
    refine ⟨q', by rw [pk_un hne]; exact c1, fg_Ca_iff c2 (fun t => ⟨fun ⟨a, b⟩ => ⟨Or.inl a, b⟩, ?_⟩)⟩
    rintro ⟨a | rfl, b1, b2⟩
    · exact ⟨a, b1, b2⟩
    · exact absurd ⟨by omega, by omega⟩ e
theorem fg_YC_no (h : fg_YC g f W opn openSize) (hE : fg_tk g f te ≠ fg_rw g f) : fg_YC g f (fun t => W t ∨ t = te) opn openSize := by
  obtain ⟨os, o1, o2, o3, o4⟩ := h
  refine ⟨os, o1, o2, fun z t ht => ?_, fun z => ?_⟩
  · rcases ht with ht | rfl
    · exact o3 z t ht
    · exact hE
  · obtain ⟨t, t1, t2, t3, t4, t5⟩ := o4 z
    refine ⟨t, Or.inl t1, t2, t3, t4, ?_⟩
    rintro t' (a | rfl) b
    · exact t5 t' a b
    · exact absurd b hE
theorem fg_YC_keep (h : fg_YC g f W opn openSize) (hle : ∀ t, W t → fg_sz t < fg_sz te ∨ (fg_sz t = fg_sz te ∧ fg_nm g t < fg_nm g te)) (hk : ¬ openSize f ≤ 0) : fg_YC g f (fun t => W t ∨ t = te) opn openSize := by
  obtain ⟨os, o1, o2, o3, o4⟩ := h
  have hos : os ≠ 0 := fun z => hk (by rw [o2, z]; decide)
  obtain ⟨t, t1, t2, t3, t4, t5⟩ := o4 hos
  refine ⟨os, o1, o2, fun z => absurd z hos, fun _ => ⟨t, Or.inl t1, t2, t3, t4, ?_⟩⟩
  rintro t' (a | rfl) b
  · exact t5 t' a b
  · rcases hle t t1 with w | w
    · exact ⟨by omega, fun z => by omega⟩
    · exact ⟨by omega, fun z => by omega⟩
theorem fg_YC_set {opn' : Nat → Int32} (h : fg_YC g f W opn openSize) (h5 : fg_sz te ≤ 5) (h1 : 1 ≤ fg_sz te) (ho : fg_tk g f te = fg_rw g f) (hopn : ∀ k, k < fg_sz te → opn' (5 * f + k) = nI (fg_dg te k)) (hk : openSize f ≤ 0) : fg_YC g f (fun t => W t ∨ t = te) opn' (upd openSize f (nI (fg_sz te))) := by
  obtain ⟨os, o1, o2, o3, o4⟩ := h
  have hos : os = 0 := by
    rw [o2] at hk
    have := (nI_leI (b := 0) (by omega) (by decide)).mp hk
    omega
  refine ⟨fg_sz te, h5, pk_us, fun z => by omega, fun _ => ⟨te, Or.inr rfl, ho, rfl, hopn, ?_⟩⟩
  rintro t' (a | rfl) b
  · exact absurd b (o3 hos t' a)
  · exact ⟨Nat.le_refl _, fun _ => Nat.le_refl _⟩
end
section
variable {y_cons y_drafted y_nodes y_length y_argumentLength y_givenLength y_steps y_blamed y_how y_ran y_working : Int32} {y_arity y_draftKind y_draftWith y_kind y_with y_patternLength y_resultLength y_rows y_head y_left y_right y_size y_list y_stack y_starts y_argument y_given y_fits y_ends y_places y_bound y_workKind y_workWith y_owner y_counts y_openSize y_open y_known : Nat → Int32}
variable {g : fg_C} {f s : Nat}
theorem fg_yisv {post : Int32 → Prop} {d : Nat → Nat} (hG : fg_WF g) (ha : ∀ c, y_arity c = nI (fg_ar g c)) (hs : s ≤ 5) (hd : ∀ i, i < s → y_list i = nI (d i) ∧ d i < fg_nc g)
    (h1 : fg_G (fun i => fg_ar g (d i)) s 1 0 = some s → post 1) (h0 : fg_G (fun i => fg_ar g (d i)) s 1 0 ≠ some s → post 0) : wpY_isValue post (y_cons, y_drafted, y_nodes, nI s, y_argumentLength, y_givenLength, y_steps, y_blamed, y_how, y_ran, y_working, y_arity, y_draftKind, y_draftWith, y_kind, y_with, y_patternLength, y_resultLength, y_rows, y_head, y_left, y_right, y_size, y_list, y_stack, y_starts, y_argument, y_given, y_fits, y_ends, y_places, y_bound, y_workKind, y_workWith, y_owner, y_counts, y_openSize, y_open, y_known) := by
  have h6 := hG.1
  have key : ∀ (k i m : Nat), i + k = s → m ≤ 1 + 2 * i → fg_G (fun i => fg_ar g (d i)) s m i = fg_G (fun i => fg_ar g (d i)) s 1 0 → wY_isValue_4 post y_cons y_drafted y_nodes (nI s) y_argumentLength y_givenLength y_steps y_blamed y_how y_ran y_working y_arity y_draftKind y_draftWith y_kind y_with y_patternLength y_resultLength y_rows y_head y_left y_right y_size y_list y_stack y_starts y_argument y_given y_fits y_ends y_places y_bound y_workKind y_workWith y_owner y_counts y_openSize y_open y_known (k + 1) (nI m) (nI i) := by
    intro k
    induction k with
    | zero =>
      intro i m hk hm e
      have : i = s := by omega
      subst this
      refine br_t (nI_le (Nat.le_refl _) (by omega)) ?_
      refine pk_eq m 0 (fun z => h1 ?_) (fun z => h0 ?_)
      · rw [← e, z, fg_G0]
      · obtain ⟨m', rfl⟩ : ∃ m', m = m' + 1 := ⟨m - 1, by omega⟩
        rw [← e, fg_Ge (Nat.le_refl _)]
        exact fun q => nomatch q
    | succ k ih =>
      intro i m hk hm e
      refine br_f (nI_ge (by omega) (by omega)) ?_
      refine pk_eq m 0 (fun z => h0 ?_) (fun z => ?_)
      · rw [← e, z, fg_G0]
        intro q
        injection q with q
        omega
      · obtain ⟨m', rfl⟩ : ∃ m', m = m' + 1 := ⟨m - 1, by omega⟩
        obtain ⟨d1, d2⟩ := hd i (by omega)
        have h2 := hG.2.1 (d i)
        refine And.intro (vp_in_nI (by omega) (by decide)) ?_
        rw [nI_clamp (by omega), d1]
        refine And.intro (vp_in_nI (by omega) (by decide)) ?_
        rw [nI_clamp (by omega), ha]
        refine nm_r (e' := nI (m' + fg_ar g (d i))) ?_ (nm_r (nI_1 i) (ih (i + 1) _ (by omega) (by omega) ?_))
        · rw [Int32.sub_eq_add_neg, ← Int32.add_assoc, nI_add, show m' + 1 + fg_ar g (d i) = (m' + fg_ar g (d i)) + 1 by omega]
          exact pk_m1 _
        · rw [← e, fg_Gs (by omega)]
  exact ⟨_, key s 0 1 (by omega) (by omega) rfl⟩
theorem fg_ynote {post : SY → Prop} {te : fg_T} {W : fg_T → Prop} (hG : fg_WF g) (hC : fg_CY g y_arity y_rows y_patternLength y_resultLength y_kind y_with) (hf : f < 4) (hV : fg_V g te) (h5 : fg_sz te ≤ 5) (hl : fg_at y_list 0 (fg_fl te))
    (hA : fg_YA g f W y_counts) (hO : fg_YC g f W y_open y_openSize) (hWt : ¬ W te) (hle : ∀ t, W t → fg_sz t < fg_sz te ∨ (fg_sz t = fg_sz te ∧ fg_nm g t < fg_nm g te))
    (hp : ∀ (en fits counts opn openSize : Nat → Int32), fg_YA g f (fun t => W t ∨ t = te) counts → fg_YC g f (fun t => W t ∨ t = te) opn openSize → (∀ j, (j < 30 * f ∨ 30 * f + 30 ≤ j) → counts j = y_counts j) → (∀ j, j ≠ f → openSize j = y_openSize j) → (∀ j, (j < 5 * f ∨ 5 * f + 5 ≤ j) → opn j = y_open j) →
      post (y_cons, y_drafted, y_nodes, nI (fg_sz te), y_argumentLength, y_givenLength, y_steps, y_blamed, y_how, y_ran, y_working, y_arity, y_draftKind, y_draftWith, y_kind, y_with, y_patternLength, y_resultLength, y_rows, y_head, y_left, y_right, y_size, y_list, y_stack, y_starts, y_argument, y_given, fits, en, y_places, y_bound, y_workKind, y_workWith, y_owner, counts, openSize, opn, y_known)) :
    wpY_note post (y_cons, y_drafted, y_nodes, nI (fg_sz te), y_argumentLength, y_givenLength, y_steps, y_blamed, y_how, y_ran, y_working, y_arity, y_draftKind, y_draftWith, y_kind, y_with, y_patternLength, y_resultLength, y_rows, y_head, y_left, y_right, y_size, y_list, y_stack, y_starts, y_argument, y_given, y_fits, y_ends, y_places, y_bound, y_workKind, y_workWith, y_owner, y_counts, y_openSize, y_open, y_known) (nI f) (nI (fg_sz te)) := by
  have hr5 := hG.2.2.1 f hf
  have h1 := fg_szp hV.1
  have vf : vp_in (nI f) 4 := vp_in_nI hf (by decide)
  have cf : (nI f).toNatClampNeg = f := nI_clamp (by omega)
  have htk : fg_tk g f te ≤ fg_rw g f := (fg_fr_sp (p := fun r => fg_mr g (5 * f + r) 0 te) (fg_rw g f)).1
  have iyl := fg_iy_le hr5 (fg_tk g f te)
  obtain ⟨n', hn'⟩ : ∃ n', fg_sz te = n' + 1 := ⟨fg_sz te - 1, by omega⟩
  have hA' := fg_YA_up hr5 hA htk (show n' < 5 by omega) hWt hn'
  unfold wpY_note
  dsimp only
  refine fg_ytakes hG hC hf hV.2 hV.1 (by omega) hl (fun en fits _ => ?_)
  dsimp only
  have ei : (30 : Int32) * nI f + 5 * (fg_an g f te + 1) + nI (fg_sz te) - 1 = nI (30 * f + 5 * fg_iy g f (fg_tk g f te) + n') := by
    have e1 : fg_an g f te + 1 = nI (fg_iy g f (fg_tk g f te)) := by
      unfold fg_an fg_iy
      by_cases z : fg_tk g f te < fg_rw g f
      · rw [if_pos z, if_pos z, nI_1]
      · rw [if_neg z, if_neg z]; decide
    rw [e1, show (30 : Int32) = nI 30 from rfl, show (5 : Int32) = nI 5 from rfl, fg_mulc, fg_mulc, nI_add, nI_add, hn']
    exact nI_pred (30 * f + 5 * fg_iy g f (fg_tk g f te) + n')
  have vi : vp_in (nI (30 * f + 5 * fg_iy g f (fg_tk g f te) + n')) 120 := vp_in_nI (by omega) (by decide)
  have fr : ∀ (c' : Int32) j, (j < 30 * f ∨ 30 * f + 30 ≤ j) → upd y_counts (30 * f + 5 * fg_iy g f (fg_tk g f te) + n') c' j = y_counts j := fun c' j hj => pk_un (by omega)
  rw [ei, nI_clamp (by omega)]
  refine And.intro vi (And.intro vi (nm_e ?_))
  by_cases hr : fg_tk g f te < fg_rw g f
  · refine br_t ?_ (hp en fits _ _ _ hA' (fg_YC_no hO (by omega)) (fr _) (fun _ _ => rfl) (fun _ _ => rfl))
    unfold fg_an
    rw [if_pos hr]
    exact nI_pos' (by omega)
  · refine br_f ?_ (And.intro vf ?_)
    · unfold fg_an
      rw [if_neg hr]
      exact fg_m1le
    · rw [cf]
      refine br_c (fun y => And.intro vf (nm_e ?_)) (fun y => ?_)
      · have key : ∀ (d i : Nat) (opn : Nat → Int32), i + d = fg_sz te → (∀ k, k < i → opn (5 * f + k) = nI (fg_dg te k)) → (∀ j, (j < 5 * f ∨ 5 * f + 5 ≤ j) → opn j = y_open j) →
            wY_note_53 post (nI f) (nI (fg_sz te)) y_cons y_drafted y_nodes (nI (fg_sz te)) y_argumentLength y_givenLength y_steps y_blamed y_how y_ran y_working (d + 1) (nI i) y_arity y_draftKind y_draftWith y_kind y_with y_patternLength y_resultLength y_rows y_head y_left y_right y_size y_list y_stack y_starts y_argument y_given fits en y_places y_bound y_workKind y_workWith y_owner (upd y_counts (30 * f + 5 * fg_iy g f (fg_tk g f te) + n') (y_counts (30 * f + 5 * fg_iy g f (fg_tk g f te) + n') + 1)) (upd y_openSize f (nI (fg_sz te))) opn y_known := by
          intro d
          induction d with
          | zero =>
            intro i opn hd h1 h2
            refine br_t (nI_le (by omega) (by omega)) (hp en fits _ _ _ hA' (fg_YC_set hO h5 (by omega) (by omega) (fun k hk => h1 k (by omega)) y) (fr _) (fun j hj => pk_un hj) h2)
          | succ d ih =>
            intro i opn hd h1 h2
            have e5 : (5 : Int32) * nI f + nI i = nI (5 * f + i) := by rw [show (5 : Int32) = nI 5 from rfl, fg_mulc, nI_add]
            refine br_f (nI_ge (by omega) (by omega)) (And.intro (vp_in_nI (by omega) (by decide)) ?_)
            rw [e5, nI_clamp (by omega), nI_clamp (by omega), fg_at_h0 hl (show i < fg_sz te by omega)]
            refine And.intro (vp_in_nI (by omega) (by decide)) (nm_e (nm_r (nI_1 i) (ih (i + 1) _ (by omega) (fun k hk => ?_) (fun j hj => ?_))))
            · by_cases z : k = i
              · rw [z, pk_us]; rfl
              · rw [pk_un (by omega)]; exact h1 k (by omega)
            · rw [pk_un (by omega)]; exact h2 j hj
        exact ⟨_, key (fg_sz te) 0 y_open (by omega) (fun k hk => absurd hk (Nat.not_lt_zero _)) (fun _ _ => rfl)⟩
      · exact hp en fits _ _ _ hA' (fg_YC_keep hO hle y) (fr _) (fun _ _ => rfl) (fun _ _ => rfl)
end
end
section
/-! Y: know, the whole -/
def fg_WY (g : fg_C) (s x : Nat) (t : fg_T) : Prop := fg_V g t ∧ (fg_sz t < s ∨ (fg_sz t = s ∧ fg_nm g t < x))
section
variable {y_cons y_drafted y_nodes y_length y_argumentLength y_givenLength y_steps y_blamed y_how y_ran y_working : Int32} {y_arity y_draftKind y_draftWith y_kind y_with y_patternLength y_resultLength y_rows y_head y_left y_right y_size y_list y_stack y_starts y_argument y_given y_fits y_ends y_places y_bound y_workKind y_workWith y_owner y_counts y_openSize y_open y_known : Nat → Int32}
variable {g : fg_C} {f s x : Nat} {c0 o0 os0 : Nat → Int32}
theorem fg_yk86 {post : SY → Prop} {J57 : Int32 → Int32 → Int32 → Int32 → Int32 → Int32 → Int32 → Int32 → Int32 → Int32 → Int32 → Int32 → Int32 → (Nat → Int32) → (Nat → Int32) → (Nat → Int32) → (Nat → Int32) → (Nat → Int32) → (Nat → Int32) → (Nat → Int32) → (Nat → Int32) → (Nat → Int32) → (Nat → Int32) → (Nat → Int32) → (Nat → Int32) → (Nat → Int32) → (Nat → Int32) → (Nat → Int32) → (Nat → Int32) → (Nat → Int32) → (Nat → Int32) → (Nat → Int32) → (Nat → Int32) → (Nat → Int32) → (Nat → Int32) → (Nat → Int32) → (Nat → Int32) → (Nat → Int32) → (Nat → Int32) → (Nat → Int32) → (Nat → Int32) → Prop} {J66 : Int32 → Int32 → Int32 → Int32 → Int32 → Int32 → Int32 → Int32 → Int32 → Int32 → Int32 → Int32 → (Nat → Int32) → (Nat → Int32) → (Nat → Int32) → (Nat → Int32) → (Nat → Int32) → (Nat → Int32) → (Nat → Int32) → (Nat → Int32) → (Nat → Int32) → (Nat → Int32) → (Nat → Int32) → (Nat → Int32) → (Nat → Int32) → (Nat → Int32) → (Nat → Int32) → (Nat → Int32) → (Nat → Int32) → (Nat → Int32) → (Nat → Int32) → (Nat → Int32) → (Nat → Int32) → (Nat → Int32) → (Nat → Int32) → (Nat → Int32) → (Nat → Int32) → (Nat → Int32) → (Nat → Int32) → (Nat → Int32) → Prop} {x2 : Int32} (hG : fg_WF g) (hC : fg_CY g y_arity y_rows y_patternLength y_resultLength y_kind y_with) (hf : f < 4) (hs : 1 ≤ s ∧ s ≤ 5) (hx : x < fg_nc g ^ s)
    (hJ : ∀ (ln : Int32) (li en fits counts opn openSize : Nat → Int32), fg_YA g f (fg_WY g s (x + 1)) counts → fg_YC g f (fg_WY g s (x + 1)) opn openSize → (∀ j, (j < 30 * f ∨ 30 * f + 30 ≤ j) → counts j = c0 j) → (∀ j, j ≠ f → openSize j = os0 j) → (∀ j, (j < 5 * f ∨ 5 * f + 5 ≤ j) → opn j = o0 j) → J66 (nI (x + 1)) (nI (fg_nc g)) y_drafted y_nodes ln y_argumentLength y_givenLength y_steps y_blamed y_how y_ran y_working y_arity y_draftKind y_draftWith y_kind y_with y_patternLength y_resultLength y_rows y_head y_left y_right y_size li y_stack y_starts y_argument y_given fits en y_places y_bound y_workKind y_workWith y_owner counts openSize opn y_known) :
    ∀ (j : Nat) (li en fits counts opn openSize : Nat → Int32), j ≤ s → (∀ i, j ≤ i → i < s → li i = nI (x / fg_nc g ^ (s - 1 - i) % fg_nc g)) → fg_YA g f (fg_WY g s x) counts → fg_YC g f (fg_WY g s x) opn openSize → (∀ j, (j < 30 * f ∨ 30 * f + 30 ≤ j) → counts j = c0 j) → (∀ j, j ≠ f → openSize j = os0 j) → (∀ j, (j < 5 * f ∨ 5 * f + 5 ≤ j) → opn j = o0 j) →
      wY_know_86 post J57 J66 (nI f) x2 (nI s) (nI x) (nI (fg_nc g)) y_drafted y_nodes (nI s) y_argumentLength y_givenLength y_steps y_blamed y_how y_ran y_working (j + 1) (nI (x / fg_nc g ^ (s - j))) (nI j - 1) y_arity y_draftKind y_draftWith y_kind y_with y_patternLength y_resultLength y_rows y_head y_left y_right y_size li y_stack y_starts y_argument y_given fits en y_places y_bound y_workKind y_workWith y_owner counts openSize opn y_known := by
  have h6 := hG.1
  have hb : 0 < fg_nc g := by
    rcases Nat.eq_zero_or_pos (fg_nc g) with z | z
    · rw [z, Nat.zero_pow (by omega)] at hx; omega
    · exact z
  have hx2 : x < 7776 := Nat.lt_of_lt_of_le hx (Nat.le_trans (Nat.pow_le_pow_left h6 s) (Nat.le_trans (Nat.pow_le_pow_right (by decide) hs.2) (by decide)))
  have hdl : ∀ k, x / fg_nc g ^ k ≤ x := fun k => Nat.div_le_self _ _
  intro j
  induction j with
  | zero =>
    intro li en fits counts opn openSize _ hl hA hO q1 q2 q3
    refine br_t fg_pd0 ?_
    have bsx : fg_bs (fg_nc g) (fun i => x / fg_nc g ^ (s - 1 - i) % fg_nc g) s = x := by
      have := fg_bs_div hx s (Nat.le_refl _)
      rw [Nat.sub_self, Nat.pow_zero, Nat.div_one] at this
      exact this
    have hdg : ∀ t, fg_V g t → fg_sz t = s → fg_nm g t = x → ∀ i, i < s → fg_dg t i = x / fg_nc g ^ (s - 1 - i) % fg_nc g := by
      intro t hV hst hnm
      unfold fg_nm at hnm
      rw [hst] at hnm
      exact fg_bs_inj s (fun i hi => fg_dg_lt hV (by omega)) (fun i _ => Nat.mod_lt _ hb) (hnm.trans bsx.symm)
    have opeq : (fun i => fg_ar g (x / fg_nc g ^ (s - 1 - i) % fg_nc g)) = fg_op (fg_ar g) (fun _ => 2) (fun i => x / fg_nc g ^ (s - 1 - i) % fg_nc g) := by
      funext i
      exact (fg_op2 (ar := fg_ar g) (k := fun _ => 2) (v := fun i => x / fg_nc g ^ (s - 1 - i) % fg_nc g) (i := i) rfl).symm
    refine fg_yisv (d := fun i => x / fg_nc g ^ (s - 1 - i) % fg_nc g) hG hC.1 hs.2 (fun i hi => ⟨hl i (Nat.zero_le _) hi, Nat.mod_lt _ hb⟩) (fun h1 => br_f (by decide) ?_) (fun h0 => br_t rfl (nm_r (nI_1 x) (hJ _ _ _ _ _ _ _ ?_ ?_ q1 q2 q3)))
    · rw [opeq] at h1
      obtain ⟨te, t1, t2, t3, t4⟩ := fg_parse (nc := fg_nc g) hG.2.1 _ 0 s rfl (Nat.zero_le _) h1 (fun k _ _ => ⟨rfl, Nat.mod_lt _ hb⟩)
      rw [Nat.zero_add] at t3
      subst t3
      have hV : fg_V g te := ⟨t1, t2⟩
      have hnm : fg_nm g te = x := by
        unfold fg_nm
        rw [← bsx]
        exact fg_bs_cg _ (fun i hi => by have := t4 i hi; rw [Nat.zero_add] at this; exact this)
      have hli : fg_at li 0 (fg_fl te) := fg_at_of (fun p hp => by
        have := t4 p hp
        rw [Nat.zero_add] at this
        rw [hl p (Nat.zero_le _) hp, this])
      have hW : ∀ t, (fg_WY g (fg_sz te) x t ∨ t = te) ↔ fg_WY g (fg_sz te) (x + 1) t := by
        intro t
        constructor
        · rintro (⟨a, b | ⟨b, c⟩⟩ | rfl)
          · exact ⟨a, Or.inl b⟩
          · exact ⟨a, Or.inr ⟨b, by omega⟩⟩
          · exact ⟨hV, Or.inr ⟨rfl, by omega⟩⟩
        · rintro ⟨a, b | ⟨b, c⟩⟩
          · exact Or.inl ⟨a, Or.inl b⟩
          · rcases Nat.lt_or_ge (fg_nm g t) x with y | y
            · exact Or.inl ⟨a, Or.inr ⟨b, y⟩⟩
            · refine Or.inr (fg_fl_inj t te a.2 t2 b (fun p hp => ?_))
              rw [hdg t a b (by omega) p (by omega), hdg te hV rfl hnm p (by omega)]
      have hWe : (fun t => fg_WY g (fg_sz te) x t ∨ t = te) = fg_WY g (fg_sz te) (x + 1) := funext fun t => propext (hW t)
      refine fg_ynote hG hC hf hV hs.2 hli hA hO ?_ ?_ (fun en' fits' counts' opn' openSize' a1 a2 a3 a4 a5 => ?_)
      · rintro ⟨-, w | ⟨-, w⟩⟩
        · omega
        · omega
      · rintro t ⟨-, w | ⟨w1, w2⟩⟩
        · exact Or.inl w
        · exact Or.inr ⟨w1, by omega⟩
      · rw [hWe] at a1 a2
        exact nm_r (nI_1 x) (hJ _ _ _ _ _ _ _ a1 a2 (fun k hk => (a3 k hk).trans (q1 k hk)) (fun k hk => (a4 k hk).trans (q2 k hk)) (fun k hk => (a5 k hk).trans (q3 k hk)))
    all_goals
      have hWe : fg_WY g s x = fg_WY g s (x + 1) := funext fun t => propext ⟨fun w => ⟨w.1, w.2.elim Or.inl (fun v => Or.inr ⟨v.1, by omega⟩)⟩, fun w => ⟨w.1, w.2.elim Or.inl (fun v => by
        rcases Nat.lt_or_ge (fg_nm g t) x with y | y
        · exact Or.inr ⟨v.1, y⟩
        · exfalso
          apply h0
          have := fg_G_tree (D := s) (o := fun i => fg_ar g (x / fg_nc g ^ (s - 1 - i) % fg_nc g)) t 0 w.1.1 w.1.2 (fun p hp => by
            show fg_ar g (x / fg_nc g ^ (s - 1 - (0 + p)) % fg_nc g) = _
            rw [Nat.zero_add, ← hdg t w.1 v.1 (by omega) p (by omega)]; rfl) (by omega)
          rw [Nat.zero_add, v.1] at this
          exact this)⟩⟩
    · rw [← hWe]; exact hA
    · rw [← hWe]; exact hO
  | succ j ih =>
    intro li en fits counts opn openSize hj hl hA hO q1 q2 q3
    have hd1 := hdl (s - (j + 1))
    have nz : ¬ nI (fg_nc g) = 0 := nI_ne0 hb (by omega)
    rw [nI_pred]
    refine br_f (nI_pos (by omega)) (And.intro nz (And.intro (vp_in_nI (by omega) (by decide)) ?_))
    rw [nI_clamp (by omega), pk_rem (by omega) hb (by omega), pk_div (by omega) hb (by omega)]
    refine nm_e (And.intro nz (nm_r (e' := nI (x / fg_nc g ^ (s - j))) ?_ (nm_r (fg_pdm j) (ih _ en fits counts opn openSize (by omega) (fun i h1 h2 => ?_) hA hO q1 q2 q3))))
    · rw [Nat.div_div_eq_div_mul, ← Nat.pow_succ, show (s - (j + 1)).succ = s - j by omega]
    · by_cases z : i = j
      · rw [z, pk_us, show s - 1 - j = s - (j + 1) by omega]
      · rw [pk_un z]; exact hl i (by omega) h2
theorem fg_yk57 {post : SY → Prop} (hG : fg_WF g) (hC : fg_CY g y_arity y_rows y_patternLength y_resultLength y_kind y_with) (hf : f < 4)
    (hp : ∀ (ln : Int32) (li en fits counts opn openSize : Nat → Int32), fg_YA g f (fg_WN g 6) counts → fg_YC g f (fg_WN g 6) opn openSize → (∀ j, (j < 30 * f ∨ 30 * f + 30 ≤ j) → counts j = c0 j) → (∀ j, j ≠ f → openSize j = os0 j) → (∀ j, (j < 5 * f ∨ 5 * f + 5 ≤ j) → opn j = o0 j) → post (nI (fg_nc g), y_drafted, y_nodes, ln, y_argumentLength, y_givenLength, y_steps, y_blamed, y_how, y_ran, y_working, y_arity, y_draftKind, y_draftWith, y_kind, y_with, y_patternLength, y_resultLength, y_rows, y_head, y_left, y_right, y_size, li, y_stack, y_starts, y_argument, y_given, fits, en, y_places, y_bound, y_workKind, y_workWith, y_owner, counts, openSize, opn, y_known)) :
    ∀ (d s : Nat) (ln : Int32) (li en fits counts opn openSize : Nat → Int32), 1 ≤ s → s + d = 6 → fg_YA g f (fg_WN g s) counts → fg_YC g f (fg_WN g s) opn openSize → (∀ j, (j < 30 * f ∨ 30 * f + 30 ≤ j) → counts j = c0 j) → (∀ j, j ≠ f → openSize j = os0 j) → (∀ j, (j < 5 * f ∨ 5 * f + 5 ≤ j) → opn j = o0 j) → wY_know_57 post (nI f) (d + 1) (nI (fg_nc g ^ s)) (nI s) (nI (fg_nc g)) y_drafted y_nodes ln y_argumentLength y_givenLength y_steps y_blamed y_how y_ran y_working y_arity y_draftKind y_draftWith y_kind y_with y_patternLength y_resultLength y_rows y_head y_left y_right y_size li y_stack y_starts y_argument y_given fits en y_places y_bound y_workKind y_workWith y_owner counts openSize opn y_known := by
  have h6 := hG.1
  intro d
  induction d with
  | zero =>
    intro s ln li en fits counts opn openSize hs hd hA hO q1 q2 q3
    have : s = 6 := by omega
    subst this
    exact br_t (by decide) (hp _ _ _ _ _ _ _ hA hO q1 q2 q3)
  | succ d ih =>
    intro s ln li en fits counts opn openSize hs hd hA hO q1 q2 q3
    refine pk_le 6 s (fun h => by omega) (fun _ => ⟨fg_nc g ^ s + 1, ?_⟩)
    have hp5 : fg_nc g ^ s ≤ 7776 := Nat.le_trans (Nat.pow_le_pow_left h6 s) (Nat.le_trans (Nat.pow_le_pow_right (by decide) (by omega)) (show 6 ^ 5 ≤ 7776 by decide))
    have lp : ∀ (e x : Nat) (ln : Int32) (li en fits counts opn openSize : Nat → Int32), x + e = fg_nc g ^ s → fg_YA g f (fg_WY g s x) counts → fg_YC g f (fg_WY g s x) opn openSize → (∀ j, (j < 30 * f ∨ 30 * f + 30 ≤ j) → counts j = c0 j) → (∀ j, j ≠ f → openSize j = os0 j) → (∀ j, (j < 5 * f ∨ 5 * f + 5 ≤ j) → opn j = o0 j) → wY_know_66 post (wY_know_57 post (nI f) (d + 1)) (nI f) (nI (fg_nc g ^ s)) (nI s) (e + 1) (nI x) (nI (fg_nc g)) y_drafted y_nodes ln y_argumentLength y_givenLength y_steps y_blamed y_how y_ran y_working y_arity y_draftKind y_draftWith y_kind y_with y_patternLength y_resultLength y_rows y_head y_left y_right y_size li y_stack y_starts y_argument y_given fits en y_places y_bound y_workKind y_workWith y_owner counts openSize opn y_known := by
      intro e
      induction e with
      | zero =>
        intro x ln li en fits counts opn openSize he hA hO q1 q2 q3
        have : x = fg_nc g ^ s := by omega
        subst this
        have hWe : fg_WY g s (fg_nc g ^ s) = fg_WN g (s + 1) := funext fun t => propext ⟨fun w => ⟨w.1, by rcases w.2 with v | v <;> omega⟩, fun w => ⟨w.1, by
          rcases Nat.lt_or_ge (fg_sz t) s with y | y
          · exact Or.inl y
          · have hst : fg_sz t = s := by have := w.2; omega
            refine Or.inr ⟨hst, ?_⟩
            unfold fg_nm
            rw [hst]
            exact fg_bs_lt s (fun i hi => fg_dg_lt w.1 (by omega))⟩⟩
        rw [hWe] at hA hO
        refine br_t (nI_le (Nat.le_refl _) (by omega)) (nm_r (e' := nI (fg_nc g ^ (s + 1))) (by rw [fg_mulc, ← Nat.pow_succ]) (nm_r (nI_1 s) ?_))
        exact ih (s + 1) _ _ _ _ _ _ _ (by omega) (by omega) hA hO q1 q2 q3
      | succ e ihe =>
        intro x ln li en fits counts opn openSize he hA hO q1 q2 q3
        refine br_f (nI_ge (by omega) (by omega)) (nm_e ⟨s + 1, ?_⟩)
        have := fg_yk86 (post := post) (J57 := wY_know_57 post (nI f) (d + 1)) (J66 := wY_know_66 post (wY_know_57 post (nI f) (d + 1)) (nI f) (nI (fg_nc g ^ s)) (nI s) (e + 1)) (x2 := nI (fg_nc g ^ s)) hG hC hf ⟨hs, by omega⟩ (show x < fg_nc g ^ s by omega) (fun ln li en fits counts opn openSize a1 a2 a3 a4 a5 => ihe (x + 1) _ _ _ _ _ _ _ (by omega) a1 a2 a3 a4 a5) s li en fits counts opn openSize (Nat.le_refl _) (fun i h1 h2 => by omega) hA hO q1 q2 q3
        rw [Nat.sub_self, Nat.pow_zero, Nat.div_one] at this
        exact this
    have hWe : fg_WN g s = fg_WY g s 0 := funext fun t => propext ⟨fun w => ⟨w.1, Or.inl w.2⟩, fun w => ⟨w.1, by rcases w.2 with v | v <;> omega⟩⟩
    rw [hWe] at hA hO
    exact lp (fg_nc g ^ s) 0 _ _ _ _ _ _ _ (by omega) hA hO q1 q2 q3
theorem fg_yknow0 {post : SY → Prop} (hG : fg_WF g) (hC : fg_CY g y_arity y_rows y_patternLength y_resultLength y_kind y_with) (hf : f < 4) (h0 : y_known f = 0)
    (hp : ∀ (ln : Int32) (li en fits counts opn openSize : Nat → Int32), fg_YA g f (fg_WN g 6) counts → fg_YC g f (fg_WN g 6) opn openSize → (∀ j, (j < 30 * f ∨ 30 * f + 30 ≤ j) → counts j = y_counts j) → (∀ j, j ≠ f → openSize j = y_openSize j) → (∀ j, (j < 5 * f ∨ 5 * f + 5 ≤ j) → opn j = y_open j) → post (nI (fg_nc g), y_drafted, y_nodes, ln, y_argumentLength, y_givenLength, y_steps, y_blamed, y_how, y_ran, y_working, y_arity, y_draftKind, y_draftWith, y_kind, y_with, y_patternLength, y_resultLength, y_rows, y_head, y_left, y_right, y_size, li, y_stack, y_starts, y_argument, y_given, fits, en, y_places, y_bound, y_workKind, y_workWith, y_owner, counts, openSize, opn, upd y_known f 1)) :
    wpY_know post (nI (fg_nc g), y_drafted, y_nodes, y_length, y_argumentLength, y_givenLength, y_steps, y_blamed, y_how, y_ran, y_working, y_arity, y_draftKind, y_draftWith, y_kind, y_with, y_patternLength, y_resultLength, y_rows, y_head, y_left, y_right, y_size, y_list, y_stack, y_starts, y_argument, y_given, y_fits, y_ends, y_places, y_bound, y_workKind, y_workWith, y_owner, y_counts, y_openSize, y_open, y_known) (nI f) := by
  have vf : vp_in (nI f) 4 := vp_in_nI hf (by decide)
  have cf : (nI f).toNatClampNeg = f := nI_clamp (by omega)
  have h5 := hG.2.2.1 f hf
  refine And.intro vf (br_t (by rw [cf]; exact h0) (And.intro vf ?_))
  rw [cf]
  refine nm_r (e' := upd y_known f 1) (by rw [show vp_nar .boolean 1 = 1 from rfl]) (And.intro vf (nm_e ?_))
  have key : ∀ (d i : Nat) (counts : Nat → Int32), i + d = 30 → (∀ j, j < i → counts (30 * f + j) = 0) → (∀ j, (j < 30 * f ∨ 30 * f + 30 ≤ j) → counts j = y_counts j) → wY_know_26 post (nI f) (nI (fg_nc g)) y_drafted y_nodes y_length y_argumentLength y_givenLength y_steps y_blamed y_how y_ran y_working (d + 1) (nI i) y_arity y_draftKind y_draftWith y_kind y_with y_patternLength y_resultLength y_rows y_head y_left y_right y_size y_list y_stack y_starts y_argument y_given y_fits y_ends y_places y_bound y_workKind y_workWith y_owner counts (upd y_openSize f 0) y_open (upd y_known f 1) := by
    intro d
    induction d with
    | zero =>
      intro i counts hd h1 h2
      refine pk_le 30 i (fun _ => ⟨6, ?_⟩) (fun h => by omega)
      have noW : ∀ t, ¬ fg_WN g 1 t := fun t ht => by have := fg_szp ht.1.1; have := ht.2; omega
      have w := fg_yk57 (post := post) (y_known := upd y_known f 1) (c0 := y_counts) (o0 := y_open) (os0 := y_openSize) hG hC hf (fun ln li en fits counts opn openSize a1 a2 a3 a4 a5 => hp _ _ _ _ _ _ _ a1 a2 a3 a4 a5) 5 1 y_length y_list y_ends y_fits counts y_open (upd y_openSize f 0) (Nat.le_refl _) rfl ?_ ?_ h2 (fun j hj => pk_un hj) (fun _ _ => rfl)
      · rw [Nat.pow_one] at w
        exact w
      · intro r n hr hn
        have il := fg_iy_le h5 r
        refine ⟨0, ?_, fg_Ca_0 (fun t ht => noW t ht.1)⟩
        rw [show 30 * f + 5 * fg_iy g f r + n = 30 * f + (5 * fg_iy g f r + n) by omega]
        exact h1 _ (by omega)
      · exact ⟨0, by decide, pk_us, fun _ t ht => absurd ht (noW t), fun h => absurd rfl h⟩
    | succ d ih =>
      intro i counts hd h1 h2
      refine pk_le 30 i (fun h => by omega) (fun _ => ?_)
      rw [show (30 : Int32) * nI f + nI i = nI (30 * f + i) by rw [show (30 : Int32) = nI 30 from rfl, fg_mulc, nI_add], nI_clamp (by omega)]
      refine And.intro (vp_in_nI (by omega) (by decide)) (nm_e (nm_r (nI_1 i) (ih (i + 1) _ (by omega) (fun j hj => ?_) (fun j hj => ?_))))
      · by_cases z : j = i
        · rw [z, pk_us]
        · rw [pk_un (by omega)]; exact h1 j (by omega)
      · rw [pk_un (by omega)]; exact h2 j hj
  exact ⟨31, key 30 0 y_counts rfl (fun j hj => absurd hj (Nat.not_lt_zero _)) (fun _ _ => rfl)⟩
end
/-- both have found the same -/
theorem fg_Cn1_of {g : fg_C} {f : Nat} {xcounts firstOpen : Nat → Int64} {xopenSize ycounts yopen yopenSize : Nat → Int32} (hG : fg_WF g) (hf : f < 4)
    (hA : fg_IA g f (fg_WN g 6) xcounts) (hC : fg_IC g f (fg_WN g 6) firstOpen xopenSize) (hA' : fg_YA g f (fg_WN g 6) ycounts) (hC' : fg_YC g f (fg_WN g 6) yopen yopenSize) :
    fg_Cn1 (fg_rw g f) f xcounts ycounts firstOpen xopenSize yopenSize yopen := by
  have h6 := hG.1
  have bnd : ∀ n q r, n < 5 → fg_Ca (fun t => fg_WN g 6 t ∧ fg_sz t = n + 1 ∧ fg_tk g f t = r) q → q < 8000 := by
    intro n q r hn hq
    obtain ⟨P, p1, p2, p3⟩ := hq
    have := fg_pig (fg_nc g ^ (n + 1)) P.length (fun i => fg_nm g (P.getD i fg_nil)) (fun i hi => ?_) (fun i j hi hj e => ?_)
    · have h7 : fg_nc g ^ (n + 1) ≤ 7776 := Nat.le_trans (Nat.pow_le_pow_left h6 _) (Nat.le_trans (Nat.pow_le_pow_right (by decide) (show n + 1 ≤ 5 by omega)) (show 6 ^ 5 ≤ 7776 by decide))
      omega
    · show fg_nm g (P.getD i fg_nil) < _
      have hm : P.getD i fg_nil ∈ P := by rw [List.getD_eq_getElem?_getD, List.getElem?_eq_getElem hi]; exact List.getElem_mem hi
      obtain ⟨a, b, -⟩ := (p2 _).mp hm
      unfold fg_nm
      rw [b]
      exact fg_bs_lt _ (fun k hk => fg_dg_lt a.1 (by omega))
    · have e' : fg_nm g (P.getD i fg_nil) = fg_nm g (P.getD j fg_nil) := e
      have gi : P.getD i fg_nil = P[i] := by rw [List.getD_eq_getElem?_getD, List.getElem?_eq_getElem hi]; rfl
      have gj : P.getD j fg_nil = P[j] := by rw [List.getD_eq_getElem?_getD, List.getElem?_eq_getElem hj]; rfl
      rw [gi, gj] at e'
      obtain ⟨a, b, -⟩ := (p2 _).mp (List.getElem_mem hi)
      obtain ⟨a', b', -⟩ := (p2 _).mp (List.getElem_mem hj)
      unfold fg_nm at e'
      rw [b, b'] at e'
      have hd := fg_bs_inj _ (fun k hk => fg_dg_lt a.1 (by omega)) (fun k hk => fg_dg_lt a'.1 (by omega)) e'
      have et : P[i] = P[j] := fg_fl_inj _ _ a.1.2 a'.1.2 (by omega) (fun p hp => hd p (by omega))
      exact (List.getElem?_inj hi p1).mp (by rw [List.getElem?_eq_getElem hi, List.getElem?_eq_getElem hj, et])
  refine ⟨fun r n hr hn => ?_, fun n hn => ?_, ?_⟩
  · obtain ⟨q, c1, c2⟩ := hA r n (by omega) hn
    obtain ⟨q', d1, d2⟩ := hA' r n (by omega) hn
    have e := fg_Ca_uniq c2 d2
    subst e
    have ex : fg_ix g f r = r := if_pos hr
    have ey : fg_iy g f r = r + 1 := if_pos hr
    rw [ex] at c1
    rw [ey] at d1
    exact ⟨q, bnd n q r hn c2, c1, d1⟩
  · obtain ⟨q, c1, c2⟩ := hA (fg_rw g f) n (Nat.le_refl _) hn
    obtain ⟨q', d1, d2⟩ := hA' (fg_rw g f) n (Nat.le_refl _) hn
    have e := fg_Ca_uniq c2 d2
    subst e
    have ex : fg_ix g f (fg_rw g f) = 5 := if_neg (Nat.lt_irrefl _)
    have ey : fg_iy g f (fg_rw g f) = 0 := if_neg (Nat.lt_irrefl _)
    rw [ex] at c1
    rw [ey] at d1
    exact ⟨q, bnd n q _ hn c2, c1, d1⟩
  · obtain ⟨os, o1, o2, o3, o4⟩ := hC
    obtain ⟨os', p1, p2, p3, p4⟩ := hC'
    rcases Nat.eq_zero_or_pos os with z | z
    · have : os' = 0 := by
        rcases Nat.eq_zero_or_pos os' with y | y
        · exact y
        · obtain ⟨t, t1, t2, -⟩ := p4 (by omega)
          exact absurd t2 (o3 z t t1)
      subst this z
      exact ⟨0, fun _ => 0, by decide, fun k hk => absurd hk (Nat.not_lt_zero _), o2, p2, fun h => absurd rfl h, fun k hk => absurd hk (Nat.not_lt_zero _)⟩
    · obtain ⟨t, t1, t2, t3, t4, t5⟩ := o4 (by omega)
      have hos' : os' ≠ 0 := fun y => p3 y t t1 t2
      obtain ⟨u, u1, u2, u3, u4, u5⟩ := p4 hos'
      obtain ⟨a1, a2⟩ := t5 u u1 u2
      obtain ⟨b1, b2⟩ := u5 t t1 t2
      have eo : os' = os := by omega
      subst eo
      have c1 := a2 u3
      have c2 := b2 t3
      have hd : ∀ i, i < os' → fg_dg t i = fg_dg u i := by
        have dt : ∀ i, i < os' → fg_dg t i < fg_nc g := fun i hi => fg_dg_lt t1.1 (by omega)
        have du : ∀ i, i < os' → fg_dg u i < fg_nc g := fun i hi => fg_dg_lt u1.1 (by omega)
        unfold fg_co at c1
        unfold fg_nm at c2
        rw [t3, u3] at c1 c2
        rcases Nat.lt_or_ge (fg_bs (fg_nc g) (fg_dg u) os') (fg_bs (fg_nc g) (fg_dg t) os') with y | y
        · have := fg_bs_mono (B := 16) (by omega) os' du dt y
          omega
        · exact fg_bs_inj os' dt du (by omega)
      refine ⟨os', fg_dg t, o1, fun k hk => ?_, o2, p2, fun _ => ?_, fun k hk => ?_⟩
      · have := fg_dg_lt t1.1 (show k < fg_sz t by omega); omega
      · rw [t4]; unfold fg_co; rw [t3]
      · rw [u4 k hk, hd k hk]
end
section
/-! count, useless, open, witness -/
def fg_LX (g : fg_C) (f : Nat) (c0 fo0 : Nat → Int64) (os0 cd0 : Nat → Int32) (counts firstOpen : Nat → Int64) (openSize counted : Nat → Int32) : Prop :=
  (cd0 f = 1 ∧ counts = c0 ∧ firstOpen = fo0 ∧ openSize = os0 ∧ counted = cd0) ∨
  (cd0 f = 0 ∧ fg_IA g f (fg_WN g 6) counts ∧ fg_IC g f (fg_WN g 6) firstOpen openSize ∧ (∀ j, (j < 30 * f ∨ 30 * f + 30 ≤ j) → counts j = c0 j) ∧ (∀ j, j ≠ f → firstOpen j = fo0 j ∧ openSize j = os0 j) ∧ counted = upd cd0 f 1)
def fg_LY (g : fg_C) (f : Nat) (c0 o0 os0 cd0 : Nat → Int32) (counts opn openSize known : Nat → Int32) : Prop :=
  (cd0 f = 1 ∧ counts = c0 ∧ opn = o0 ∧ openSize = os0 ∧ known = cd0) ∨
  (cd0 f = 0 ∧ fg_YA g f (fg_WN g 6) counts ∧ fg_YC g f (fg_WN g 6) opn openSize ∧ (∀ j, (j < 30 * f ∨ 30 * f + 30 ≤ j) → counts j = c0 j) ∧ (∀ j, j ≠ f → openSize j = os0 j) ∧ (∀ j, (j < 5 * f ∨ 5 * f + 5 ≤ j) → opn j = o0 j) ∧ known = upd cd0 f 1)
theorem fg_Cn1_cg {rwf f : Nat} {xc xc' fo fo' : Nat → Int64} {yc yc' xo xo' yo yo' op op' : Nat → Int32} (h : fg_Cn1 rwf f xc yc fo xo yo op) (h5 : rwf ≤ 5) (e1 : ∀ j, 30 * f ≤ j → j < 30 * f + 30 → xc' j = xc j) (e2 : ∀ j, 30 * f ≤ j → j < 30 * f + 30 → yc' j = yc j)
    (e3 : fo' f = fo f) (e4 : xo' f = xo f) (e5 : yo' f = yo f) (e6 : ∀ j, 5 * f ≤ j → j < 5 * f + 5 → op' j = op j) : fg_Cn1 rwf f xc' yc' fo' xo' yo' op' := by
  obtain ⟨h1, h2, os, d, d1, d2, d3, d4, d5', d6⟩ := h
  refine ⟨fun r n hr hn => ?_, fun n hn => ?_, os, d, d1, d2, by rw [e4]; exact d3, by rw [e5]; exact d4, fun z => by rw [e3]; exact d5' z, fun k hk => by rw [e6 _ (by omega) (by omega)]; exact d6 k hk⟩
  · rw [e1 _ (by omega) (by omega), e2 _ (by omega) (by omega)]; exact h1 r n hr hn
  · rw [e1 _ (by omega) (by omega), e2 _ (by omega) (by omega)]; exact h2 n hn
theorem fg_LXY {g : fg_C} {f : Nat} {c0 fo0 : Nat → Int64} {os0 cd0 : Nat → Int32} {counts firstOpen : Nat → Int64} {openSize counted : Nat → Int32} {yc0 yo0 yos0 yk0 ycounts yopn yopenSize yknown : Nat → Int32} (hG : fg_WF g) (hf : f < 4)
    (h : fg_Cn g cd0 yk0 c0 yc0 fo0 os0 yos0 yo0) (hX : fg_LX g f c0 fo0 os0 cd0 counts firstOpen openSize counted) (hY : fg_LY g f yc0 yo0 yos0 yk0 ycounts yopn yopenSize yknown) :
    fg_Cn g counted yknown counts ycounts firstOpen openSize yopenSize yopn ∧ fg_Cn1 (fg_rw g f) f counts ycounts firstOpen openSize yopenSize yopn := by
  obtain ⟨e, hc⟩ := h f hf
  rcases hX with ⟨x1, rfl, rfl, rfl, rfl⟩ | ⟨x1, x2, x3, x4, x5, x6⟩
  · rcases hY with ⟨y1, rfl, rfl, rfl, rfl⟩ | ⟨y1, -⟩
    · refine ⟨h, ?_⟩
      rcases hc with z | z
      · rw [x1] at z; exact absurd z (by decide)
      · exact z.2
    · rw [← e, x1] at y1; exact absurd y1 (by decide)
  · rcases hY with ⟨y1, -⟩ | ⟨y1, y2, y3, y4, y5, y6, y7⟩
    · rw [← e, x1] at y1; exact absurd y1 (by decide)
    · have hn := fg_Cn1_of hG hf x2 x3 y2 y3
      refine ⟨fun j hj => ?_, hn⟩
      rw [x6, y7]
      by_cases z : j = f
      · subst z
        rw [pk_us, pk_us]
        exact ⟨rfl, Or.inr ⟨rfl, hn⟩⟩
      · obtain ⟨q1, q2⟩ := h j hj
        rw [pk_un z, pk_un z]
        refine ⟨q1, q2.imp id (fun ⟨q3, q4⟩ => ⟨q3, ?_⟩)⟩
        exact fg_Cn1_cg q4 (hG.2.2.1 j hj) (fun i h1 h2 => x4 i (by omega)) (fun i h1 h2 => y4 i (by omega)) (x5 j z).1 (x5 j z).2 (y5 j z) (fun i h1 h2 => y6 i (by omega))
section
variable {x_cons x_drafted x_given x_cells x_calls x_opened x_held x_steps x_outcome x_culprit x_size x_kinds : Int32} {x_arity x_dKind x_dValue x_behind x_pKind x_pValue x_pBehind x_rKind x_rValue x_pLength x_rLength x_rows x_path x_argument x_cCon x_cFirst x_cSecond x_cSize x_table x_learnt x_pile x_callRow x_callAt x_callOpen x_bound x_openToken x_lacks x_output x_kSize x_counted x_openSize x_values : Nat → Int32} {x_sets x_kSet x_kMany x_kList x_counts x_firstOpen : Nat → Int64}
variable {g : fg_C} {f : Nat}
theorem fg_xlearn {post : SX → Prop} (hG : fg_WF g) (hX : fg_CX g x_arity x_rows x_pLength x_rLength x_pKind x_pValue x_pBehind x_rKind x_rValue x_path) (hf : f < 4) (hcd : x_counted f = 0 ∨ x_counted f = 1)
    (hp : ∀ (kinds : Int32) (kSize : Nat → Int32) (kSet kMany kList counts firstOpen : Nat → Int64) (openSize counted : Nat → Int32), fg_LX g f x_counts x_firstOpen x_openSize x_counted counts firstOpen openSize counted → post (nI (fg_nc g), x_drafted, x_given, x_cells, x_calls, x_opened, x_held, x_steps, x_outcome, x_culprit, x_size, kinds, x_arity, x_dKind, x_dValue, x_behind, x_pKind, x_pValue, x_pBehind, x_rKind, x_rValue, x_pLength, x_rLength, x_rows, x_path, x_argument, x_cCon, x_cFirst, x_cSecond, x_cSize, x_table, x_sets, x_learnt, x_pile, x_callRow, x_callAt, x_callOpen, x_bound, x_openToken, x_lacks, x_output, kSize, kSet, kMany, kList, counts, counted, firstOpen, openSize, x_values)) : wpX_learn post (nI (fg_nc g), x_drafted, x_given, x_cells, x_calls, x_opened, x_held, x_steps, x_outcome, x_culprit, x_size, x_kinds, x_arity, x_dKind, x_dValue, x_behind, x_pKind, x_pValue, x_pBehind, x_rKind, x_rValue, x_pLength, x_rLength, x_rows, x_path, x_argument, x_cCon, x_cFirst, x_cSecond, x_cSize, x_table, x_sets, x_learnt, x_pile, x_callRow, x_callAt, x_callOpen, x_bound, x_openToken, x_lacks, x_output, x_kSize, x_kSet, x_kMany, x_kList, x_counts, x_counted, x_firstOpen, x_openSize, x_values) (nI f) := by
  rcases hcd with h0 | h1
  · exact fg_xlearn0 hG hX hf h0 (fun K kSize kSet kMany kList counts firstOpen openSize a1 a2 a3 a4 => hp _ _ _ _ _ _ _ _ _ (Or.inr ⟨h0, a1, a2, a3, a4, rfl⟩))
  · refine And.intro (vp_in_nI hf (by decide)) (br_f (by rw [nI_clamp (by omega), h1]; decide) ?_)
    exact hp _ _ _ _ _ _ _ _ _ (Or.inl ⟨h1, rfl, rfl, rfl, rfl⟩)
end
section
variable {y_cons y_drafted y_nodes y_length y_argumentLength y_givenLength y_steps y_blamed y_how y_ran y_working : Int32} {y_arity y_draftKind y_draftWith y_kind y_with y_patternLength y_resultLength y_rows y_head y_left y_right y_size y_list y_stack y_starts y_argument y_given y_fits y_ends y_places y_bound y_workKind y_workWith y_owner y_counts y_openSize y_open y_known : Nat → Int32}
variable {g : fg_C} {f : Nat}
theorem fg_yknow {post : SY → Prop} (hG : fg_WF g) (hC : fg_CY g y_arity y_rows y_patternLength y_resultLength y_kind y_with) (hf : f < 4) (hcd : y_known f = 0 ∨ y_known f = 1)
    (hp : ∀ (ln : Int32) (li en fits counts opn openSize known : Nat → Int32), fg_LY g f y_counts y_open y_openSize y_known counts opn openSize known → post (nI (fg_nc g), y_drafted, y_nodes, ln, y_argumentLength, y_givenLength, y_steps, y_blamed, y_how, y_ran, y_working, y_arity, y_draftKind, y_draftWith, y_kind, y_with, y_patternLength, y_resultLength, y_rows, y_head, y_left, y_right, y_size, li, y_stack, y_starts, y_argument, y_given, fits, en, y_places, y_bound, y_workKind, y_workWith, y_owner, counts, openSize, opn, known)) : wpY_know post (nI (fg_nc g), y_drafted, y_nodes, y_length, y_argumentLength, y_givenLength, y_steps, y_blamed, y_how, y_ran, y_working, y_arity, y_draftKind, y_draftWith, y_kind, y_with, y_patternLength, y_resultLength, y_rows, y_head, y_left, y_right, y_size, y_list, y_stack, y_starts, y_argument, y_given, y_fits, y_ends, y_places, y_bound, y_workKind, y_workWith, y_owner, y_counts, y_openSize, y_open, y_known) (nI f) := by
  rcases hcd with h0 | h1
  · exact fg_yknow0 hG hC hf h0 (fun ln li en fits counts opn openSize a1 a2 a3 a4 a5 => hp _ _ _ _ _ _ _ _ (Or.inr ⟨h0, a1, a2, a3, a4, a5, rfl⟩))
  · refine And.intro (vp_in_nI hf (by decide)) (br_f (by rw [nI_clamp (by omega), h1]; decide) ?_)
    exact hp _ _ _ _ _ _ _ _ (Or.inl ⟨h1, rfl, rfl, rfl, rfl⟩)
end
theorem fg_cd01 {g : fg_C} {f : Nat} {a b : Nat → Int32} {c : Nat → Int64} {d : Nat → Int32} {e : Nat → Int64} {h i j : Nat → Int32} (hf : f < 4) (hC : fg_Cn g a b c d e h i j) : (a f = 0 ∨ a f = 1) ∧ (b f = 0 ∨ b f = 1) := by
  obtain ⟨q1, q2⟩ := hC f hf
  rw [← q1]
  rcases q2 with q | q
  · exact ⟨Or.inl q, Or.inl q⟩
  · exact ⟨Or.inr q.1, Or.inr q.1⟩
/-- an int below -1, or -1, or a number below n, or beyond -/
theorem fg_ixm (p : Int32) {n : Nat} (hn : n < 2 ^ 31) : p < -1 ∨ p = -1 ∨ (∃ r, r < n ∧ p = nI r) ∨ nI n ≤ p := by
  rcases pk_ix p hn with h | h | h
  · rw [Int32.lt_iff_toInt_lt, show (0 : Int32).toInt = 0 from by decide] at h
    rcases (show p.toInt < -1 ∨ p.toInt = -1 by omega) with z | z
    · exact Or.inl (by rw [Int32.lt_iff_toInt_lt, show (-1 : Int32).toInt = -1 from by decide]; exact z)
    · exact Or.inr (Or.inl (Int32.toInt_inj.mp (by rw [z]; decide)))
  · exact Or.inr (Or.inr (Or.inr h))
  · exact Or.inr (Or.inr (Or.inl h))
theorem i_vc_open {k : Nat} {u : SX} {v : SY} (I : i_Rel k u v) (hk : k + 4 ≤ 2048) (v1 : Int32) : wpX_open (fun r u' => wpY_open (fun r' v' => r' = r ∧ i_Rel (k + 4) u' v') v v1) u v1 := by
  refine fg_el (P := fun u v => wpX_open (fun r u' => wpY_open (fun r' v' => r' = r ∧ i_Rel (k + 4) u' v') v v1) u v1) ?_ I
  intro x_cons x_drafted x_given x_cells x_calls x_opened x_held x_steps x_outcome x_culprit x_size x_kinds x_arity x_dKind x_dValue x_behind x_pKind x_pValue x_pBehind x_rKind x_rValue x_pLength x_rLength x_rows x_path x_argument x_cCon x_cFirst x_cSecond x_cSize x_table x_sets x_learnt x_pile x_callRow x_callAt x_callOpen x_bound x_openToken x_lacks x_output x_kSize x_kSet x_kMany x_kList x_counts x_counted x_firstOpen x_openSize x_values y_cons y_drafted y_nodes y_length y_argumentLength y_givenLength y_steps y_blamed y_how y_ran y_working y_arity y_draftKind y_draftWith y_kind y_with y_patternLength y_resultLength y_rows y_head y_left y_right y_size y_list y_stack y_starts y_argument y_given y_fits y_ends y_places y_bound y_workKind y_workWith y_owner y_counts y_openSize y_open y_known g nd DK DV t w R0
  have bad : (v1 < 0 ∨ nI 4 ≤ v1) → wpX_open (fun r u' => wpY_open (fun r' v' => r' = r ∧ i_Rel (k + 4) u' v') (y_cons, y_drafted, y_nodes, y_length, y_argumentLength, y_givenLength, y_steps, y_blamed, y_how, y_ran, y_working, y_arity, y_draftKind, y_draftWith, y_kind, y_with, y_patternLength, y_resultLength, y_rows, y_head, y_left, y_right, y_size, y_list, y_stack, y_starts, y_argument, y_given, y_fits, y_ends, y_places, y_bound, y_workKind, y_workWith, y_owner, y_counts, y_openSize, y_open, y_known) v1) (x_cons, x_drafted, x_given, x_cells, x_calls, x_opened, x_held, x_steps, x_outcome, x_culprit, x_size, x_kinds, x_arity, x_dKind, x_dValue, x_behind, x_pKind, x_pValue, x_pBehind, x_rKind, x_rValue, x_pLength, x_rLength, x_rows, x_path, x_argument, x_cCon, x_cFirst, x_cSecond, x_cSize, x_table, x_sets, x_learnt, x_pile, x_callRow, x_callAt, x_callOpen, x_bound, x_openToken, x_lacks, x_output, x_kSize, x_kSet, x_kMany, x_kList, x_counts, x_counted, x_firstOpen, x_openSize, x_values) v1 := by
    intro h
    unfold wpX_open
    dsimp only
    refine fg_x4f h (br_t rfl ?_)
    unfold wpY_open
    dsimp only
    exact fg_y4f h (br_t rfl ⟨rfl, fg_rel R0⟩)
  rcases pk_ix v1 (n := 4) (by decide) with h | h | ⟨f, hf, rfl⟩
  · exact bad (Or.inl h)
  · exact bad (Or.inr h)
  · obtain ⟨hW, r2, r3, r4, r5, cx, cy, r8, r9, r10, r11⟩ := R0
    subst r2 r3
    have vf : vp_in (nI f) 4 := vp_in_nI hf (by decide)
    have cf : (nI f).toNatClampNeg = f := nI_clamp (by omega)
    unfold wpX_open
    dsimp only
    refine fg_x4t hf (br_f (by decide) ?_)
    refine fg_xlearn hW cx hf (fg_cd01 hf r11).1 (fun kinds kSize kSet kMany kList counts firstOpen openSize counted hX => ?_)
    dsimp only
    refine And.intro vf ?_
    rw [cf]
    unfold wpY_open
    dsimp only
    refine fg_y4t hf (br_f (by decide) ?_)
    refine fg_yknow hW cy hf (fg_cd01 hf r11).2 (fun ln li en fits ycounts opn yopenSize known hY => ?_)
    dsimp only
    refine And.intro vf ?_
    rw [cf]
    obtain ⟨n1, n2⟩ := fg_LXY hW hf r11 hX hY
    obtain ⟨-, -, os, d, -, -, e1, e2, -⟩ := n2
    exact ⟨by rw [e1, e2], fg_rel' g nd DK DV t w ⟨hW, rfl, rfl, r4, r5, cx, cy, r8, r9, r10, n1⟩⟩
theorem i_vc_count {k : Nat} {u : SX} {v : SY} (I : i_Rel k u v) (hk : k + 4 ≤ 2048) (v1 : Int32) (v2 : Int32) (v3 : Int32) : wpX_count (fun r u' => wpY_count (fun r' v' => r' = r ∧ i_Rel (k + 4) u' v') v v1 v2 v3) u v1 v2 v3 := by
  refine fg_el (P := fun u v => wpX_count (fun r u' => wpY_count (fun r' v' => r' = r ∧ i_Rel (k + 4) u' v') v v1 v2 v3) u v1 v2 v3) ?_ I
  intro x_cons x_drafted x_given x_cells x_calls x_opened x_held x_steps x_outcome x_culprit x_size x_kinds x_arity x_dKind x_dValue x_behind x_pKind x_pValue x_pBehind x_rKind x_rValue x_pLength x_rLength x_rows x_path x_argument x_cCon x_cFirst x_cSecond x_cSize x_table x_sets x_learnt x_pile x_callRow x_callAt x_callOpen x_bound x_openToken x_lacks x_output x_kSize x_kSet x_kMany x_kList x_counts x_counted x_firstOpen x_openSize x_values y_cons y_drafted y_nodes y_length y_argumentLength y_givenLength y_steps y_blamed y_how y_ran y_working y_arity y_draftKind y_draftWith y_kind y_with y_patternLength y_resultLength y_rows y_head y_left y_right y_size y_list y_stack y_starts y_argument y_given y_fits y_ends y_places y_bound y_workKind y_workWith y_owner y_counts y_openSize y_open y_known g nd DK DV t w R0
  have bad : (v1 < 0 ∨ nI 4 ≤ v1) → wpX_count (fun r u' => wpY_count (fun r' v' => r' = r ∧ i_Rel (k + 4) u' v') (y_cons, y_drafted, y_nodes, y_length, y_argumentLength, y_givenLength, y_steps, y_blamed, y_how, y_ran, y_working, y_arity, y_draftKind, y_draftWith, y_kind, y_with, y_patternLength, y_resultLength, y_rows, y_head, y_left, y_right, y_size, y_list, y_stack, y_starts, y_argument, y_given, y_fits, y_ends, y_places, y_bound, y_workKind, y_workWith, y_owner, y_counts, y_openSize, y_open, y_known) v1 v2 v3) (x_cons, x_drafted, x_given, x_cells, x_calls, x_opened, x_held, x_steps, x_outcome, x_culprit, x_size, x_kinds, x_arity, x_dKind, x_dValue, x_behind, x_pKind, x_pValue, x_pBehind, x_rKind, x_rValue, x_pLength, x_rLength, x_rows, x_path, x_argument, x_cCon, x_cFirst, x_cSecond, x_cSize, x_table, x_sets, x_learnt, x_pile, x_callRow, x_callAt, x_callOpen, x_bound, x_openToken, x_lacks, x_output, x_kSize, x_kSet, x_kMany, x_kList, x_counts, x_counted, x_firstOpen, x_openSize, x_values) v1 v2 v3 := by
    intro h
    unfold wpX_count
    dsimp only
    refine fg_x4f h (br_t rfl ?_)
    unfold wpY_count
    dsimp only
    exact fg_y4f h (br_t rfl ⟨rfl, fg_rel R0⟩)
  rcases pk_ix v1 (n := 4) (by decide) with h | h | ⟨f, hf, rfl⟩
  · exact bad (Or.inl h)
  · exact bad (Or.inr h)
  · have R0' := R0
    obtain ⟨hW, r2, r3, r4, r5, cx, cy, r8, r9, r10, r11⟩ := R0'
    subst r2 r3
    have vf : vp_in (nI f) 4 := vp_in_nI hf (by decide)
    have cf : (nI f).toNatClampNeg = f := nI_clamp (by omega)
    have h5 := hW.2.2.1 f hf
    have xr : x_rows (nI f).toNatClampNeg = nI (fg_rw g f) := by rw [cf]; exact cx.2.1 f hf
    have yr : y_rows (nI f).toNatClampNeg = nI (fg_rw g f) := by rw [cf]; exact cy.2.1 f hf
    have yb1 : (v2 < -1 ∨ nI (fg_rw g f) ≤ v2) → wpY_count (fun r' v' => r' = -1 ∧ i_Rel (k + 4) (nI (fg_nc g), x_drafted, x_given, x_cells, x_calls, x_opened, x_held, x_steps, x_outcome, x_culprit, x_size, x_kinds, x_arity, x_dKind, x_dValue, x_behind, x_pKind, x_pValue, x_pBehind, x_rKind, x_rValue, x_pLength, x_rLength, x_rows, x_path, x_argument, x_cCon, x_cFirst, x_cSecond, x_cSize, x_table, x_sets, x_learnt, x_pile, x_callRow, x_callAt, x_callOpen, x_bound, x_openToken, x_lacks, x_output, x_kSize, x_kSet, x_kMany, x_kList, x_counts, x_counted, x_firstOpen, x_openSize, x_values) v') (nI (fg_nc g), y_drafted, y_nodes, y_length, y_argumentLength, y_givenLength, y_steps, y_blamed, y_how, y_ran, y_working, y_arity, y_draftKind, y_draftWith, y_kind, y_with, y_patternLength, y_resultLength, y_rows, y_head, y_left, y_right, y_size, y_list, y_stack, y_starts, y_argument, y_given, y_fits, y_ends, y_places, y_bound, y_workKind, y_workWith, y_owner, y_counts, y_openSize, y_open, y_known) (nI f) v2 v3 := by
      intro h
      unfold wpY_count
      dsimp only
      refine fg_y4t hf (br_f (by decide) (And.intro vf ?_))
      refine fg_yinf ?_ (br_t rfl ⟨rfl, fg_rel R0⟩)
      rw [yr]
      refine h.imp id (fun q => ?_)
      rcases Nat.eq_zero_or_pos (fg_rw g f) with z | z
      · rw [z] at q ⊢
        exact Int32.lt_of_lt_of_le (by decide) q
      · obtain ⟨m, hm⟩ : ∃ m, fg_rw g f = m + 1 := ⟨fg_rw g f - 1, by omega⟩
        rw [hm] at q ⊢
        exact fg_le_lt (by omega) q (nI_pred m)
    have yb2 : (¬ v2 < -1) → (¬ nI (fg_rw g f) ≤ v2) → (v3 < 1 ∨ nI 6 ≤ v3) → wpY_count (fun r' v' => r' = -1 ∧ i_Rel (k + 4) (nI (fg_nc g), x_drafted, x_given, x_cells, x_calls, x_opened, x_held, x_steps, x_outcome, x_culprit, x_size, x_kinds, x_arity, x_dKind, x_dValue, x_behind, x_pKind, x_pValue, x_pBehind, x_rKind, x_rValue, x_pLength, x_rLength, x_rows, x_path, x_argument, x_cCon, x_cFirst, x_cSecond, x_cSize, x_table, x_sets, x_learnt, x_pile, x_callRow, x_callAt, x_callOpen, x_bound, x_openToken, x_lacks, x_output, x_kSize, x_kSet, x_kMany, x_kList, x_counts, x_counted, x_firstOpen, x_openSize, x_values) v') (nI (fg_nc g), y_drafted, y_nodes, y_length, y_argumentLength, y_givenLength, y_steps, y_blamed, y_how, y_ran, y_working, y_arity, y_draftKind, y_draftWith, y_kind, y_with, y_patternLength, y_resultLength, y_rows, y_head, y_left, y_right, y_size, y_list, y_stack, y_starts, y_argument, y_given, y_fits, y_ends, y_places, y_bound, y_workKind, y_workWith, y_owner, y_counts, y_openSize, y_open, y_known) (nI f) v2 v3 := by
      intro g1 g2 h
      unfold wpY_count
      dsimp only
      refine fg_y4t hf (br_f (by decide) (And.intro vf ?_))
      refine fg_yint g1 ?_ (br_f (by decide) (fg_yinf (h.imp id (fun q => fg_le_lt (by decide) q rfl)) (br_t rfl ⟨rfl, fg_rel R0⟩)))
      rw [yr]
      intro q
      apply g2
      rcases Nat.eq_zero_or_pos (fg_rw g f) with z | z
      · rw [z] at q ⊢
        rw [Int32.le_iff_toInt_le, nI_toInt (by decide)]
        rw [Int32.lt_iff_toInt_lt, show (nI 0 - 1 : Int32).toInt = -1 from by decide] at q
        omega
      · obtain ⟨m, hm⟩ : ∃ m, fg_rw g f = m + 1 := ⟨fg_rw g f - 1, by omega⟩
        rw [hm, nI_pred] at q
        rw [hm, Int32.le_iff_toInt_le, nI_toInt (by omega)]
        rw [Int32.lt_iff_toInt_lt, nI_toInt (by omega)] at q
        omega
    -- a good call: row index ix of X, iy of Y
    have good : ∀ (i n : Nat) (j : Nat), n < 5 → v3 = nI (n + 1) → (¬ v2 < -1) → (¬ nI (fg_rw g f) ≤ v2) → v2 + 1 = nI j → j ≤ 5 → i ≤ 5 → (∀ (xc : Nat → Int64) (yc : Nat → Int32) fo xo yo op, fg_Cn1 (fg_rw g f) f xc yc fo xo yo op → ∃ q, q < 8000 ∧ xc (30 * f + 5 * i + n) = lN q ∧ yc (30 * f + 5 * j + n) = nI q) →
        ∀ (kinds : Int32) (kSize : Nat → Int32) (kSet kMany kList counts firstOpen : Nat → Int64) (openSize counted : Nat → Int32), fg_LX g f x_counts x_firstOpen x_openSize x_counted counts firstOpen openSize counted → wX_count_59 (fun r u' => wpY_count (fun r' v' => r' = r ∧ i_Rel (k + 4) u' v') (nI (fg_nc g), y_drafted, y_nodes, y_length, y_argumentLength, y_givenLength, y_steps, y_blamed, y_how, y_ran, y_working, y_arity, y_draftKind, y_draftWith, y_kind, y_with, y_patternLength, y_resultLength, y_rows, y_head, y_left, y_right, y_size, y_list, y_stack, y_starts, y_argument, y_given, y_fits, y_ends, y_places, y_bound, y_workKind, y_workWith, y_owner, y_counts, y_openSize, y_open, y_known) (nI f) v2 v3) v3 (nI i) 5 (30 * nI f) (nI (fg_nc g)) x_drafted x_given x_cells x_calls x_opened x_held x_steps x_outcome x_culprit x_size kinds x_arity x_dKind x_dValue x_behind x_pKind x_pValue x_pBehind x_rKind x_rValue x_pLength x_rLength x_rows x_path x_argument x_cCon x_cFirst x_cSecond x_cSize x_table x_sets x_learnt x_pile x_callRow x_callAt x_callOpen x_bound x_openToken x_lacks x_output kSize kSet kMany kList counts counted firstOpen openSize x_values := by
      intro i n j hn hv3 g1 g2 hj hj5 hi5 hq kinds kSize kSet kMany kList counts firstOpen openSize counted hX
      have ei : (30 : Int32) * nI f + 5 * nI i + v3 - 1 = nI (30 * f + 5 * i + n) := by
        rw [hv3, show (30 : Int32) = nI 30 from rfl, show (5 : Int32) = nI 5 from rfl, fg_mulc, fg_mulc, nI_add, nI_add]
        exact nI_pred (30 * f + 5 * i + n)
      have ej : (30 : Int32) * nI f + 5 * (v2 + 1) + v3 - 1 = nI (30 * f + 5 * j + n) := by
        rw [hv3, hj, show (30 : Int32) = nI 30 from rfl, show (5 : Int32) = nI 5 from rfl, fg_mulc, fg_mulc, nI_add, nI_add]
        exact nI_pred (30 * f + 5 * j + n)
      unfold wX_count_59
      rw [ei, nI_clamp (by omega)]
      refine And.intro (vp_in_nI (by omega) (by decide)) ?_
      unfold wpY_count
      dsimp only
      refine fg_y4t hf (br_f (by decide) (And.intro vf ?_))
      refine fg_yint g1 ?_ (br_f (by decide) (fg_yint (by rw [hv3]; exact nI_nlt (b := 1) (by omega) (by omega)) (by rw [hv3]; exact nI_nlt (a := 5) (by omega) (by decide)) (br_f (by decide) ?_)))
      · rw [yr]
        intro q
        apply g2
        rcases Nat.eq_zero_or_pos (fg_rw g f) with z | z
        · rw [z] at q ⊢
          rw [Int32.le_iff_toInt_le, nI_toInt (by decide)]
          rw [Int32.lt_iff_toInt_lt, show (nI 0 - 1 : Int32).toInt = -1 from by decide] at q
          omega
        · obtain ⟨m, hm⟩ : ∃ m, fg_rw g f = m + 1 := ⟨fg_rw g f - 1, by omega⟩
          rw [hm, nI_pred] at q
          rw [hm, Int32.le_iff_toInt_le, nI_toInt (by omega)]
          rw [Int32.lt_iff_toInt_lt, nI_toInt (by omega)] at q
          omega
      · refine fg_yknow hW cy hf (fg_cd01 hf r11).2 (fun ln li en fits ycounts opn yopenSize known hY => ?_)
        dsimp only
        rw [ej, nI_clamp (by omega)]
        refine And.intro (vp_in_nI (by omega) (by decide)) ?_
        obtain ⟨n1, n2⟩ := fg_LXY hW hf r11 hX hY
        obtain ⟨q, q1, q2, q3⟩ := hq _ _ _ _ _ _ n2
        exact ⟨by rw [q2, q3, nI_l (by omega)], fg_rel' g nd DK DV t w ⟨hW, rfl, rfl, r4, r5, cx, cy, r8, r9, r10, n1⟩⟩
    unfold wpX_count
    dsimp only
    refine fg_x4t hf (br_f (by decide) ?_)
    have size : (¬ v2 < -1) → (¬ nI (fg_rw g f) ≤ v2) → (∀ n, n < 5 → v3 = nI (n + 1) → ∀ (kinds : Int32) (kSize : Nat → Int32) (kSet kMany kList counts firstOpen : Nat → Int64) (openSize counted : Nat → Int32), fg_LX g f x_counts x_firstOpen x_openSize x_counted counts firstOpen openSize counted → ((0 ≤ v2 → wX_count_59 (fun r u' => wpY_count (fun r' v' => r' = r ∧ i_Rel (k + 4) u' v') (nI (fg_nc g), y_drafted, y_nodes, y_length, y_argumentLength, y_givenLength, y_steps, y_blamed, y_how, y_ran, y_working, y_arity, y_draftKind, y_draftWith, y_kind, y_with, y_patternLength, y_resultLength, y_rows, y_head, y_left, y_right, y_size, y_list, y_stack, y_starts, y_argument, y_given, y_fits, y_ends, y_places, y_bound, y_workKind, y_workWith, y_owner, y_counts, y_openSize, y_open, y_known) (nI f) v2 v3) v3 v2 5 (30 * nI f) (nI (fg_nc g)) x_drafted x_given x_cells x_calls x_opened x_held x_steps x_outcome x_culprit x_size kinds x_arity x_dKind x_dValue x_behind x_pKind x_pValue x_pBehind x_rKind x_rValue x_pLength x_rLength x_rows x_path x_argument x_cCon x_cFirst x_cSecond x_cSize x_table x_sets x_learnt x_pile x_callRow x_callAt x_callOpen x_bound x_openToken x_lacks x_output kSize kSet kMany kList counts counted firstOpen openSize x_values) ∧ (¬ 0 ≤ v2 → wX_count_59 (fun r u' => wpY_count (fun r' v' => r' = r ∧ i_Rel (k + 4) u' v') (nI (fg_nc g), y_drafted, y_nodes, y_length, y_argumentLength, y_givenLength, y_steps, y_blamed, y_how, y_ran, y_working, y_arity, y_draftKind, y_draftWith, y_kind, y_with, y_patternLength, y_resultLength, y_rows, y_head, y_left, y_right, y_size, y_list, y_stack, y_starts, y_argument, y_given, y_fits, y_ends, y_places, y_bound, y_workKind, y_workWith, y_owner, y_counts, y_openSize, y_open, y_known) (nI f) v2 v3) v3 5 5 (30 * nI f) (nI (fg_nc g)) x_drafted x_given x_cells x_calls x_opened x_held x_steps x_outcome x_culprit x_size kinds x_arity x_dKind x_dValue x_behind x_pKind x_pValue x_pBehind x_rKind x_rValue x_pLength x_rLength x_rows x_path x_argument x_cCon x_cFirst x_cSecond x_cSize x_table x_sets x_learnt x_pile x_callRow x_callAt x_callOpen x_bound x_openToken x_lacks x_output kSize kSet kMany kList counts counted firstOpen openSize x_values))) := by
      intro g1 g2 n hn hv3 kinds kSize kSet kMany kList counts firstOpen openSize counted hX
      rcases fg_ixm v2 (n := fg_rw g f) (by omega) with h | h | ⟨r, hr, h⟩ | h
      · exact absurd h g1
      · refine br_f (by rw [h]; exact fg_m1le) ?_
        exact good 5 n 0 hn hv3 g1 g2 (by rw [h]; decide) (by decide) (by decide) (fun xc yc fo xo yo op hq => hq.2.1 n hn) _ _ _ _ _ _ _ _ _ hX
      · refine br_t (by rw [h]; exact nI_pos' (by omega)) ?_
        have := good r n (r + 1) hn hv3 g1 g2 (by rw [h, nI_1]) (by omega) (by omega) (fun xc yc fo xo yo op hq => hq.1 r n hr hn) kinds kSize kSet kMany kList counts firstOpen openSize counted hX
        rw [← h] at this
        exact this
      · exact absurd h g2
    refine br_c (fun h => yb1 (Or.inl h)) (fun g1 => And.intro vf ?_)
    rw [xr]
    refine br_c (fun h => yb1 (Or.inr h)) (fun g2 => ?_)
    rcases pk_ix v3 (n := 6) (by decide) with h | h | ⟨n, hn, h⟩
    · have h1 : v3 < 1 := by
        rw [Int32.lt_iff_toInt_lt, show (0 : Int32).toInt = 0 from by decide] at h
        rw [Int32.lt_iff_toInt_lt, show (1 : Int32).toInt = 1 from by decide]
        omega
      exact br_t h1 (yb2 g1 g2 (Or.inl h1))
    · refine br_c (fun _ => yb2 g1 g2 (Or.inr h)) (fun _ => br_f (fun q => ?_) (yb2 g1 g2 (Or.inr h)))
      exact absurd (fg_le_lt (by decide) h rfl) (Int32.not_lt.mpr q)
    · rcases Nat.eq_zero_or_pos n with z | z
      · have h1 : v3 < 1 := by rw [h, z]; decide
        exact br_t h1 (yb2 g1 g2 (Or.inl h1))
      · obtain ⟨m, hm⟩ : ∃ m, n = m + 1 := ⟨n - 1, by omega⟩
        refine br_f (by rw [h]; exact nI_nlt (b := 1) z (by omega)) (br_t (by rw [h]; exact nI_le (b := 5) (by omega) (by decide)) ?_)
        refine fg_xlearn hW cx hf (fg_cd01 hf r11).1 (fun kinds kSize kSet kMany kList counts firstOpen openSize counted hX => ?_)
        exact size g1 g2 m (by omega) (by rw [h, hm]) _ _ _ _ _ _ _ _ _ hX
end
section
/-! useless, witness -/
def fg_um (z : Nat → Bool) : Nat → Int32
  | 0 => 0
  | r + 1 => if z r then fg_um z r ||| ((1 : Int32) <<< (nI r &&& 31)) else fg_um z r
theorem fg_um_cg {z z' : Nat → Bool} : ∀ n, (∀ r, r < n → z r = z' r) → fg_um z n = fg_um z' n
  | 0, _ => rfl
  | n + 1, h => by
    simp only [fg_um]
    rw [fg_um_cg n (fun r hr => h r (by omega)), h n (by omega)]
def fg_s6 (a : Nat → Int64) : Nat → Int64
  | 0 => 0
  | n + 1 => fg_s6 a n + a n
def fg_s3 (a : Nat → Int32) : Nat → Int32
  | 0 => 0
  | n + 1 => fg_s3 a n + a n
theorem fg_s63 {a : Nat → Int64} {b : Nat → Int32} (h : ∀ n, n < 5 → ∃ q, q < 8000 ∧ a n = lN q ∧ b n = nI q) : ∀ n, n ≤ 5 → ∃ q, q ≤ 8000 * n ∧ fg_s6 a n = lN q ∧ fg_s3 b n = nI q
  | 0, _ => ⟨0, Nat.le_refl _, rfl, rfl⟩
  | n + 1, hn => by
    obtain ⟨q, q1, q2, q3⟩ := fg_s63 h n (by omega)
    obtain ⟨p, p1, p2, p3⟩ := h n (by omega)
    refine ⟨q + p, by omega, ?_, ?_⟩
    · simp only [fg_s6]; rw [q2, p2, lN_add]
    · simp only [fg_s3]; rw [q3, p3, nI_add]
section
variable {x_cons x_drafted x_given x_cells x_calls x_opened x_held x_steps x_outcome x_culprit x_size x_kinds : Int32} {x_arity x_dKind x_dValue x_behind x_pKind x_pValue x_pBehind x_rKind x_rValue x_pLength x_rLength x_rows x_path x_argument x_cCon x_cFirst x_cSecond x_cSize x_table x_learnt x_pile x_callRow x_callAt x_callOpen x_bound x_openToken x_lacks x_output x_kSize x_counted x_openSize x_values : Nat → Int32} {x_sets x_kSet x_kMany x_kList x_counts x_firstOpen : Nat → Int64}
theorem fg_xul {post : Int32 → SX → Prop} {f n : Nat} (hf : f < 4) (hn : n ≤ 5) (hr : x_rows f = nI n) (hp : post (fg_um (fun r => decide (fg_s6 (fun k => x_counts (30 * f + 5 * r + k)) 5 = 0)) n) (x_cons, x_drafted, x_given, x_cells, x_calls, x_opened, x_held, x_steps, x_outcome, x_culprit, x_size, x_kinds, x_arity, x_dKind, x_dValue, x_behind, x_pKind, x_pValue, x_pBehind, x_rKind, x_rValue, x_pLength, x_rLength, x_rows, x_path, x_argument, x_cCon, x_cFirst, x_cSecond, x_cSize, x_table, x_sets, x_learnt, x_pile, x_callRow, x_callAt, x_callOpen, x_bound, x_openToken, x_lacks, x_output, x_kSize, x_kSet, x_kMany, x_kList, x_counts, x_counted, x_firstOpen, x_openSize, x_values)) :
    ∃ m, wX_useless_18 post (nI f) x_cons x_drafted x_given x_cells x_calls x_opened x_held x_steps x_outcome x_culprit x_size x_kinds x_arity x_dKind x_dValue x_behind x_pKind x_pValue x_pBehind x_rKind x_rValue x_pLength x_rLength x_rows x_path x_argument x_cCon x_cFirst x_cSecond x_cSize x_table x_sets x_learnt x_pile x_callRow x_callAt x_callOpen x_bound x_openToken x_lacks x_output x_kSize x_kSet x_kMany x_kList x_counts x_counted x_firstOpen x_openSize x_values m 0 0 := by
  have vf : vp_in (nI f) 4 := vp_in_nI hf (by decide)
  have cf : (nI f).toNatClampNeg = f := nI_clamp (by omega)
  have key : ∀ (d r : Nat), r + d = n → wX_useless_18 post (nI f) x_cons x_drafted x_given x_cells x_calls x_opened x_held x_steps x_outcome x_culprit x_size x_kinds x_arity x_dKind x_dValue x_behind x_pKind x_pValue x_pBehind x_rKind x_rValue x_pLength x_rLength x_rows x_path x_argument x_cCon x_cFirst x_cSecond x_cSize x_table x_sets x_learnt x_pile x_callRow x_callAt x_callOpen x_bound x_openToken x_lacks x_output x_kSize x_kSet x_kMany x_kList x_counts x_counted x_firstOpen x_openSize x_values (d + 1) (fg_um (fun r => decide (fg_s6 (fun k => x_counts (30 * f + 5 * r + k)) 5 = 0)) r) (nI r) := by
    intro d
    induction d with
    | zero =>
      intro r hd
      have : r = n := by omega
      subst this
      refine And.intro vf (br_t ?_ hp)
      rw [cf, hr]
      exact nI_le (Nat.le_refl _) (by omega)
    | succ d ih =>
      intro r hd
      refine And.intro vf (br_f (by rw [cf, hr]; exact nI_ge (by omega) (by omega)) ⟨6, ?_⟩)
      have inner : ∀ (e i : Nat), i + e = 5 → wX_useless_34 post (wX_useless_18 post (nI f) x_cons x_drafted x_given x_cells x_calls x_opened x_held x_steps x_outcome x_culprit x_size x_kinds x_arity x_dKind x_dValue x_behind x_pKind x_pValue x_pBehind x_rKind x_rValue x_pLength x_rLength x_rows x_path x_argument x_cCon x_cFirst x_cSecond x_cSize x_table x_sets x_learnt x_pile x_callRow x_callAt x_callOpen x_bound x_openToken x_lacks x_output x_kSize x_kSet x_kMany x_kList x_counts x_counted x_firstOpen x_openSize x_values (d + 1)) (nI f) (fg_um (fun r => decide (fg_s6 (fun k => x_counts (30 * f + 5 * r + k)) 5 = 0)) r) (nI r) x_cons x_drafted x_given x_cells x_calls x_opened x_held x_steps x_outcome x_culprit x_size x_kinds x_arity x_dKind x_dValue x_behind x_pKind x_pValue x_pBehind x_rKind x_rValue x_pLength x_rLength x_rows x_path x_argument x_cCon x_cFirst x_cSecond x_cSize x_table x_sets x_learnt x_pile x_callRow x_callAt x_callOpen x_bound x_openToken x_lacks x_output x_kSize x_kSet x_kMany x_kList x_counts x_counted x_firstOpen x_openSize x_values (e + 1) (fg_s6 (fun k => x_counts (30 * f + 5 * r + k)) i) (nI i) := by
        intro e
        induction e with
        | zero =>
          intro i he
          have : i = 5 := by omega
          subst this
          have nx := ih (r + 1) (by omega)
          refine br_t (by decide) (br_c (fun z => ?_) (fun z => ?_))
          · refine nm_e (nm_r (nI_1 r) ?_)
            simp only [fg_um] at nx
            rw [if_pos (decide_eq_true z)] at nx
            exact nx
          · refine nm_r (nI_1 r) ?_
            simp only [fg_um] at nx
            rw [if_neg (by rw [decide_eq_false z]; exact Bool.false_ne_true)] at nx
            exact nx
        | succ e ihe =>
          intro i he
          have ei : (30 : Int32) * nI f + 5 * nI r + nI i = nI (30 * f + 5 * r + i) := by
            rw [show (30 : Int32) = nI 30 from rfl, show (5 : Int32) = nI 5 from rfl, fg_mulc, fg_mulc, nI_add, nI_add]
          refine pk_le 5 i (fun h => by omega) (fun _ => ?_)
          rw [ei, nI_clamp (by omega)]
          exact And.intro (vp_in_nI (by omega) (by decide)) (nm_e (nm_r (nI_1 i) (ihe (i + 1) (by omega))))
      exact inner 5 0 rfl
  exact ⟨_, key n 0 (by omega)⟩
end
section
variable {y_cons y_drafted y_nodes y_length y_argumentLength y_givenLength y_steps y_blamed y_how y_ran y_working : Int32} {y_arity y_draftKind y_draftWith y_kind y_with y_patternLength y_resultLength y_rows y_head y_left y_right y_size y_list y_stack y_starts y_argument y_given y_fits y_ends y_places y_bound y_workKind y_workWith y_owner y_counts y_openSize y_open y_known : Nat → Int32}
theorem fg_yul {post : Int32 → SY → Prop} {f n : Nat} (hf : f < 4) (hn : n ≤ 5) (hr : y_rows f = nI n) (hp : post (fg_um (fun r => decide (fg_s3 (fun k => y_counts (30 * f + 5 * (r + 1) + k)) 5 = 0)) n) (y_cons, y_drafted, y_nodes, y_length, y_argumentLength, y_givenLength, y_steps, y_blamed, y_how, y_ran, y_working, y_arity, y_draftKind, y_draftWith, y_kind, y_with, y_patternLength, y_resultLength, y_rows, y_head, y_left, y_right, y_size, y_list, y_stack, y_starts, y_argument, y_given, y_fits, y_ends, y_places, y_bound, y_workKind, y_workWith, y_owner, y_counts, y_openSize, y_open, y_known)) :
    ∃ m, wY_useless_20 post (nI f) y_cons y_drafted y_nodes y_length y_argumentLength y_givenLength y_steps y_blamed y_how y_ran y_working y_arity y_draftKind y_draftWith y_kind y_with y_patternLength y_resultLength y_rows y_head y_left y_right y_size y_list y_stack y_starts y_argument y_given y_fits y_ends y_places y_bound y_workKind y_workWith y_owner y_counts y_openSize y_open y_known m 0 0 := by
  have vf : vp_in (nI f) 4 := vp_in_nI hf (by decide)
  have cf : (nI f).toNatClampNeg = f := nI_clamp (by omega)
  have key : ∀ (d r : Nat), r + d = n → wY_useless_20 post (nI f) y_cons y_drafted y_nodes y_length y_argumentLength y_givenLength y_steps y_blamed y_how y_ran y_working y_arity y_draftKind y_draftWith y_kind y_with y_patternLength y_resultLength y_rows y_head y_left y_right y_size y_list y_stack y_starts y_argument y_given y_fits y_ends y_places y_bound y_workKind y_workWith y_owner y_counts y_openSize y_open y_known (d + 1) (fg_um (fun r => decide (fg_s3 (fun k => y_counts (30 * f + 5 * (r + 1) + k)) 5 = 0)) r) (nI r) := by
    intro d
    induction d with
    | zero =>
      intro r hd
      have : r = n := by omega
      subst this
      refine And.intro vf (br_t ?_ hp)
      rw [cf, hr]
      exact nI_le (Nat.le_refl _) (by omega)
    | succ d ih =>
      intro r hd
      refine And.intro vf (br_f (by rw [cf, hr]; exact nI_ge (by omega) (by omega)) ⟨6, ?_⟩)
      have inner : ∀ (e i : Nat), i + e = 5 → wY_useless_36 post (wY_useless_20 post (nI f) y_cons y_drafted y_nodes y_length y_argumentLength y_givenLength y_steps y_blamed y_how y_ran y_working y_arity y_draftKind y_draftWith y_kind y_with y_patternLength y_resultLength y_rows y_head y_left y_right y_size y_list y_stack y_starts y_argument y_given y_fits y_ends y_places y_bound y_workKind y_workWith y_owner y_counts y_openSize y_open y_known (d + 1)) (nI f) (fg_um (fun r => decide (fg_s3 (fun k => y_counts (30 * f + 5 * (r + 1) + k)) 5 = 0)) r) (nI r) y_cons y_drafted y_nodes y_length y_argumentLength y_givenLength y_steps y_blamed y_how y_ran y_working y_arity y_draftKind y_draftWith y_kind y_with y_patternLength y_resultLength y_rows y_head y_left y_right y_size y_list y_stack y_starts y_argument y_given y_fits y_ends y_places y_bound y_workKind y_workWith y_owner y_counts y_openSize y_open y_known (e + 1) (fg_s3 (fun k => y_counts (30 * f + 5 * (r + 1) + k)) i) (nI i) := by
        intro e
        induction e with
        | zero =>
          intro i he
          have : i = 5 := by omega
          subst this
          have nx := ih (r + 1) (by omega)
          refine br_t (by decide) (br_c (fun z => ?_) (fun z => ?_))
          · refine nm_e (nm_r (nI_1 r) ?_)
            simp only [fg_um] at nx
            rw [if_pos (decide_eq_true z)] at nx
            exact nx
          · refine nm_r (nI_1 r) ?_
            simp only [fg_um] at nx
            rw [if_neg (by rw [decide_eq_false z]; exact Bool.false_ne_true)] at nx
            exact nx
        | succ e ihe =>
          intro i he
          have ei : (30 : Int32) * nI f + 5 * (nI r + 1) + nI i = nI (30 * f + 5 * (r + 1) + i) := by
            rw [nI_1, show (30 : Int32) = nI 30 from rfl, show (5 : Int32) = nI 5 from rfl, fg_mulc, fg_mulc, nI_add, nI_add]
          refine pk_le 5 i (fun h => by omega) (fun _ => ?_)
          rw [ei, nI_clamp (by omega)]
          exact And.intro (vp_in_nI (by omega) (by decide)) (nm_e (nm_r (nI_1 i) (ihe (i + 1) (by omega))))
      exact inner 5 0 rfl
  exact ⟨_, key n 0 (by omega)⟩
end
theorem i_vc_useless {k : Nat} {u : SX} {v : SY} (I : i_Rel k u v) (hk : k + 4 ≤ 2048) (v1 : Int32) : wpX_useless (fun r u' => wpY_useless (fun r' v' => r' = r ∧ i_Rel (k + 4) u' v') v v1) u v1 := by
  refine fg_el (P := fun u v => wpX_useless (fun r u' => wpY_useless (fun r' v' => r' = r ∧ i_Rel (k + 4) u' v') v v1) u v1) ?_ I
  intro x_cons x_drafted x_given x_cells x_calls x_opened x_held x_steps x_outcome x_culprit x_size x_kinds x_arity x_dKind x_dValue x_behind x_pKind x_pValue x_pBehind x_rKind x_rValue x_pLength x_rLength x_rows x_path x_argument x_cCon x_cFirst x_cSecond x_cSize x_table x_sets x_learnt x_pile x_callRow x_callAt x_callOpen x_bound x_openToken x_lacks x_output x_kSize x_kSet x_kMany x_kList x_counts x_counted x_firstOpen x_openSize x_values y_cons y_drafted y_nodes y_length y_argumentLength y_givenLength y_steps y_blamed y_how y_ran y_working y_arity y_draftKind y_draftWith y_kind y_with y_patternLength y_resultLength y_rows y_head y_left y_right y_size y_list y_stack y_starts y_argument y_given y_fits y_ends y_places y_bound y_workKind y_workWith y_owner y_counts y_openSize y_open y_known g nd DK DV t w R0
  have bad : (v1 < 0 ∨ nI 4 ≤ v1) → wpX_useless (fun r u' => wpY_useless (fun r' v' => r' = r ∧ i_Rel (k + 4) u' v') (y_cons, y_drafted, y_nodes, y_length, y_argumentLength, y_givenLength, y_steps, y_blamed, y_how, y_ran, y_working, y_arity, y_draftKind, y_draftWith, y_kind, y_with, y_patternLength, y_resultLength, y_rows, y_head, y_left, y_right, y_size, y_list, y_stack, y_starts, y_argument, y_given, y_fits, y_ends, y_places, y_bound, y_workKind, y_workWith, y_owner, y_counts, y_openSize, y_open, y_known) v1) (x_cons, x_drafted, x_given, x_cells, x_calls, x_opened, x_held, x_steps, x_outcome, x_culprit, x_size, x_kinds, x_arity, x_dKind, x_dValue, x_behind, x_pKind, x_pValue, x_pBehind, x_rKind, x_rValue, x_pLength, x_rLength, x_rows, x_path, x_argument, x_cCon, x_cFirst, x_cSecond, x_cSize, x_table, x_sets, x_learnt, x_pile, x_callRow, x_callAt, x_callOpen, x_bound, x_openToken, x_lacks, x_output, x_kSize, x_kSet, x_kMany, x_kList, x_counts, x_counted, x_firstOpen, x_openSize, x_values) v1 := by
    intro h
    unfold wpX_useless
    dsimp only
    refine fg_x4f h (br_t rfl ?_)
    unfold wpY_useless
    dsimp only
    exact fg_y4f h (br_t rfl ⟨rfl, fg_rel R0⟩)
  rcases pk_ix v1 (n := 4) (by decide) with h | h | ⟨f, hf, rfl⟩
  · exact bad (Or.inl h)
  · exact bad (Or.inr h)
  · obtain ⟨hW, r2, r3, r4, r5, cx, cy, r8, r9, r10, r11⟩ := R0
    subst r2 r3
    have h5 := hW.2.2.1 f hf
    unfold wpX_useless
    dsimp only
    refine fg_x4t hf (br_f (by decide) ?_)
    refine fg_xlearn hW cx hf (fg_cd01 hf r11).1 (fun kinds kSize kSet kMany kList counts firstOpen openSize counted hX => ?_)
    dsimp only
    refine fg_xul hf h5 (cx.2.1 f hf) ?_
    unfold wpY_useless
    dsimp only
    refine fg_y4t hf (br_f (by decide) ?_)
    refine fg_yknow hW cy hf (fg_cd01 hf r11).2 (fun ln li en fits ycounts opn yopenSize known hY => ?_)
    dsimp only
    refine fg_yul hf h5 (cy.2.1 f hf) ?_
    obtain ⟨n1, n2⟩ := fg_LXY hW hf r11 hX hY
    refine ⟨fg_um_cg _ (fun r hr => ?_), fg_rel' g nd DK DV t w ⟨hW, rfl, rfl, r4, r5, cx, cy, r8, r9, r10, n1⟩⟩
    obtain ⟨q, q1, q2, q3⟩ := fg_s63 (a := fun k => counts (30 * f + 5 * r + k)) (b := fun k => ycounts (30 * f + 5 * (r + 1) + k)) (fun n hn => n2.1 r n hr hn) 5 (Nat.le_refl _)
    rw [q2, q3]
    apply decide_eq_decide.mpr
    rw [show (0 : Int32) = nI 0 from rfl, show (0 : Int64) = lN 0 from rfl, nI_eq (by omega) (by decide), lN_eq (by omega) (by decide)]
theorem fg_wit {d : Nat → Nat} {os j : Nat} (h5 : os ≤ 5) (hj : j < os) (hd : ∀ i, i < os → d i < 16) : ((lN (fg_bs 16 d os) >>> (((4 : Int32) * (nI os - 1 - nI j)).toInt64 &&& 63)).toInt32) &&& 15 = nI (d j) := by
  obtain ⟨m, hm⟩ : ∃ m, os = m + 1 := ⟨os - 1, by omega⟩
  have hl := fg_bs_lt os hd
  have h16 : 16 ^ os ≤ 16 ^ 5 := Nat.pow_le_pow_right (by decide) h5
  have e1 : (4 : Int32) * (nI os - 1 - nI j) = nI (4 * (os - 1 - j)) := by
    rw [hm, nI_pred, pk_sub (by omega), show (4 : Int32) = nI 4 from rfl, fg_mulc]
    exact congrArg nI (by omega)
  rw [e1, pf_shr (fg_s64 (4 * (os - 1 - j)) (by omega)) (by omega), lN_i, pk_andN (Nat.lt_of_le_of_lt (Nat.div_le_self _ _) (by omega)) 4 (by decide)]
  have e2 : 2 ^ (4 * (os - 1 - j)) = 16 ^ (os - 1 - j) := by rw [Nat.pow_mul]
  rw [e2]
  exact congrArg nI (fg_bs_dig hj hd)
theorem i_vc_witness {k : Nat} {u : SX} {v : SY} (I : i_Rel k u v) (hk : k + 4 ≤ 2048) (v1 : Int32) (v2 : Int32) : wpX_witness (fun r u' => wpY_witness (fun r' v' => r' = r ∧ i_Rel (k + 4) u' v') v v1 v2) u v1 v2 := by
  refine fg_el (P := fun u v => wpX_witness (fun r u' => wpY_witness (fun r' v' => r' = r ∧ i_Rel (k + 4) u' v') v v1 v2) u v1 v2) ?_ I
  intro x_cons x_drafted x_given x_cells x_calls x_opened x_held x_steps x_outcome x_culprit x_size x_kinds x_arity x_dKind x_dValue x_behind x_pKind x_pValue x_pBehind x_rKind x_rValue x_pLength x_rLength x_rows x_path x_argument x_cCon x_cFirst x_cSecond x_cSize x_table x_sets x_learnt x_pile x_callRow x_callAt x_callOpen x_bound x_openToken x_lacks x_output x_kSize x_kSet x_kMany x_kList x_counts x_counted x_firstOpen x_openSize x_values y_cons y_drafted y_nodes y_length y_argumentLength y_givenLength y_steps y_blamed y_how y_ran y_working y_arity y_draftKind y_draftWith y_kind y_with y_patternLength y_resultLength y_rows y_head y_left y_right y_size y_list y_stack y_starts y_argument y_given y_fits y_ends y_places y_bound y_workKind y_workWith y_owner y_counts y_openSize y_open y_known g nd DK DV t w R0
  have bad : (v1 < 0 ∨ nI 4 ≤ v1) → wpX_witness (fun r u' => wpY_witness (fun r' v' => r' = r ∧ i_Rel (k + 4) u' v') (y_cons, y_drafted, y_nodes, y_length, y_argumentLength, y_givenLength, y_steps, y_blamed, y_how, y_ran, y_working, y_arity, y_draftKind, y_draftWith, y_kind, y_with, y_patternLength, y_resultLength, y_rows, y_head, y_left, y_right, y_size, y_list, y_stack, y_starts, y_argument, y_given, y_fits, y_ends, y_places, y_bound, y_workKind, y_workWith, y_owner, y_counts, y_openSize, y_open, y_known) v1 v2) (x_cons, x_drafted, x_given, x_cells, x_calls, x_opened, x_held, x_steps, x_outcome, x_culprit, x_size, x_kinds, x_arity, x_dKind, x_dValue, x_behind, x_pKind, x_pValue, x_pBehind, x_rKind, x_rValue, x_pLength, x_rLength, x_rows, x_path, x_argument, x_cCon, x_cFirst, x_cSecond, x_cSize, x_table, x_sets, x_learnt, x_pile, x_callRow, x_callAt, x_callOpen, x_bound, x_openToken, x_lacks, x_output, x_kSize, x_kSet, x_kMany, x_kList, x_counts, x_counted, x_firstOpen, x_openSize, x_values) v1 v2 := by
    intro h
    unfold wpX_witness
    dsimp only
    refine fg_x4f h (br_t rfl ?_)
    unfold wpY_witness
    dsimp only
    exact fg_y4f h (br_t rfl ⟨rfl, fg_rel R0⟩)
  rcases pk_ix v1 (n := 4) (by decide) with h | h | ⟨f, hf, rfl⟩
  · exact bad (Or.inl h)
  · exact bad (Or.inr h)
  · obtain ⟨hW, r2, r3, r4, r5, cx, cy, r8, r9, r10, r11⟩ := R0
    subst r2 r3
    have vf : vp_in (nI f) 4 := vp_in_nI hf (by decide)
    have cf : (nI f).toNatClampNeg = f := nI_clamp (by omega)
    unfold wpX_witness
    dsimp only
    refine fg_x4t hf (br_f (by decide) ?_)
    refine fg_xlearn hW cx hf (fg_cd01 hf r11).1 (fun kinds kSize kSet kMany kList counts firstOpen openSize counted hX => ?_)
    dsimp only
    have hos : ∃ os, os ≤ 5 ∧ openSize f = nI os := by
      rcases hX with ⟨x1, -, -, rfl, -⟩ | ⟨-, -, ⟨os, o1, o2, -⟩, -⟩
      · rcases (r11 f hf).2 with q | q
        · rw [x1] at q; exact absurd q (by decide)
        · obtain ⟨-, -, os, d, d1, -, d3, -⟩ := q.2
          exact ⟨os, d1, d3⟩
      · exact ⟨os, o1, o2⟩
    obtain ⟨os, o1, o2⟩ := hos
    -- Y's answer, for an answer of X that fits
    have yw : ∀ r : Int32, ((v2 < 0 ∨ nI os ≤ v2) → r = -1) → (∀ j, j < os → v2 = nI j → r = ((firstOpen f >>> (((4 : Int32) * (nI os - 1 - nI j)).toInt64 &&& 63)).toInt32) &&& 15) →
        wpY_witness (fun r' v' => r' = r ∧ i_Rel (k + 4) (nI (fg_nc g), x_drafted, x_given, x_cells, x_calls, x_opened, x_held, x_steps, x_outcome, x_culprit, x_size, kinds, x_arity, x_dKind, x_dValue, x_behind, x_pKind, x_pValue, x_pBehind, x_rKind, x_rValue, x_pLength, x_rLength, x_rows, x_path, x_argument, x_cCon, x_cFirst, x_cSecond, x_cSize, x_table, x_sets, x_learnt, x_pile, x_callRow, x_callAt, x_callOpen, x_bound, x_openToken, x_lacks, x_output, kSize, kSet, kMany, kList, counts, counted, firstOpen, openSize, x_values) v') (nI (fg_nc g), y_drafted, y_nodes, y_length, y_argumentLength, y_givenLength, y_steps, y_blamed, y_how, y_ran, y_working, y_arity, y_draftKind, y_draftWith, y_kind, y_with, y_patternLength, y_resultLength, y_rows, y_head, y_left, y_right, y_size, y_list, y_stack, y_starts, y_argument, y_given, y_fits, y_ends, y_places, y_bound, y_workKind, y_workWith, y_owner, y_counts, y_openSize, y_open, y_known) (nI f) v2 := by
      intro r hr1 hr2
      unfold wpY_witness
      dsimp only
      refine fg_y4t hf (br_f (by decide) ?_)
      refine fg_yknow hW cy hf (fg_cd01 hf r11).2 (fun ln li en fits ycounts opn yopenSize known hY => ?_)
      dsimp only
      refine And.intro vf ?_
      rw [cf]
      obtain ⟨n1, n2⟩ := fg_LXY hW hf r11 hX hY
      have hR : i_Rel (k + 4) (nI (fg_nc g), x_drafted, x_given, x_cells, x_calls, x_opened, x_held, x_steps, x_outcome, x_culprit, x_size, kinds, x_arity, x_dKind, x_dValue, x_behind, x_pKind, x_pValue, x_pBehind, x_rKind, x_rValue, x_pLength, x_rLength, x_rows, x_path, x_argument, x_cCon, x_cFirst, x_cSecond, x_cSize, x_table, x_sets, x_learnt, x_pile, x_callRow, x_callAt, x_callOpen, x_bound, x_openToken, x_lacks, x_output, kSize, kSet, kMany, kList, counts, counted, firstOpen, openSize, x_values) (nI (fg_nc g), y_drafted, y_nodes, ln, y_argumentLength, y_givenLength, y_steps, y_blamed, y_how, y_ran, y_working, y_arity, y_draftKind, y_draftWith, y_kind, y_with, y_patternLength, y_resultLength, y_rows, y_head, y_left, y_right, y_size, li, y_stack, y_starts, y_argument, y_given, fits, en, y_places, y_bound, y_workKind, y_workWith, y_owner, ycounts, yopenSize, opn, known) := fg_rel' g nd DK DV t w ⟨hW, rfl, rfl, r4, r5, cx, cy, r8, r9, r10, n1⟩
      obtain ⟨-, -, os', d, d1, d2, d3, d4, d5, d6⟩ := n2
      have eo : os' = os := by
        rw [o2] at d3
        exact ((nI_eq (by omega) (by omega)).mp d3).symm
      subst eo
      have e5 : ∀ j, (5 : Int32) * nI f + nI j = nI (5 * f + j) := fun j => by rw [show (5 : Int32) = nI 5 from rfl, fg_mulc, nI_add]
      rcases pk_ix v2 (n := os') (by omega) with h | h | ⟨j, hj, h⟩
      · exact fg_yinf (Or.inl h) (br_t rfl ⟨(hr1 (Or.inl h)).symm, hR⟩)
      · refine fg_yinf (Or.inr ?_) (br_t rfl ⟨(hr1 (Or.inr h)).symm, hR⟩)
        rw [d4]
        rcases Nat.eq_zero_or_pos os' with z | z
        · rw [z] at h ⊢
          exact Int32.lt_of_lt_of_le (by decide) h
        · obtain ⟨m, hm⟩ : ∃ m, os' = m + 1 := ⟨os' - 1, by omega⟩
          rw [hm] at h ⊢
          exact fg_le_lt (by omega) h (nI_pred m)
      · obtain ⟨m, hm⟩ : ∃ m, os' = m + 1 := ⟨os' - 1, by omega⟩
        have hr := hr2 j hj h
        rw [d5 (by omega), fg_wit d1 hj d2] at hr
        refine fg_yint (by rw [h]; exact nI_pos (by omega)) (by rw [h, d4, hm, nI_pred]; exact nI_nlt (by omega) (by omega)) (br_f (by decide) ?_)
        rw [h, e5, nI_clamp (by omega), d6 j hj]
        exact And.intro (vp_in_nI (by omega) (by decide)) ⟨hr.symm, hR⟩
    rcases pk_ix v2 (n := os) (by omega) with h | h | ⟨j, hj, h⟩
    · refine br_t h (yw _ (fun _ => rfl) (fun j hj e => ?_))
      rw [e] at h
      exact absurd h (nI_pos (by omega))
    · have w1 : wpY_witness (fun r' v' => r' = -1 ∧ i_Rel (k + 4) (nI (fg_nc g), x_drafted, x_given, x_cells, x_calls, x_opened, x_held, x_steps, x_outcome, x_culprit, x_size, kinds, x_arity, x_dKind, x_dValue, x_behind, x_pKind, x_pValue, x_pBehind, x_rKind, x_rValue, x_pLength, x_rLength, x_rows, x_path, x_argument, x_cCon, x_cFirst, x_cSecond, x_cSize, x_table, x_sets, x_learnt, x_pile, x_callRow, x_callAt, x_callOpen, x_bound, x_openToken, x_lacks, x_output, kSize, kSet, kMany, kList, counts, counted, firstOpen, openSize, x_values) v') (nI (fg_nc g), y_drafted, y_nodes, y_length, y_argumentLength, y_givenLength, y_steps, y_blamed, y_how, y_ran, y_working, y_arity, y_draftKind, y_draftWith, y_kind, y_with, y_patternLength, y_resultLength, y_rows, y_head, y_left, y_right, y_size, y_list, y_stack, y_starts, y_argument, y_given, y_fits, y_ends, y_places, y_bound, y_workKind, y_workWith, y_owner, y_counts, y_openSize, y_open, y_known) (nI f) v2 := yw _ (fun _ => rfl) (fun j hj e => by
        rw [e] at h
        exact absurd h (nI_ge hj (by omega)))
      refine br_c (fun _ => w1) (fun _ => And.intro vf (br_f ?_ w1))
      rw [cf, o2]
      exact Int32.not_lt.mpr h
    · refine br_f (by rw [h]; exact nI_pos (by omega)) (And.intro vf (br_t (by rw [cf, o2, h]; exact nI_lt hj (by omega)) (And.intro vf (And.intro vf ?_))))
      rw [cf, o2]
      refine yw _ (fun q => ?_) (fun j' hj' e => ?_)
      · rcases q with q | q
        · rw [h] at q; exact absurd q (nI_pos (by omega))
        · rw [h] at q; exact absurd q (nI_ge hj (by omega))
      · rw [e]
end
section
/-! paths into a value that is matched; items; rewriting -/
theorem fg_fo_app (l : List Bool) (b : Bool) : ∀ t : fg_T, fg_fo (l ++ [b]) t = (if b then fg_R (fg_fo l t) else fg_L (fg_fo l t)) := by
  induction l with
  | nil => intro t; cases b <;> rfl
  | cons c l ih => intro t; exact ih _
def fg_pe : List Bool → fg_T → Prop
  | [], t => t ≠ fg_nil
  | b :: l, t => t ≠ fg_nil ∧ fg_pe l (if b then fg_R t else fg_L t)
theorem fg_pe_ne : ∀ (l : List Bool) (t : fg_T), fg_pe l t → fg_fo l t ≠ fg_nil
  | [], _, h => h
  | _ :: l, _, h => fg_pe_ne l _ h.2
theorem fg_ok_LR {nc : Nat} {ar : Nat → Nat} {t : fg_T} (h : fg_ok nc ar t) : fg_ok nc ar (fg_L t) ∧ fg_ok nc ar (fg_R t) := by
  cases t with
  | leaf u => exact ⟨True.intro, True.intro⟩
  | branch c a b => exact ⟨h.2.2.1, h.2.2.2⟩
theorem fg_sz_LR (t : fg_T) : fg_sz (fg_L t) ≤ fg_sz t ∧ fg_sz (fg_R t) ≤ fg_sz t := by
  cases t with
  | leaf u => exact ⟨Nat.le_refl _, Nat.le_refl _⟩
  | branch c a b => exact ⟨by show fg_sz a ≤ 1 + fg_sz a + fg_sz b; omega, by show fg_sz b ≤ 1 + fg_sz a + fg_sz b; omega⟩
theorem fg_fo_ok {nc : Nat} {ar : Nat → Nat} : ∀ (l : List Bool) (t : fg_T), fg_ok nc ar t → fg_ok nc ar (fg_fo l t) ∧ fg_sz (fg_fo l t) ≤ fg_sz t
  | [], _, h => ⟨h, Nat.le_refl _⟩
  | b :: l, t, h => by
    have h1 := fg_ok_LR h
    have h2 := fg_sz_LR t
    cases b with
    | true =>
      have := fg_fo_ok l (fg_R t) h1.2
      exact ⟨this.1, by have := this.2; show fg_sz (fg_fo l (fg_R t)) ≤ _; omega⟩
    | false =>
      have := fg_fo_ok l (fg_L t) h1.1
      exact ⟨this.1, by have := this.2; show fg_sz (fg_fo l (fg_L t)) ≤ _; omega⟩
section
variable {o be : Nat → Nat} {N : Nat}
theorem fg_nest (hP : fg_P o be N) : ∀ (n i0 i : Nat), N - i0 ≤ n → i0 < N → i0 ≤ i → i < be i0 → be i ≤ be i0 := by
  intro n
  induction n with
  | zero => intro i0 i h h0; omega
  | succ n ih =>
    intro i0 i h h0 h1 h2
    rcases Nat.eq_or_lt_of_le h1 with z | z
    · rw [z]; exact Nat.le_refl _
    · obtain ⟨p1, p2, p3⟩ := hP i0 h0
      rcases p3 with ⟨q1, q2⟩ | ⟨q1, q2, q3⟩ | ⟨q1, q2, q3, q4⟩
      · omega
      · rw [q3]; exact ih (i0 + 1) i (by omega) q2 (by omega) (by omega)
      · have a1 := (hP (i0 + 1) q2).1
        have a2 := (hP _ q3).1
        rcases Nat.lt_or_ge i (be (i0 + 1)) with w | w
        · have := ih (i0 + 1) i (by omega) q2 (by omega) w
          omega
        · rw [q4]; exact ih (be (i0 + 1)) i (by omega) q3 w (by omega)
theorem fg_wk_st (hP : fg_P o be N) {j : Nat} (hj : j < N) : ∀ (n m i : Nat), j ≤ i + n → j ≤ i + m → fg_wk be j n i = fg_wk be j m i := by
  intro n
  induction n with
  | zero =>
    intro m i h1 h2
    cases m with
    | zero => rfl
    | succ m => simp only [fg_wk]; rw [if_neg (by omega)]
  | succ n ih =>
    intro m i h1 h2
    cases m with
    | zero => simp only [fg_wk]; rw [if_neg (by omega)]
    | succ m =>
      simp only [fg_wk]
      by_cases z : i < j
      · rw [if_pos z, if_pos z]
        have := (hP (i + 1) (by omega)).1
        rw [ih m (be (i + 1)) (by omega) (by omega), ih m (i + 1) (by omega) (by omega)]
      · rw [if_neg z, if_neg z]
theorem fg_wk_end {j n i : Nat} (h : j ≤ i) : fg_wk be j n i = [] := by
  cases n with
  | zero => rfl
  | succ n => simp only [fg_wk]; rw [if_neg (by omega)]
theorem fg_wk_f (hP : fg_P o be N) {i : Nat} (hi : i < N) (ho : o i ≠ 0) : ∀ (n i0 : Nat), i0 ≤ i → i < be i0 → i ≤ i0 + n → fg_wk be (i + 1) (n + 1) i0 = fg_wk be i n i0 ++ [false] := by
  have hi1 := fg_P1 hP hi ho
  have b1 := (hP (i + 1) hi1).1
  have bi : i + 1 < be i := by
    rcases (hP i hi).2.2 with ⟨q1, q2⟩ | ⟨q1, q2, q3⟩ | ⟨q1, q2, q3, q4⟩
    · omega
    · omega
    · have := (hP _ q3).1; omega
  intro n
  induction n with
  | zero =>
    intro i0 h1 h2 h3
    have : i0 = i := by omega
    subst this
    simp only [fg_wk]
    rw [if_pos (by omega), if_neg (by omega)]; rfl
  | succ n ih =>
    intro i0 h1 h2 h3
    rcases Nat.eq_or_lt_of_le h1 with z | z
    · subst z
      rw [fg_wk_end (j := i0) (Nat.le_refl _), fg_wk, if_pos (by omega), if_neg (by omega), fg_wk_end (Nat.le_refl _)]; rfl
    · rw [fg_wk, if_pos (by omega)]
      rw [show fg_wk be i (n + 1) i0 = if be (i0 + 1) ≤ i then true :: fg_wk be i n (be (i0 + 1)) else false :: fg_wk be i n (i0 + 1) by rw [fg_wk, if_pos z]]
      by_cases w : be (i0 + 1) ≤ i
      · have b2 := (hP (i0 + 1) (by omega)).1
        have e : be i0 = be (be (i0 + 1)) := by
          rcases (hP i0 (by omega)).2.2 with ⟨q1, q2⟩ | ⟨q1, q2, q3⟩ | ⟨q1, q2, q3, q4⟩
          · omega
          · omega
          · exact q4
        rw [if_pos (by omega), if_pos w, ih (be (i0 + 1)) w (by omega) (by omega)]; rfl
      · have := fg_nest hP _ (i0 + 1) i (Nat.le_refl _) (by omega) (by omega) (by omega)
        rw [if_neg (by omega), if_neg w, ih (i0 + 1) (by omega) (by omega) (by omega)]; rfl
theorem fg_wk_t (hP : fg_P o be N) {i : Nat} (hi : i < N) (ho : o i = 2) : ∀ (n i0 : Nat), i0 ≤ i → i < be i0 → i ≤ i0 + n → fg_wk be (be (i + 1)) (n + 1) i0 = fg_wk be i n i0 ++ [true] := by
  obtain ⟨b1, b2, b3⟩ := fg_P2 hP hi ho
  have b4 := (hP _ b2).1
  intro n
  induction n with
  | zero =>
    intro i0 h1 h2 h3
    have : i0 = i := by omega
    subst this
    simp only [fg_wk]
    rw [if_pos (by omega), if_pos (Nat.le_refl _)]; rfl
  | succ n ih =>
    intro i0 h1 h2 h3
    rcases Nat.eq_or_lt_of_le h1 with z | z
    · subst z
      rw [fg_wk_end (j := i0) (Nat.le_refl _), fg_wk, if_pos (by omega), if_pos (Nat.le_refl _), fg_wk_end (Nat.le_refl _)]; rfl
    · rw [fg_wk, if_pos (by omega)]
      rw [show fg_wk be i (n + 1) i0 = if be (i0 + 1) ≤ i then true :: fg_wk be i n (be (i0 + 1)) else false :: fg_wk be i n (i0 + 1) by rw [fg_wk, if_pos z]]
      by_cases w : be (i0 + 1) ≤ i
      · have e : be i0 = be (be (i0 + 1)) := by
          rcases (hP i0 (by omega)).2.2 with ⟨q1, q2⟩ | ⟨q1, q2, q3⟩ | ⟨q1, q2, q3, q4⟩
          · omega
          · have := (hP (i0 + 1) (by omega)).1; omega
          · exact q4
        have b5 := (hP (i0 + 1) (by omega)).1
        rw [if_pos (by omega), if_pos w, ih (be (i0 + 1)) w (by omega) (by omega)]; rfl
      · have := fg_nest hP _ (i0 + 1) i (Nat.le_refl _) (by omega) (by omega) (by omega)
        rw [if_neg (by omega), if_neg w, ih (i0 + 1) (by omega) (by omega) (by omega)]; rfl
end
/-- what stands at token j when the pattern of row R is held against t -/
def fg_D (g : fg_C) (R : Nat) (t : fg_T) (j : Nat) : fg_T := fg_fo (fg_wk (fg_pb g R) j 12 0) t
section
variable {g : fg_C} {R i : Nat} {t : fg_T}
theorem fg_D0 : fg_D g R t 0 = t := rfl
theorem fg_DL (hR : fg_RW g R) (hi : i < fg_pl g R) (ho : fg_op (fg_ar g) (fg_pk g R) (fg_pv g R) i ≠ 0) : fg_D g R t (i + 1) = fg_L (fg_D g R t i) := by
  obtain ⟨⟨-, p12, -, -⟩, hP, hb, -⟩ := hR
  unfold fg_D
  rw [show (12 : Nat) = 11 + 1 from rfl, fg_wk_f hP hi ho 11 0 (Nat.zero_le _) (by omega) (by omega), fg_fo_app, fg_wk_st hP hi 11 (11 + 1) 0 (by omega) (by omega)]; rfl
theorem fg_DR (hR : fg_RW g R) (hi : i < fg_pl g R) (ho : fg_op (fg_ar g) (fg_pk g R) (fg_pv g R) i = 2) : fg_D g R t (fg_pb g R (i + 1)) = fg_R (fg_D g R t i) := by
  obtain ⟨⟨-, p12, -, -⟩, hP, hb, -⟩ := hR
  unfold fg_D
  rw [show (12 : Nat) = 11 + 1 from rfl, fg_wk_t hP hi ho 11 0 (Nat.zero_le _) (by omega) (by omega), fg_fo_app, fg_wk_st hP hi 11 (11 + 1) 0 (by omega) (by omega)]; rfl
/-- a constructor's token that is matched -/
theorem fg_con_in (hR : fg_RW g R) (hi : i < fg_pl g R) (hk : fg_pk g R i = 2) {x : fg_T} (hx : x ≠ fg_nil) (hok : fg_ok (fg_nc g) (fg_ar g) x) (hm : fg_mr g R i x = true) :
    fg_hd x = fg_pv g R i ∧ fg_sh (fg_ar g (fg_pv g R i)) (fg_L x) (fg_R x) ∧ (fg_ar g (fg_pv g R i) ≠ 0 → fg_mr g R (i + 1) (fg_L x) = true) ∧ (fg_ar g (fg_pv g R i) = 2 → fg_mr g R (fg_pb g R (i + 1)) (fg_R x) = true) := by
  obtain ⟨⟨-, p12, -, -⟩, hP, -⟩ := hR
  unfold fg_mr at hm
  rw [fg_M2 hP p12 hi hk, Bool.and_eq_true, Bool.and_eq_true] at hm
  obtain ⟨⟨h1, h2⟩, h3⟩ := hm
  have e := eq_of_beq h1
  have hs := (fg_ok_b hok hx).2.1
  rw [e] at hs
  refine ⟨e, hs, fun z => ?_, fun z => ?_⟩
  · rw [show (fg_ar g (fg_pv g R i) == 0) = false from beq_eq_false_iff_ne.mpr z, Bool.false_or] at h2
    exact h2
  · rw [decide_eq_false (by omega), Bool.false_or] at h3
    exact h3
theorem fg_pe_of (hR : fg_RW g R) {j : Nat} (hj : j < fg_pl g R) (hk : fg_pk g R j = 1) : ∀ (n i : Nat) (x : fg_T), i ≤ j → j < fg_pb g R i → x ≠ fg_nil → fg_ok (fg_nc g) (fg_ar g) x → fg_mr g R i x = true → fg_pe (fg_wk (fg_pb g R) j n i) x := by
  have hR' := hR
  obtain ⟨⟨-, p12, -, -⟩, hP, -, hK, -, hN, -⟩ := hR'
  intro n
  induction n with
  | zero => intro i x h1 h2 h3 h4 h5; exact h3
  | succ n ih =>
    intro i x h1 h2 h3 h4 h5
    rcases Nat.eq_or_lt_of_le h1 with z | z
    · rw [z, fg_wk_end (Nat.le_refl _)]; exact h3
    · have hi : i < fg_pl g R := by omega
      have k4 := (hK i hi).1
      have hop : fg_op (fg_ar g) (fg_pk g R) (fg_pv g R) i ≠ 0 := by
        intro q
        rcases (hP i hi).2.2 with w | w | w <;> omega
      have k2 : fg_pk g R i = 2 := by
        rcases (show fg_pk g R i = 0 ∨ fg_pk g R i = 1 ∨ fg_pk g R i = 2 ∨ fg_pk g R i = 3 ∨ fg_pk g R i = 4 by omega) with q | q | q | q | q
        · exact absurd (fg_op0 (by omega) (by omega) (by omega) (by omega)) hop
        · exact absurd (fg_op0 (by omega) (by omega) (by omega) (by omega)) hop
        · exact q
        · exact absurd hk (hN i j hi (Or.inl q) z h2)
        · exact absurd hk (hN i j hi (Or.inr q) z h2)
      rw [fg_op2 k2] at hop
      obtain ⟨c1, c2, c3, c4⟩ := fg_con_in hR hi k2 h3 h4 h5
      have hLR := fg_ok_LR h4
      rw [fg_wk, if_pos z]
      by_cases w : fg_pb g R (i + 1) ≤ j
      · rw [if_pos w]
        have e2 : fg_ar g (fg_pv g R i) = 2 ∧ fg_pb g R i = fg_pb g R (fg_pb g R (i + 1)) := by
          have := fg_op2 (ar := fg_ar g) (v := fg_pv g R) k2
          rcases (hP i hi).2.2 with q | q | q
          · omega
          · omega
          · exact ⟨by omega, q.2.2.2⟩
        refine ⟨h3, ih (fg_pb g R (i + 1)) (fg_R x) w (by omega) ?_ hLR.2 (c4 e2.1)⟩
        rcases c2 with q | q | q
        · omega
        · omega
        · exact q.2.2
      · rw [if_neg w]
        refine ⟨h3, ih (i + 1) (fg_L x) (by omega) (by omega) ?_ hLR.1 (c3 hop)⟩
        rcases c2 with q | q | q
        · omega
        · exact q.2.1
        · exact q.2.1
end
/-! items: an operator (kind, value, whose), or a value -/
abbrev fg_I : Type := Sum (Nat × Nat × Nat) fg_T
def fg_oo (g : fg_C) (k v : Nat) : Nat := fg_op (fg_ar g) (fun _ => k) (fun _ => v) 0
def fg_ro (g : fg_C) (R i : Nat) : Nat := fg_op (fg_ar g) (fg_rk g R) (fg_rv g R) i
theorem fg_oo_ro (g : fg_C) (R i : Nat) : fg_oo g (fg_rk g R i) (fg_rv g R i) = fg_ro g R i := rfl
def fg_tx (g : fg_C) (R u : Nat) : Nat := fg_fr (fun i => fg_pk g R i == 1 && fg_pv g R i == u) (fg_pl g R)
def fg_bd (g : fg_C) (R : Nat) (t : fg_T) (u : Nat) : fg_T := fg_D g R t (fg_tx g R u)
theorem fg_tx_eq {g : fg_C} {R u i : Nat} (hR : fg_RW g R) (hi : i < fg_pl g R) (hk : fg_pk g R i = 1) (hv : fg_pv g R i = u) : fg_tx g R u = i := by
  obtain ⟨s1, s2, s3⟩ := fg_fr_sp (p := fun i => fg_pk g R i == 1 && fg_pv g R i == u) (fg_pl g R)
  have hp : (fg_pk g R i == 1 && fg_pv g R i == u) = true := by rw [hk, hv]; simp
  have hlt : fg_tx g R u < fg_pl g R := by
    rcases Nat.lt_or_ge (fg_tx g R u) (fg_pl g R) with z | z
    · exact z
    · have := s2 i (Nat.lt_of_lt_of_le hi z)
      rw [hp] at this
      exact nomatch this
  have h3 := s3 hlt
  have h3' : (fg_pk g R (fg_tx g R u) == 1 && fg_pv g R (fg_tx g R u) == u) = true := h3
  rw [Bool.and_eq_true] at h3'
  exact hR.2.2.2.2.1 _ _ hlt hi (eq_of_beq h3'.1) hk ((eq_of_beq h3'.2).trans hv.symm)
def fg_it (g : fg_C) (R : Nat) (t : fg_T) (i : Nat) : fg_I := if fg_rk g R i = 1 then .inr (fg_bd g R t (fg_rv g R i)) else .inl (fg_rk g R i, fg_rv g R i, R / 5)
def fg_rest (g : fg_C) (R : Nat) (t : fg_T) (i n : Nat) : List fg_I := (List.range' i n).map (fg_it g R t)
theorem fg_rest_s (g : fg_C) (R : Nat) (t : fg_T) (i n : Nat) : fg_rest g R t i (n + 1) = fg_it g R t i :: fg_rest g R t (i + 1) n := by
  unfold fg_rest
  rw [List.range'_succ, List.map_cons]
abbrev fg_S : Type := Nat × Nat × Nat × List fg_T
def fg_sg (s : fg_S) : List fg_I := .inl (s.1, s.2.1, s.2.2.1) :: s.2.2.2.map .inr
def fg_fS (S : List fg_S) : List fg_I := S.flatMap fg_sg
theorem fg_fS_app (S S' : List fg_S) : fg_fS (S ++ S') = fg_fS S ++ fg_fS S' := List.flatMap_append
def fg_nb2 (v : Nat) (l : List fg_T) : fg_T := .branch v (l.getD 0 fg_nil) (l.getD 1 fg_nil)
/-- how a run goes on: fuel, steps, the tokens at work, what comes of it (outcome, who is blamed, steps, the value) -/
def fg_Rn (g : fg_C) : Nat → Nat → List fg_I → (Nat × Int32 × Nat × fg_T) → Prop
  | 0, _, _, _ => False
  | n + 1, s, L, z => (∃ t, L = [.inr t] ∧ z = (0, -1, s, t)) ∨
    (∃ (S : List fg_S) (k v o : Nat) (l : List fg_T) (B : List fg_I), L = fg_fS S ++ (.inl (k, v, o) :: (l.map .inr ++ B)) ∧ (∀ q, q ∈ S → q.2.2.2.length < fg_oo g q.1 q.2.1) ∧ l.length = fg_oo g k v ∧
      ((k = 5 ∧ ∃ t, l = [t] ∧ ((s = 100 ∧ z = (2, nI v, s, fg_nil)) ∨ (s < 100 ∧ fg_tk g v t = fg_rw g v ∧ z = (1, nI v, s + 1, fg_nil)) ∨
        (s < 100 ∧ fg_tk g v t < fg_rw g v ∧ fg_Rn g n (s + 1) (fg_fS S ++ (fg_rest g (5 * v + fg_tk g v t) t 0 (fg_rl g (5 * v + fg_tk g v t)) ++ B)) z))) ∨
       (k = 2 ∧ ((40 < fg_sz (fg_nb2 v l) ∧ z = (3, nI o, s, fg_nil)) ∨ (fg_sz (fg_nb2 v l) ≤ 40 ∧ fg_Rn g n s (fg_fS S ++ (.inr (fg_nb2 v l) :: B)) z)))))
end
section
/-! X: below, call -/
theorem fg_cf_app : ∀ (l m : List Bool) (s : Nat), fg_cf s (l ++ m) = fg_cf (fg_cf s l) m
  | [], _, _ => rfl
  | b :: l, m, s => by
    rw [List.cons_append, fg_cf_cons, fg_cf_cons]; exact fg_cf_app l m _
theorem fg_cf_div : ∀ (m : List Bool) (s : Nat), fg_cf s m / 2 ^ m.length = s
  | [], s => by simp [fg_cf]
  | b :: m, s => by
    rw [fg_cf_cons, List.length_cons, Nat.pow_succ, ← Nat.div_div_eq_div_mul, fg_cf_div m]
    cases b
    · simp
    · simp only [if_true]; omega
theorem fg_cf_pos : ∀ (m : List Bool) (s : Nat), 0 < s → 2 ^ m.length ≤ fg_cf s m
  | [], s, h => h
  | b :: m, s, h => by
    rw [fg_cf_cons, List.length_cons]
    have e := fg_cf_div m (2 * s + (if b then 1 else 0))
    have h2 : 2 ≤ 2 * s + (if b then 1 else 0) := by omega
    rw [← e] at h2
    have h3 := (Nat.le_div_iff_mul_le (Nat.two_pow_pos m.length)).mp h2
    rw [Nat.pow_succ, Nat.mul_comm]
    exact h3
section
variable {x_cons x_drafted x_given x_cells x_calls x_opened x_held x_steps x_outcome x_culprit x_size x_kinds : Int32} {x_arity x_dKind x_dValue x_behind x_pKind x_pValue x_pBehind x_rKind x_rValue x_pLength x_rLength x_rows x_path x_argument x_cCon x_cFirst x_cSecond x_cSize x_table x_learnt x_pile x_callRow x_callAt x_callOpen x_bound x_openToken x_lacks x_output x_kSize x_counted x_openSize x_values : Nat → Int32} {x_sets x_kSet x_kMany x_kList x_counts x_firstOpen : Nat → Int64}
variable {g : fg_C} {N x : Nat} {T : Nat → fg_T}
theorem fg_xbelow {post : Int32 → Prop} {l : List Bool} {t : fg_T} (hCe : fg_Ce g x_cCon x_cFirst x_cSecond x_cSize N T) (hN : N ≤ 1300) (hx : x < N) (ht : T x = t) (hl : l.length ≤ 12) (hpe : fg_pe l t)
    (hp : ∀ y, y < N → T y = fg_fo l t → post (nI y)) : wpX_below post (x_cons, x_drafted, x_given, x_cells, x_calls, x_opened, x_held, x_steps, x_outcome, x_culprit, x_size, x_kinds, x_arity, x_dKind, x_dValue, x_behind, x_pKind, x_pValue, x_pBehind, x_rKind, x_rValue, x_pLength, x_rLength, x_rows, x_path, x_argument, x_cCon, x_cFirst, x_cSecond, x_cSize, x_table, x_sets, x_learnt, x_pile, x_callRow, x_callAt, x_callOpen, x_bound, x_openToken, x_lacks, x_output, x_kSize, x_kSet, x_kMany, x_kList, x_counts, x_counted, x_firstOpen, x_openSize, x_values) (nI x) (nI (fg_cd l)) := by
  have hcd : fg_cd l = fg_cf 1 l := rfl
  have hlt : fg_cd l < 8192 := by
    have h := fg_cf_lt l 1 1 (by decide)
    have : 2 ^ (1 + l.length) ≤ 2 ^ 13 := Nat.pow_le_pow_right (by decide) (by omega)
    exact Nat.lt_of_lt_of_le h this
  have hge : 2 ^ l.length ≤ fg_cd l := fg_cf_pos l 1 (by decide)
  have sh : ∀ m, m < 32 → nI (fg_cd l) >>> (nI m &&& 31) = nI (fg_cd l / 2 ^ m) := fun m hm => pk_shrN (by omega) _ m (s_l m hm)
  -- down
  have dn : ∀ (r q : List Bool) (y : Nat), q ++ r = l → y < N → T y = fg_fo q t → fg_pe r (T y) → wX_below_31 post (nI (fg_cd l)) x_cons x_drafted x_given x_cells x_calls x_opened x_held x_steps x_outcome x_culprit x_size x_kinds x_arity x_dKind x_dValue x_behind x_pKind x_pValue x_pBehind x_rKind x_rValue x_pLength x_rLength x_rows x_path x_argument x_cCon x_cFirst x_cSecond x_cSize x_table x_sets x_learnt x_pile x_callRow x_callAt x_callOpen x_bound x_openToken x_lacks x_output x_kSize x_kSet x_kMany x_kList x_counts x_counted x_firstOpen x_openSize x_values (r.length + 1) (nI y) (nI r.length - 1) := by
    intro r
    induction r with
    | nil =>
      intro q y he hy hT _
      rw [List.append_nil] at he
      subst he
      exact br_t fg_pd0 (hp y hy hT)
    | cons b r ih =>
      intro q y he hy hT hpr
      have hle : r.length < 12 := by
        have := congrArg List.length he
        rw [List.length_append, List.length_cons] at this
        omega
      rw [List.length_cons, nI_pred]
      refine br_f (nI_pos (by omega)) ?_
      rw [sh r.length (by omega)]
      have hbit : fg_cd l / 2 ^ r.length % 2 = if b then 1 else 0 := by
        rw [hcd, ← he, show q ++ b :: r = (q ++ [b]) ++ r by simp, fg_cf_app, fg_cf_div, fg_cf_app, fg_cf_cons]
        show (2 * fg_cf 1 q + (if b then 1 else 0)) % 2 = _
        cases b
        · simp
        · simp only [if_true]; omega
      have e1 : nI (fg_cd l / 2 ^ r.length) &&& 1 = nI (if b then 1 else 0) := by
        rw [← hbit]
        exact pk_andN (Nat.lt_of_le_of_lt (Nat.div_le_self _ _) (by omega)) 1 (by decide)
      rw [e1]
      have vy : vp_in (nI y) 1300 := vp_in_nI (by omega) (by decide)
      obtain ⟨c1, c2, c3, c4, c5, c6, -⟩ := hCe y hy
      have he' : (q ++ [b]) ++ r = l := by rw [← he]; simp
      cases b with
      | true =>
        have hne : fg_R (T y) ≠ fg_nil := by
          have := hpr.2
          cases r with
          | nil => exact this
          | cons b' r' => exact this.1
        obtain ⟨j, j1, j2, j3⟩ := fg_pt_ne hne c6
        refine br_t rfl (And.intro vy (nm_r (e' := nI j) (by rw [nI_clamp (by omega)]; exact j2) (nm_r (fg_pdm _) ?_)))
        exact ih (q ++ [true]) j he' (by omega) (by rw [j3, hT, fg_fo_app]; rfl) (by rw [j3]; exact hpr.2)
      | false =>
        have hne : fg_L (T y) ≠ fg_nil := by
          have := hpr.2
          cases r with
          | nil => exact this
          | cons b' r' => exact this.1
        obtain ⟨j, j1, j2, j3⟩ := fg_pt_ne hne c5
        refine br_f (by decide) (And.intro vy (nm_r (e' := nI j) (by rw [nI_clamp (by omega)]; exact j2) (nm_r (fg_pdm _) ?_)))
        exact ih (q ++ [false]) j he' (by omega) (by rw [j3, hT, fg_fo_app]; rfl) (by rw [j3]; exact hpr.2)
  -- how many
  have up : ∀ (d m : Nat), m + d = l.length → wX_below_11 post (nI (fg_cd l)) (nI x) x_cons x_drafted x_given x_cells x_calls x_opened x_held x_steps x_outcome x_culprit x_size x_kinds x_arity x_dKind x_dValue x_behind x_pKind x_pValue x_pBehind x_rKind x_rValue x_pLength x_rLength x_rows x_path x_argument x_cCon x_cFirst x_cSecond x_cSize x_table x_sets x_learnt x_pile x_callRow x_callAt x_callOpen x_bound x_openToken x_lacks x_output x_kSize x_kSet x_kMany x_kList x_counts x_counted x_firstOpen x_openSize x_values (d + 1) (nI m) := by
    intro d
    induction d with
    | zero =>
      intro m hd
      have hm : m = l.length := by omega
      have e1 : fg_cd l / 2 ^ m = 1 := by rw [hm, hcd, fg_cf_div]
      refine br_t ?_ ?_
      · rw [sh m (by omega), e1]; decide
      · refine nm_e ⟨l.length + 1, ?_⟩
        rw [hm]
        exact dn l [] x rfl hx ht (by rw [ht]; exact hpe)
    | succ d ih =>
      intro m hd
      have h2 : 2 ≤ fg_cd l / 2 ^ m := by
        refine (Nat.le_div_iff_mul_le (Nat.two_pow_pos m)).mpr (Nat.le_trans ?_ hge)
        rw [Nat.mul_comm, ← Nat.pow_succ]
        exact Nat.pow_le_pow_right (by decide) (by omega)
      have h3 : fg_cd l / 2 ^ m ≤ fg_cd l := Nat.div_le_self _ _
      refine br_f ?_ (nm_r (nI_1 m) (ih (m + 1) (by omega)))
      rw [sh m (by omega)]
      exact nI_ge (a := 1) (by omega) (by omega)
  refine br_f (nI_ne0 (by have := Nat.two_pow_pos l.length; omega) (by omega)) ⟨l.length + 1, up l.length 0 (by omega)⟩
variable {f c o h s : Nat} {t : fg_T}
theorem fg_xcall {post : SX → Prop} (hW : fg_WF g) (hX : fg_CX g x_arity x_rows x_pLength x_rLength x_pKind x_pValue x_pBehind x_rKind x_rValue x_path) (hf : f < 4) (hN : N ≤ 1300) (hCe : fg_Ce g x_cCon x_cFirst x_cSecond x_cSize N T) (hLe : fg_Le g x_cFirst x_cSecond x_learnt x_sets N T)
    (hx : x < N) (hT : T x = t) (hv : x_values h = nI x) (hh : h < 1299) (hc : c < 101) (ho : o < 1300) (hs : s ≤ 100)
    (h100 : s = 100 → post (x_cons, x_drafted, x_given, x_cells, nI c, nI o, nI (h + 1), nI s, 2, nI f, x_size, x_kinds, x_arity, x_dKind, x_dValue, x_behind, x_pKind, x_pValue, x_pBehind, x_rKind, x_rValue, x_pLength, x_rLength, x_rows, x_path, x_argument, x_cCon, x_cFirst, x_cSecond, x_cSize, x_table, x_sets, x_learnt, x_pile, x_callRow, x_callAt, x_callOpen, x_bound, x_openToken, x_lacks, x_output, x_kSize, x_kSet, x_kMany, x_kList, x_counts, x_counted, x_firstOpen, x_openSize, x_values))
    (hst : s < 100 → fg_tk g f t = fg_rw g f → ∀ (pile lea : Nat → Int32) (sts : Nat → Int64), fg_Le g x_cFirst x_cSecond lea sts N T → post (x_cons, x_drafted, x_given, x_cells, nI c, nI o, nI h, nI (s + 1), 1, nI f, x_size, x_kinds, x_arity, x_dKind, x_dValue, x_behind, x_pKind, x_pValue, x_pBehind, x_rKind, x_rValue, x_pLength, x_rLength, x_rows, x_path, x_argument, x_cCon, x_cFirst, x_cSecond, x_cSize, x_table, sts, lea, pile, x_callRow, x_callAt, x_callOpen, x_bound, x_openToken, x_lacks, x_output, x_kSize, x_kSet, x_kMany, x_kList, x_counts, x_counted, x_firstOpen, x_openSize, x_values))
    (hok : s < 100 → fg_tk g f t < fg_rw g f → ∀ (pile lea bnd : Nat → Int32) (sts : Nat → Int64), fg_Le g x_cFirst x_cSecond lea sts N T → (∀ j, j < 4 * c → bnd j = x_bound j) →
      (∀ u i, i < fg_pl g (5 * f + fg_tk g f t) → fg_pk g (5 * f + fg_tk g f t) i = 1 → fg_pv g (5 * f + fg_tk g f t) i = u → fg_pt T N (bnd (4 * c + u)) (fg_bd g (5 * f + fg_tk g f t) t u)) →
      post (x_cons, x_drafted, x_given, x_cells, nI (c + 1), nI o, nI h, nI (s + 1), x_outcome, x_culprit, x_size, x_kinds, x_arity, x_dKind, x_dValue, x_behind, x_pKind, x_pValue, x_pBehind, x_rKind, x_rValue, x_pLength, x_rLength, x_rows, x_path, x_argument, x_cCon, x_cFirst, x_cSecond, x_cSize, x_table, sts, lea, pile, upd x_callRow c (nI (5 * f + fg_tk g f t)), upd x_callAt c 0, upd x_callOpen c (nI o), bnd, x_openToken, x_lacks, x_output, x_kSize, x_kSet, x_kMany, x_kList, x_counts, x_counted, x_firstOpen, x_openSize, x_values)) :
    wpX_call post (x_cons, x_drafted, x_given, x_cells, nI c, nI o, nI (h + 1), nI s, x_outcome, x_culprit, x_size, x_kinds, x_arity, x_dKind, x_dValue, x_behind, x_pKind, x_pValue, x_pBehind, x_rKind, x_rValue, x_pLength, x_rLength, x_rows, x_path, x_argument, x_cCon, x_cFirst, x_cSecond, x_cSize, x_table, x_sets, x_learnt, x_pile, x_callRow, x_callAt, x_callOpen, x_bound, x_openToken, x_lacks, x_output, x_kSize, x_kSet, x_kMany, x_kList, x_counts, x_counted, x_firstOpen, x_openSize, x_values) (nI f) := by
  have h5 := hW.2.2.1 f hf
  unfold wpX_call
  dsimp only
  refine pk_eq s 100 (fun z => ?_) (fun z => ?_)
  · exact h100 z
  · refine nm_r (nI_1 s) (nm_r (nI_pred h) ?_)
    rw [nI_pred]
    refine And.intro (vp_in_nI (by omega) (by decide)) (nm_r (e' := nI x) (by rw [nI_clamp (by omega)]; exact hv) ?_)
    refine fg_xsetOf hW hX hf hN hCe hLe hx (fun pile lea sts hLe' => ?_)
    dsimp only
    have htn : t ≠ fg_nil := by rw [← hT]; exact (hCe x hx).1
    have htok : fg_ok (fg_nc g) (fg_ar g) t := by rw [← hT]; exact (hCe x hx).2.1
    rw [hT]
    refine fg_xfirst hW hX hf htn ?_
    have htk : fg_tk g f t ≤ fg_rw g f := (fg_fr_sp (p := fun r => fg_mr g (5 * f + r) 0 t) (fg_rw g f)).1
    unfold fg_an
    by_cases hr : fg_tk g f t < fg_rw g f
    · rw [if_pos hr]
      refine br_t (nI_pos' (by omega)) ⟨5, ?_⟩
      have hRW := hW.2.2.2 f _ hf hr
      have hXR := hX.2.2 f _ hf hr
      have hm : fg_mr g (5 * f + fg_tk g f t) 0 t = true := (fg_fr_sp (p := fun r => fg_mr g (5 * f + r) 0 t) (fg_rw g f)).2.2 hr
      have hok' := hok (by omega) hr
      generalize hRe : 5 * f + fg_tk g f t = R at *
      have e4 : ∀ v, ((20 : Int32) * nI f + 4 * nI (fg_tk g f t)) + nI v = nI (4 * R + v) := by
        intro v
        rw [show (20 : Int32) = nI 20 from rfl, show (4 : Int32) = nI 4 from rfl, fg_mulc, fg_mulc, nI_add, nI_add]
        exact congrArg nI (by omega)
      have e5 : (5 : Int32) * nI f + nI (fg_tk g f t) = nI R := by
        rw [show (5 : Int32) = nI 5 from rfl, fg_mulc, nI_add, hRe]
      have ec : ∀ v, (4 : Int32) * nI c + nI v = nI (4 * c + v) := fun v => by rw [show (4 : Int32) = nI 4 from rfl, fg_mulc, nI_add]
      have vc : vp_in (nI c) 101 := vp_in_nI hc (by decide)
      have key : ∀ (d v : Nat) (bnd : Nat → Int32), v + d = 4 → (∀ j, j < 4 * c → bnd j = x_bound j) → (∀ u i, u < v → i < fg_pl g R → fg_pk g R i = 1 → fg_pv g R i = u → fg_pt T N (bnd (4 * c + u)) (fg_bd g R t u)) →
          wX_call_73 post (nI f) (nI x) (nI (fg_tk g f t)) x_cons x_drafted x_given x_cells (nI c) (nI o) (nI h) (nI (s + 1)) x_outcome x_culprit x_size x_kinds (d + 1) (nI v) x_arity x_dKind x_dValue x_behind x_pKind x_pValue x_pBehind x_rKind x_rValue x_pLength x_rLength x_rows x_path x_argument x_cCon x_cFirst x_cSecond x_cSize x_table sts lea pile x_callRow x_callAt x_callOpen bnd x_openToken x_lacks x_output x_kSize x_kSet x_kMany x_kList x_counts x_counted x_firstOpen x_openSize x_values := by
        intro d
        induction d with
        | zero =>
          intro v bnd hd h1 h2
          refine pk_le 4 v (fun _ => ?_) (fun h => by omega)
          rw [nI_clamp (by omega), e5, fg_w8 (by omega), fg_w16 (by omega)]
          refine And.intro vc (nm_e (And.intro vc (nm_r (e' := upd x_callAt c 0) (by rw [show vp_nar .byte 0 = 0 from rfl]) (nm_r (nI_1 c) (And.intro vc (nm_e ?_))))))
          exact hok' pile lea bnd sts hLe' h1 (fun u i a1 a2 a3 => h2 u i (by have := (hRW.2.2.2.1 i a1).2.2 a2; omega) a1 a2 a3)
        | succ d ih =>
          intro v bnd hd h1 h2
          refine pk_le 4 v (fun h => by omega) (fun _ => ?_)
          rw [e4, ec]
          refine And.intro (vp_in_nI (by omega) (by decide)) ?_
          rw [nI_clamp (show 4 * R + v < 2 ^ 31 by omega)]
          have next : ∀ (y : Int32), (∀ i, i < fg_pl g R → fg_pk g R i = 1 → fg_pv g R i = v → fg_pt T N y (fg_bd g R t v)) → vp_nar .short y.toInt16.toInt32 = y →
              (vp_in (nI (4 * c + v)) 404 ∧ ∀ a_bound : Nat → Int32, a_bound = upd bnd (nI (4 * c + v)).toNatClampNeg (vp_nar .short y.toInt16.toInt32) → ∀ x6 : Int32, x6 = nI v + 1 → wX_call_73 post (nI f) (nI x) (nI (fg_tk g f t)) x_cons x_drafted x_given x_cells (nI c) (nI o) (nI h) (nI (s + 1)) x_outcome x_culprit x_size x_kinds (d + 1) x6 x_arity x_dKind x_dValue x_behind x_pKind x_pValue x_pBehind x_rKind x_rValue x_pLength x_rLength x_rows x_path x_argument x_cCon x_cFirst x_cSecond x_cSize x_table sts lea pile x_callRow x_callAt x_callOpen a_bound x_openToken x_lacks x_output x_kSize x_kSet x_kMany x_kList x_counts x_counted x_firstOpen x_openSize x_values) := by
            intro y hy hyn
            refine And.intro (vp_in_nI (by omega) (by decide)) ?_
            rw [nI_clamp (by omega), hyn]
            refine nm_e (nm_r (nI_1 v) (ih (v + 1) _ (by omega) (fun j hj => by rw [pk_un (by omega)]; exact h1 j hj) (fun u i a0 a1 a2 a3 => ?_)))
            by_cases q : u = v
            · subst q; rw [pk_us]; exact hy i a1 a2 a3
            · rw [pk_un (by omega)]; exact h2 u i (by omega) a1 a2 a3
          by_cases hex : ∃ i, i < fg_pl g R ∧ fg_pk g R i = 1 ∧ fg_pv g R i = v
          · obtain ⟨i, i1, i2, i3⟩ := hex
            have hpa := hXR.2.2.2.2.1 i i1 i2
            rw [i3] at hpa
            rw [hpa]
            have pl12 := hRW.1.2.1
            have hbe := hRW.2.2.1
            refine fg_xbelow hCe hN hx hT (fg_wk_len _ _ _ _) (fg_pe_of hRW i1 i2 12 0 t (Nat.zero_le _) (by omega) htn htok hm) (fun y hy hTy => ?_)
            refine next (nI y) (fun i' a1 a2 a3 => Or.inr ⟨y, hy, rfl, ?_⟩) (fg_w16 (by omega))
            have := fg_tx_eq hRW i1 i2 i3
            rw [hTy]
            unfold fg_bd fg_D
            rw [this]
          · have hpa := hXR.2.2.2.2.2 v (by omega) (fun i a1 a2 a3 => hex ⟨i, a1, a2, a3⟩)
            rw [hpa]
            refine br_t rfl ?_
            exact next (-1) (fun i a1 a2 a3 => absurd ⟨i, a1, a2, a3⟩ hex) fg_w16m
      exact key 4 0 x_bound rfl (fun _ _ => rfl) (fun u i hu => absurd hu (Nat.not_lt_zero _))
    · rw [if_neg hr]
      refine br_f fg_m1le ?_
      exact hst (by omega) (by omega) pile lea sts hLe'
end
end
section
/-! X: one step of a run, over plain arrays -/
section
variable {x_cons x_drafted x_given x_cells x_calls x_opened x_held x_steps x_outcome x_culprit x_size x_kinds : Int32} {x_arity x_dKind x_dValue x_behind x_pKind x_pValue x_pBehind x_rKind x_rValue x_pLength x_rLength x_rows x_path x_argument x_cCon x_cFirst x_cSecond x_cSize x_table x_learnt x_pile x_callRow x_callAt x_callOpen x_bound x_openToken x_lacks x_output x_kSize x_counted x_openSize x_values : Nat → Int32} {x_sets x_kSet x_kMany x_kList x_counts x_firstOpen : Nat → Int64}
variable {g : fg_C} {N c0 o0 o h R p lk : Nat} {T : Nat → fg_T}
/-- what comes behind a value that has been piled up -/
theorem fg_xpush {post : SX → Prop} {y : Int32} (hh : h < 1300) (hy : vp_nar .short y.toInt16.toInt32 = y) (hc : c0 < 101) (hco : x_callOpen c0 = nI o0) (ho : o ≤ 1300) (ho0 : o0 ≤ o)
    (h1 : o = o0 → post (x_cons, x_drafted, x_given, x_cells, x_calls, nI o, nI (h + 1), x_steps, x_outcome, x_culprit, x_size, x_kinds, x_arity, x_dKind, x_dValue, x_behind, x_pKind, x_pValue, x_pBehind, x_rKind, x_rValue, x_pLength, x_rLength, x_rows, x_path, x_argument, x_cCon, x_cFirst, x_cSecond, x_cSize, x_table, x_sets, x_learnt, x_pile, x_callRow, x_callAt, x_callOpen, x_bound, x_openToken, x_lacks, x_output, x_kSize, x_kSet, x_kMany, x_kList, x_counts, x_counted, x_firstOpen, x_openSize, upd x_values h y))
    (h2 : o0 < o → x_lacks (o - 1) = nI (lk + 1) ∧ lk < 100 ∧ post (x_cons, x_drafted, x_given, x_cells, x_calls, nI o, nI (h + 1), x_steps, x_outcome, x_culprit, x_size, x_kinds, x_arity, x_dKind, x_dValue, x_behind, x_pKind, x_pValue, x_pBehind, x_rKind, x_rValue, x_pLength, x_rLength, x_rows, x_path, x_argument, x_cCon, x_cFirst, x_cSecond, x_cSize, x_table, x_sets, x_learnt, x_pile, x_callRow, x_callAt, x_callOpen, x_bound, x_openToken, upd x_lacks (o - 1) (nI lk), x_output, x_kSize, x_kSet, x_kMany, x_kList, x_counts, x_counted, x_firstOpen, x_openSize, upd x_values h y)) :
    wpX_pileUp (fun u => match u with | (x_cons, x_drafted, x_given, x_cells, x_calls, x_opened, x_held, x_steps, x_outcome, x_culprit, x_size, x_kinds, x_arity, x_dKind, x_dValue, x_behind, x_pKind, x_pValue, x_pBehind, x_rKind, x_rValue, x_pLength, x_rLength, x_rows, x_path, x_argument, x_cCon, x_cFirst, x_cSecond, x_cSize, x_table, x_sets, x_learnt, x_pile, x_callRow, x_callAt, x_callOpen, x_bound, x_openToken, x_lacks, x_output, x_kSize, x_kSet, x_kMany, x_kList, x_counts, x_counted, x_firstOpen, x_openSize, x_values) => (vp_in (nI c0) 101 ∧ (((x_opened ≤ (x_callOpen (nI c0).toNatClampNeg) → (post (x_cons, x_drafted, x_given, x_cells, x_calls, x_opened, x_held, x_steps, x_outcome, x_culprit, x_size, x_kinds, x_arity, x_dKind, x_dValue, x_behind, x_pKind, x_pValue, x_pBehind, x_rKind, x_rValue, x_pLength, x_rLength, x_rows, x_path, x_argument, x_cCon, x_cFirst, x_cSecond, x_cSize, x_table, x_sets, x_learnt, x_pile, x_callRow, x_callAt, x_callOpen, x_bound, x_openToken, x_lacks, x_output, x_kSize, x_kSet, x_kMany, x_kList, x_counts, x_counted, x_firstOpen, x_openSize, x_values))) ∧ (¬ x_opened ≤ (x_callOpen (nI c0).toNatClampNeg) → (vp_in (x_opened - 1) 1300 ∧ (vp_in (x_opened - 1) 1300 ∧ ∀ a_lacks : Nat → Int32, a_lacks = upd x_lacks (x_opened - 1).toNatClampNeg (vp_nar .byte (((x_lacks (x_opened - 1).toNatClampNeg) - 1).toInt8.toInt32)) → (post (x_cons, x_drafted, x_given, x_cells, x_calls, x_opened, x_held, x_steps, x_outcome, x_culprit, x_size, x_kinds, x_arity, x_dKind, x_dValue, x_behind, x_pKind, x_pValue, x_pBehind, x_rKind, x_rValue, x_pLength, x_rLength, x_rows, x_path, x_argument, x_cCon, x_cFirst, x_cSecond, x_cSize, x_table, x_sets, x_learnt, x_pile, x_callRow, x_callAt, x_callOpen, x_bound, x_openToken, a_lacks, x_output, x_kSize, x_kSet, x_kMany, x_kList, x_counts, x_counted, x_firstOpen, x_openSize, x_values))))))))) (x_cons, x_drafted, x_given, x_cells, x_calls, nI o, nI h, x_steps, x_outcome, x_culprit, x_size, x_kinds, x_arity, x_dKind, x_dValue, x_behind, x_pKind, x_pValue, x_pBehind, x_rKind, x_rValue, x_pLength, x_rLength, x_rows, x_path, x_argument, x_cCon, x_cFirst, x_cSecond, x_cSize, x_table, x_sets, x_learnt, x_pile, x_callRow, x_callAt, x_callOpen, x_bound, x_openToken, x_lacks, x_output, x_kSize, x_kSet, x_kMany, x_kList, x_counts, x_counted, x_firstOpen, x_openSize, x_values) y := by
  refine nm_r (nI_1 h) (And.intro (vp_in_nI hh (by decide)) ?_)
  rw [nI_clamp (show h < 2 ^ 31 by omega), hy]
  refine nm_e (And.intro (vp_in_nI hc (by decide)) ?_)
  rw [nI_clamp (show c0 < 2 ^ 31 by omega), hco]
  refine pk_le o o0 (fun z => h1 (by omega)) (fun z => ?_)
  obtain ⟨e1, e2, e3⟩ := h2 z
  obtain ⟨q, rfl⟩ : ∃ q, o = q + 1 := ⟨o - 1, by omega⟩
  rw [nI_pred, nI_clamp (by omega)]
  rw [Nat.add_sub_cancel] at e1 e3
  have vq : vp_in (nI q) 1300 := vp_in_nI (by omega) (by decide)
  refine And.intro vq (And.intro vq ?_)
  rw [e1, nI_pred, fg_w8 (by omega)]
  exact nm_e e3
theorem fg_xcl117 {post : SX → Prop} {A B : Int32} {a b : fg_T} {v : Nat} (hC : fg_XC g x_cCon x_cFirst x_cSecond x_cSize x_table x_learnt x_sets N T) (hN : N < 1300) (hA : fg_pt T N A a) (hB : fg_pt T N B b) (hnc : fg_nc g ≤ 6)
    (hok : fg_ok (fg_nc g) (fg_ar g) (.branch v a b)) (hh : h < 1300) (hc : c0 < 101) (hR : R < 20) (hco : x_callOpen c0 = nI o0) (ho : o ≤ 1300) (ho0 : o0 ≤ o)
    (hbig : 40 < fg_sz (.branch v a b : fg_T) → post (x_cons, x_drafted, x_given, nI N, x_calls, nI o, nI h, x_steps, 3, nI (R / 5), x_size, x_kinds, x_arity, x_dKind, x_dValue, x_behind, x_pKind, x_pValue, x_pBehind, x_rKind, x_rValue, x_pLength, x_rLength, x_rows, x_path, x_argument, x_cCon, x_cFirst, x_cSecond, x_cSize, x_table, x_sets, x_learnt, x_pile, x_callRow, x_callAt, x_callOpen, x_bound, x_openToken, x_lacks, x_output, x_kSize, x_kSet, x_kMany, x_kList, x_counts, x_counted, x_firstOpen, x_openSize, x_values))
    (h1 : fg_sz (.branch v a b : fg_T) ≤ 40 → ∀ (n N' : Nat) (T' : Nat → fg_T) (con fst snd siz tab lea : Nat → Int32), n < N' → T' n = .branch v a b → N ≤ N' → N' ≤ N + 1 → (∀ j, j < N → T' j = T j) → fg_XC g con fst snd siz tab lea x_sets N' T' → o = o0 → post (x_cons, x_drafted, x_given, nI N', x_calls, nI o, nI (h + 1), x_steps, x_outcome, x_culprit, x_size, x_kinds, x_arity, x_dKind, x_dValue, x_behind, x_pKind, x_pValue, x_pBehind, x_rKind, x_rValue, x_pLength, x_rLength, x_rows, x_path, x_argument, con, fst, snd, siz, tab, x_sets, lea, x_pile, x_callRow, x_callAt, x_callOpen, x_bound, x_openToken, x_lacks, x_output, x_kSize, x_kSet, x_kMany, x_kList, x_counts, x_counted, x_firstOpen, x_openSize, upd x_values h (nI n)))
    (h2 : fg_sz (.branch v a b : fg_T) ≤ 40 → ∀ (n N' : Nat) (T' : Nat → fg_T) (con fst snd siz tab lea : Nat → Int32), n < N' → T' n = .branch v a b → N ≤ N' → N' ≤ N + 1 → (∀ j, j < N → T' j = T j) → fg_XC g con fst snd siz tab lea x_sets N' T' → o0 < o → x_lacks (o - 1) = nI (lk + 1) ∧ lk < 100 ∧ post (x_cons, x_drafted, x_given, nI N', x_calls, nI o, nI (h + 1), x_steps, x_outcome, x_culprit, x_size, x_kinds, x_arity, x_dKind, x_dValue, x_behind, x_pKind, x_pValue, x_pBehind, x_rKind, x_rValue, x_pLength, x_rLength, x_rows, x_path, x_argument, con, fst, snd, siz, tab, x_sets, lea, x_pile, x_callRow, x_callAt, x_callOpen, x_bound, x_openToken, upd x_lacks (o - 1) (nI lk), x_output, x_kSize, x_kSet, x_kMany, x_kList, x_counts, x_counted, x_firstOpen, x_openSize, upd x_values h (nI n))) :
    wX_close_117 post (nI c0) (nI R) (nI v) B A x_cons x_drafted x_given (nI N) x_calls (nI o) (nI h) x_steps x_outcome x_culprit x_size x_kinds x_arity x_dKind x_dValue x_behind x_pKind x_pValue x_pBehind x_rKind x_rValue x_pLength x_rLength x_rows x_path x_argument x_cCon x_cFirst x_cSecond x_cSize x_table x_sets x_learnt x_pile x_callRow x_callAt x_callOpen x_bound x_openToken x_lacks x_output x_kSize x_kSet x_kMany x_kList x_counts x_counted x_firstOpen x_openSize x_values := by
  have hs : fg_sz (.branch v a b : fg_T) = 1 + fg_sz a + fg_sz b := rfl
  have hbnd : ∀ (x : Int32) (t : fg_T), fg_pt T N x t → fg_sz t ≤ 40 ∧ ((x = -1 ∧ fg_sz t = 0) ∨ ∃ j, j < N ∧ x = nI j ∧ x_cSize j = nI (fg_sz t)) := by
    intro x t hx
    rcases hx with ⟨q1, q2⟩ | ⟨j, j1, j2, j3⟩
    · rw [q2]; exact ⟨Nat.zero_le _, Or.inl ⟨q1, rfl⟩⟩
    · obtain ⟨-, -, e3, -, -, -, e7⟩ := hC.1 j j1
      rw [j3] at e3 e7
      exact ⟨e3, Or.inr ⟨j, j1, j2, e7⟩⟩
  obtain ⟨a40, ha⟩ := hbnd A a hA
  obtain ⟨b40, hb⟩ := hbnd B b hB
  have w153 : ∀ z0 z1 : Nat, z1 + z0 = fg_sz (.branch v a b : fg_T) → wX_close_153 post (nI c0) (nI R) (nI v) B A (nI z0) (nI z1) x_cons x_drafted x_given (nI N) x_calls (nI o) (nI h) x_steps x_outcome x_culprit x_size x_kinds x_arity x_dKind x_dValue x_behind x_pKind x_pValue x_pBehind x_rKind x_rValue x_pLength x_rLength x_rows x_path x_argument x_cCon x_cFirst x_cSecond x_cSize x_table x_sets x_learnt x_pile x_callRow x_callAt x_callOpen x_bound x_openToken x_lacks x_output x_kSize x_kSet x_kMany x_kList x_counts x_counted x_firstOpen x_openSize x_values := by
    intro z0 z1 hz
    unfold wX_close_153
    refine nm_r (nI_add z1 z0) ?_
    rw [hz]
    refine pk_le (fg_sz (.branch v a b : fg_T)) 40 (fun y => ?_) (fun y => ?_)
    · refine fg_xcell hC hN hA hB hnc hok y (fun n N' T' con fst snd siz tab lea e1 e2 e3 e4 e5 e6 => ?_)
      refine fg_xpush (lk := lk) hh (fg_w16 (by omega)) hc hco ho ho0 (fun z => ?_) (fun z => ?_)
      · exact h1 y n N' T' con fst snd siz tab lea e1 e2 e3 e4 e5 e6 z
      · exact h2 y n N' T' con fst snd siz tab lea e1 e2 e3 e4 e5 e6 z
    · refine And.intro (by decide) ?_
      have e : nI R / 5 = nI (R / 5) := pk_div (d := 5) (by omega) (by decide) (by decide)
      rw [e]
      exact hbig y
  have w136 : ∀ z0 : Nat, z0 = fg_sz a → wX_close_136 post (nI c0) (nI R) (nI v) B A (nI z0) 1 x_cons x_drafted x_given (nI N) x_calls (nI o) (nI h) x_steps x_outcome x_culprit x_size x_kinds x_arity x_dKind x_dValue x_behind x_pKind x_pValue x_pBehind x_rKind x_rValue x_pLength x_rLength x_rows x_path x_argument x_cCon x_cFirst x_cSecond x_cSize x_table x_sets x_learnt x_pile x_callRow x_callAt x_callOpen x_bound x_openToken x_lacks x_output x_kSize x_kSet x_kMany x_kList x_counts x_counted x_firstOpen x_openSize x_values := by
    intro z0 hz
    unfold wX_close_136
    rw [show (1 : Int32) = nI 1 from rfl, nI_add]
    rcases hb with ⟨q1, q2⟩ | ⟨j, j1, j2, j3⟩
    · refine br_f (by rw [q1]; exact fg_m1le) (w153 0 (1 + z0) (by omega))
    · refine br_t (by rw [j2]; exact nI_pos' (by omega)) (And.intro (by rw [j2]; exact vp_in_nI (by omega) (by decide)) ?_)
      rw [show B.toNatClampNeg = j by rw [j2, nI_clamp (by omega)], j3]
      exact w153 _ (1 + z0) (by omega)
  unfold wX_close_117
  rcases ha with ⟨q1, q2⟩ | ⟨j, j1, j2, j3⟩
  · refine br_f (by rw [q1]; exact fg_m1le) (w136 0 (by omega))
  · refine br_t (by rw [j2]; exact nI_pos' (by omega)) (And.intro (by rw [j2]; exact vp_in_nI (by omega) (by decide)) ?_)
    rw [show A.toNatClampNeg = j by rw [j2, nI_clamp (by omega)], j3]
    exact w136 _ rfl
/-- the choice: an operator that has its operands, or the result's next token -/
theorem fg_xw_close {post : SX → Prop} (hc : c0 < 101) (ho : o < 1300) (hco : x_callOpen c0 = nI o0) (ho0 : o0 ≤ o) (hl : x_lacks o = 0) (hw : wpX_close post (x_cons, x_drafted, x_given, x_cells, nI (c0 + 1), nI (o + 1), x_held, x_steps, x_outcome, x_culprit, x_size, x_kinds, x_arity, x_dKind, x_dValue, x_behind, x_pKind, x_pValue, x_pBehind, x_rKind, x_rValue, x_pLength, x_rLength, x_rows, x_path, x_argument, x_cCon, x_cFirst, x_cSecond, x_cSize, x_table, x_sets, x_learnt, x_pile, x_callRow, x_callAt, x_callOpen, x_bound, x_openToken, x_lacks, x_output, x_kSize, x_kSet, x_kMany, x_kList, x_counts, x_counted, x_firstOpen, x_openSize, x_values) (nI c0)) :
    wpX_work post (x_cons, x_drafted, x_given, x_cells, nI (c0 + 1), nI (o + 1), x_held, x_steps, x_outcome, x_culprit, x_size, x_kinds, x_arity, x_dKind, x_dValue, x_behind, x_pKind, x_pValue, x_pBehind, x_rKind, x_rValue, x_pLength, x_rLength, x_rows, x_path, x_argument, x_cCon, x_cFirst, x_cSecond, x_cSize, x_table, x_sets, x_learnt, x_pile, x_callRow, x_callAt, x_callOpen, x_bound, x_openToken, x_lacks, x_output, x_kSize, x_kSet, x_kMany, x_kList, x_counts, x_counted, x_firstOpen, x_openSize, x_values) := by
  refine nm_r (nI_pred c0) (And.intro (vp_in_nI hc (by decide)) ?_)
  rw [nI_clamp (show c0 < 2 ^ 31 by omega), hco]
  refine br_f (nI_ge (by omega) (by omega)) ?_
  rw [nI_pred, nI_clamp (show o < 2 ^ 31 by omega)]
  exact And.intro (vp_in_nI ho (by decide)) (br_t hl hw)
theorem fg_xw_40 {post : SX → Prop} (hc : c0 < 101) (ho : o ≤ 1300) (hco : x_callOpen c0 = nI o0) (ho0 : o0 ≤ o) (hl : o0 < o → ¬ x_lacks (o - 1) = 0) (hw : wX_work_40 post (nI c0) x_cons x_drafted x_given x_cells (nI (c0 + 1)) (nI o) x_held x_steps x_outcome x_culprit x_size x_kinds x_arity x_dKind x_dValue x_behind x_pKind x_pValue x_pBehind x_rKind x_rValue x_pLength x_rLength x_rows x_path x_argument x_cCon x_cFirst x_cSecond x_cSize x_table x_sets x_learnt x_pile x_callRow x_callAt x_callOpen x_bound x_openToken x_lacks x_output x_kSize x_kSet x_kMany x_kList x_counts x_counted x_firstOpen x_openSize x_values) :
    wpX_work post (x_cons, x_drafted, x_given, x_cells, nI (c0 + 1), nI o, x_held, x_steps, x_outcome, x_culprit, x_size, x_kinds, x_arity, x_dKind, x_dValue, x_behind, x_pKind, x_pValue, x_pBehind, x_rKind, x_rValue, x_pLength, x_rLength, x_rows, x_path, x_argument, x_cCon, x_cFirst, x_cSecond, x_cSize, x_table, x_sets, x_learnt, x_pile, x_callRow, x_callAt, x_callOpen, x_bound, x_openToken, x_lacks, x_output, x_kSize, x_kSet, x_kMany, x_kList, x_counts, x_counted, x_firstOpen, x_openSize, x_values) := by
  refine nm_r (nI_pred c0) (And.intro (vp_in_nI hc (by decide)) ?_)
  rw [nI_clamp (show c0 < 2 ^ 31 by omega), hco]
  refine pk_le o o0 (fun _ => hw) (fun z => ?_)
  obtain ⟨q, rfl⟩ : ∃ q, o = q + 1 := ⟨o - 1, by omega⟩
  rw [nI_pred, nI_clamp (show q < 2 ^ 31 by omega)]
  have hl' := hl z
  rw [Nat.add_sub_cancel] at hl'
  exact And.intro (vp_in_nI (by omega) (by decide)) (br_f hl' hw)
theorem fg_xw_ret0 {post : SX → Prop} {y : Nat} (hcr : x_callRow 0 = nI R) (hR : R < 20) (hca : x_callAt 0 = nI p) (hrl : x_rLength R = nI p) (hh : h < 1300) (hv : x_values h = nI y) (hy : y < 1300)
    (hp : post (x_cons, x_drafted, x_given, x_cells, nI 0, x_opened, nI h, x_steps, x_outcome, x_culprit, x_size, x_kinds, x_arity, x_dKind, x_dValue, x_behind, x_pKind, x_pValue, x_pBehind, x_rKind, x_rValue, x_pLength, x_rLength, x_rows, x_path, x_argument, x_cCon, x_cFirst, x_cSecond, x_cSize, x_table, x_sets, x_learnt, x_pile, x_callRow, x_callAt, x_callOpen, upd x_bound 0 (nI y), x_openToken, x_lacks, x_output, x_kSize, x_kSet, x_kMany, x_kList, x_counts, x_counted, x_firstOpen, x_openSize, x_values)) : wX_work_40 post (nI 0) x_cons x_drafted x_given x_cells (nI 1) x_opened (nI (h + 1)) x_steps x_outcome x_culprit x_size x_kinds x_arity x_dKind x_dValue x_behind x_pKind x_pValue x_pBehind x_rKind x_rValue x_pLength x_rLength x_rows x_path x_argument x_cCon x_cFirst x_cSecond x_cSize x_table x_sets x_learnt x_pile x_callRow x_callAt x_callOpen x_bound x_openToken x_lacks x_output x_kSize x_kSet x_kMany x_kList x_counts x_counted x_firstOpen x_openSize x_values := by
  unfold wX_work_40
  refine And.intro (vp_in_nI (by decide) (by decide)) (nm_r (e' := nI R) (by rw [nI_clamp (by decide)]; exact hcr) (And.intro (vp_in_nI (by decide) (by decide)) (And.intro (vp_in_nI hR (by decide)) ?_)))
  refine br_t (by rw [nI_clamp (by decide), nI_clamp (by omega), hca, hrl]) (nm_r (nI_pred 0) (br_t rfl (nm_r (nI_pred h) ?_)))
  rw [nI_pred, nI_clamp (by omega), hv, fg_v16 (by omega)]
  exact And.intro (vp_in_nI hh (by decide)) (nm_e hp)
theorem fg_xw_ret {post : SX → Prop} (hc : c0 + 1 < 101) (hcr : x_callRow (c0 + 1) = nI R) (hR : R < 20) (hca : x_callAt (c0 + 1) = nI p) (hrl : x_rLength R = nI p) (hco : x_callOpen c0 = nI o0) (ho : o ≤ 1300) (ho0 : o0 ≤ o)
    (h1 : o = o0 → post (x_cons, x_drafted, x_given, x_cells, nI (c0 + 1), nI o, x_held, x_steps, x_outcome, x_culprit, x_size, x_kinds, x_arity, x_dKind, x_dValue, x_behind, x_pKind, x_pValue, x_pBehind, x_rKind, x_rValue, x_pLength, x_rLength, x_rows, x_path, x_argument, x_cCon, x_cFirst, x_cSecond, x_cSize, x_table, x_sets, x_learnt, x_pile, x_callRow, x_callAt, x_callOpen, x_bound, x_openToken, x_lacks, x_output, x_kSize, x_kSet, x_kMany, x_kList, x_counts, x_counted, x_firstOpen, x_openSize, x_values))
    (h2 : o0 < o → x_lacks (o - 1) = nI (lk + 1) ∧ lk < 100 ∧ post (x_cons, x_drafted, x_given, x_cells, nI (c0 + 1), nI o, x_held, x_steps, x_outcome, x_culprit, x_size, x_kinds, x_arity, x_dKind, x_dValue, x_behind, x_pKind, x_pValue, x_pBehind, x_rKind, x_rValue, x_pLength, x_rLength, x_rows, x_path, x_argument, x_cCon, x_cFirst, x_cSecond, x_cSize, x_table, x_sets, x_learnt, x_pile, x_callRow, x_callAt, x_callOpen, x_bound, x_openToken, upd x_lacks (o - 1) (nI lk), x_output, x_kSize, x_kSet, x_kMany, x_kList, x_counts, x_counted, x_firstOpen, x_openSize, x_values)) : wX_work_40 post (nI (c0 + 1)) x_cons x_drafted x_given x_cells (nI (c0 + 2)) (nI o) x_held x_steps x_outcome x_culprit x_size x_kinds x_arity x_dKind x_dValue x_behind x_pKind x_pValue x_pBehind x_rKind x_rValue x_pLength x_rLength x_rows x_path x_argument x_cCon x_cFirst x_cSecond x_cSize x_table x_sets x_learnt x_pile x_callRow x_callAt x_callOpen x_bound x_openToken x_lacks x_output x_kSize x_kSet x_kMany x_kList x_counts x_counted x_firstOpen x_openSize x_values := by
  have cc : (nI (c0 + 1)).toNatClampNeg = c0 + 1 := nI_clamp (by omega)
  have vc : vp_in (nI (c0 + 1)) 101 := vp_in_nI hc (by decide)
  unfold wX_work_40
  refine And.intro vc (nm_r (e' := nI R) (by rw [cc]; exact hcr) (And.intro vc (And.intro (vp_in_nI hR (by decide)) ?_)))
  refine br_t (by rw [cc, nI_clamp (by omega), hca, hrl]) (nm_r (nI_pred (c0 + 1)) (br_f (nI_ne0 (by omega) (by omega)) ?_))
  rw [nI_pred, nI_clamp (show c0 < 2 ^ 31 by omega), hco]
  refine And.intro (vp_in_nI (by omega) (by decide)) (pk_le o o0 (fun z => h1 (by omega)) (fun z => ?_))
  obtain ⟨e1, e2, e3⟩ := h2 z
  obtain ⟨q, rfl⟩ : ∃ q, o = q + 1 := ⟨o - 1, by omega⟩
  rw [nI_pred, nI_clamp (by omega)]
  rw [Nat.add_sub_cancel] at e1 e3
  have vq : vp_in (nI q) 1300 := vp_in_nI (by omega) (by decide)
  refine And.intro vq (And.intro vq ?_)
  rw [e1, nI_pred, fg_w8 (by omega)]
  exact nm_e e3
theorem fg_xw_var {post : SX → Prop} {f r u : Nat} {y : Int32} (hc : c0 < 101) (hcr : x_callRow c0 = nI R) (hR : R < 20) (hca : x_callAt c0 = nI p) (hXR : fg_XR g x_pLength x_rLength x_pKind x_pValue x_pBehind x_rKind x_rValue x_path R) (hrl : fg_rl g R ≤ 12) (hp : p < fg_rl g R) (hk : fg_rk g R p = 1) (hu : fg_rv g R p = u) (hu4 : u < 4)
    (hb : x_bound (4 * c0 + u) = y) (hy : vp_nar .short y.toInt16.toInt32 = y) (hh : h < 1300) (hco : x_callOpen c0 = nI o0) (ho : o ≤ 1300) (ho0 : o0 ≤ o)
    (h1 : o = o0 → post (x_cons, x_drafted, x_given, x_cells, x_calls, nI o, nI (h + 1), x_steps, x_outcome, x_culprit, x_size, x_kinds, x_arity, x_dKind, x_dValue, x_behind, x_pKind, x_pValue, x_pBehind, x_rKind, x_rValue, x_pLength, x_rLength, x_rows, x_path, x_argument, x_cCon, x_cFirst, x_cSecond, x_cSize, x_table, x_sets, x_learnt, x_pile, x_callRow, upd x_callAt c0 (nI (p + 1)), x_callOpen, x_bound, x_openToken, x_lacks, x_output, x_kSize, x_kSet, x_kMany, x_kList, x_counts, x_counted, x_firstOpen, x_openSize, upd x_values h y))
    (h2 : o0 < o → x_lacks (o - 1) = nI (lk + 1) ∧ lk < 100 ∧ post (x_cons, x_drafted, x_given, x_cells, x_calls, nI o, nI (h + 1), x_steps, x_outcome, x_culprit, x_size, x_kinds, x_arity, x_dKind, x_dValue, x_behind, x_pKind, x_pValue, x_pBehind, x_rKind, x_rValue, x_pLength, x_rLength, x_rows, x_path, x_argument, x_cCon, x_cFirst, x_cSecond, x_cSize, x_table, x_sets, x_learnt, x_pile, x_callRow, upd x_callAt c0 (nI (p + 1)), x_callOpen, x_bound, x_openToken, upd x_lacks (o - 1) (nI lk), x_output, x_kSize, x_kSet, x_kMany, x_kList, x_counts, x_counted, x_firstOpen, x_openSize, upd x_values h y)) :
    wX_work_40 post (nI c0) x_cons x_drafted x_given x_cells x_calls (nI o) (nI h) x_steps x_outcome x_culprit x_size x_kinds x_arity x_dKind x_dValue x_behind x_pKind x_pValue x_pBehind x_rKind x_rValue x_pLength x_rLength x_rows x_path x_argument x_cCon x_cFirst x_cSecond x_cSize x_table x_sets x_learnt x_pile x_callRow x_callAt x_callOpen x_bound x_openToken x_lacks x_output x_kSize x_kSet x_kMany x_kList x_counts x_counted x_firstOpen x_openSize x_values := by
  have cc : (nI c0).toNatClampNeg = c0 := nI_clamp (by omega)
  have vc : vp_in (nI c0) 101 := vp_in_nI hc (by decide)
  obtain ⟨-, x2, -, x4, -⟩ := hXR
  obtain ⟨k1, k2⟩ := x4 p hp
  have e12 : (12 : Int32) * nI R + nI p = nI (12 * R + p) := by rw [show (12 : Int32) = nI 12 from rfl, fg_mulc, nI_add]
  have v12 : vp_in (nI (12 * R + p)) 240 := vp_in_nI (by omega) (by decide)
  unfold wX_work_40
  refine And.intro vc (nm_r (e' := nI R) (by rw [cc]; exact hcr) (And.intro vc (And.intro (vp_in_nI hR (by decide)) ?_)))
  refine br_f (by rw [cc, nI_clamp (by omega), hca, x2, nI_eq (by omega) (by omega)]; omega) (And.intro vc (And.intro vc ?_))
  rw [cc, hca, nI_1, fg_w8 (by omega)]
  refine nm_e (nm_e ?_)
  rw [e12, nI_clamp (by omega), k1, k2, hk, hu]
  refine And.intro v12 (nm_e (And.intro v12 (nm_e (br_t rfl ?_))))
  rw [show (4 : Int32) * nI c0 + nI u = nI (4 * c0 + u) by rw [show (4 : Int32) = nI 4 from rfl, fg_mulc, nI_add], nI_clamp (by omega), hb]
  refine And.intro (vp_in_nI (by omega) (by decide)) ?_
  have w : wpX_pileUp (fun u => match u with | (x_cons, x_drafted, x_given, x_cells, x_calls, x_opened, x_held, x_steps, x_outcome, x_culprit, x_size, x_kinds, x_arity, x_dKind, x_dValue, x_behind, x_pKind, x_pValue, x_pBehind, x_rKind, x_rValue, x_pLength, x_rLength, x_rows, x_path, x_argument, x_cCon, x_cFirst, x_cSecond, x_cSize, x_table, x_sets, x_learnt, x_pile, x_callRow, x_callAt, x_callOpen, x_bound, x_openToken, x_lacks, x_output, x_kSize, x_kSet, x_kMany, x_kList, x_counts, x_counted, x_firstOpen, x_openSize, x_values) => (vp_in (nI c0) 101 ∧ (((x_opened ≤ (x_callOpen (nI c0).toNatClampNeg) → (post (x_cons, x_drafted, x_given, x_cells, x_calls, x_opened, x_held, x_steps, x_outcome, x_culprit, x_size, x_kinds, x_arity, x_dKind, x_dValue, x_behind, x_pKind, x_pValue, x_pBehind, x_rKind, x_rValue, x_pLength, x_rLength, x_rows, x_path, x_argument, x_cCon, x_cFirst, x_cSecond, x_cSize, x_table, x_sets, x_learnt, x_pile, x_callRow, x_callAt, x_callOpen, x_bound, x_openToken, x_lacks, x_output, x_kSize, x_kSet, x_kMany, x_kList, x_counts, x_counted, x_firstOpen, x_openSize, x_values))) ∧ (¬ x_opened ≤ (x_callOpen (nI c0).toNatClampNeg) → (vp_in (x_opened - 1) 1300 ∧ (vp_in (x_opened - 1) 1300 ∧ ∀ a_lacks : Nat → Int32, a_lacks = upd x_lacks (x_opened - 1).toNatClampNeg (vp_nar .byte (((x_lacks (x_opened - 1).toNatClampNeg) - 1).toInt8.toInt32)) → (post (x_cons, x_drafted, x_given, x_cells, x_calls, x_opened, x_held, x_steps, x_outcome, x_culprit, x_size, x_kinds, x_arity, x_dKind, x_dValue, x_behind, x_pKind, x_pValue, x_pBehind, x_rKind, x_rValue, x_pLength, x_rLength, x_rows, x_path, x_argument, x_cCon, x_cFirst, x_cSecond, x_cSize, x_table, x_sets, x_learnt, x_pile, x_callRow, x_callAt, x_callOpen, x_bound, x_openToken, a_lacks, x_output, x_kSize, x_kSet, x_kMany, x_kList, x_counts, x_counted, x_firstOpen, x_openSize, x_values))))))))) (x_cons, x_drafted, x_given, x_cells, x_calls, nI o, nI h, x_steps, x_outcome, x_culprit, x_size, x_kinds, x_arity, x_dKind, x_dValue, x_behind, x_pKind, x_pValue, x_pBehind, x_rKind, x_rValue, x_pLength, x_rLength, x_rows, x_path, x_argument, x_cCon, x_cFirst, x_cSecond, x_cSize, x_table, x_sets, x_learnt, x_pile, x_callRow, upd x_callAt c0 (nI (p + 1)), x_callOpen, x_bound, x_openToken, x_lacks, x_output, x_kSize, x_kSet, x_kMany, x_kList, x_counts, x_counted, x_firstOpen, x_openSize, x_values) y := fg_xpush hh hy hc hco ho ho0 h1 h2
  rw [cc] at w
  exact w
theorem fg_xw_op {post : SX → Prop} (hc : c0 < 101) (hcr : x_callRow c0 = nI R) (hR : R < 20) (hca : x_callAt c0 = nI p) (har : ∀ c, x_arity c = nI (fg_ar g c)) (ha2 : ∀ c, fg_ar g c ≤ 2) (hXR : fg_XR g x_pLength x_rLength x_pKind x_pValue x_pBehind x_rKind x_rValue x_path R) (hrl : fg_rl g R ≤ 12) (hp : p < fg_rl g R) (hk : fg_rk g R p = 2 ∨ fg_rk g R p = 5) (hu : fg_rv g R p < 6)
    (ho : o < 1300) (h1 : post (x_cons, x_drafted, x_given, x_cells, x_calls, nI (o + 1), x_held, x_steps, x_outcome, x_culprit, x_size, x_kinds, x_arity, x_dKind, x_dValue, x_behind, x_pKind, x_pValue, x_pBehind, x_rKind, x_rValue, x_pLength, x_rLength, x_rows, x_path, x_argument, x_cCon, x_cFirst, x_cSecond, x_cSize, x_table, x_sets, x_learnt, x_pile, x_callRow, upd x_callAt c0 (nI (p + 1)), x_callOpen, x_bound, upd x_openToken o (nI p), upd x_lacks o (nI (fg_ro g R p)), x_output, x_kSize, x_kSet, x_kMany, x_kList, x_counts, x_counted, x_firstOpen, x_openSize, x_values)) :
    wX_work_40 post (nI c0) x_cons x_drafted x_given x_cells x_calls (nI o) x_held x_steps x_outcome x_culprit x_size x_kinds x_arity x_dKind x_dValue x_behind x_pKind x_pValue x_pBehind x_rKind x_rValue x_pLength x_rLength x_rows x_path x_argument x_cCon x_cFirst x_cSecond x_cSize x_table x_sets x_learnt x_pile x_callRow x_callAt x_callOpen x_bound x_openToken x_lacks x_output x_kSize x_kSet x_kMany x_kList x_counts x_counted x_firstOpen x_openSize x_values := by
  have cc : (nI c0).toNatClampNeg = c0 := nI_clamp (by omega)
  have vc : vp_in (nI c0) 101 := vp_in_nI hc (by decide)
  have vo : vp_in (nI o) 1300 := vp_in_nI ho (by decide)
  obtain ⟨-, x2, -, x4, -⟩ := hXR
  obtain ⟨k1, k2⟩ := x4 p hp
  have e12 : (12 : Int32) * nI R + nI p = nI (12 * R + p) := by rw [show (12 : Int32) = nI 12 from rfl, fg_mulc, nI_add]
  have v12 : vp_in (nI (12 * R + p)) 240 := vp_in_nI (by omega) (by decide)
  have hop : fg_ro g R p ≤ 2 := fg_op_le ha2
  unfold wX_work_40
  refine And.intro vc (nm_r (e' := nI R) (by rw [cc]; exact hcr) (And.intro vc (And.intro (vp_in_nI hR (by decide)) ?_)))
  refine br_f (by rw [cc, nI_clamp (by omega), hca, x2, nI_eq (by omega) (by omega)]; omega) (And.intro vc (And.intro vc ?_))
  rw [cc, hca, nI_1, fg_w8 (by omega)]
  refine nm_e (nm_e ?_)
  rw [e12, nI_clamp (by omega), k1, k2]
  refine And.intro v12 (nm_e (And.intro v12 (nm_e (br_f (by rw [show (1 : Int32) = nI 1 from rfl, nI_eq (by omega) (by decide)]; omega) (And.intro vo ?_)))))
  rw [nI_clamp (by omega), fg_w8 (by omega)]
  refine nm_e (nm_r (nI_1 o) ?_)
  refine fg_xop (kf := fg_rk g R) (vf := fg_rv g R) (i := p) har (by omega) rfl (fun _ => ⟨rfl, hu⟩) (And.intro vo ?_)
  rw [show fg_op (fg_ar g) (fg_rk g R) (fg_rv g R) p = fg_ro g R p from rfl, fg_w8 (by omega)]
  exact nm_e h1
/-- an operator is closed: a call, or a constructor with its values A and B off the pile -/
theorem fg_xclose {post : SX → Prop} {tk : Nat} (hc : c0 < 101) (hcr : x_callRow c0 = nI R) (hR : R < 20) (hXR : fg_XR g x_pLength x_rLength x_pKind x_pValue x_pBehind x_rKind x_rValue x_path R) (har : ∀ c, x_arity c = nI (fg_ar g c)) (hrl : fg_rl g R ≤ 12) (htk : tk < fg_rl g R) (hot : x_openToken o = nI tk) (ho : o < 1300)
    (hv6 : fg_rk g R tk = 2 → fg_rv g R tk < 6)
    (hcall : fg_rk g R tk = 5 → wpX_call post (x_cons, x_drafted, x_given, x_cells, x_calls, nI o, nI h, x_steps, x_outcome, x_culprit, x_size, x_kinds, x_arity, x_dKind, x_dValue, x_behind, x_pKind, x_pValue, x_pBehind, x_rKind, x_rValue, x_pLength, x_rLength, x_rows, x_path, x_argument, x_cCon, x_cFirst, x_cSecond, x_cSize, x_table, x_sets, x_learnt, x_pile, x_callRow, x_callAt, x_callOpen, x_bound, x_openToken, x_lacks, x_output, x_kSize, x_kSet, x_kMany, x_kList, x_counts, x_counted, x_firstOpen, x_openSize, x_values) (nI (fg_rv g R tk)))
    (hk : fg_rk g R tk = 5 ∨ fg_rk g R tk = 2)
    (h0 : fg_rk g R tk = 2 → fg_ar g (fg_rv g R tk) = 0 → wX_close_117 post (nI c0) (nI R) (nI (fg_rv g R tk)) (-1) (-1) x_cons x_drafted x_given x_cells x_calls (nI o) (nI h) x_steps x_outcome x_culprit x_size x_kinds x_arity x_dKind x_dValue x_behind x_pKind x_pValue x_pBehind x_rKind x_rValue x_pLength x_rLength x_rows x_path x_argument x_cCon x_cFirst x_cSecond x_cSize x_table x_sets x_learnt x_pile x_callRow x_callAt x_callOpen x_bound x_openToken x_lacks x_output x_kSize x_kSet x_kMany x_kList x_counts x_counted x_firstOpen x_openSize x_values)
    (h1 : fg_rk g R tk = 2 → fg_ar g (fg_rv g R tk) = 1 → 1 ≤ h ∧ h ≤ 1300 ∧ wX_close_117 post (nI c0) (nI R) (nI (fg_rv g R tk)) (-1) (x_values (h - 1)) x_cons x_drafted x_given x_cells x_calls (nI o) (nI (h - 1)) x_steps x_outcome x_culprit x_size x_kinds x_arity x_dKind x_dValue x_behind x_pKind x_pValue x_pBehind x_rKind x_rValue x_pLength x_rLength x_rows x_path x_argument x_cCon x_cFirst x_cSecond x_cSize x_table x_sets x_learnt x_pile x_callRow x_callAt x_callOpen x_bound x_openToken x_lacks x_output x_kSize x_kSet x_kMany x_kList x_counts x_counted x_firstOpen x_openSize x_values)
    (h2 : fg_rk g R tk = 2 → fg_ar g (fg_rv g R tk) = 2 → 2 ≤ h ∧ h ≤ 1300 ∧ wX_close_117 post (nI c0) (nI R) (nI (fg_rv g R tk)) (x_values (h - 1)) (x_values (h - 2)) x_cons x_drafted x_given x_cells x_calls (nI o) (nI (h - 2)) x_steps x_outcome x_culprit x_size x_kinds x_arity x_dKind x_dValue x_behind x_pKind x_pValue x_pBehind x_rKind x_rValue x_pLength x_rLength x_rows x_path x_argument x_cCon x_cFirst x_cSecond x_cSize x_table x_sets x_learnt x_pile x_callRow x_callAt x_callOpen x_bound x_openToken x_lacks x_output x_kSize x_kSet x_kMany x_kList x_counts x_counted x_firstOpen x_openSize x_values) (ha2 : ∀ c, fg_ar g c ≤ 2) :
    wpX_close post (x_cons, x_drafted, x_given, x_cells, x_calls, nI (o + 1), nI h, x_steps, x_outcome, x_culprit, x_size, x_kinds, x_arity, x_dKind, x_dValue, x_behind, x_pKind, x_pValue, x_pBehind, x_rKind, x_rValue, x_pLength, x_rLength, x_rows, x_path, x_argument, x_cCon, x_cFirst, x_cSecond, x_cSize, x_table, x_sets, x_learnt, x_pile, x_callRow, x_callAt, x_callOpen, x_bound, x_openToken, x_lacks, x_output, x_kSize, x_kSet, x_kMany, x_kList, x_counts, x_counted, x_firstOpen, x_openSize, x_values) (nI c0) := by
  have cc : (nI c0).toNatClampNeg = c0 := nI_clamp (by omega)
  obtain ⟨-, -, -, x4, -⟩ := hXR
  obtain ⟨k1, k2⟩ := x4 tk htk
  have e12 : (12 : Int32) * nI R + nI tk = nI (12 * R + tk) := by rw [show (12 : Int32) = nI 12 from rfl, fg_mulc, nI_add]
  have v12 : vp_in (nI (12 * R + tk)) 240 := vp_in_nI (by omega) (by decide)
  refine And.intro (vp_in_nI hc (by decide)) (nm_r (e' := nI R) (by rw [cc]; exact hcr) (nm_r (nI_pred o) ?_))
  rw [nI_pred]
  refine And.intro (vp_in_nI ho (by decide)) (nm_r (e' := nI (12 * R + tk)) (by rw [nI_clamp (by omega), hot, e12]) (And.intro v12 ?_))
  rw [nI_clamp (by omega), k1, k2]
  refine nm_e (And.intro v12 ?_)
  rcases hk with hk | hk
  · exact br_t (by rw [hk]; rfl) (hcall hk)
  · have h6 := hv6 hk
    have v6 : vp_in (nI (fg_rv g R tk)) 6 := vp_in_nI h6 (by decide)
    have c6 : x_arity (nI (fg_rv g R tk)).toNatClampNeg = nI (fg_ar g (fg_rv g R tk)) := by rw [nI_clamp (by omega)]; exact har _
    have a2 := ha2 (fg_rv g R tk)
    refine br_f (by rw [hk]; decide) (And.intro v6 ?_)
    rw [c6]
    rcases (show fg_ar g (fg_rv g R tk) = 0 ∨ fg_ar g (fg_rv g R tk) = 1 ∨ fg_ar g (fg_rv g R tk) = 2 by omega) with z | z | z
    · refine br_t (by rw [z]; decide) ?_
      unfold wX_close_85
      refine And.intro v6 ?_
      rw [c6]
      exact br_t (by rw [z]; decide) (h0 hk z)
    · obtain ⟨q1, q2, q3⟩ := h1 hk z
      obtain ⟨m, rfl⟩ : ∃ m, h = m + 1 := ⟨h - 1, by omega⟩
      rw [Nat.add_sub_cancel] at q3
      refine br_t (by rw [z]; decide) ?_
      unfold wX_close_85
      refine And.intro v6 ?_
      rw [c6]
      refine br_f (by rw [z]; decide) (nm_r (nI_pred m) ?_)
      rw [nI_pred, nI_clamp (by omega)]
      exact And.intro (vp_in_nI (by omega) (by decide)) q3
    · obtain ⟨q1, q2, q3⟩ := h2 hk z
      obtain ⟨m, rfl⟩ : ∃ m, h = m + 2 := ⟨h - 2, by omega⟩
      rw [Nat.add_sub_cancel, show m + 2 - 1 = m + 1 by omega] at q3
      refine br_f (by rw [z]; decide) (nm_r (nI_pred (m + 1)) ?_)
      rw [show nI (m + 2) - 1 = nI (m + 1) from nI_pred (m + 1), nI_clamp (by omega)]
      refine And.intro (vp_in_nI (by omega) (by decide)) ?_
      unfold wX_close_85
      refine And.intro v6 ?_
      rw [c6]
      refine br_f (by rw [z]; decide) (nm_r (nI_pred m) ?_)
      rw [nI_pred, nI_clamp (by omega)]
      exact And.intro (vp_in_nI (by omega) (by decide)) q3
end
end
section
/-! the list of a value: X write, Y spell -/
section
variable {x_cons x_drafted x_given x_cells x_calls x_opened x_held x_steps x_outcome x_culprit x_size x_kinds : Int32} {x_arity x_dKind x_dValue x_behind x_pKind x_pValue x_pBehind x_rKind x_rValue x_pLength x_rLength x_rows x_path x_argument x_cCon x_cFirst x_cSecond x_cSize x_table x_learnt x_pile x_callRow x_callAt x_callOpen x_bound x_openToken x_lacks x_output x_kSize x_counted x_openSize x_values : Nat → Int32} {x_sets x_kSet x_kMany x_kList x_counts x_firstOpen : Nat → Int64}
variable {g : fg_C} {N : Nat} {T : Nat → fg_T}
theorem fg_xwr_t {post : SX → Prop} (hCe : fg_Ce g x_cCon x_cFirst x_cSecond x_cSize N T) (hN : N ≤ 1300) (h6 : fg_nc g ≤ 6) :
    ∀ (t : fg_T) (base top k x : Nat) (pile out : Nat → Int32), t ≠ fg_nil → x < N → T x = t → pile top = nI x → base + fg_sz t ≤ 40 → top + fg_sz t ≤ 1300 →
      (∀ pile' out' : Nat → Int32, (∀ j, j < top → pile' j = pile j) → (∀ j, j < base → out' j = out j) → (∀ i, i < fg_sz t → out' (base + i) = nI (fg_dg t i)) → ∀ m, k ≤ m → wX_write_10 post x_cons x_drafted x_given x_cells x_calls x_opened x_held x_steps x_outcome x_culprit x_kinds m (nI top) (nI (base + fg_sz t)) x_arity x_dKind x_dValue x_behind x_pKind x_pValue x_pBehind x_rKind x_rValue x_pLength x_rLength x_rows x_path x_argument x_cCon x_cFirst x_cSecond x_cSize x_table x_sets x_learnt pile' x_callRow x_callAt x_callOpen x_bound x_openToken x_lacks out' x_kSize x_kSet x_kMany x_kList x_counts x_counted x_firstOpen x_openSize x_values) →
      ∀ m, k + fg_sz t ≤ m → wX_write_10 post x_cons x_drafted x_given x_cells x_calls x_opened x_held x_steps x_outcome x_culprit x_kinds m (nI (top + 1)) (nI base) x_arity x_dKind x_dValue x_behind x_pKind x_pValue x_pBehind x_rKind x_rValue x_pLength x_rLength x_rows x_path x_argument x_cCon x_cFirst x_cSecond x_cSize x_table x_sets x_learnt pile x_callRow x_callAt x_callOpen x_bound x_openToken x_lacks out x_kSize x_kSet x_kMany x_kList x_counts x_counted x_firstOpen x_openSize x_values := by
  intro t
  induction t with
  | leaf u => intro base top k x pile out h; exact absurd rfl h
  | branch c a b iha ihb =>
    intro base top k x pile out _ hx hT hpl hb40 htop hK m hm
    have hs : fg_sz (.branch c a b : fg_T) = 1 + fg_sz a + fg_sz b := rfl
    obtain ⟨m, rfl⟩ : ∃ q, m = q + 1 := ⟨m - 1, by omega⟩
    obtain ⟨c1, c2, c3, c4, c5, c6, -⟩ := hCe x hx
    rw [hT] at c2 c4 c5 c6
    have hc6 : c < 6 := Nat.lt_of_lt_of_le c2.1 h6
    have vx : vp_in (nI x) 1300 := vp_in_nI (by omega) (by decide)
    have cx : (nI x).toNatClampNeg = x := nI_clamp (by omega)
    have d0 : fg_dg (.branch c a b) 0 = c := rfl
    have dL : ∀ i, i < fg_sz a → fg_dg (.branch c a b) (i + 1) = fg_dg a i := fun i hi => by unfold fg_dg; rw [fg_subL hi]
    have dR : ∀ i, fg_dg (.branch c a b) (fg_sz a + i + 1) = fg_dg b i := fun i => by unfold fg_dg; rw [fg_subR (by omega), Nat.add_sub_cancel_left]
    refine br_f (nI_nle (by omega) (by omega)) (nm_r (pk_m1 top) (And.intro (vp_in_nI (by omega) (by decide)) ?_))
    refine nm_r (e' := nI x) (by rw [nI_clamp (by omega)]; exact hpl) (nm_r (nI_1 base) (And.intro vx (And.intro (vp_in_nI (by omega) (by decide)) ?_)))
    rw [cx, nI_clamp (by omega), c4, show fg_hd (.branch c a b : fg_T) = c from rfl, fg_v8 (by omega)]
    refine nm_e (And.intro vx ?_)
    -- the first value, then what is left
    have w70 : ∀ (s k' : Nat) (pl : Nat → Int32), s ≤ top + 1 → s + fg_sz a ≤ 1300 → (∀ pile' out' : Nat → Int32, (∀ j, j < s → pile' j = pl j) → (∀ j, j < base → out' j = out j) → out' base = nI c → (∀ i, i < fg_sz a → out' (base + 1 + i) = nI (fg_dg a i)) → ∀ m, k' ≤ m → wX_write_10 post x_cons x_drafted x_given x_cells x_calls x_opened x_held x_steps x_outcome x_culprit x_kinds m (nI s) (nI (base + 1 + fg_sz a)) x_arity x_dKind x_dValue x_behind x_pKind x_pValue x_pBehind x_rKind x_rValue x_pLength x_rLength x_rows x_path x_argument x_cCon x_cFirst x_cSecond x_cSize x_table x_sets x_learnt pile' x_callRow x_callAt x_callOpen x_bound x_openToken x_lacks out' x_kSize x_kSet x_kMany x_kList x_counts x_counted x_firstOpen x_openSize x_values) → k' + fg_sz a ≤ m →
        wX_write_70 post (wX_write_10 post x_cons x_drafted x_given x_cells x_calls x_opened x_held x_steps x_outcome x_culprit x_kinds m) (nI s) (nI x) x_cons x_drafted x_given x_cells x_calls x_opened x_held x_steps x_outcome x_culprit (nI (base + 1)) x_kinds x_arity x_dKind x_dValue x_behind x_pKind x_pValue x_pBehind x_rKind x_rValue x_pLength x_rLength x_rows x_path x_argument x_cCon x_cFirst x_cSecond x_cSize x_table x_sets x_learnt pl x_callRow x_callAt x_callOpen x_bound x_openToken x_lacks (upd out base (nI c)) x_kSize x_kSet x_kMany x_kList x_counts x_counted x_firstOpen x_openSize x_values := by
      intro s k' pl hs1 hs2 hk1 hk2
      unfold wX_write_70
      rw [cx]
      refine And.intro vx ?_
      have o1 : ∀ j, j < base → upd out base (nI c) j = out j := fun j hj => pk_un (by omega)
      rcases c5 with ⟨q1, q2⟩ | ⟨j, j1, j2, j3⟩
      · have q2' : a = fg_nil := q2
        refine br_t (by rw [q1]; exact fg_m1neg) ?_
        have := hk1 pl (upd out base (nI c)) (fun _ _ => rfl) o1 pk_us (fun i hi => by rw [q2'] at hi; exact absurd hi (Nat.not_lt_zero _)) m (by omega)
        rw [q2', show fg_sz fg_nil = 0 from rfl, Nat.add_zero] at this
        exact this
      · have j3' : T j = a := j3
        have ha : a ≠ fg_nil := by rw [← j3']; exact (hCe j (by omega)).1
        refine br_f (by rw [j2]; exact nI_pos (by omega)) (nm_r (nI_1 s) (And.intro vx (And.intro (vp_in_nI (by have := fg_szp ha; omega) (by decide)) ?_)))
        rw [nI_clamp (by have := fg_szp ha; omega), j2, fg_v16 (by omega)]
        refine nm_e (iha (base + 1) s k' j (upd pl s (nI j)) (upd out base (nI c)) ha (by omega) j3' pk_us (by omega) hs2 (fun pile' out' e1 e2 e3 => ?_) m hk2)
        exact hk1 pile' out' (fun i hi => by rw [e1 i hi, pk_un (by omega)]) (fun i hi => by rw [e2 i (by omega)]; exact o1 i hi) (by rw [e2 base (by omega), pk_us]) e3
    rcases c6 with ⟨q1, q2⟩ | ⟨j, j1, j2, j3⟩
    · have q2' : b = fg_nil := q2
      have sb : fg_sz b = 0 := fg_sz0.mpr q2'
      refine br_t (by rw [q1]; exact fg_m1neg) (w70 top k pile (by omega) (by omega) (fun pile' out' e1 e2 e3 e4 m' hm' => ?_) (by omega))
      have := hK pile' out' e1 e2 (fun i hi => ?_) m' hm'
      · rw [hs, sb] at this
        rw [show base + 1 + fg_sz a = base + (1 + fg_sz a + 0) by omega]
        exact this
      · cases i with
        | zero => exact e3
        | succ i =>
          rw [dL i (by omega), show base + (i + 1) = base + 1 + i by omega]
          exact e4 i (by omega)
    · have j3' : T j = b := j3
      have hb : b ≠ fg_nil := by rw [← j3']; exact (hCe j (by omega)).1
      have hbp := fg_szp hb
      refine br_f (by rw [j2]; exact nI_pos (by omega)) (nm_r (nI_1 top) (And.intro vx (And.intro (vp_in_nI (by omega) (by decide)) ?_)))
      rw [nI_clamp (by omega), j2, fg_v16 (by omega)]
      refine nm_e (w70 (top + 1) (k + fg_sz b) (upd pile top (nI j)) (by omega) (by omega) (fun pile' out' e1 e2 e3 e4 m' hm' => ?_) (by omega))
      refine ihb (base + 1 + fg_sz a) top k j pile' out' hb (by omega) j3' (by rw [e1 top (by omega), pk_us]) (by omega) (by omega) (fun pile2 out2 f1 f2 f3 m2 hm2 => ?_) m' hm'
      have := hK pile2 out2 (fun i hi => by rw [f1 i hi, e1 i (by omega), pk_un (by omega)]) (fun i hi => by rw [f2 i (by omega)]; exact e2 i hi) (fun i hi => ?_) m2 hm2
      · rw [hs] at this
        rw [show base + 1 + fg_sz a + fg_sz b = base + (1 + fg_sz a + fg_sz b) by omega]
        exact this
      · cases i with
        | zero => rw [Nat.add_zero, f2 base (by omega)]; exact e3
        | succ i =>
          rcases Nat.lt_or_ge i (fg_sz a) with z | z
          · rw [dL i z, show base + (i + 1) = base + 1 + i by omega, f2 _ (by omega)]
            exact e4 i z
          · obtain ⟨q, rfl⟩ : ∃ q, i = fg_sz a + q := ⟨i - fg_sz a, by omega⟩
            rw [dR q, show base + (fg_sz a + q + 1) = base + 1 + fg_sz a + q by omega]
            exact f3 q (by omega)
theorem fg_xwrite {post : SX → Prop} {x : Nat} {t : fg_T} (hCe : fg_Ce g x_cCon x_cFirst x_cSecond x_cSize N T) (hN : N ≤ 1300) (h6 : fg_nc g ≤ 6) (hx : x < N) (hT : T x = t)
    (hp : ∀ pile out : Nat → Int32, fg_at out 0 (fg_fl t) → post (x_cons, x_drafted, x_given, x_cells, x_calls, x_opened, x_held, x_steps, x_outcome, x_culprit, nI (fg_sz t), x_kinds, x_arity, x_dKind, x_dValue, x_behind, x_pKind, x_pValue, x_pBehind, x_rKind, x_rValue, x_pLength, x_rLength, x_rows, x_path, x_argument, x_cCon, x_cFirst, x_cSecond, x_cSize, x_table, x_sets, x_learnt, pile, x_callRow, x_callAt, x_callOpen, x_bound, x_openToken, x_lacks, out, x_kSize, x_kSet, x_kMany, x_kList, x_counts, x_counted, x_firstOpen, x_openSize, x_values)) : wpX_write post (x_cons, x_drafted, x_given, x_cells, x_calls, x_opened, x_held, x_steps, x_outcome, x_culprit, 0, x_kinds, x_arity, x_dKind, x_dValue, x_behind, x_pKind, x_pValue, x_pBehind, x_rKind, x_rValue, x_pLength, x_rLength, x_rows, x_path, x_argument, x_cCon, x_cFirst, x_cSecond, x_cSize, x_table, x_sets, x_learnt, x_pile, x_callRow, x_callAt, x_callOpen, x_bound, x_openToken, x_lacks, x_output, x_kSize, x_kSet, x_kMany, x_kList, x_counts, x_counted, x_firstOpen, x_openSize, x_values) (nI x) := by
  have h40 := (hCe x hx).2.2.1
  have hn := (hCe x hx).1
  rw [hT] at h40 hn
  refine nm_r (e' := upd x_pile 0 (nI x)) (by rw [fg_w16 (by omega)]) ⟨1 + fg_sz t, ?_⟩
  refine fg_xwr_t hCe hN h6 t 0 0 1 x (upd x_pile 0 (nI x)) x_output hn hx hT pk_us (by omega) (by omega) (fun pile' out' e1 e2 e3 m hm => ?_) _ (Nat.le_refl _)
  obtain ⟨m, rfl⟩ : ∃ q, m = q + 1 := ⟨m - 1, by omega⟩
  refine br_t (by decide) ?_
  rw [Nat.zero_add]
  exact hp pile' out' (fg_at_of (fun p hp => by have := e3 p hp; rw [Nat.zero_add] at this; exact this))
end
section
variable {y_cons y_drafted y_nodes y_length y_argumentLength y_givenLength y_steps y_blamed y_how y_ran y_working : Int32} {y_arity y_draftKind y_draftWith y_kind y_with y_patternLength y_resultLength y_rows y_head y_left y_right y_size y_list y_stack y_starts y_argument y_given y_fits y_ends y_places y_bound y_workKind y_workWith y_owner y_counts y_openSize y_open y_known : Nat → Int32}
variable {g : fg_C} {N : Nat} {T : Nat → fg_T}
theorem fg_ysp_t {post : SY → Prop} (hCe : fg_Ce g y_head y_left y_right y_size N T) (hN : N ≤ 1300) :
    ∀ (t : fg_T) (base top k x : Nat) (stk out sta : Nat → Int32), t ≠ fg_nil → x < N → T x = t → stk top = nI x → base + fg_sz t ≤ 40 → top + fg_sz t ≤ 60 →
      (∀ stk' out' sta' : Nat → Int32, (∀ j, j < top → stk' j = stk j) → (∀ j, j < base → out' j = out j ∧ sta' j = sta j) → (∀ i, i < fg_sz t → out' (base + i) = nI (fg_dg t i) ∧ fg_pt T N (sta' (base + i)) (fg_sub t i)) → ∀ m, k ≤ m → wY_spell_17 post y_cons y_drafted y_nodes y_argumentLength y_givenLength y_steps y_blamed y_how y_ran y_working m (nI top) (nI (base + fg_sz t)) y_arity y_draftKind y_draftWith y_kind y_with y_patternLength y_resultLength y_rows y_head y_left y_right y_size out' stk' sta' y_argument y_given y_fits y_ends y_places y_bound y_workKind y_workWith y_owner y_counts y_openSize y_open y_known) →
      ∀ m, k + fg_sz t ≤ m → wY_spell_17 post y_cons y_drafted y_nodes y_argumentLength y_givenLength y_steps y_blamed y_how y_ran y_working m (nI (top + 1)) (nI base) y_arity y_draftKind y_draftWith y_kind y_with y_patternLength y_resultLength y_rows y_head y_left y_right y_size out stk sta y_argument y_given y_fits y_ends y_places y_bound y_workKind y_workWith y_owner y_counts y_openSize y_open y_known := by
  intro t
  induction t with
  | leaf u => intro base top k x stk out sta h; exact absurd rfl h
  | branch c a b iha ihb =>
    intro base top k x stk out sta _ hx hT hpl hb40 htop hK m hm
    have hs : fg_sz (.branch c a b : fg_T) = 1 + fg_sz a + fg_sz b := rfl
    obtain ⟨m, rfl⟩ : ∃ q, m = q + 1 := ⟨m - 1, by omega⟩
    obtain ⟨c1, c2, c3, c4, c5, c6, -⟩ := hCe x hx
    rw [hT] at c2 c4 c5 c6
    have vx : vp_in (nI x) 1300 := vp_in_nI (by omega) (by decide)
    have cx : (nI x).toNatClampNeg = x := nI_clamp (by omega)
    have d0 : fg_dg (.branch c a b) 0 = c := rfl
    have dL : ∀ i, i < fg_sz a → fg_dg (.branch c a b) (i + 1) = fg_dg a i ∧ fg_sub (.branch c a b) (i + 1) = fg_sub a i := fun i hi => by unfold fg_dg; rw [fg_subL hi]; exact ⟨rfl, rfl⟩
    have dR : ∀ i, fg_dg (.branch c a b) (fg_sz a + i + 1) = fg_dg b i ∧ fg_sub (.branch c a b) (fg_sz a + i + 1) = fg_sub b i := fun i => by unfold fg_dg; rw [fg_subR (by omega), Nat.add_sub_cancel_left]; exact ⟨rfl, rfl⟩
    refine br_f (nI_nle (by omega) (by omega)) (nm_r (pk_m1 top) (And.intro (vp_in_nI (by omega) (by decide)) ?_))
    refine nm_r (e' := nI x) (by rw [nI_clamp (by omega)]; exact hpl) (And.intro (vp_in_nI (by omega) (by decide)) ?_)
    rw [nI_clamp (show base < 2 ^ 31 by omega)]
    refine nm_e (nm_r (nI_1 base) (And.intro vx (And.intro (vp_in_nI (by omega) (by decide)) ?_)))
    rw [cx, c4, show fg_hd (.branch c a b : fg_T) = c from rfl]
    refine nm_e (And.intro vx ?_)
    have w87 : ∀ (s k' : Nat) (pl : Nat → Int32), s ≤ top + 1 → s + fg_sz a ≤ 60 → (∀ stk' out' sta' : Nat → Int32, (∀ j, j < s → stk' j = pl j) → (∀ j, j < base → out' j = out j ∧ sta' j = sta j) → out' base = nI c → sta' base = nI x → (∀ i, i < fg_sz a → out' (base + 1 + i) = nI (fg_dg a i) ∧ fg_pt T N (sta' (base + 1 + i)) (fg_sub a i)) → ∀ m, k' ≤ m → wY_spell_17 post y_cons y_drafted y_nodes y_argumentLength y_givenLength y_steps y_blamed y_how y_ran y_working m (nI s) (nI (base + 1 + fg_sz a)) y_arity y_draftKind y_draftWith y_kind y_with y_patternLength y_resultLength y_rows y_head y_left y_right y_size out' stk' sta' y_argument y_given y_fits y_ends y_places y_bound y_workKind y_workWith y_owner y_counts y_openSize y_open y_known) → k' + fg_sz a ≤ m →
        wY_spell_87 post (wY_spell_17 post y_cons y_drafted y_nodes y_argumentLength y_givenLength y_steps y_blamed y_how y_ran y_working m) (nI s) (nI x) y_cons y_drafted y_nodes (nI (base + 1)) y_argumentLength y_givenLength y_steps y_blamed y_how y_ran y_working y_arity y_draftKind y_draftWith y_kind y_with y_patternLength y_resultLength y_rows y_head y_left y_right y_size (upd out base (nI c)) pl (upd sta base (nI x)) y_argument y_given y_fits y_ends y_places y_bound y_workKind y_workWith y_owner y_counts y_openSize y_open y_known := by
      intro s k' pl hs1 hs2 hk1 hk2
      unfold wY_spell_87
      rw [cx]
      refine And.intro vx ?_
      have o1 : ∀ j, j < base → upd out base (nI c) j = out j ∧ upd sta base (nI x) j = sta j := fun j hj => ⟨pk_un (by omega), pk_un (by omega)⟩
      rcases c5 with ⟨q1, q2⟩ | ⟨j, j1, j2, j3⟩
      · have q2' : a = fg_nil := q2
        refine br_t (by rw [q1]; exact fg_m1neg) ?_
        have := hk1 pl (upd out base (nI c)) (upd sta base (nI x)) (fun _ _ => rfl) o1 pk_us pk_us (fun i hi => by rw [q2'] at hi; exact absurd hi (Nat.not_lt_zero _)) m (by omega)
        rw [q2', show fg_sz fg_nil = 0 from rfl, Nat.add_zero] at this
        exact this
      · have j3' : T j = a := j3
        have ha : a ≠ fg_nil := by rw [← j3']; exact (hCe j (by omega)).1
        refine br_f (by rw [j2]; exact nI_pos (by omega)) (nm_r (nI_1 s) (And.intro vx (And.intro (vp_in_nI (by have := fg_szp ha; omega) (by decide)) ?_)))
        rw [nI_clamp (by have := fg_szp ha; omega), j2]
        refine nm_e (iha (base + 1) s k' j (upd pl s (nI j)) (upd out base (nI c)) (upd sta base (nI x)) ha (by omega) j3' pk_us (by omega) hs2 (fun stk' out' sta' e1 e2 e3 => ?_) m hk2)
        exact hk1 stk' out' sta' (fun i hi => by rw [e1 i hi, pk_un (by omega)]) (fun i hi => ⟨by rw [(e2 i (by omega)).1]; exact (o1 i hi).1, by rw [(e2 i (by omega)).2]; exact (o1 i hi).2⟩) (by rw [(e2 base (by omega)).1, pk_us]) (by rw [(e2 base (by omega)).2, pk_us]) e3
    have h0 : fg_pt T N (nI x) (fg_sub (.branch c a b) 0) := Or.inr ⟨x, hx, rfl, by rw [fg_sub0]; exact hT⟩
    rcases c6 with ⟨q1, q2⟩ | ⟨j, j1, j2, j3⟩
    · have q2' : b = fg_nil := q2
      have sb : fg_sz b = 0 := fg_sz0.mpr q2'
      refine br_t (by rw [q1]; exact fg_m1neg) (w87 top k stk (by omega) (by omega) (fun stk' out' sta' e1 e2 e3 e3' e4 m' hm' => ?_) (by omega))
      have := hK stk' out' sta' e1 e2 (fun i hi => ?_) m' hm'
      · rw [hs, sb] at this
        rw [show base + 1 + fg_sz a = base + (1 + fg_sz a + 0) by omega]
        exact this
      · cases i with
        | zero => exact ⟨e3, by rw [Nat.add_zero, e3']; exact h0⟩
        | succ i =>
          rw [(dL i (by omega)).1, (dL i (by omega)).2, show base + (i + 1) = base + 1 + i by omega]
          exact e4 i (by omega)
    · have j3' : T j = b := j3
      have hb : b ≠ fg_nil := by rw [← j3']; exact (hCe j (by omega)).1
      have hbp := fg_szp hb
      refine br_f (by rw [j2]; exact nI_pos (by omega)) (nm_r (nI_1 top) (And.intro vx (And.intro (vp_in_nI (by omega) (by decide)) ?_)))
      rw [nI_clamp (by omega), j2]
      refine nm_e (w87 (top + 1) (k + fg_sz b) (upd stk top (nI j)) (by omega) (by omega) (fun stk' out' sta' e1 e2 e3 e3' e4 m' hm' => ?_) (by omega))
      refine ihb (base + 1 + fg_sz a) top k j stk' out' sta' hb (by omega) j3' (by rw [e1 top (by omega), pk_us]) (by omega) (by omega) (fun stk2 out2 sta2 f1 f2 f3 m2 hm2 => ?_) m' hm'
      have := hK stk2 out2 sta2 (fun i hi => by rw [f1 i hi, e1 i (by omega), pk_un (by omega)]) (fun i hi => ⟨by rw [(f2 i (by omega)).1]; exact (e2 i hi).1, by rw [(f2 i (by omega)).2]; exact (e2 i hi).2⟩) (fun i hi => ?_) m2 hm2
      · rw [hs] at this
        rw [show base + 1 + fg_sz a + fg_sz b = base + (1 + fg_sz a + fg_sz b) by omega]
        exact this
      · cases i with
        | zero => exact ⟨by rw [Nat.add_zero, (f2 base (by omega)).1]; exact e3, by rw [Nat.add_zero, (f2 base (by omega)).2, e3']; exact h0⟩
        | succ i =>
          rcases Nat.lt_or_ge i (fg_sz a) with z | z
          · rw [(dL i z).1, (dL i z).2, show base + (i + 1) = base + 1 + i by omega, (f2 _ (by omega)).1, (f2 _ (by omega)).2]
            exact e4 i z
          · obtain ⟨q, rfl⟩ : ∃ q, i = fg_sz a + q := ⟨i - fg_sz a, by omega⟩
            rw [(dR q).1, (dR q).2, show base + (fg_sz a + q + 1) = base + 1 + fg_sz a + q by omega]
            exact f3 q (by omega)
theorem fg_yspell {post : SY → Prop} {x : Nat} {t : fg_T} (hCe : fg_Ce g y_head y_left y_right y_size N T) (hN : N ≤ 1300) (hx : x < N) (hT : T x = t)
    (hp : ∀ stk li sta : Nat → Int32, fg_at li 0 (fg_fl t) → (∀ i, i < fg_sz t → fg_pt T N (sta i) (fg_sub t i)) → post (y_cons, y_drafted, y_nodes, nI (fg_sz t), y_argumentLength, y_givenLength, y_steps, y_blamed, y_how, y_ran, y_working, y_arity, y_draftKind, y_draftWith, y_kind, y_with, y_patternLength, y_resultLength, y_rows, y_head, y_left, y_right, y_size, li, stk, sta, y_argument, y_given, y_fits, y_ends, y_places, y_bound, y_workKind, y_workWith, y_owner, y_counts, y_openSize, y_open, y_known)) : wpY_spell post (y_cons, y_drafted, y_nodes, y_length, y_argumentLength, y_givenLength, y_steps, y_blamed, y_how, y_ran, y_working, y_arity, y_draftKind, y_draftWith, y_kind, y_with, y_patternLength, y_resultLength, y_rows, y_head, y_left, y_right, y_size, y_list, y_stack, y_starts, y_argument, y_given, y_fits, y_ends, y_places, y_bound, y_workKind, y_workWith, y_owner, y_counts, y_openSize, y_open, y_known) (nI x) := by
  have h40 := (hCe x hx).2.2.1
  have hn := (hCe x hx).1
  rw [hT] at h40 hn
  refine nm_r (e' := nI 1) (by decide) (nm_e ⟨1 + fg_sz t, ?_⟩)
  refine fg_ysp_t hCe hN t 0 0 1 x (upd y_stack 0 (nI x)) y_list y_starts hn hx hT pk_us (by omega) (by omega) (fun stk' out' sta' e1 e2 e3 m hm => ?_) _ (Nat.le_refl _)
  obtain ⟨m, rfl⟩ : ∃ q, m = q + 1 := ⟨m - 1, by omega⟩
  refine br_t (by decide) ?_
  rw [Nat.zero_add]
  exact hp stk' out' sta' (fg_at_of (fun p hp => by have := (e3 p hp).1; rw [Nat.zero_add] at this; exact this)) (fun i hi => by have := (e3 i hi).2; rw [Nat.zero_add] at this; exact this)
end
end
section
/-! X: frames of calls at work, as lists -/
abbrev fg_O : Type := List (Nat × List fg_T)
abbrev fg_F : Type := Nat × Nat × fg_T × fg_O
def fg_nd (g : fg_C) (R : Nat) : fg_O → Nat
  | [] => 0
  | q :: l => (fg_ro g R q.1 - q.2.length - 1) + fg_nd g R l
def fg_sgs (g : fg_C) (R : Nat) (ops : fg_O) : List fg_S := ops.reverse.map (fun q => (fg_rk g R q.1, fg_rv g R q.1, R / 5, q.2))
def fg_pre (g : fg_C) : List fg_F → List fg_S
  | [] => []
  | (R, _, _, ops) :: F => fg_pre g F ++ fg_sgs g R ops
def fg_suf (g : fg_C) : List fg_F → List fg_I
  | [] => []
  | (R, p, t, _) :: F => fg_rest g R t p (fg_rl g R - p) ++ fg_suf g F
def fg_po (g : fg_C) : List fg_F → Nat
  | [] => 0
  | (R, p, _, ops) :: F => (fg_rl g R - p) + ops.length + fg_po g F
def fg_mu (g : fg_C) : List fg_F → Nat
  | [] => 0
  | (R, p, _, ops) :: F => 2 * (fg_rl g R - p) + ops.length + 1 + fg_mu g F
def fg_Fv (g : fg_C) (R p : Nat) (t : fg_T) (ops : fg_O) : Prop := (∃ f r, f < 4 ∧ r < fg_rw g f ∧ R = 5 * f + r) ∧ fg_V g t ∧ fg_sz t ≤ 40 ∧ fg_mr g R 0 t = true ∧ p ≤ fg_rl g R ∧ ops.length ≤ p ∧ ∀ q, q ∈ ops → q.1 < fg_rl g R ∧ fg_rk g R q.1 ≠ 1 ∧ ∀ x, x ∈ q.2 → fg_V g x ∧ fg_sz x ≤ 40
def fg_Lo (g : fg_C) (R : Nat) (ops : fg_O) : Prop := ∀ q, q ∈ ops → q.2.length < fg_ro g R q.1
def fg_Lw (g : fg_C) : List fg_F → Prop
  | [] => True
  | (R, p, t, ops) :: F => fg_Fv g R p t ops ∧ fg_Lo g R ops ∧ fg_G (fg_ro g R) (fg_rl g R) (fg_nd g R ops) p = some (fg_rl g R) ∧ fg_Lw g F
def fg_OX (g : fg_C) (R : Nat) (T : Nat → fg_T) (N : Nat) (ot lk vs : Nat → Int32) : fg_O → Nat → Nat → Nat → Nat → Prop
  | [], o0, h0, o, h => o = o0 ∧ h = h0
  | q :: l, o0, h0, o, h => ∃ o1 h1, o = o1 + 1 ∧ h = h1 + q.2.length ∧ ot o1 = nI q.1 ∧ lk o1 = nI (fg_ro g R q.1 - q.2.length) ∧ (∀ i x, q.2[i]? = some x → fg_pt T N (vs (h1 + i)) x) ∧ fg_OX g R T N ot lk vs l o0 h0 o1 h1
def fg_Bd (g : fg_C) (T : Nat → fg_T) (N : Nat) (bnd : Nat → Int32) (R : Nat) (t : fg_T) (c0 : Nat) : Prop := ∀ u i, i < fg_pl g R → fg_pk g R i = 1 → fg_pv g R i = u → fg_pt T N (bnd (4 * c0 + u)) (fg_bd g R t u)
def fg_FX (g : fg_C) (T : Nat → fg_T) (N : Nat) (cr ca co bnd ot lk vs : Nat → Int32) : List fg_F → Nat → Nat → Nat → Prop
  | [], c, o, h => c = 0 ∧ o = 0 ∧ h = 0
  | (R, p, t, ops) :: F, c, o, h => ∃ c0 o0 h0, c = c0 + 1 ∧ cr c0 = nI R ∧ ca c0 = nI p ∧ co c0 = nI o0 ∧ fg_Bd g T N bnd R t c0 ∧ fg_OX g R T N ot lk vs ops o0 h0 o h ∧ fg_FX g T N cr ca co bnd ot lk vs F c0 o0 h0
section
variable {g : fg_C} {R N N' : Nat} {T T' : Nat → fg_T} {ot lk vs ot' lk' vs' cr ca co bnd cr' ca' co' bnd' : Nat → Int32}
theorem fg_sgs_c (q : Nat × List fg_T) (l : fg_O) : fg_sgs g R (q :: l) = fg_sgs g R l ++ [(fg_rk g R q.1, fg_rv g R q.1, R / 5, q.2)] := by
  unfold fg_sgs
  rw [List.reverse_cons, List.map_append]; rfl
theorem fg_OX_le : ∀ (l : fg_O) (o0 h0 o h : Nat), fg_OX g R T N ot lk vs l o0 h0 o h → o = o0 + l.length ∧ h0 ≤ h
  | [], o0, h0, o, h, ⟨e1, e2⟩ => ⟨e1, by omega⟩
  | q :: l, o0, h0, o, h, ⟨o1, h1, e1, e2, _, _, _, e6⟩ => by
    have := fg_OX_le l o0 h0 o1 h1 e6
    rw [List.length_cons]
    omega
theorem fg_OX_h (ha : ∀ i, fg_ro g R i ≤ 2) : ∀ (l : fg_O) (o0 h0 o h : Nat), fg_Lo g R l → fg_OX g R T N ot lk vs l o0 h0 o h → h ≤ h0 + l.length
  | [], o0, h0, o, h, _, ⟨e1, e2⟩ => by omega
  | q :: l, o0, h0, o, h, hl, ⟨o1, h1, e1, e2, _, _, _, e6⟩ => by
    have := fg_OX_h ha l o0 h0 o1 h1 (fun x hx => hl x (List.mem_cons_of_mem _ hx)) e6
    have h1 := hl q List.mem_cons_self
    have h2 := ha q.1
    rw [List.length_cons]
    omega
theorem fg_OX_cg : ∀ (l : fg_O) (o0 h0 o h : Nat), (∀ j, j < o → ot' j = ot j ∧ lk' j = lk j) → (∀ j, j < h → vs' j = vs j) → N ≤ N' → (∀ j, j < N → T' j = T j) → fg_OX g R T N ot lk vs l o0 h0 o h → fg_OX g R T' N' ot' lk' vs' l o0 h0 o h
  | [], o0, h0, o, h, _, _, _, _, e => e
  | q :: l, o0, h0, o, h, a1, a2, a3, a4, ⟨o1, h1, e1, e2, e3, e4, e5, e6⟩ => by
    refine ⟨o1, h1, e1, e2, by rw [(a1 o1 (by omega)).1]; exact e3, by rw [(a1 o1 (by omega)).2]; exact e4, fun i x hx => ?_, fg_OX_cg l o0 h0 o1 h1 (fun j hj => a1 j (by omega)) (fun j hj => a2 j (by omega)) a3 a4 e6⟩
    have hi : i < q.2.length := by
      rcases Nat.lt_or_ge i q.2.length with z | z
      · exact z
      · rw [List.getElem?_eq_none z] at hx; exact nomatch hx
    rw [a2 _ (by omega)]
    exact fg_pt_mono (e5 i x hx) a3 a4
theorem fg_Bd_cg {t : fg_T} {c0 : Nat} (hR : fg_RW g R) (h : fg_Bd g T N bnd R t c0) (e : ∀ j, j < 4 * (c0 + 1) → bnd' j = bnd j) (hN : N ≤ N') (hT : ∀ j, j < N → T' j = T j) : fg_Bd g T' N' bnd' R t c0 := by
  intro u i h1 h2 h3
  have := (hR.2.2.2.1 i h1).2.2 h2
  rw [e _ (by omega)]
  exact fg_pt_mono (h u i h1 h2 h3) hN hT
theorem fg_FX_cg (hG : fg_WF g) (hN : N ≤ N') (hT : ∀ j, j < N → T' j = T j) : ∀ (F : List fg_F) (c o h : Nat), fg_Lw g F → (∀ j, j < c → cr' j = cr j ∧ ca' j = ca j ∧ co' j = co j) → (∀ j, j < 4 * c → bnd' j = bnd j) → (∀ j, j < o → ot' j = ot j ∧ lk' j = lk j) → (∀ j, j < h → vs' j = vs j) → fg_FX g T N cr ca co bnd ot lk vs F c o h → fg_FX g T' N' cr' ca' co' bnd' ot' lk' vs' F c o h := by
  intro F
  induction F with
  | nil => intro c o h _ _ _ _ _ e; exact e
  | cons q F ih =>
    obtain ⟨R, p, t, ops⟩ := q
    rintro c o h ⟨w1, w2, w3, w4⟩ a1 a2 a3 a4 ⟨c0, o0, h0, e1, e2, e3, e4, e5, e6, e7⟩
    have le := fg_OX_le ops o0 h0 o h e6
    obtain ⟨⟨f, r, hf, hr, rfl⟩, -⟩ := w1
    have b := a1 c0 (by omega)
    refine ⟨c0, o0, h0, e1, by rw [b.1]; exact e2, by rw [b.2.1]; exact e3, by rw [b.2.2]; exact e4, fg_Bd_cg (hG.2.2.2 f r hf hr) e5 (fun j hj => a2 j (by omega)) hN hT, fg_OX_cg ops o0 h0 o h a3 a4 hN hT e6, ?_⟩
    exact ih c0 o0 h0 w4 (fun j hj => a1 j (by omega)) (fun j hj => a2 j (by omega)) (fun j hj => a3 j (by omega)) (fun j hj => a4 j (by omega)) e7
theorem fg_FX_b (hG : fg_WF g) : ∀ (F : List fg_F) (c o h : Nat), fg_Lw g F → fg_FX g T N cr ca co bnd ot lk vs F c o h → o ≤ 12 * c ∧ h ≤ o := by
  intro F
  induction F with
  | nil => rintro c o h _ ⟨e1, e2, e3⟩; omega
  | cons q F ih =>
    obtain ⟨R, p, t, ops⟩ := q
    rintro c o h ⟨w1, w2, w3, w4⟩ ⟨c0, o0, h0, e1, e2, e3, e4, e5, e6, e7⟩
    have le := fg_OX_le ops o0 h0 o h e6
    have hh := fg_OX_h (fun i => fg_op_le hG.2.1) ops o0 h0 o h w2 e6
    obtain ⟨⟨f, r, hf, hr, rfl⟩, -, -, -, hp, hl, -⟩ := w1
    have := (hG.2.2.2 f r hf hr).1
    have := ih c0 o0 h0 w4 e7
    omega
theorem fg_OX_push {ops : fg_O} {o0 h0 o h p : Nat} (e : fg_OX g R T N ot lk vs ops o0 h0 o h) : fg_OX g R T N (upd ot o (nI p)) (upd lk o (nI (fg_ro g R p))) vs ((p, []) :: ops) o0 h0 (o + 1) h :=
  ⟨o, h, rfl, rfl, pk_us, pk_us, fun i x hx => by simp at hx, fg_OX_cg ops o0 h0 o h (fun j hj => ⟨pk_un (by omega), pk_un (by omega)⟩) (fun _ _ => rfl) (Nat.le_refl _) (fun _ _ => rfl) e⟩
theorem fg_OX_app {tk : Nat} {l : List fg_T} {q : fg_O} {o0 h0 o h : Nat} {y : Int32} {x : fg_T} (e : fg_OX g R T N ot lk vs ((tk, l) :: q) o0 h0 o h) (hy : fg_pt T' N' y x) (hN : N ≤ N') (hT : ∀ j, j < N → T' j = T j) :
    fg_OX g R T' N' ot (upd lk (o - 1) (nI (fg_ro g R tk - l.length - 1))) (upd vs h y) ((tk, l ++ [x]) :: q) o0 h0 o (h + 1) := by
  obtain ⟨o1, h1, e1, e2, e3, e4, e5, e6⟩ := e
  have e2' : h = h1 + l.length := e2
  refine ⟨o1, h1, e1, by show h + 1 = h1 + (l ++ [x]).length; rw [List.length_append, List.length_singleton]; omega, e3, ?_, fun i z hz => ?_, fg_OX_cg q o0 h0 o1 h1 (fun j hj => ⟨rfl, pk_un (by omega)⟩) (fun j hj => pk_un (by omega)) hN hT e6⟩
  · rw [show o - 1 = o1 by omega, pk_us]
    show nI (fg_ro g R tk - l.length - 1) = nI (fg_ro g R tk - (l ++ [x]).length)
    rw [List.length_append, List.length_singleton, Nat.sub_sub]
  · have hz' : (l ++ [x])[i]? = some z := hz
    rcases Nat.lt_or_ge i l.length with w | w
    · rw [List.getElem?_append_left w] at hz'
      rw [pk_un (by omega)]
      exact fg_pt_mono (e5 i z hz') hN hT
    · rw [List.getElem?_append_right w] at hz'
      have hi : i = l.length := by
        rcases Nat.eq_or_lt_of_le w with v | v
        · exact v.symm
        · rw [List.getElem?_eq_none (by simp; omega)] at hz'; exact nomatch hz'
      subst hi
      rw [Nat.sub_self] at hz'
      have : some x = some z := hz'
      injection this with this
      subst this
      rw [show h1 + l.length = h by omega, pk_us]
      exact hy
end
/-! lists of the same run -/
section
variable {g : fg_C} {R p : Nat} {t : fg_T} {F : List fg_F}
theorem fg_L_app (tk : Nat) (l : List fg_T) (q : fg_O) (x : fg_T) (B : List fg_I) : fg_fS (fg_pre g F ++ fg_sgs g R ((tk, l ++ [x]) :: q)) ++ B = fg_fS (fg_pre g F ++ fg_sgs g R ((tk, l) :: q)) ++ (.inr x :: B) := by
  rw [fg_sgs_c, fg_sgs_c, ← List.append_assoc, ← List.append_assoc, fg_fS_app, fg_fS_app _ [_], List.append_assoc, List.append_assoc]
  congr 1
  simp [fg_fS, fg_sg]
theorem fg_L_top (tk : Nat) (l : List fg_T) (q : fg_O) (B : List fg_I) : fg_fS (fg_pre g F ++ fg_sgs g R ((tk, l) :: q)) ++ B = fg_fS (fg_pre g F ++ fg_sgs g R q) ++ (.inl (fg_rk g R tk, fg_rv g R tk, R / 5) :: (l.map .inr ++ B)) := by
  rw [fg_sgs_c, ← List.append_assoc, fg_fS_app, List.append_assoc]
  congr 1
  simp [fg_fS, fg_sg]
theorem fg_so1 {ops : fg_O} (h : fg_Lo g R ops) : ∀ z, z ∈ fg_sgs g R ops → z.2.2.2.length < fg_oo g z.1 z.2.1 := by
  intro z hz
  unfold fg_sgs at hz
  obtain ⟨q, q1, rfl⟩ := List.mem_map.mp hz
  exact h q (List.mem_reverse.mp q1)
end
theorem fg_so2 {g : fg_C} : ∀ (F : List fg_F), fg_Lw g F → ∀ z, z ∈ fg_pre g F → z.2.2.2.length < fg_oo g z.1 z.2.1
  | [], _ => fun z hz => nomatch hz
  | (R, p, t, ops) :: F, ⟨_, w2, _, w4⟩ => by
    intro z hz
    rcases List.mem_append.mp hz with h | h
    · exact fg_so2 F w4 z h
    · exact fg_so1 w2 z h
end
section
/-! X: a run -/
def fg_Fin (g : fg_C) (z : Nat × Int32 × Nat × fg_T) : Prop := (z.1 = 0 ∧ fg_V g z.2.2.2 ∧ fg_sz z.2.2.2 ≤ 40) ∨ (1 ≤ z.1 ∧ z.1 ≤ 3 ∧ z.2.2.2 = fg_nil)
def fg_Top (g : fg_C) (R p : Nat) : fg_O → Prop
  | [] => fg_G (fg_ro g R) (fg_rl g R) 1 p = some (fg_rl g R)
  | q :: l => q.2.length ≤ fg_ro g R q.1 ∧ fg_Lo g R l ∧ fg_G (fg_ro g R) (fg_rl g R) (fg_ro g R q.1 - q.2.length + fg_nd g R l) p = some (fg_rl g R)
def fg_lkt (g : fg_C) (R : Nat) : fg_O → Nat
  | [] => 0
  | q :: _ => fg_ro g R q.1 - q.2.length - 1
def fg_XI (g : fg_C) (T : Nat → fg_T) (N : Nat) (con fst snd siz tab lea : Nat → Int32) (sts : Nat → Int64) (cr ca co bnd ot lk vs : Nat → Int32) (R p : Nat) (t : fg_T) (ops : fg_O) (F : List fg_F) (c0 o0 h0 o h s : Nat) : Prop :=
  fg_XC g con fst snd siz tab lea sts N T ∧ fg_Fv g R p t ops ∧ fg_Lw g F ∧ cr c0 = nI R ∧ ca c0 = nI p ∧ co c0 = nI o0 ∧ fg_Bd g T N bnd R t c0 ∧ fg_OX g R T N ot lk vs ops o0 h0 o h ∧ fg_FX g T N cr ca co bnd ot lk vs F c0 o0 h0 ∧ c0 + 1 ≤ s ∧ s ≤ 100 ∧ N + fg_po g ((R, p, t, ops) :: F) ≤ 40 + 12 * s
theorem fg_pt16 {T : Nat → fg_T} {N : Nat} {y : Int32} {t : fg_T} (hN : N ≤ 1300) (h : fg_pt T N y t) : vp_nar .short y.toInt16.toInt32 = y := by
  rcases h with ⟨q, -⟩ | ⟨j, hj, q, -⟩
  · rw [q, fg_w16m]
  · rw [q, fg_w16 (by omega)]
section
variable {x_cons x_drafted x_given x_cells x_calls x_opened x_held x_steps x_outcome x_culprit x_size x_kinds : Int32} {x_arity x_dKind x_dValue x_behind x_pKind x_pValue x_pBehind x_rKind x_rValue x_pLength x_rLength x_rows x_path x_argument x_cCon x_cFirst x_cSecond x_cSize x_table x_learnt x_pile x_callRow x_callAt x_callOpen x_bound x_openToken x_lacks x_output x_kSize x_counted x_openSize x_values : Nat → Int32} {x_sets x_kSet x_kMany x_kList x_counts x_firstOpen : Nat → Int64}
variable {g : fg_C}
theorem fg_xrun66 {post : Int32 → SX → Prop} {Q : (Nat × Int32 × Nat × fg_T) → Prop} (hG : fg_WF g) (hX : fg_CX g x_arity x_rows x_pLength x_rLength x_pKind x_pValue x_pBehind x_rKind x_rValue x_path)
    (hQ : ∀ z, Q z → fg_Fin g z → ∀ (cells calls opened held : Int32) (con fst snd siz tab lea pile cr ca co bnd ot lk vs : Nat → Int32) (sts : Nat → Int64) (ou : Nat → Int32), fg_at ou 0 (fg_fl z.2.2.2) →
      post (nI z.1) (x_cons, x_drafted, x_given, cells, calls, opened, held, nI z.2.2.1, nI z.1, z.2.1, nI (fg_sz z.2.2.2), x_kinds, x_arity, x_dKind, x_dValue, x_behind, x_pKind, x_pValue, x_pBehind, x_rKind, x_rValue, x_pLength, x_rLength, x_rows, x_path, x_argument, con, fst, snd, siz, tab, sts, lea, pile, cr, ca, co, bnd, ot, lk, ou, x_kSize, x_kSet, x_kMany, x_kList, x_counts, x_counted, x_firstOpen, x_openSize, vs)) :
    ∀ m : Nat,
    (∀ (T : Nat → fg_T) (N R p : Nat) (t : fg_T) (ops : fg_O) (F : List fg_F) (c0 o0 h0 o h s : Nat) (con fst snd siz tab lea pile cr ca co bnd ot lk vs : Nat → Int32) (sts : Nat → Int64), fg_XI g T N con fst snd siz tab lea sts cr ca co bnd ot lk vs R p t ops F c0 o0 h0 o h s → fg_Top g R p ops → 40 * (100 - s) + fg_mu g ((R, p, t, ops) :: F) < m →
      (∀ n z, fg_Rn g n s (fg_fS (fg_pre g ((R, p, t, ops) :: F)) ++ fg_suf g ((R, p, t, ops) :: F)) z → Q z) → wX_run_66 post m x_cons x_drafted x_given (nI N) (nI (c0 + 1)) (nI o) (nI h) (nI s) 0 (-1) 0 x_kinds x_arity x_dKind x_dValue x_behind x_pKind x_pValue x_pBehind x_rKind x_rValue x_pLength x_rLength x_rows x_path x_argument con fst snd siz tab sts lea pile cr ca co bnd ot lk x_output x_kSize x_kSet x_kMany x_kList x_counts x_counted x_firstOpen x_openSize vs) ∧
    (∀ (T : Nat → fg_T) (N R p : Nat) (t : fg_T) (F : List fg_F) (c0 o0 h0 o h s : Nat) (v : fg_T) (con fst snd siz tab lea pile cr ca co bnd ot lk vs : Nat → Int32) (sts : Nat → Int64), fg_XI g T N con fst snd siz tab lea sts cr ca co bnd ot lk vs R p t [] F c0 o0 h0 o h s → p = fg_rl g R → fg_pt T N (vs h) v → fg_V g v → fg_sz v ≤ 40 → 40 * (100 - s) + fg_mu g ((R, p, t, []) :: F) < m →
      (∀ n z, fg_Rn g n s (fg_fS (fg_pre g ((R, p, t, []) :: F)) ++ (.inr v :: fg_suf g ((R, p, t, []) :: F))) z → Q z) → wX_run_66 post m x_cons x_drafted x_given (nI N) (nI (c0 + 1)) (nI o) (nI (h + 1)) (nI s) 0 (-1) 0 x_kinds x_arity x_dKind x_dValue x_behind x_pKind x_pValue x_pBehind x_rKind x_rValue x_pLength x_rLength x_rows x_path x_argument con fst snd siz tab sts lea pile cr ca co bnd ot lk x_output x_kSize x_kSet x_kMany x_kList x_counts x_counted x_firstOpen x_openSize vs) := by
  have h6 := hG.1
  have ha2 : ∀ c, fg_ar g c ≤ 2 := hG.2.1
  intro m
  induction m with
  | zero => exact ⟨fun T N R p t ops F c0 o0 h0 o h s con fst snd siz tab lea pile cr ca co bnd ot lk vs sts _ _ hm => absurd hm (Nat.not_lt_zero _), fun T N R p t F c0 o0 h0 o h s v con fst snd siz tab lea pile cr ca co bnd ot lk vs sts _ _ _ _ _ hm => absurd hm (Nat.not_lt_zero _)⟩
  | succ m ih =>
    obtain ⟨ihA, ihB⟩ := ih
    -- an end without a value
    have bad : ∀ (o' : Nat) (z : Nat × Int32 × Nat × fg_T), 1 ≤ o' → o' ≤ 3 → z.1 = o' → z.2.2.2 = fg_nil → Q z → ∀ (c0 s : Nat) (cells opened held : Int32) (con fst snd siz tab lea pile cr ca co bnd ot lk vs : Nat → Int32) (sts : Nat → Int64), c0 < 101 → z.2.2.1 = s → 1 ≤ m → wX_run_66 post m x_cons x_drafted x_given cells (nI (c0 + 1)) opened held (nI s) (nI o') (z.2.1) 0 x_kinds x_arity x_dKind x_dValue x_behind x_pKind x_pValue x_pBehind x_rKind x_rValue x_pLength x_rLength x_rows x_path x_argument con fst snd siz tab sts lea pile cr ca co bnd ot lk x_output x_kSize x_kSet x_kMany x_kList x_counts x_counted x_firstOpen x_openSize vs := by
      intro o' z h1 h3 hz1 hz2 hq c0 s cells opened held con fst snd siz tab lea pile cr ca co bnd ot lk vs sts hc hs hm
      obtain ⟨m', rfl⟩ : ∃ q, m = q + 1 := ⟨m - 1, by omega⟩
      refine br_f (nI_nle (by omega) (by omega)) (br_f (nI_ne0 h1 (by omega)) (br_f (nI_ne0 h1 (by omega)) ?_))
      have := hQ z hq (Or.inr ⟨by omega, by omega, hz2⟩) cells (nI (c0 + 1)) opened held con fst snd siz tab lea pile cr ca co bnd ot lk vs sts x_output (by rw [hz2]; exact fg_at_nil)
      rw [hz1, hz2, hs] at this
      exact this
    refine ⟨?_, ?_⟩
    · intro T N R p t ops F c0 o0 h0 o h s con fst snd siz tab lea pile cr ca co bnd ot lk vs sts hI hTop hm hR
      obtain ⟨hXC, hFv, hLw, icr, ica, ico, iBd, iOX, iFX, ics, is, iN⟩ := hI
      have hFv' := hFv
      obtain ⟨⟨f, r, hf, hr, eR⟩, tV, t40, tm, pl, opl, opv⟩ := hFv'
      have h5 := hG.2.2.1 f hf
      have hR20 : R < 20 := by omega
      have hRW : fg_RW g R := by rw [eR]; exact hG.2.2.2 f r hf hr
      have hXR : fg_XR g x_pLength x_rLength x_pKind x_pValue x_pBehind x_rKind x_rValue x_path R := by rw [eR]; exact hX.2.2 f r hf hr
      obtain ⟨⟨-, -, rl1, rl12⟩, -, -, -, -, -, hRR, hRG⟩ := hRW
      have bF := fg_FX_b hG F c0 o0 h0 hLw iFX
      have bO := fg_OX_le ops o0 h0 o h iOX
      have hmu : fg_mu g ((R, p, t, ops) :: F) = 2 * (fg_rl g R - p) + ops.length + 1 + fg_mu g F := rfl
      have hpo : fg_po g ((R, p, t, ops) :: F) = (fg_rl g R - p) + ops.length + fg_po g F := rfl
      refine br_f (nI_nle (by omega) (by omega)) (br_t rfl ?_)
      by_cases hcl : ∃ tk l q, ops = (tk, l) :: q ∧ l.length = fg_ro g R tk
      · -- an operator has its operands
        obtain ⟨tk, l, q, rfl, hl⟩ := hcl
        obtain ⟨o1, h1, e1, e2, e3, e4, e5, e6⟩ := iOX
        have e1' : o = o1 + 1 := e1
        have e2' : h = h1 + l.length := e2
        subst e1'
        have hle6 := fg_OX_le q o0 h0 o1 h1 e6
        obtain ⟨t1, t2, t3⟩ := hTop
        have t2' : fg_Lo g R q := t2
        have hh6 := fg_OX_h (fun i => fg_op_le ha2) q o0 h0 o1 h1 t2' e6
        obtain ⟨v1, v2, v3⟩ := opv (tk, l) List.mem_cons_self
        have v1' : tk < fg_rl g R := v1
        obtain ⟨k1, k2, k3, -⟩ := hRR tk v1'
        have hro2 : fg_ro g R tk ≤ 2 := fg_op_le ha2
        have ql : q.length + 1 ≤ p := by have := opl; rw [List.length_cons] at this; exact this
        have hk52 : fg_rk g R tk = 5 ∨ fg_rk g R tk = 2 := by
          rcases k1 with z | z | z
          · exact absurd z v2
          · exact Or.inr z
          · exact Or.inl z
        have t3' : fg_G (fg_ro g R) (fg_rl g R) (fg_nd g R q) p = some (fg_rl g R) := by
          have := t3
          rw [show (fg_ro g R (tk, l).1 - (tk, l).2.length) = 0 from by show fg_ro g R tk - l.length = 0; omega, Nat.zero_add] at this
          exact this
        have hS : ∀ z, z ∈ fg_pre g F ++ fg_sgs g R q → z.2.2.2.length < fg_oo g z.1 z.2.1 := by
          intro z hz
          rcases List.mem_append.mp hz with w | w
          · exact fg_so2 F hLw z w
          · exact fg_so1 t2' z w
        have hList : ∀ B, fg_fS (fg_pre g ((R, p, t, (tk, l) :: q) :: F)) ++ B = fg_fS (fg_pre g F ++ fg_sgs g R q) ++ (.inl (fg_rk g R tk, fg_rv g R tk, R / 5) :: (l.map .inr ++ B)) := fun B => fg_L_top tk l q B
        have hmu' : fg_mu g ((R, p, t, (tk, l) :: q) :: F) = 2 * (fg_rl g R - p) + (q.length + 1) + 1 + fg_mu g F := rfl
        have hpo' : fg_po g ((R, p, t, (tk, l) :: q) :: F) = (fg_rl g R - p) + (q.length + 1) + fg_po g F := rfl
        have hFvq : fg_Fv g R p t q := ⟨⟨f, r, hf, hr, eR⟩, tV, t40, tm, pl, by omega, fun z hz => opv z (List.mem_cons_of_mem _ hz)⟩
        refine fg_xw_close (by omega) (by omega) ico (by omega) (by rw [e4]; show nI (fg_ro g R tk - l.length) = 0; rw [hl, Nat.sub_self]; rfl) ?_
        -- a constructor: its values
        have con117 : fg_rk g R tk = 2 → ∀ (A B : Int32), fg_pt T N A (l.getD 0 fg_nil) → fg_pt T N B (l.getD 1 fg_nil) → fg_ok (fg_nc g) (fg_ar g) (fg_nb2 (fg_rv g R tk) l) →
            wX_close_117 (fun u => match u with | (x_cons, x_drafted, x_given, x_cells, x_calls, x_opened, x_held, x_steps, x_outcome, x_culprit, x_size, x_kinds, x_arity, x_dKind, x_dValue, x_behind, x_pKind, x_pValue, x_pBehind, x_rKind, x_rValue, x_pLength, x_rLength, x_rows, x_path, x_argument, x_cCon, x_cFirst, x_cSecond, x_cSize, x_table, x_sets, x_learnt, x_pile, x_callRow, x_callAt, x_callOpen, x_bound, x_openToken, x_lacks, x_output, x_kSize, x_kSet, x_kMany, x_kList, x_counts, x_counted, x_firstOpen, x_openSize, x_values) => wX_run_66 post m x_cons x_drafted x_given x_cells x_calls x_opened x_held x_steps x_outcome x_culprit x_size x_kinds x_arity x_dKind x_dValue x_behind x_pKind x_pValue x_pBehind x_rKind x_rValue x_pLength x_rLength x_rows x_path x_argument x_cCon x_cFirst x_cSecond x_cSize x_table x_sets x_learnt x_pile x_callRow x_callAt x_callOpen x_bound x_openToken x_lacks x_output x_kSize x_kSet x_kMany x_kList x_counts x_counted x_firstOpen x_openSize x_values) (nI c0) (nI R) (nI (fg_rv g R tk)) B A x_cons x_drafted x_given (nI N) (nI (c0 + 1)) (nI o1) (nI h1) (nI s) 0 (-1) 0 x_kinds x_arity x_dKind x_dValue x_behind x_pKind x_pValue x_pBehind x_rKind x_rValue x_pLength x_rLength x_rows x_path x_argument con fst snd siz tab sts lea pile cr ca co bnd ot lk x_output x_kSize x_kSet x_kMany x_kList x_counts x_counted x_firstOpen x_openSize vs := by
          intro hk2 A B hA hB hok
          have hstep : ∀ n z, (fg_sz (fg_nb2 (fg_rv g R tk) l) ≤ 40) → fg_Rn g n s (fg_fS (fg_pre g F ++ fg_sgs g R q) ++ (.inr (fg_nb2 (fg_rv g R tk) l) :: fg_suf g ((R, p, t, q) :: F))) z → Q z := by
            intro n z h40 hz
            refine hR (n + 1) z (Or.inr ⟨fg_pre g F ++ fg_sgs g R q, fg_rk g R tk, fg_rv g R tk, R / 5, l, fg_suf g ((R, p, t, q) :: F), hList _, hS, by rw [hl]; rfl, Or.inr ⟨hk2, Or.inr ⟨h40, hz⟩⟩⟩)
          have hVn : fg_sz (fg_nb2 (fg_rv g R tk) l) ≤ 40 → fg_V g (fg_nb2 (fg_rv g R tk) l) := fun _ => ⟨fg_ne_b, hok⟩
          refine fg_xcl117 (lk := fg_lkt g R q) hXC (by omega) hA hB h6 hok (by omega) (by omega) hR20 ico (by omega) (by omega) (fun hbig => ?_) (fun hsm n N' T' con fst snd siz tab lea a1 a2 a3 a4 a5 a6 a7 => ?_) (fun hsm n N' T' con fst snd siz tab lea a1 a2 a3 a4 a5 a6 a7 => ?_)
          · refine bad 3 (3, nI (R / 5), s, fg_nil) (by omega) (by omega) rfl rfl (hR 1 _ (Or.inr ⟨fg_pre g F ++ fg_sgs g R q, fg_rk g R tk, fg_rv g R tk, R / 5, l, fg_suf g ((R, p, t, q) :: F), hList _, hS, by rw [hl]; rfl, Or.inr ⟨hk2, Or.inl ⟨hbig, rfl⟩⟩⟩)) c0 s _ _ _ _ _ _ _ _ _ _ _ _ _ _ _ _ _ _ (by omega) rfl (by omega)
          · -- the value is the frame's
            have hq : q = [] := by
              cases q with
              | nil => rfl
              | cons z q' => rw [List.length_cons] at hle6; omega
            subst hq
            have hh : h1 = h0 := e6.2
            have hp : p = fg_rl g R := by
              have := t3'
              rw [show fg_nd g R [] = 0 from rfl, fg_G0] at this
              injection this
            refine ihB T' N' R p t F c0 o0 h0 o1 h1 s (fg_nb2 (fg_rv g R tk) l) con fst snd siz tab lea pile cr ca co bnd ot lk (upd vs h1 (nI n)) sts ?_ hp (Or.inr ⟨n, a1, by rw [pk_us], a2⟩) (hVn hsm) hsm ?_ (fun n' z hz => hstep n' z hsm hz)
            · refine ⟨a6, hFvq, hLw, icr, ica, ico, fg_Bd_cg (by rw [eR]; exact hG.2.2.2 f r hf hr) iBd (fun _ _ => rfl) a3 a5, e6, fg_FX_cg hG a3 a5 F c0 o0 h0 hLw (fun _ _ => ⟨rfl, rfl, rfl⟩) (fun _ _ => rfl) (fun _ _ => ⟨rfl, rfl⟩) (fun j hj => pk_un (by omega)) iFX, ics, is, ?_⟩
              have : fg_po g ((R, p, t, []) :: F) = (fg_rl g R - p) + 0 + fg_po g F := rfl
              simp only [List.length_nil] at hpo'
              omega
            · have : fg_mu g ((R, p, t, []) :: F) = 2 * (fg_rl g R - p) + 0 + 1 + fg_mu g F := rfl
              simp only [List.length_nil] at hmu'
              omega
          · -- an operand of the next operator
            cases q with
            | nil => have := hle6.1; rw [List.length_nil] at this; omega
            | cons z q' =>
              obtain ⟨tk2, l2⟩ := z
              have hl2 : l2.length < fg_ro g R tk2 := t2' (tk2, l2) List.mem_cons_self
              have hro3 : fg_ro g R tk2 ≤ 2 := fg_op_le ha2
              obtain ⟨o2, h2, g1, g2, g3, g4, g5, g6⟩ := e6
              refine ⟨?_, by show fg_ro g R tk2 - l2.length - 1 < 100; omega, ?_⟩
              · rw [show o1 - 1 = o2 by have : o1 = o2 + 1 := g1; omega, g4]
                show nI (fg_ro g R tk2 - l2.length) = nI (fg_ro g R tk2 - l2.length - 1 + 1)
                exact congrArg nI (by omega)
              · have hox := fg_OX_app (T' := T') (N' := N') (y := nI n) (x := fg_nb2 (fg_rv g R tk) l) (show fg_OX g R T N ot lk vs ((tk2, l2) :: q') o0 h0 o1 h1 from ⟨o2, h2, g1, g2, g3, g4, g5, g6⟩) (Or.inr ⟨n, a1, rfl, a2⟩) a3 a5
                have hle := fg_OX_le ((tk2, l2) :: q') o0 h0 o1 h1 ⟨o2, h2, g1, g2, g3, g4, g5, g6⟩
                refine ihA T' N' R p t ((tk2, l2 ++ [fg_nb2 (fg_rv g R tk) l]) :: q') F c0 o0 h0 o1 (h1 + 1) s con fst snd siz tab lea pile cr ca co bnd ot (upd lk (o1 - 1) (nI (fg_ro g R tk2 - l2.length - 1))) (upd vs h1 (nI n)) sts ?_ ?_ ?_ (fun n' z hz => ?_)
                · refine ⟨a6, ⟨⟨f, r, hf, hr, eR⟩, tV, t40, tm, pl, ?_, fun z hz => ?_⟩, hLw, icr, ica, ico, fg_Bd_cg (by rw [eR]; exact hG.2.2.2 f r hf hr) iBd (fun _ _ => rfl) a3 a5, hox, fg_FX_cg hG a3 a5 F c0 o0 h0 hLw (fun _ _ => ⟨rfl, rfl, rfl⟩) (fun _ _ => rfl) (fun j hj => ⟨rfl, pk_un (by have := hle.1; rw [List.length_cons] at this; omega)⟩) (fun j hj => pk_un (by omega)) iFX, ics, is, ?_⟩
                  · rw [List.length_cons] at ql ⊢; omega
                  · rcases List.mem_cons.mp hz with w | w
                    · have old := opv (tk2, l2) (List.mem_cons_of_mem _ List.mem_cons_self)
                      rw [w]
                      refine ⟨old.1, old.2.1, fun x hx => ?_⟩
                      rcases List.mem_append.mp hx with y | y
                      · exact old.2.2 x y
                      · rw [List.mem_singleton.mp y]; exact ⟨hVn hsm, hsm⟩
                    · exact opv z (List.mem_cons_of_mem _ (List.mem_cons_of_mem _ w))
                  · have : fg_po g ((R, p, t, (tk2, l2 ++ [fg_nb2 (fg_rv g R tk) l]) :: q') :: F) = (fg_rl g R - p) + (q'.length + 1) + fg_po g F := rfl
                    rw [List.length_cons] at hpo'
                    omega
                · refine ⟨?_, fun z hz => t2' z (List.mem_cons_of_mem _ hz), ?_⟩
                  · show (l2 ++ [fg_nb2 (fg_rv g R tk) l]).length ≤ fg_ro g R tk2
                    rw [List.length_append, List.length_singleton]; omega
                  · show fg_G _ _ (fg_ro g R tk2 - (l2 ++ [fg_nb2 (fg_rv g R tk) l]).length + fg_nd g R q') p = _
                    rw [List.length_append, List.length_singleton, ← Nat.sub_sub]
                    exact t3'
                · have : fg_mu g ((R, p, t, (tk2, l2 ++ [fg_nb2 (fg_rv g R tk) l]) :: q') :: F) = 2 * (fg_rl g R - p) + (q'.length + 1) + 1 + fg_mu g F := rfl
                  rw [List.length_cons] at hmu'
                  omega
                · refine hstep n' z hsm ?_
                  have e := fg_L_app (g := g) (R := R) (F := F) tk2 l2 q' (fg_nb2 (fg_rv g R tk) l) (fg_suf g ((R, p, t, (tk2, l2) :: q') :: F))
                  rw [← e]
                  exact hz
        refine fg_xclose (tk := tk) (by omega) icr hR20 hXR hX.1 rl12 v1' e3 (by omega) (fun z => by have := k2 z; omega) (fun z => ?_) hk52 (fun z z0 => ?_) (fun z z1 => ?_) (fun z z2 => ?_) ha2
        · -- a call
          have hl1 : l.length = 1 := by rw [hl]; exact fg_op5 z
          obtain ⟨x, hx⟩ : ∃ x, l = [x] := by
            cases l with
            | nil => simp at hl1
            | cons a l' =>
              cases l' with
              | nil => exact ⟨a, rfl⟩
              | cons b l'' => simp at hl1
          subst hx
          have hv4 := k3 z
          obtain ⟨xV, x40⟩ := v3 x (by simp)
          obtain ⟨y, y1, y2, y3⟩ := fg_pt_ne xV.1 (e5 0 x rfl)
          have y2' : vs h1 = nI y := y2
          rw [e2']
          have hstart : ∀ n z', fg_Rn g n s (fg_fS (fg_pre g F ++ fg_sgs g R q) ++ (.inl (5, fg_rv g R tk, R / 5) :: ([x].map .inr ++ fg_suf g ((R, p, t, q) :: F)))) z' → Q z' := by
            intro n z' hz'
            refine hR n z' ?_
            have e := hList (fg_suf g ((R, p, t, q) :: F))
            rw [z] at e
            have e' : fg_fS (fg_pre g ((R, p, t, (tk, [x]) :: q) :: F)) ++ fg_suf g ((R, p, t, (tk, [x]) :: q) :: F) = _ := e
            rw [e']
            exact hz'
          refine fg_xcall (N := N) (T := T) (x := y) (t := x) (c := c0 + 1) hG hX hv4 (by omega) hXC.1 hXC.2.2 y1 y3 y2' (by omega) (by omega) (by omega) is (fun h100 => ?_) (fun hs tk1 pile lea sts hLe => ?_) (fun hs tk1 pile lea bnd' sts hLe b1 b2 => ?_)
          · refine bad 2 (2, nI (fg_rv g R tk), s, fg_nil) (by omega) (by omega) rfl rfl (hstart 1 _ (Or.inr ⟨fg_pre g F ++ fg_sgs g R q, 5, fg_rv g R tk, R / 5, [x], _, rfl, hS, rfl, Or.inl ⟨rfl, x, rfl, Or.inl ⟨h100, rfl⟩⟩⟩)) c0 s _ _ _ _ _ _ _ _ _ _ _ _ _ _ _ _ _ _ (by omega) rfl (by omega)
          · refine bad 1 (1, nI (fg_rv g R tk), s + 1, fg_nil) (by omega) (by omega) rfl rfl (hstart 1 _ (Or.inr ⟨fg_pre g F ++ fg_sgs g R q, 5, fg_rv g R tk, R / 5, [x], _, rfl, hS, rfl, Or.inl ⟨rfl, x, rfl, Or.inr (Or.inl ⟨hs, tk1, rfl⟩)⟩⟩)) c0 (s + 1) _ _ _ _ _ _ _ _ _ _ _ _ _ _ _ _ _ _ (by omega) rfl (by omega)
          · have hRW' := hG.2.2.2 (fg_rv g R tk) _ hv4 tk1
            have hm' : fg_mr g (5 * fg_rv g R tk + fg_tk g (fg_rv g R tk) x) 0 x = true := (fg_fr_sp (p := fun r => fg_mr g (5 * fg_rv g R tk + r) 0 x) (fg_rw g (fg_rv g R tk))).2.2 tk1
            have r12 := hRW'.1
            refine ihA T N (5 * fg_rv g R tk + fg_tk g (fg_rv g R tk) x) 0 x [] ((R, p, t, q) :: F) (c0 + 1) o1 h1 o1 h1 (s + 1) con fst snd siz tab lea pile (upd cr (c0 + 1) _) (upd ca (c0 + 1) 0) (upd co (c0 + 1) (nI o1)) bnd' ot lk vs sts ?_ ?_ ?_ (fun n' z' hz' => ?_)
            · refine ⟨⟨hXC.1, hXC.2.1, hLe⟩, ⟨⟨fg_rv g R tk, _, hv4, tk1, rfl⟩, xV, x40, hm', Nat.zero_le _, Nat.le_refl _, fun z' hz' => nomatch hz'⟩, ⟨hFvq, t2', t3', hLw⟩, pk_us, pk_us, pk_us, b2, ⟨rfl, rfl⟩, ⟨c0, o0, h0, rfl, by rw [pk_un (by omega)]; exact icr, by rw [pk_un (by omega)]; exact ica, by rw [pk_un (by omega)]; exact ico, fg_Bd_cg (by rw [eR]; exact hG.2.2.2 f r hf hr) iBd (fun j hj => b1 j (by omega)) (Nat.le_refl _) (fun _ _ => rfl), e6, fg_FX_cg hG (Nat.le_refl _) (fun _ _ => rfl) F c0 o0 h0 hLw (fun j hj => ⟨pk_un (by omega), pk_un (by omega), pk_un (by omega)⟩) (fun j hj => b1 j (by omega)) (fun _ _ => ⟨rfl, rfl⟩) (fun _ _ => rfl) iFX⟩, by omega, by omega, ?_⟩
              have : fg_po g ((5 * fg_rv g R tk + fg_tk g (fg_rv g R tk) x, 0, x, []) :: (R, p, t, q) :: F) = (fg_rl g (5 * fg_rv g R tk + fg_tk g (fg_rv g R tk) x) - 0) + 0 + ((fg_rl g R - p) + q.length + fg_po g F) := rfl
              omega
            · exact hRW'.2.2.2.2.2.2.2
            · have : fg_mu g ((5 * fg_rv g R tk + fg_tk g (fg_rv g R tk) x, 0, x, []) :: (R, p, t, q) :: F) = 2 * (fg_rl g (5 * fg_rv g R tk + fg_tk g (fg_rv g R tk) x) - 0) + 0 + 1 + (2 * (fg_rl g R - p) + q.length + 1 + fg_mu g F) := rfl
              omega
            · refine hstart (n' + 1) z' (Or.inr ⟨fg_pre g F ++ fg_sgs g R q, 5, fg_rv g R tk, R / 5, [x], fg_suf g ((R, p, t, q) :: F), rfl, hS, rfl, Or.inl ⟨rfl, x, rfl, Or.inr (Or.inr ⟨hs, tk1, ?_⟩)⟩⟩)
              have e : fg_pre g ((5 * fg_rv g R tk + fg_tk g (fg_rv g R tk) x, 0, x, []) :: (R, p, t, q) :: F) = fg_pre g F ++ fg_sgs g R q := by
                show (fg_pre g F ++ fg_sgs g R q) ++ [] = _
                rw [List.append_nil]
              rw [e] at hz'
              exact hz'
        · have hl0 : l.length = 0 := by rw [hl]; exact (fg_op2 z).trans z0
          have hl' : l = [] := List.length_eq_zero_iff.mp hl0
          subst hl'
          rw [show h = h1 from e2]
          exact con117 z (-1) (-1) (Or.inl ⟨rfl, rfl⟩) (Or.inl ⟨rfl, rfl⟩) ⟨k2 z, Or.inl ⟨z0, rfl, rfl⟩, True.intro, True.intro⟩
        · have hl1 : l.length = 1 := by rw [hl]; exact (fg_op2 z).trans z1
          obtain ⟨x, hx⟩ : ∃ x, l = [x] := by
            cases l with
            | nil => simp at hl1
            | cons a l' =>
              cases l' with
              | nil => exact ⟨a, rfl⟩
              | cons b l'' => simp at hl1
          subst hx
          obtain ⟨xV, x40⟩ := v3 x (by simp)
          have eh : h = h1 + 1 := e2
          rw [eh, Nat.add_sub_cancel]
          refine ⟨by omega, by omega, con117 z _ _ (e5 0 x rfl) (Or.inl ⟨rfl, rfl⟩) ⟨k2 z, Or.inr (Or.inl ⟨z1, xV.1, rfl⟩), xV.2, True.intro⟩⟩
        · have hl2 : l.length = 2 := by rw [hl]; exact (fg_op2 z).trans z2
          obtain ⟨x, y, hx⟩ : ∃ x y, l = [x, y] := by
            cases l with
            | nil => simp at hl2
            | cons a l' =>
              cases l' with
              | nil => simp at hl2
              | cons b l'' =>
                cases l'' with
                | nil => exact ⟨a, b, rfl⟩
                | cons c l3 => simp at hl2
          subst hx
          obtain ⟨xV, x40⟩ := v3 x (by simp)
          obtain ⟨yV, y40⟩ := v3 y (by simp)
          have eh : h = h1 + 2 := e2
          rw [eh, Nat.add_sub_cancel, show h1 + 2 - 1 = h1 + 1 by omega]
          refine ⟨by omega, by omega, con117 z _ _ (e5 0 x rfl) (e5 1 y rfl) ⟨k2 z, Or.inr (Or.inr ⟨z2, xV.1, yV.1⟩), xV.2, yV.2⟩⟩
      · -- the next token of the result
        have hneed : ∃ k, fg_G (fg_ro g R) (fg_rl g R) (k + 1) p = some (fg_rl g R) ∧ (ops = [] → k = 0) ∧ (∀ tk l q, ops = (tk, l) :: q → l.length < fg_ro g R tk ∧ k = (fg_ro g R tk - l.length - 1) + fg_nd g R q) ∧ fg_Lo g R ops := by
          cases ops with
          | nil => exact ⟨0, hTop, fun _ => rfl, (fun tk l q e => nomatch e), (fun z hz => nomatch hz)⟩
          | cons z q =>
            obtain ⟨tk, l⟩ := z
            obtain ⟨t1, t2, t3⟩ := hTop
            have t1' : l.length ≤ fg_ro g R tk := t1
            have hlt : l.length < fg_ro g R tk := by
              rcases Nat.eq_or_lt_of_le t1' with w | w
              · exact absurd ⟨tk, l, q, rfl, w⟩ hcl
              · exact w
            refine ⟨(fg_ro g R tk - l.length - 1) + fg_nd g R q, ?_, (fun e => nomatch e), fun tk' l' q' e => ?_, fun z hz => ?_⟩
            · have t3' : fg_G (fg_ro g R) (fg_rl g R) (fg_ro g R tk - l.length + fg_nd g R q) p = some (fg_rl g R) := t3
              rw [show fg_ro g R tk - l.length - 1 + fg_nd g R q + 1 = fg_ro g R tk - l.length + fg_nd g R q by omega]
              exact t3'
            · injection e with e1 e2
              injection e1 with e1 e3
              subst e1 e2 e3
              exact ⟨hlt, rfl⟩
            · rcases List.mem_cons.mp hz with w | w
              · rw [w]; exact hlt
              · exact t2 z w
        obtain ⟨k, hk, hk0, hkc, hLo⟩ := hneed
        have hp : p < fg_rl g R := by
          rcases Nat.lt_or_ge p (fg_rl g R) with w | w
          · exact w
          · rw [fg_Ge w] at hk; exact nomatch hk
        rw [fg_Gs hp] at hk
        have hh6 := fg_OX_h (fun i => fg_op_le ha2) ops o0 h0 o h hLo iOX
        have hlk : o0 < o → ¬ lk (o - 1) = 0 := by
          intro hlt
          cases ops with
          | nil => have := bO.1; rw [List.length_nil] at this; omega
          | cons z q =>
            obtain ⟨tk, l⟩ := z
            obtain ⟨w1, w2⟩ := hkc tk l q rfl
            obtain ⟨o1, h1, e1, e2, e3, e4, e5, e6⟩ := iOX
            have hro2 : fg_ro g R tk ≤ 2 := fg_op_le ha2
            rw [show o - 1 = o1 by have : o = o1 + 1 := e1; omega, e4]
            exact nI_ne0 (by show 0 < fg_ro g R tk - l.length; omega) (by show fg_ro g R tk - l.length < 2 ^ 31; omega)
        refine fg_xw_40 (by omega) (by omega) ico (by omega) hlk ?_
        obtain ⟨k1, k2, k3, -⟩ := hRR p hp
        have hsuf : fg_suf g ((R, p, t, ops) :: F) = fg_it g R t p :: fg_suf g ((R, p + 1, t, ops) :: F) := by
          show fg_rest g R t p (fg_rl g R - p) ++ fg_suf g F = fg_it g R t p :: (fg_rest g R t (p + 1) (fg_rl g R - (p + 1)) ++ fg_suf g F)
          rw [show fg_rl g R - p = (fg_rl g R - (p + 1)) + 1 by omega, fg_rest_s]; rfl
        by_cases hvar : fg_rk g R p = 1
        · -- a variable
          obtain ⟨u4, j, j1, j2, j3⟩ := (hRR p hp).2.2.2 hvar
          have hpt := iBd (fg_rv g R p) j j1 j2 j3
          have hro0 : fg_ro g R p = 0 := fg_op0 (by omega) (by omega) (by omega) (by omega)
          rw [hro0, Nat.add_zero] at hk
          have hit : fg_it g R t p = .inr (fg_bd g R t (fg_rv g R p)) := if_pos hvar
          rw [hsuf, hit] at hR
          have hRW2 : fg_RW g R := by rw [eR]; exact hG.2.2.2 f r hf hr
          have htx := fg_tx_eq hRW2 j1 j2 j3
          have hbV : fg_V g (fg_bd g R t (fg_rv g R p)) ∧ fg_sz (fg_bd g R t (fg_rv g R p)) ≤ 40 := by
            unfold fg_bd fg_D
            rw [htx]
            have hb0 := hRW2.2.2.1
            have w := fg_pe_of hRW2 j1 j2 12 0 t (Nat.zero_le _) (by omega) tV.1 tV.2 tm
            have w2 := fg_fo_ok (fg_wk (fg_pb g R) j 12 0) t tV.2
            exact ⟨⟨fg_pe_ne _ _ w, w2.1⟩, by omega⟩
          refine fg_xw_var (g := g) (f := f) (r := r) (lk := fg_lkt g R ops) (by omega) icr hR20 ica hXR rl12 hp hvar rfl u4 rfl (fg_pt16 (by omega) hpt) (by omega) ico (by omega) (by omega) (fun e => ?_) (fun e => ?_)
          · have hops : ops = [] := by
              cases ops with
              | nil => rfl
              | cons z q => have := bO.1; rw [List.length_cons] at this; omega
            subst hops
            have hk' := hk0 rfl
            subst hk'
            rw [fg_G0] at hk
            injection hk with hk
            refine ihB T N R (p + 1) t F c0 o0 h0 o h s (fg_bd g R t (fg_rv g R p)) con fst snd siz tab lea pile cr (upd ca c0 (nI (p + 1))) co bnd ot lk (upd vs h _) sts ?_ hk (by rw [pk_us]; exact hpt) hbV.1 hbV.2 ?_ hR
            · refine ⟨hXC, ⟨⟨f, r, hf, hr, eR⟩, tV, t40, tm, by omega, Nat.zero_le _, opv⟩, hLw, icr, pk_us, ico, iBd, iOX, fg_FX_cg hG (Nat.le_refl _) (fun _ _ => rfl) F c0 o0 h0 hLw (fun j hj => ⟨rfl, pk_un (by omega), rfl⟩) (fun _ _ => rfl) (fun _ _ => ⟨rfl, rfl⟩) (fun j hj => pk_un (by omega)) iFX, ics, is, ?_⟩
              have : fg_po g ((R, p + 1, t, []) :: F) = (fg_rl g R - (p + 1)) + 0 + fg_po g F := rfl
              rw [List.length_nil] at hpo
              omega
            · have : fg_mu g ((R, p + 1, t, []) :: F) = 2 * (fg_rl g R - (p + 1)) + 0 + 1 + fg_mu g F := rfl
              rw [List.length_nil] at hmu
              omega
          · cases ops with
            | nil => have := bO.1; rw [List.length_nil] at this; omega
            | cons z q =>
              obtain ⟨tk, l⟩ := z
              obtain ⟨w1, w2⟩ := hkc tk l q rfl
              have hro2 : fg_ro g R tk ≤ 2 := fg_op_le ha2
              have hox := fg_OX_app (T' := T) (N' := N) (y := bnd (4 * c0 + fg_rv g R p)) (x := fg_bd g R t (fg_rv g R p)) iOX hpt (Nat.le_refl _) (fun _ _ => rfl)
              obtain ⟨o1, h1, e1, e2, e3, e4, e5, e6⟩ := iOX
              have e1' : o = o1 + 1 := e1
              refine ⟨?_, by show fg_ro g R tk - l.length - 1 < 100; omega, ?_⟩
              · rw [show o - 1 = o1 by omega, e4]
                show nI (fg_ro g R tk - l.length) = nI (fg_ro g R tk - l.length - 1 + 1)
                exact congrArg nI (by omega)
              · have hle6 := fg_OX_le q o0 h0 o1 h1 e6
                refine ihA T N R (p + 1) t ((tk, l ++ [fg_bd g R t (fg_rv g R p)]) :: q) F c0 o0 h0 o (h + 1) s con fst snd siz tab lea pile cr (upd ca c0 (nI (p + 1))) co bnd ot (upd lk (o - 1) (nI (fg_ro g R tk - l.length - 1))) (upd vs h _) sts ?_ ?_ ?_ (fun n' z hz => ?_)
                · refine ⟨hXC, ⟨⟨f, r, hf, hr, eR⟩, tV, t40, tm, by omega, ?_, fun z hz => ?_⟩, hLw, icr, pk_us, ico, iBd, hox, fg_FX_cg hG (Nat.le_refl _) (fun _ _ => rfl) F c0 o0 h0 hLw (fun j hj => ⟨rfl, pk_un (by omega), rfl⟩) (fun _ _ => rfl) (fun j hj => ⟨rfl, pk_un (by omega)⟩) (fun j hj => pk_un (by omega)) iFX, ics, is, ?_⟩
                  · rw [List.length_cons] at opl ⊢; omega
                  · rcases List.mem_cons.mp hz with w | w
                    · have old := opv (tk, l) List.mem_cons_self
                      rw [w]
                      refine ⟨old.1, old.2.1, fun x hx => ?_⟩
                      rcases List.mem_append.mp hx with y | y
                      · exact old.2.2 x y
                      · rw [List.mem_singleton.mp y]; exact hbV
                    · exact opv z (List.mem_cons_of_mem _ w)
                  · have : fg_po g ((R, p + 1, t, (tk, l ++ [fg_bd g R t (fg_rv g R p)]) :: q) :: F) = (fg_rl g R - (p + 1)) + (q.length + 1) + fg_po g F := rfl
                    rw [List.length_cons] at hpo
                    omega
                · refine ⟨?_, fun z hz => hLo z (List.mem_cons_of_mem _ hz), ?_⟩
                  · show (l ++ [fg_bd g R t (fg_rv g R p)]).length ≤ fg_ro g R tk
                    rw [List.length_append, List.length_singleton]; omega
                  · show fg_G _ _ (fg_ro g R tk - (l ++ [fg_bd g R t (fg_rv g R p)]).length + fg_nd g R q) (p + 1) = _
                    rw [List.length_append, List.length_singleton, ← Nat.sub_sub, ← w2]
                    exact hk
                · have : fg_mu g ((R, p + 1, t, (tk, l ++ [fg_bd g R t (fg_rv g R p)]) :: q) :: F) = 2 * (fg_rl g R - (p + 1)) + (q.length + 1) + 1 + fg_mu g F := rfl
                  rw [List.length_cons] at hmu
                  omega
                · refine hR n' z ?_
                  have e := fg_L_app (g := g) (R := R) (F := F) tk l q (fg_bd g R t (fg_rv g R p)) (fg_suf g ((R, p + 1, t, (tk, l) :: q) :: F))
                  rw [show fg_pre g ((R, p, t, (tk, l) :: q) :: F) = fg_pre g F ++ fg_sgs g R ((tk, l) :: q) from rfl, ← e]
                  exact hz
        · -- an operator
          have hk25 : fg_rk g R p = 2 ∨ fg_rk g R p = 5 := by
            rcases k1 with w | w | w
            · exact absurd w hvar
            · exact Or.inl w
            · exact Or.inr w
          have hit : fg_it g R t p = .inl (fg_rk g R p, fg_rv g R p, R / 5) := if_neg hvar
          refine fg_xw_op (by omega) icr hR20 ica hX.1 ha2 hXR rl12 hp hk25 ?_ (by omega) ?_
          · rcases hk25 with w | w
            · have := k2 w; omega
            · have := k3 w; omega
          · refine ihA T N R (p + 1) t ((p, []) :: ops) F c0 o0 h0 (o + 1) h s con fst snd siz tab lea pile cr (upd ca c0 (nI (p + 1))) co bnd (upd ot o (nI p)) (upd lk o (nI (fg_ro g R p))) vs sts ?_ ?_ ?_ (fun n' z hz => ?_)
            · refine ⟨hXC, ⟨⟨f, r, hf, hr, eR⟩, tV, t40, tm, by omega, by rw [List.length_cons]; omega, fun z hz => ?_⟩, hLw, icr, pk_us, ico, iBd, fg_OX_push iOX, fg_FX_cg hG (Nat.le_refl _) (fun _ _ => rfl) F c0 o0 h0 hLw (fun j hj => ⟨rfl, pk_un (by omega), rfl⟩) (fun _ _ => rfl) (fun j hj => ⟨pk_un (by omega), pk_un (by omega)⟩) (fun _ _ => rfl) iFX, ics, is, ?_⟩
              · rcases List.mem_cons.mp hz with w | w
                · rw [w]; exact ⟨hp, hvar, fun x hx => nomatch hx⟩
                · exact opv z w
              · have : fg_po g ((R, p + 1, t, (p, []) :: ops) :: F) = (fg_rl g R - (p + 1)) + (ops.length + 1) + fg_po g F := rfl
                omega
            · refine ⟨Nat.zero_le _, hLo, ?_⟩
              show fg_G _ _ (fg_ro g R p - 0 + fg_nd g R ops) (p + 1) = _
              have e : fg_nd g R ops = k := by
                cases ops with
                | nil => exact (hk0 rfl).symm
                | cons z q =>
                  obtain ⟨tk, l⟩ := z
                  exact (hkc tk l q rfl).2.symm
              rw [e, Nat.sub_zero, Nat.add_comm]
              exact hk
            · have : fg_mu g ((R, p + 1, t, (p, []) :: ops) :: F) = 2 * (fg_rl g R - (p + 1)) + (ops.length + 1) + 1 + fg_mu g F := rfl
              omega
            · refine hR n' z ?_
              rw [hsuf, hit]
              have e := fg_L_top (g := g) (R := R) (F := F) p [] ops (fg_suf g ((R, p + 1, t, ops) :: F))
              have hz' : fg_Rn g n' s (fg_fS (fg_pre g F ++ fg_sgs g R ((p, []) :: ops)) ++ fg_suf g ((R, p + 1, t, ops) :: F)) z := hz
              rw [e] at hz'
              exact hz'
    · intro T N R p t F c0 o0 h0 o h s v con fst snd siz tab lea pile cr ca co bnd ot lk vs sts hI hp hv vV v40 hm hR
      obtain ⟨hXC, hFv, hLw, icr, ica, ico, iBd, iOX, iFX, ics, is, iN⟩ := hI
      obtain ⟨⟨f, r, hf, hr, eR⟩, -⟩ := hFv
      have h5 := hG.2.2.1 f hf
      have hR20 : R < 20 := by omega
      have hXR : fg_XR g x_pLength x_rLength x_pKind x_pValue x_pBehind x_rKind x_rValue x_path R := by rw [eR]; exact hX.2.2 f r hf hr
      have bF := fg_FX_b hG F c0 o0 h0 hLw iFX
      obtain ⟨eo, eh⟩ := iOX
      subst eo eh
      have hrl : x_rLength R = nI p := by rw [hp]; exact hXR.2.1
      have hmu : fg_mu g ((R, p, t, []) :: F) = 2 * (fg_rl g R - p) + 0 + 1 + fg_mu g F := rfl
      have hpo : fg_po g ((R, p, t, []) :: F) = (fg_rl g R - p) + 0 + fg_po g F := rfl
      obtain ⟨y, y1, y2, y3⟩ := fg_pt_ne vV.1 hv
      have hsuf : fg_suf g ((R, p, t, []) :: F) = fg_suf g F := by
        show fg_rest g R t p (fg_rl g R - p) ++ fg_suf g F = _
        rw [hp, Nat.sub_self]; rfl
      have hpre : fg_pre g ((R, p, t, []) :: F) = fg_pre g F := by
        show fg_pre g F ++ [] = _
        rw [List.append_nil]
      rw [hsuf, hpre] at hR
      refine br_f (nI_nle (by omega) (by omega)) (br_t rfl ?_)
      cases F with
      | nil =>
        obtain ⟨rfl, rfl, rfl⟩ := iFX
        refine fg_xw_40 (by omega) (by omega) ico (Nat.le_refl _) (fun w => absurd w (Nat.lt_irrefl _)) ?_
        refine fg_xw_ret0 icr hR20 ica hrl (by omega) y2 (by omega) ?_
        have hq := hR 1 (0, -1, s, v) (Or.inl ⟨v, rfl, rfl⟩)
        obtain ⟨m', rfl⟩ : ∃ q, m = q + 1 := ⟨m - 1, by omega⟩
        refine br_t (by decide) (br_t rfl ?_)
        rw [pk_us]
        refine fg_xwrite hXC.1 (by omega) h6 y1 y3 (fun pile ou hou => ?_)
        exact hQ (0, -1, s, v) hq (Or.inl ⟨rfl, vV, v40⟩) _ _ _ _ _ _ _ _ _ _ _ _ _ _ _ _ _ _ _ ou hou
      | cons z F2 =>
        obtain ⟨R2, p2, t2, ops2⟩ := z
        obtain ⟨c1, o1, h1, f1, f2, f3, f4, f5, f6, f7⟩ := iFX
        subst f1
        obtain ⟨g1, g2, g3, g4⟩ := hLw
        have g1' := g1
        obtain ⟨⟨f', r', hf', hr', eR'⟩, tV2, t402, tm2, pl2, opl2, opv2⟩ := g1'
        have le2 := fg_OX_le ops2 o1 h1 o h f6
        have bF2 := fg_FX_b hG F2 c1 o1 h1 g4 f7
        refine fg_xw_40 (by omega) (by omega) ico (Nat.le_refl _) (fun w => absurd w (Nat.lt_irrefl _)) ?_
        refine fg_xw_ret (lk := fg_lkt g R2 ops2) (by omega) icr hR20 ica hrl f4 (by omega) (by omega) (fun e => ?_) (fun e => ?_)
        · have hops : ops2 = [] := by
            cases ops2 with
            | nil => rfl
            | cons z q => have := le2.1; rw [List.length_cons] at this; omega
          subst hops
          have hp2 : p2 = fg_rl g R2 := by
            rw [show fg_nd g R2 [] = 0 from rfl, fg_G0] at g3
            injection g3
          refine ihB T N R2 p2 t2 F2 c1 o1 h1 o h s v con fst snd siz tab lea pile cr ca co bnd ot lk vs sts ⟨hXC, g1, g4, f2, f3, f4, f5, f6, f7, by omega, is, ?_⟩ hp2 hv vV v40 ?_ (fun n' z hz => hR n' z hz)
          · have : fg_po g ((R, p, t, []) :: (R2, p2, t2, []) :: F2) = (fg_rl g R - p) + 0 + fg_po g ((R2, p2, t2, []) :: F2) := rfl
            omega
          · have : fg_mu g ((R, p, t, []) :: (R2, p2, t2, []) :: F2) = 2 * (fg_rl g R - p) + 0 + 1 + fg_mu g ((R2, p2, t2, []) :: F2) := rfl
            omega
        · cases ops2 with
          | nil => have := le2.1; rw [List.length_nil] at this; omega
          | cons z q =>
            obtain ⟨tk, l⟩ := z
            have w1 : l.length < fg_ro g R2 tk := g2 (tk, l) List.mem_cons_self
            have hro2 : fg_ro g R2 tk ≤ 2 := fg_op_le ha2
            have hox := fg_OX_app (T' := T) (N' := N) (y := vs h) (x := v) f6 hv (Nat.le_refl _) (fun _ _ => rfl)
            have hvs : upd vs h (vs h) = vs := by
              funext j
              by_cases w : j = h
              · subst w; rw [pk_us]
              · rw [pk_un w]
            rw [hvs] at hox
            obtain ⟨o2, h2, e1, e2, e3, e4, e5, e6⟩ := f6
            have e1' : o = o2 + 1 := e1
            have hle6 := fg_OX_le q o1 h1 o2 h2 e6
            refine ⟨?_, by show fg_ro g R2 tk - l.length - 1 < 100; omega, ?_⟩
            · rw [show o - 1 = o2 by omega, e4]
              show nI (fg_ro g R2 tk - l.length) = nI (fg_ro g R2 tk - l.length - 1 + 1)
              exact congrArg nI (by omega)
            · refine ihA T N R2 p2 t2 ((tk, l ++ [v]) :: q) F2 c1 o1 h1 o (h + 1) s con fst snd siz tab lea pile cr ca co bnd ot (upd lk (o - 1) (nI (fg_ro g R2 tk - l.length - 1))) vs sts ?_ ?_ ?_ (fun n' z hz => ?_)
              · refine ⟨hXC, ⟨⟨f', r', hf', hr', eR'⟩, tV2, t402, tm2, pl2, ?_, fun z hz => ?_⟩, g4, f2, f3, f4, f5, hox, fg_FX_cg hG (Nat.le_refl _) (fun _ _ => rfl) F2 c1 o1 h1 g4 (fun _ _ => ⟨rfl, rfl, rfl⟩) (fun _ _ => rfl) (fun j hj => ⟨rfl, pk_un (by omega)⟩) (fun _ _ => rfl) f7, by omega, is, ?_⟩
                · rw [List.length_cons] at opl2 ⊢; omega
                · rcases List.mem_cons.mp hz with w | w
                  · have old := opv2 (tk, l) List.mem_cons_self
                    rw [w]
                    refine ⟨old.1, old.2.1, fun x hx => ?_⟩
                    rcases List.mem_append.mp hx with y | y
                    · exact old.2.2 x y
                    · rw [List.mem_singleton.mp y]; exact ⟨vV, v40⟩
                  · exact opv2 z (List.mem_cons_of_mem _ w)
                · have a1 : fg_po g ((R2, p2, t2, (tk, l ++ [v]) :: q) :: F2) = (fg_rl g R2 - p2) + (q.length + 1) + fg_po g F2 := rfl
                  have a2 : fg_po g ((R, p, t, []) :: (R2, p2, t2, (tk, l) :: q) :: F2) = (fg_rl g R - p) + 0 + ((fg_rl g R2 - p2) + (q.length + 1) + fg_po g F2) := rfl
                  omega
              · refine ⟨?_, fun z hz => g2 z (List.mem_cons_of_mem _ hz), ?_⟩
                · show (l ++ [v]).length ≤ fg_ro g R2 tk
                  rw [List.length_append, List.length_singleton]; omega
                · show fg_G _ _ (fg_ro g R2 tk - (l ++ [v]).length + fg_nd g R2 q) p2 = _
                  rw [List.length_append, List.length_singleton, ← Nat.sub_sub]
                  exact g3
              · have a1 : fg_mu g ((R2, p2, t2, (tk, l ++ [v]) :: q) :: F2) = 2 * (fg_rl g R2 - p2) + (q.length + 1) + 1 + fg_mu g F2 := rfl
                have a2 : fg_mu g ((R, p, t, []) :: (R2, p2, t2, (tk, l) :: q) :: F2) = 2 * (fg_rl g R - p) + 0 + 1 + (2 * (fg_rl g R2 - p2) + (q.length + 1) + 1 + fg_mu g F2) := rfl
                omega
              · refine hR n' z ?_
                have e := fg_L_app (g := g) (R := R2) (F := F2) tk l q v (fg_suf g ((R2, p2, t2, (tk, l) :: q) :: F2))
                rw [show fg_pre g ((R2, p2, t2, (tk, l) :: q) :: F2) = fg_pre g F2 ++ fg_sgs g R2 ((tk, l) :: q) from rfl, ← e]
                exact hz
end
end
section
/-! X: run, the whole -/
section
variable {x_cons x_drafted x_given x_cells x_calls x_opened x_held x_steps x_outcome x_culprit x_size x_kinds : Int32} {x_arity x_dKind x_dValue x_behind x_pKind x_pValue x_pBehind x_rKind x_rValue x_pLength x_rLength x_rows x_path x_argument x_cCon x_cFirst x_cSecond x_cSize x_table x_learnt x_pile x_callRow x_callAt x_callOpen x_bound x_openToken x_lacks x_output x_kSize x_counted x_openSize x_values : Nat → Int32} {x_sets x_kSet x_kMany x_kList x_counts x_firstOpen : Nat → Int64}
variable {g : fg_C} {f : Nat} {t : fg_T}
theorem fg_xrun {post : Int32 → SX → Prop} {Q : (Nat × Int32 × Nat × fg_T) → Prop} (hG : fg_WF g) (hX : fg_CX g x_arity x_rows x_pLength x_rLength x_pKind x_pValue x_pBehind x_rKind x_rValue x_path) (hf : f < 4)
    (hV : fg_V g t) (h40 : fg_sz t ≤ 40) (hat : fg_at x_argument 0 (fg_fl t))
    (hQ : ∀ z, Q z → fg_Fin g z → ∀ (cells calls opened held : Int32) (con fst snd siz tab lea pile cr ca co bnd ot lk vs : Nat → Int32) (sts : Nat → Int64) (ou : Nat → Int32), fg_at ou 0 (fg_fl z.2.2.2) →
      post (nI z.1) (x_cons, x_drafted, nI (fg_sz t), cells, calls, opened, held, nI z.2.2.1, nI z.1, z.2.1, nI (fg_sz z.2.2.2), x_kinds, x_arity, x_dKind, x_dValue, x_behind, x_pKind, x_pValue, x_pBehind, x_rKind, x_rValue, x_pLength, x_rLength, x_rows, x_path, x_argument, con, fst, snd, siz, tab, sts, lea, pile, cr, ca, co, bnd, ot, lk, ou, x_kSize, x_kSet, x_kMany, x_kList, x_counts, x_counted, x_firstOpen, x_openSize, vs))
    (hR : ∀ n z, fg_Rn g n 0 [.inl (5, f, f), .inr t] z → Q z) : wpX_run post (x_cons, x_drafted, nI (fg_sz t), x_cells, x_calls, x_opened, x_held, x_steps, x_outcome, x_culprit, x_size, x_kinds, x_arity, x_dKind, x_dValue, x_behind, x_pKind, x_pValue, x_pBehind, x_rKind, x_rValue, x_pLength, x_rLength, x_rows, x_path, x_argument, x_cCon, x_cFirst, x_cSecond, x_cSize, x_table, x_sets, x_learnt, x_pile, x_callRow, x_callAt, x_callOpen, x_bound, x_openToken, x_lacks, x_output, x_kSize, x_kSet, x_kMany, x_kList, x_counts, x_counted, x_firstOpen, x_openSize, x_values) (nI f) := by
  have hp := fg_szp hV.1
  unfold wpX_run
  dsimp only
  refine fg_x4t hf (br_f (by decide) (br_f (nI_ne0 hp (by omega)) ?_))
  refine fg_xload hG.1 hX.1 hV.1 hV.2 h40 hat (fun n N T pile con fst snd siz tab lea h1 h2 h3 h4 => ?_)
  refine nm_r (e' := nI 1) (by decide) (And.intro (vp_in_iff.mpr (by decide)) (nm_r (e' := upd x_values 0 (nI n)) (by rw [fg_w16 (by omega)]; rfl) ?_))
  dsimp only
  have hstart : ∀ m z, fg_Rn g m 0 (fg_fS [] ++ (.inl (5, f, f) :: ([t].map .inr ++ []))) z → Q z := hR
  refine fg_xcall (N := N) (T := T) (x := n) (t := t) (c := 0) (o := 0) (h := 0) (s := 0) hG hX hf (by omega) h4.1 h4.2.2 h1 h2 pk_us (by decide) (by decide) (by decide) (by decide) (fun z => absurd z (by decide)) (fun _ tk1 pile lea sts hLe => ?_) (fun _ tk1 pile lea bnd sts hLe b1 b2 => ?_)
  · dsimp only
    refine ⟨1, br_t (by decide) (br_f (by decide) ?_)⟩
    have hq := hstart 1 (1, nI f, 1, fg_nil) (Or.inr ⟨[], 5, f, f, [t], [], rfl, (fun q hq => nomatch hq), rfl, Or.inl ⟨rfl, t, rfl, Or.inr (Or.inl ⟨by decide, tk1, rfl⟩)⟩⟩)
    exact hQ (1, nI f, 1, fg_nil) hq (Or.inr ⟨Nat.le_refl _, (by decide : 1 ≤ 3), rfl⟩) _ _ _ _ _ _ _ _ _ _ _ _ _ _ _ _ _ _ _ x_output fg_at_nil
  · have hRW := hG.2.2.2 f _ hf tk1
    have r12 := hRW.1
    have hm : fg_mr g (5 * f + fg_tk g f t) 0 t = true := (fg_fr_sp (p := fun r => fg_mr g (5 * f + r) 0 t) (fg_rw g f)).2.2 tk1
    have loop := (fg_xrun66 (post := post) (Q := Q) (x_given := nI (fg_sz t)) (x_cons := x_cons) (x_drafted := x_drafted) (x_kinds := x_kinds) (x_output := x_output) hG hX hQ (40 * (100 - 1) + fg_mu g [(5 * f + fg_tk g f t, 0, t, [])] + 1)).1 T N (5 * f + fg_tk g f t) 0 t [] [] 0 0 0 0 0 1 con fst snd siz tab lea pile (upd x_callRow 0 (nI (5 * f + fg_tk g f t))) (upd x_callAt 0 0) (upd x_callOpen 0 (nI 0)) bnd x_openToken x_lacks (upd x_values 0 (nI n)) sts ?_ hRW.2.2.2.2.2.2.2 (Nat.lt_succ_self _) (fun m z hz => ?_)
    · exact ⟨_, loop⟩
    · refine ⟨⟨h4.1, h4.2.1, hLe⟩, ⟨⟨f, _, hf, tk1, rfl⟩, hV, h40, hm, Nat.zero_le _, Nat.le_refl _, (fun z hz => nomatch hz)⟩, True.intro, pk_us, pk_us, pk_us, b2, ⟨rfl, rfl⟩, ⟨rfl, rfl, rfl⟩, by decide, by decide, ?_⟩
      have : fg_po g [(5 * f + fg_tk g f t, 0, t, [])] = (fg_rl g (5 * f + fg_tk g f t) - 0) + 0 + 0 := rfl
      omega
    · refine hstart (m + 1) z (Or.inr ⟨[], 5, f, f, [t], [], rfl, (fun q hq => nomatch hq), rfl, Or.inl ⟨rfl, t, rfl, Or.inr (Or.inr ⟨by decide, tk1, ?_⟩)⟩⟩)
      exact hz
end
end
section
/-! Y: bind -/
def fg_chn (be : Nat → Nat) (N : Nat) : Nat → Nat → Nat → Prop
  | 0, i, j => j = i
  | k + 1, i, j => be i < N ∧ fg_chn be N k (be i) j
def fg_Pl (g : fg_C) (R : Nat) (t : fg_T) (places : Nat → Int32) (j : Nat) : Prop := ∃ p, p < fg_sz t ∧ places j = nI p ∧ fg_sub t p = fg_D g R t j ∧ fg_mr g R j (fg_D g R t j) = true
theorem fg_chn_ge {o be : Nat → Nat} {N : Nat} (hP : fg_P o be N) : ∀ (k i j : Nat), i < N → fg_chn be N k i j → j < N ∧ i ≤ j ∧ (1 ≤ k → be i ≤ j) := by
  intro k
  induction k with
  | zero =>
    intro i j hi h
    have : j = i := h
    subst this
    exact ⟨hi, Nat.le_refl _, fun h => absurd h (by omega)⟩
  | succ k ih =>
    rintro i j hi ⟨h1, h2⟩
    have := ih (be i) j h1 h2
    have := (hP i hi).1
    exact ⟨by omega, by omega, fun _ => by omega⟩
section
variable {y_cons y_drafted y_nodes y_length y_argumentLength y_givenLength y_steps y_blamed y_how y_ran y_working : Int32} {y_arity y_draftKind y_draftWith y_kind y_with y_patternLength y_resultLength y_rows y_head y_left y_right y_size y_list y_stack y_starts y_argument y_given y_fits y_ends y_places y_bound y_workKind y_workWith y_owner y_counts y_openSize y_open y_known : Nat → Int32}
variable {g : fg_C} {f r R N : Nat} {t : fg_T} {T : Nat → fg_T}
theorem fg_ybind {post : SY → Prop} (hG : fg_WF g) (hC : fg_CY g y_arity y_rows y_patternLength y_resultLength y_kind y_with) (hf : f < 4) (hr : r < fg_rw g f) (hR : R = 5 * f + r) (hV : fg_V g t) (h40 : fg_sz t ≤ 40) (hm : fg_mr g R 0 t = true) (hE : fg_En t y_ends) (hst : ∀ i, i < fg_sz t → fg_pt T N (y_starts i) (fg_sub t i))
    (hp : ∀ places bnd : Nat → Int32, (∀ u i, i < fg_pl g R → fg_pk g R i = 1 → fg_pv g R i = u → fg_pt T N (bnd u) (fg_bd g R t u)) → post (y_cons, y_drafted, y_nodes, y_length, y_argumentLength, y_givenLength, y_steps, y_blamed, y_how, y_ran, y_working, y_arity, y_draftKind, y_draftWith, y_kind, y_with, y_patternLength, y_resultLength, y_rows, y_head, y_left, y_right, y_size, y_list, y_stack, y_starts, y_argument, y_given, y_fits, y_ends, places, bnd, y_workKind, y_workWith, y_owner, y_counts, y_openSize, y_open, y_known)) : wpY_bind post (y_cons, y_drafted, y_nodes, y_length, y_argumentLength, y_givenLength, y_steps, y_blamed, y_how, y_ran, y_working, y_arity, y_draftKind, y_draftWith, y_kind, y_with, y_patternLength, y_resultLength, y_rows, y_head, y_left, y_right, y_size, y_list, y_stack, y_starts, y_argument, y_given, y_fits, y_ends, y_places, y_bound, y_workKind, y_workWith, y_owner, y_counts, y_openSize, y_open, y_known) (nI R) := by
  have h5 := hG.2.2.1 f hf
  have h6 := hG.1
  have hR20 : R < 20 := by omega
  have hRW : fg_RW g R := by rw [hR]; exact hG.2.2.2 f r hf hr
  have hYR := hC.2.2 f r hf hr
  rw [← hR] at hYR
  obtain ⟨yl, -, yP, -⟩ := hYR
  have hRW' := hRW
  obtain ⟨⟨p1, p12, -, -⟩, hP, hb0, hK, hU, hNN, -, -⟩ := hRW'
  have v20 : vp_in (nI R) 20 := vp_in_nI hR20 (by decide)
  have key : ∀ (d i : Nat) (places bnd : Nat → Int32), fg_pl g R - i ≤ d → i ≤ fg_pl g R → (i < fg_pl g R → ∀ k j, fg_chn (fg_pb g R) (fg_pl g R) k i j → fg_Pl g R t places j) → (∀ j, j < i → fg_pk g R j = 1 → fg_pt T N (bnd (fg_pv g R j)) (fg_D g R t j)) → wY_bind_14 post (nI R) (nI (24 * R)) y_cons y_drafted y_nodes y_length y_argumentLength y_givenLength y_steps y_blamed y_how y_ran y_working (d + 1) (nI i) y_arity y_draftKind y_draftWith y_kind y_with y_patternLength y_resultLength y_rows y_head y_left y_right y_size y_list y_stack y_starts y_argument y_given y_fits y_ends places bnd y_workKind y_workWith y_owner y_counts y_openSize y_open y_known := by
    intro d
    induction d with
    | zero =>
      intro i places bnd hd hi hch hbd
      have hiN : i = fg_pl g R := by omega
      refine And.intro v20 (br_t (by rw [nI_clamp (by omega), yl]; exact nI_le (by omega) (by omega)) (hp places bnd (fun u j a1 a2 a3 => ?_)))
      unfold fg_bd
      rw [fg_tx_eq hRW a1 a2 a3, ← a3]
      exact hbd j (by omega) a2
    | succ d ih =>
      intro i places bnd hd hi hch hbd
      rcases Nat.eq_or_lt_of_le hi with hiN | hilt
      · refine And.intro v20 (br_t (by rw [nI_clamp (by omega), yl]; exact nI_le (by omega) (by omega)) (hp places bnd (fun u j a1 a2 a3 => ?_)))
        unfold fg_bd
        rw [fg_tx_eq hRW a1 a2 a3, ← a3]
        exact hbd j (by omega) a2
      · obtain ⟨k1, k2⟩ := yP i hilt
        obtain ⟨j1, j2, j3⟩ := hK i hilt
        obtain ⟨b1, b2, b3⟩ := hP i hilt
        obtain ⟨p, pp1, pp2, pp3, pp4⟩ := hch hilt 0 i rfl
        have e24 : nI (24 * R) + nI i = nI (24 * R + i) := nI_add _ _
        have c24 : (nI (24 * R + i)).toNatClampNeg = 24 * R + i := nI_clamp (by omega)
        have v24 : vp_in (nI (24 * R + i)) 480 := vp_in_nI (by omega) (by decide)
        have v12 : vp_in (nI i) 12 := vp_in_nI (by omega) (by decide)
        have ci : (nI i).toNatClampNeg = i := nI_clamp (by omega)
        have hDne : fg_D g R t i ≠ fg_nil := by rw [← pp3]; exact fg_sub_ne t p pp1
        have hDok : fg_ok (fg_nc g) (fg_ar g) (fg_D g R t i) := by rw [← pp3]; exact fg_ok_sub t p hV.2
        -- the chain from the place behind
        have nxt : fg_pb g R i < fg_pl g R → ∀ k j, fg_chn (fg_pb g R) (fg_pl g R) k (fg_pb g R i) j → fg_Pl g R t places j := fun hlt k j h => hch hilt (k + 1) j ⟨hlt, h⟩
        -- no variable between
        have nov : ∀ bnd' : Nat → Int32, (∀ j, j < i + 1 → fg_pk g R j = 1 → fg_pt T N (bnd' (fg_pv g R j)) (fg_D g R t j)) → (fg_pk g R i = 3 ∨ fg_pk g R i = 4 ∨ fg_pb g R i = i + 1) → ∀ j, j < fg_pb g R i → fg_pk g R j = 1 → fg_pt T N (bnd' (fg_pv g R j)) (fg_D g R t j) := by
          intro bnd' hb hk j hj hj1
          rcases Nat.lt_or_ge j (i + 1) with w | w
          · exact hb j w hj1
          · rcases hk with hk | hk | hk
            · exact absurd hj1 (hNN i j hilt (Or.inl hk) (by omega) hj)
            · exact absurd hj1 (hNN i j hilt (Or.inr hk) (by omega) hj)
            · omega
        refine And.intro v20 (br_f (by rw [nI_clamp (by omega), yl]; exact nI_ge hilt (by omega)) ?_)
        rw [e24, c24]
        refine And.intro v24 (nm_r k1 ?_)
        -- behind a variable: 64
        have w64 : ∀ bnd' : Nat → Int32, (∀ j, j < i + 1 → fg_pk g R j = 1 → fg_pt T N (bnd' (fg_pv g R j)) (fg_D g R t j)) → wY_bind_64 post (wY_bind_14 post (nI R) (nI (24 * R)) y_cons y_drafted y_nodes y_length y_argumentLength y_givenLength y_steps y_blamed y_how y_ran y_working (d + 1)) (nI R) (nI (24 * R)) (nI i) (nI (fg_pk g R i)) y_cons y_drafted y_nodes y_length y_argumentLength y_givenLength y_steps y_blamed y_how y_ran y_working y_arity y_draftKind y_draftWith y_kind y_with y_patternLength y_resultLength y_rows y_head y_left y_right y_size y_list y_stack y_starts y_argument y_given y_fits y_ends places bnd' y_workKind y_workWith y_owner y_counts y_openSize y_open y_known := by
          intro bnd' hb'
          have w76 : (fg_pk g R i = 3 ∨ fg_pk g R i = 4) → wY_bind_76 post (wY_bind_14 post (nI R) (nI (24 * R)) y_cons y_drafted y_nodes y_length y_argumentLength y_givenLength y_steps y_blamed y_how y_ran y_working (d + 1)) (nI R) (nI (24 * R)) (nI i) (nI (fg_pk g R i)) y_cons y_drafted y_nodes y_length y_argumentLength y_givenLength y_steps y_blamed y_how y_ran y_working y_arity y_draftKind y_draftWith y_kind y_with y_patternLength y_resultLength y_rows y_head y_left y_right y_size y_list y_stack y_starts y_argument y_given y_fits y_ends places bnd' y_workKind y_workWith y_owner y_counts y_openSize y_open y_known := by
            intro h34
            unfold wY_bind_76
            rw [e24]
            refine ⟨1 + (fg_pb g R i - i), ?_⟩
            refine fg_ypart hG hC hf hr hR _ i 0 1 hilt rfl (by omega) ?_
            refine br_t (by decide) ?_
            obtain ⟨q, hq⟩ : ∃ q, fg_pb g R i = q + 1 := ⟨fg_pb g R i - 1, by omega⟩
            refine nm_r (e' := nI q) (by rw [pk_sub (by omega), show 24 * R + fg_pb g R i - 24 * R = q + 1 by omega]; exact nI_pred q) ?_
            unfold wY_bind_88
            refine br_f (by rw [show (2 : Int32) = nI 2 from rfl, nI_eq (by omega) (by decide)]; omega) (nm_r (e' := nI (fg_pb g R i)) (by rw [hq, nI_1]) ?_)
            exact ih (fg_pb g R i) places bnd' (by omega) (by omega) nxt (nov bnd' hb' (by omega))
          unfold wY_bind_64
          refine pk_eq (fg_pk g R i) 3 (fun z => w76 (Or.inl z)) (fun z3 => ?_)
          refine pk_eq (fg_pk g R i) 4 (fun z => w76 (Or.inr z)) (fun z4 => ?_)
          unfold wY_bind_88
          refine pk_eq (fg_pk g R i) 2 (fun z2 => ?_) (fun z2 => ?_)
          · have hv := j2 z2
            have hw := k2 (Or.inr z2)
            have ho : fg_op (fg_ar g) (fg_pk g R) (fg_pv g R) i = fg_ar g (fg_pv g R i) := fg_op2 z2
            have ha2 := hG.2.1 (fg_pv g R i)
            obtain ⟨c1, c2, c3, c4⟩ := fg_con_in hRW hilt z2 hDne hDok pp4
            rw [e24, c24, hw]
            refine And.intro v24 (And.intro (vp_in_nI (by omega) (by decide)) (nm_r (e' := nI (fg_ar g (fg_pv g R i))) (by rw [nI_clamp (by omega)]; exact hC.1 _) ?_))
            refine pk_le (fg_ar g (fg_pv g R i)) 0 (fun y0 => ?_) (fun y0 => ?_)
            · have hbe : fg_pb g R i = i + 1 := by
                rcases b3 with w | w | w <;> omega
              unfold wY_bind_133
              refine br_t (by rw [show fg_ar g (fg_pv g R i) = 0 by omega]; decide) (nm_r (nI_1 i) ?_)
              have := ih (fg_pb g R i) places bnd' (by omega) (by omega) nxt (nov bnd' hb' (by omega))
              rw [hbe] at this
              exact this
            · have hi1 : i + 1 < fg_pl g R := fg_P1 hP hilt (by omega)
              have hLne : fg_L (fg_D g R t i) ≠ fg_nil := by
                rcases c2 with w | w | w
                · omega
                · exact w.2.1
                · exact w.2.1
              have hLs := fg_szp hLne
              have hLe : fg_L (fg_sub t p) ≠ fg_nil := by rw [pp3]; exact hLne
              have hse := fg_sube (t := t) (p := p) pp1
              have hsl := fg_subl (t := t) (p := p) pp1 hLe
              rw [pp3] at hse hsl
              have hDL : fg_D g R t (i + 1) = fg_L (fg_D g R t i) := fg_DL hRW hilt (by omega)
              have plL : ∀ pl' : Nat → Int32, pl' (i + 1) = nI (p + 1) → fg_Pl g R t pl' (i + 1) := fun pl' hpl => ⟨p + 1, by omega, hpl, by rw [hsl, hDL], by rw [hDL]; exact c3 (by omega)⟩
              rw [ci, nI_1 i, nI_clamp (show i + 1 < 2 ^ 31 by omega), pp2, nI_1 p]
              refine And.intro v12 (And.intro (vp_in_nI (by omega) (by decide)) (nm_e ?_))
              unfold wY_bind_133
              refine pk_le (fg_ar g (fg_pv g R i)) 1 (fun y1 => ?_) (fun y1 => ?_)
              · have hbe : fg_pb g R i = fg_pb g R (i + 1) := by
                  rcases b3 with w | w | w
                  · omega
                  · exact w.2.2
                  · omega
                refine nm_r (nI_1 i) (ih (i + 1) _ bnd' (by omega) (by omega) (fun _ k j hkj => ?_) hb')
                cases k with
                | zero =>
                  have : j = i + 1 := hkj
                  subst this
                  exact plL _ pk_us
                | succ k =>
                  obtain ⟨w1, w2⟩ := hkj
                  rw [← hbe] at w1 w2
                  have hge := fg_chn_ge hP k _ j w1 w2
                  obtain ⟨q, q1, q2, q3, q4⟩ := nxt w1 k j w2
                  have b4 := (hP (i + 1) hi1).1
                  exact ⟨q, q1, by rw [pk_un (by omega)]; exact q2, q3, q4⟩
              · have h2 : fg_ar g (fg_pv g R i) = 2 := by omega
                obtain ⟨d1, d2, d3⟩ := fg_P2 hP hilt (by omega)
                have d4 := (hP _ d2).1
                have hRne : fg_R (fg_D g R t i) ≠ fg_nil := by
                  rcases c2 with w | w | w
                  · omega
                  · omega
                  · exact w.2.2
                have hRs := fg_szp hRne
                have hRe : fg_R (fg_sub t p) ≠ fg_nil := by rw [pp3]; exact hRne
                have hsr := fg_subr (t := t) (p := p) pp1 hRe
                rw [pp3] at hsr
                have hDR : fg_D g R t (fg_pb g R (i + 1)) = fg_R (fg_D g R t i) := fg_DR hRW hilt (by omega)
                have hEp := hE (p + 1) (by omega)
                rw [hsl] at hEp
                rw [e24, nI_1 (24 * R + i)]
                refine ⟨1 + (fg_pb g R (i + 1) - (i + 1)), ?_⟩
                refine fg_ypart hG hC hf hr hR _ (i + 1) 0 1 hi1 rfl (by omega) ?_
                refine br_t (by decide) (And.intro v12 ?_)
                have er : nI (24 * R + fg_pb g R (i + 1)) - nI (24 * R) = nI (fg_pb g R (i + 1)) := by
                  rw [pk_sub (by omega)]
                  exact congrArg nI (by omega)
                rw [er, ci, pk_un (show i ≠ i + 1 by omega), pp2, nI_1 p, nI_clamp (show p + 1 < 2 ^ 31 by omega), nI_clamp (show fg_pb g R (i + 1) < 2 ^ 31 by omega), hEp]
                refine And.intro (vp_in_nI (by omega) (by decide)) (And.intro (vp_in_nI (by omega) (by decide)) (nm_e (nm_r (nI_1 i) (ih (i + 1) _ bnd' (by omega) (by omega) (fun _ k j hkj => ?_) hb'))))
                cases k with
                | zero =>
                  have : j = i + 1 := hkj
                  subst this
                  exact plL _ (by rw [pk_un (by omega), pk_us])
                | succ k =>
                  obtain ⟨w1, w2⟩ := hkj
                  cases k with
                  | zero =>
                    have : j = fg_pb g R (i + 1) := w2
                    subst this
                    exact ⟨p + 1 + fg_sz (fg_L (fg_D g R t i)), by omega, pk_us, by rw [hsr, hDR], by rw [hDR]; exact c4 h2⟩
                  | succ k =>
                    obtain ⟨w3, w4⟩ := w2
                    rw [← d3] at w3 w4
                    have hge := fg_chn_ge hP k _ j w3 w4
                    obtain ⟨q, q1, q2, q3, q4⟩ := nxt w3 k j w4
                    exact ⟨q, q1, by rw [pk_un (by omega), pk_un (by omega)]; exact q2, q3, q4⟩
          · have hbe : fg_pb g R i = i + 1 := by
              have := fg_op0 (ar := fg_ar g) (k := fg_pk g R) (v := fg_pv g R) (i := i) z2 z3 z4 (by omega)
              rcases b3 with w | w | w <;> omega
            have := ih (fg_pb g R i) places bnd' (by omega) (by omega) nxt (nov bnd' hb' (by omega))
            rw [hbe] at this
            exact nm_r (nI_1 i) this
        refine pk_eq (fg_pk g R i) 1 (fun z1 => ?_) (fun z1 => ?_)
        · have hv4 := j3 z1
          have hw := k2 (Or.inl z1)
          rw [ci, pp2, hw, nI_clamp (show p < 2 ^ 31 by omega), nI_clamp (show fg_pv g R i < 2 ^ 31 by omega)]
          refine And.intro v24 (And.intro v12 (And.intro (vp_in_nI (by omega) (by decide)) (And.intro (vp_in_nI hv4 (by decide)) (nm_e (w64 _ (fun j hj hj1 => ?_))))))
          by_cases y : j = i
          · subst y
            rw [pk_us, ← pp3]
            exact hst p pp1
          · have hne : fg_pv g R j ≠ fg_pv g R i := fun e => y (hU j i (by omega) hilt hj1 z1 e)
            rw [pk_un hne]
            exact hbd j (by omega) hj1
        · refine w64 bnd (fun j hj hj1 => ?_)
          rcases Nat.lt_or_ge j i with w | w
          · exact hbd j w hj1
          · rw [show j = i by omega] at hj1
            exact absurd hj1 z1
  refine nm_r (e' := nI (24 * R)) (fg_mulc 24 R) (nm_e ⟨fg_pl g R + 1, ?_⟩)
  refine key (fg_pl g R) 0 _ y_bound (by omega) (Nat.zero_le _) (fun h0 k j hkj => ?_) (fun j hj => absurd hj (Nat.not_lt_zero _))
  cases k with
  | zero =>
    have : j = 0 := hkj
    subst this
    exact ⟨0, fg_szp hV.1, pk_us, by rw [fg_sub0]; rfl, hm⟩
  | succ k =>
    obtain ⟨w1, w2⟩ := hkj
    omega
end
end
section
/-! Y: the tokens at work -/
def fg_Yi (T : Nat → fg_T) (N : Nat) : fg_I → Int32 → Int32 → Int32 → Prop
  | .inl (k, v, o), a, b, c => a = nI k ∧ b = nI v ∧ c = nI o
  | .inr t, a, b, _ => a = 6 ∧ fg_pt T N b t
def fg_YW (T : Nat → fg_T) (N : Nat) (L : List fg_I) (wk ww ow : Nat → Int32) : Prop := ∀ i x, L[i]? = some x → fg_Yi T N x (wk i) (ww i) (ow i)
def fg_Iv (g : fg_C) : fg_I → Prop
  | .inl (k, v, o) => ((k = 2 ∧ v < fg_nc g) ∨ (k = 5 ∧ v < 4)) ∧ o < 4
  | .inr t => fg_V g t ∧ fg_sz t ≤ 40
theorem fg_Yi_mono {T T' : Nat → fg_T} {N N' : Nat} {x : fg_I} {a b c : Int32} (h : fg_Yi T N x a b c) (hN : N ≤ N') (hT : ∀ j, j < N → T' j = T j) : fg_Yi T' N' x a b c := by
  cases x with
  | inl q => exact h
  | inr t => exact ⟨h.1, fg_pt_mono h.2 hN hT⟩
theorem fg_getlt {α : Type} {L : List α} {i : Nat} {x : α} (h : L[i]? = some x) : i < L.length := by
  rcases Nat.lt_or_ge i L.length with z | z
  · exact z
  · rw [List.getElem?_eq_none z] at h; exact nomatch h
section
variable {y_cons y_drafted y_nodes y_length y_argumentLength y_givenLength y_steps y_blamed y_how y_ran y_working : Int32} {y_arity y_draftKind y_draftWith y_kind y_with y_patternLength y_resultLength y_rows y_head y_left y_right y_size y_list y_stack y_starts y_argument y_given y_fits y_ends y_places y_bound y_workKind y_workWith y_owner y_counts y_openSize y_open y_known : Nat → Int32}
variable {g : fg_C} {w a b c : Nat}
theorem fg_yshift {post : SY → Prop} {i j : Nat} (hi : i < 1300) (hj : j < 1300) (hp : post (y_cons, y_drafted, y_nodes, y_length, y_argumentLength, y_givenLength, y_steps, y_blamed, y_how, y_ran, y_working, y_arity, y_draftKind, y_draftWith, y_kind, y_with, y_patternLength, y_resultLength, y_rows, y_head, y_left, y_right, y_size, y_list, y_stack, y_starts, y_argument, y_given, y_fits, y_ends, y_places, y_bound, upd y_workKind j (y_workKind i), upd y_workWith j (y_workWith i), upd y_owner j (y_owner i), y_counts, y_openSize, y_open, y_known)) : wpY_shift post (y_cons, y_drafted, y_nodes, y_length, y_argumentLength, y_givenLength, y_steps, y_blamed, y_how, y_ran, y_working, y_arity, y_draftKind, y_draftWith, y_kind, y_with, y_patternLength, y_resultLength, y_rows, y_head, y_left, y_right, y_size, y_list, y_stack, y_starts, y_argument, y_given, y_fits, y_ends, y_places, y_bound, y_workKind, y_workWith, y_owner, y_counts, y_openSize, y_open, y_known) (nI i) (nI j) := by
  have vi : vp_in (nI i) 1300 := vp_in_nI hi (by decide)
  have vj : vp_in (nI j) 1300 := vp_in_nI hj (by decide)
  unfold wpY_shift
  dsimp only
  rw [nI_clamp (show i < 2 ^ 31 by omega), nI_clamp (show j < 2 ^ 31 by omega)]
  exact And.intro vi (And.intro vj (nm_e (And.intro vi (And.intro vj (nm_e (And.intro vi (And.intro vj (nm_e hp))))))))
theorem fg_yput {post : SY → Prop} {i : Nat} {k v o : Int32} (hi : i < 1300) (hp : post (y_cons, y_drafted, y_nodes, y_length, y_argumentLength, y_givenLength, y_steps, y_blamed, y_how, y_ran, y_working, y_arity, y_draftKind, y_draftWith, y_kind, y_with, y_patternLength, y_resultLength, y_rows, y_head, y_left, y_right, y_size, y_list, y_stack, y_starts, y_argument, y_given, y_fits, y_ends, y_places, y_bound, upd y_workKind i k, upd y_workWith i v, upd y_owner i o, y_counts, y_openSize, y_open, y_known)) : wpY_put post (y_cons, y_drafted, y_nodes, y_length, y_argumentLength, y_givenLength, y_steps, y_blamed, y_how, y_ran, y_working, y_arity, y_draftKind, y_draftWith, y_kind, y_with, y_patternLength, y_resultLength, y_rows, y_head, y_left, y_right, y_size, y_list, y_stack, y_starts, y_argument, y_given, y_fits, y_ends, y_places, y_bound, y_workKind, y_workWith, y_owner, y_counts, y_openSize, y_open, y_known) (nI i) k v o := by
  have vi : vp_in (nI i) 1300 := vp_in_nI hi (by decide)
  unfold wpY_put
  dsimp only
  rw [nI_clamp (show i < 2 ^ 31 by omega)]
  exact And.intro vi (nm_e (And.intro vi (nm_e (And.intro vi (nm_e hp)))))
/-- b tokens at a go, c come -/
theorem fg_yreplace {post : SY → Prop} (h1 : a + b ≤ w) (h2 : w + c < 1300) (hb : b ≤ 12) (hc : c ≤ 12)
    (hp : ∀ wk ww ow : Nat → Int32, (∀ j, j < a → wk j = y_workKind j ∧ ww j = y_workWith j ∧ ow j = y_owner j) → (∀ j, a + b + j < w → wk (a + c + j) = y_workKind (a + b + j) ∧ ww (a + c + j) = y_workWith (a + b + j) ∧ ow (a + c + j) = y_owner (a + b + j)) →
      post (y_cons, y_drafted, y_nodes, y_length, y_argumentLength, y_givenLength, y_steps, y_blamed, y_how, y_ran, nI (w - b + c), y_arity, y_draftKind, y_draftWith, y_kind, y_with, y_patternLength, y_resultLength, y_rows, y_head, y_left, y_right, y_size, y_list, y_stack, y_starts, y_argument, y_given, y_fits, y_ends, y_places, y_bound, wk, ww, ow, y_counts, y_openSize, y_open, y_known)) : wpY_replace post (y_cons, y_drafted, y_nodes, y_length, y_argumentLength, y_givenLength, y_steps, y_blamed, y_how, y_ran, nI w, y_arity, y_draftKind, y_draftWith, y_kind, y_with, y_patternLength, y_resultLength, y_rows, y_head, y_left, y_right, y_size, y_list, y_stack, y_starts, y_argument, y_given, y_fits, y_ends, y_places, y_bound, y_workKind, y_workWith, y_owner, y_counts, y_openSize, y_open, y_known) (nI a) (nI b) (nI c) := by
  have ad : ∀ i, b ≤ i → nI i + (nI c - nI b) = nI (i - b + c) := by
    intro i hi
    rw [Int32.sub_eq_add_neg, ← Int32.add_assoc, nI_add, ← Int32.sub_eq_add_neg, pk_sub (by omega)]
    exact congrArg nI (by omega)
  unfold wpY_replace
  dsimp only
  refine nm_e ?_
  rcases Nat.lt_or_ge b c with hlt | hge
  · have e4 : nI c - nI b = nI (c - b) := pk_sub (by omega)
    refine br_f (by rw [e4]; exact nI_nle (by omega) (by omega)) (nm_e ?_)
    have key : ∀ (d m : Nat) (wk ww ow : Nat → Int32), a + b + d = m → m ≤ w → (∀ j, j < m → wk j = y_workKind j ∧ ww j = y_workWith j ∧ ow j = y_owner j) → (∀ j, m ≤ a + b + j → a + b + j < w → wk (a + c + j) = y_workKind (a + b + j) ∧ ww (a + c + j) = y_workWith (a + b + j) ∧ ow (a + c + j) = y_owner (a + b + j)) →
        wY_replace_18 post (nI a) (nI b) (nI c - nI b) (d + 1) (nI m - 1) y_cons y_drafted y_nodes y_length y_argumentLength y_givenLength y_steps y_blamed y_how y_ran (nI w) y_arity y_draftKind y_draftWith y_kind y_with y_patternLength y_resultLength y_rows y_head y_left y_right y_size y_list y_stack y_starts y_argument y_given y_fits y_ends y_places y_bound wk ww ow y_counts y_openSize y_open y_known := by
      intro d
      induction d with
      | zero =>
        intro m wk ww ow hd hm q1 q2
        refine br_t ?_ (nm_r (e' := nI (w - b + c)) (ad w (by omega)) (hp wk ww ow (fun j hj => q1 j (by omega)) (fun j hj => q2 j (by omega) hj)))
        rw [nI_add, show a + b = m by omega]
        rcases Nat.eq_zero_or_pos m with z | z
        · rw [z]; decide
        · obtain ⟨q, rfl⟩ : ∃ q, m = q + 1 := ⟨m - 1, by omega⟩
          rw [nI_pred]
          exact nI_lt (by omega) (by omega)
      | succ d ih =>
        intro m wk ww ow hd hm q1 q2
        obtain ⟨i, rfl⟩ : ∃ q, m = q + 1 := ⟨m - 1, by omega⟩
        rw [nI_pred]
        refine br_f (by rw [nI_add]; exact nI_nlt (by omega) (by omega)) ?_
        rw [ad i (by omega)]
        refine fg_yshift (by omega) (by omega) (nm_r (fg_pdm i) (ih i _ _ _ (by omega) (by omega) (fun j hj => ?_) (fun j hj1 hj2 => ?_)))
        · rw [pk_un (by omega), pk_un (by omega), pk_un (by omega)]; exact q1 j (by omega)
        · by_cases z : a + b + j = i
          · rw [show a + c + j = i - b + c by omega, pk_us, pk_us, pk_us, z]
            exact q1 i (by omega)
          · rw [pk_un (by omega), pk_un (by omega), pk_un (by omega)]; exact q2 j (by omega) hj2
    exact ⟨_, key (w - (a + b)) w y_workKind y_workWith y_owner (by omega) (Nat.le_refl _) (fun _ _ => ⟨rfl, rfl, rfl⟩) (fun j hj1 hj2 => by omega)⟩
  · have e4 : nI c - nI b ≤ 0 := by
      rcases Nat.eq_or_lt_of_le hge with z | z
      · rw [z, Int32.sub_self]; decide
      · have := pk_sneg (a := c) (b := b) (by omega) z
        exact Int32.le_of_lt this
    refine br_t e4 (nm_r (nI_add a b) ?_)
    have key : ∀ (d i : Nat) (wk ww ow : Nat → Int32), i + d = w → a + b ≤ i → (∀ j, j < a → wk j = y_workKind j ∧ ww j = y_workWith j ∧ ow j = y_owner j) → (∀ j, i ≤ j → wk j = y_workKind j ∧ ww j = y_workWith j ∧ ow j = y_owner j) → (∀ j, a + b + j < i → wk (a + c + j) = y_workKind (a + b + j) ∧ ww (a + c + j) = y_workWith (a + b + j) ∧ ow (a + c + j) = y_owner (a + b + j)) →
        wY_replace_51 post (nI c - nI b) (d + 1) (nI i) y_cons y_drafted y_nodes y_length y_argumentLength y_givenLength y_steps y_blamed y_how y_ran (nI w) y_arity y_draftKind y_draftWith y_kind y_with y_patternLength y_resultLength y_rows y_head y_left y_right y_size y_list y_stack y_starts y_argument y_given y_fits y_ends y_places y_bound wk ww ow y_counts y_openSize y_open y_known := by
      intro d
      induction d with
      | zero =>
        intro i wk ww ow hd hi q1 q2 q3
        exact br_t (nI_le (by omega) (by omega)) (nm_r (e' := nI (w - b + c)) (ad w (by omega)) (hp wk ww ow q1 (fun j hj => q3 j (by omega))))
      | succ d ih =>
        intro i wk ww ow hd hi q1 q2 q3
        refine br_f (nI_ge (by omega) (by omega)) ?_
        rw [ad i (by omega)]
        refine fg_yshift (by omega) (by omega) (nm_r (nI_1 i) (ih (i + 1) _ _ _ (by omega) (by omega) (fun j hj => ?_) (fun j hj => ?_) (fun j hj => ?_)))
        · rw [pk_un (by omega), pk_un (by omega), pk_un (by omega)]; exact q1 j hj
        · rw [pk_un (by omega), pk_un (by omega), pk_un (by omega)]; exact q2 j (by omega)
        · by_cases z : a + b + j = i
          · rw [show a + c + j = i - b + c by omega, pk_us, pk_us, pk_us, z]
            exact q2 i (Nat.le_refl _)
          · rw [pk_un (by omega), pk_un (by omega), pk_un (by omega)]; exact q3 j (by omega)
    exact ⟨_, key (w - (a + b)) (a + b) y_workKind y_workWith y_owner (by omega) (Nat.le_refl _) (fun _ _ => ⟨rfl, rfl, rfl⟩) (fun _ _ => ⟨rfl, rfl, rfl⟩) (fun j hj => by omega)⟩
variable {N : Nat} {T : Nat → fg_T}
/-- looking at one token's operands -/
theorem fg_yr46 {post : Int32 → Prop} {J : Int32 → Prop} {i m : Nat} (hi : i + m < 1300) (hm : m ≤ 2) :
    ((∀ q, 1 ≤ q → q ≤ m → y_workKind (i + q) = 6) → post (nI i) → ∃ n, wY_ready_46 post J (nI i) (nI m) y_cons y_drafted y_nodes y_length y_argumentLength y_givenLength y_steps y_blamed y_how y_ran y_working y_arity y_draftKind y_draftWith y_kind y_with y_patternLength y_resultLength y_rows y_head y_left y_right y_size y_list y_stack y_starts y_argument y_given y_fits y_ends y_places y_bound y_workKind y_workWith y_owner y_counts y_openSize y_open y_known n 1 1) ∧
    ((∃ q, 1 ≤ q ∧ q ≤ m ∧ ¬ y_workKind (i + q) = 6) → J (nI (i + 1)) → ∃ n, wY_ready_46 post J (nI i) (nI m) y_cons y_drafted y_nodes y_length y_argumentLength y_givenLength y_steps y_blamed y_how y_ran y_working y_arity y_draftKind y_draftWith y_kind y_with y_patternLength y_resultLength y_rows y_head y_left y_right y_size y_list y_stack y_starts y_argument y_given y_fits y_ends y_places y_bound y_workKind y_workWith y_owner y_counts y_openSize y_open y_known n 1 1) := by
  have ei : ∀ q, nI i + nI q = nI (i + q) := fun q => nI_add i q
  have B0 : J (nI (i + 1)) → ∀ (d j : Nat), j + d = m + 1 → wY_ready_46 post J (nI i) (nI m) y_cons y_drafted y_nodes y_length y_argumentLength y_givenLength y_steps y_blamed y_how y_ran y_working y_arity y_draftKind y_draftWith y_kind y_with y_patternLength y_resultLength y_rows y_head y_left y_right y_size y_list y_stack y_starts y_argument y_given y_fits y_ends y_places y_bound y_workKind y_workWith y_owner y_counts y_openSize y_open y_known (d + 1) 0 (nI j) := by
    intro hJ d
    induction d with
    | zero => intro j hj; exact br_t (nI_lt (by omega) (by omega)) (br_t rfl (nm_r (nI_1 i) hJ))
    | succ d ih => intro j hj; exact br_f (nI_nlt (by omega) (by omega)) (br_t rfl (nm_r (nI_1 j) (ih (j + 1) (by omega))))
  constructor
  · intro hall hpost
    have A : ∀ (d j : Nat), 1 ≤ j → j + d = m + 1 → wY_ready_46 post J (nI i) (nI m) y_cons y_drafted y_nodes y_length y_argumentLength y_givenLength y_steps y_blamed y_how y_ran y_working y_arity y_draftKind y_draftWith y_kind y_with y_patternLength y_resultLength y_rows y_head y_left y_right y_size y_list y_stack y_starts y_argument y_given y_fits y_ends y_places y_bound y_workKind y_workWith y_owner y_counts y_openSize y_open y_known (d + 1) 1 (nI j) := by
      intro d
      induction d with
      | zero => intro j h1 hj; exact br_t (nI_lt (by omega) (by omega)) (br_f (by decide) hpost)
      | succ d ih =>
        intro j h1 hj
        refine br_f (nI_nlt (by omega) (by omega)) (br_f (by decide) ?_)
        rw [ei, nI_clamp (by omega)]
        exact And.intro (vp_in_nI (by omega) (by decide)) (br_t (hall j h1 (by omega)) (nm_r (nI_1 j) (ih (j + 1) (by omega) (by omega))))
    exact ⟨_, A m 1 (Nat.le_refl _) (by omega)⟩
  · intro hex hJ
    have B : ∀ (d j : Nat), 1 ≤ j → j + d = m + 1 → (∃ q, j ≤ q ∧ q ≤ m ∧ ¬ y_workKind (i + q) = 6) → wY_ready_46 post J (nI i) (nI m) y_cons y_drafted y_nodes y_length y_argumentLength y_givenLength y_steps y_blamed y_how y_ran y_working y_arity y_draftKind y_draftWith y_kind y_with y_patternLength y_resultLength y_rows y_head y_left y_right y_size y_list y_stack y_starts y_argument y_given y_fits y_ends y_places y_bound y_workKind y_workWith y_owner y_counts y_openSize y_open y_known (d + 1) 1 (nI j) := by
      intro d
      induction d with
      | zero => rintro j h1 hj ⟨q, q1, q2, -⟩; omega
      | succ d ih =>
        rintro j h1 hj ⟨q, q1, q2, q3⟩
        refine br_f (nI_nlt (by omega) (by omega)) (br_f (by decide) ?_)
        rw [ei, nI_clamp (by omega)]
        refine And.intro (vp_in_nI (by omega) (by decide)) (br_c (fun z => ?_) (fun z => ?_))
        · refine nm_r (nI_1 j) (ih (j + 1) (by omega) (by omega) ⟨q, ?_, q2, q3⟩)
          rcases Nat.eq_or_lt_of_le q1 with y | y
          · subst y; exact absurd z q3
          · exact y
        · exact nm_r (nI_1 j) (B0 hJ d (j + 1) (by omega))
    exact ⟨_, B m 1 (Nat.le_refl _) (by omega) hex⟩
theorem fg_yready {post : Int32 → Prop} {S : List fg_S} {k v o : Nat} {l : List fg_T} {B L : List fg_I} (hG : fg_WF g) (ha : ∀ c, y_arity c = nI (fg_ar g c)) (hL : L = fg_fS S ++ (.inl (k, v, o) :: (l.map .inr ++ B))) (hS : ∀ q, q ∈ S → q.2.2.2.length < fg_oo g q.1 q.2.1) (hl : l.length = fg_oo g k v)
    (hW : fg_YW T N L y_workKind y_workWith y_owner) (hv : ∀ x, x ∈ L → fg_Iv g x) (hlen : L.length < 1290) (hp : post (nI (fg_fS S).length)) : wpY_ready post (y_cons, y_drafted, y_nodes, y_length, y_argumentLength, y_givenLength, y_steps, y_blamed, y_how, y_ran, nI L.length, y_arity, y_draftKind, y_draftWith, y_kind, y_with, y_patternLength, y_resultLength, y_rows, y_head, y_left, y_right, y_size, y_list, y_stack, y_starts, y_argument, y_given, y_fits, y_ends, y_places, y_bound, y_workKind, y_workWith, y_owner, y_counts, y_openSize, y_open, y_known) := by
  have h6 := hG.1
  -- an operator's kind is no value's
  have opk : ∀ i k v o, L[i]? = some (.inl (k, v, o)) → y_workKind i = nI k ∧ y_workWith i = nI v ∧ (k = 2 ∨ k = 5) ∧ v < 6 := by
    intro i k v o h
    obtain ⟨h1, h2, -⟩ := hW i _ h
    have hi := hv _ (List.mem_of_getElem? h)
    rcases hi.1 with ⟨q1, q2⟩ | ⟨q1, q2⟩
    · exact ⟨h1, h2, Or.inl q1, by omega⟩
    · exact ⟨h1, h2, Or.inr q1, by omega⟩
  have opn6 : ∀ i k v o, L[i]? = some (.inl (k, v, o)) → ¬ y_workKind i = 6 := by
    intro i k v o h
    obtain ⟨h1, -, h3, -⟩ := opk i k v o h
    rw [h1, show (6 : Int32) = nI 6 from rfl, nI_eq (by omega) (by decide)]
    omega
  have val6 : ∀ i t, L[i]? = some (.inr t) → y_workKind i = 6 := fun i t h => (hW i _ h).1
  -- values are passed over
  have skip : ∀ (ts : List fg_T) (p : List fg_I) (r : List fg_I), L = p ++ (ts.map .inr ++ r) → (∀ n, L.length - (p.length + ts.length) < n → wY_ready_2 post y_cons y_drafted y_nodes y_length y_argumentLength y_givenLength y_steps y_blamed y_how y_ran (nI L.length) y_arity y_draftKind y_draftWith y_kind y_with y_patternLength y_resultLength y_rows y_head y_left y_right y_size y_list y_stack y_starts y_argument y_given y_fits y_ends y_places y_bound y_workKind y_workWith y_owner y_counts y_openSize y_open y_known n (nI (p.length + ts.length))) → ∀ n, L.length - p.length < n → wY_ready_2 post y_cons y_drafted y_nodes y_length y_argumentLength y_givenLength y_steps y_blamed y_how y_ran (nI L.length) y_arity y_draftKind y_draftWith y_kind y_with y_patternLength y_resultLength y_rows y_head y_left y_right y_size y_list y_stack y_starts y_argument y_given y_fits y_ends y_places y_bound y_workKind y_workWith y_owner y_counts y_openSize y_open y_known n (nI p.length) := by
    intro ts
    induction ts with
    | nil => intro p r _ h; exact h
    | cons t ts ih =>
      intro p r he h n hn
      have hlt : p.length < L.length := by rw [he]; simp
      obtain ⟨n, rfl⟩ : ∃ q, n = q + 1 := ⟨n - 1, by omega⟩
      have hg : L[p.length]? = some (.inr t) := by rw [he]; simp
      refine br_f (nI_ge hlt (by omega)) (And.intro (vp_in_nI (by omega) (by decide)) (br_t (by rw [nI_clamp (by omega)]; exact val6 _ t hg) (nm_r (nI_1 _) ?_)))
      have := ih (p ++ [.inr t]) r (by rw [he]; simp) (by
        rw [List.length_append, List.length_singleton]
        intro n' hn'
        have := h n' (by rw [List.length_cons]; omega)
        rw [List.length_cons, show p.length + (ts.length + 1) = p.length + 1 + ts.length by omega] at this
        exact this) n (by rw [List.length_append, List.length_singleton]; omega)
      rw [List.length_append, List.length_singleton] at this
      exact this
  have key : ∀ (Q : List fg_S) (p : List fg_I), L = p ++ (fg_fS Q ++ (.inl (k, v, o) :: (l.map .inr ++ B))) → (∀ q, q ∈ Q → q.2.2.2.length < fg_oo g q.1 q.2.1) → (p.length + (fg_fS Q).length = (fg_fS S).length) → ∀ n, L.length - p.length < n → wY_ready_2 post y_cons y_drafted y_nodes y_length y_argumentLength y_givenLength y_steps y_blamed y_how y_ran (nI L.length) y_arity y_draftKind y_draftWith y_kind y_with y_patternLength y_resultLength y_rows y_head y_left y_right y_size y_list y_stack y_starts y_argument y_given y_fits y_ends y_places y_bound y_workKind y_workWith y_owner y_counts y_openSize y_open y_known n (nI p.length) := by
    intro Q
    induction Q with
    | nil =>
      intro p he _ hlen' n hn
      have hlt : p.length < L.length := by rw [he]; simp [fg_fS]
      obtain ⟨n, rfl⟩ : ∃ q, n = q + 1 := ⟨n - 1, by omega⟩
      have hg : L[p.length]? = some (.inl (k, v, o)) := by rw [he]; simp [fg_fS]
      have hll : p.length + l.length < L.length := by rw [he]; simp [fg_fS]; omega
      obtain ⟨g1, g2, g3, g4⟩ := opk _ _ _ _ hg
      have hm2 : fg_oo g k v ≤ 2 := fg_op_le hG.2.1
      have vi : vp_in (nI p.length) 1300 := vp_in_nI (by omega) (by decide)
      have ci : (nI p.length).toNatClampNeg = p.length := nI_clamp (by omega)
      refine br_f (nI_ge hlt (by omega)) (And.intro vi ?_)
      rw [ci]
      refine br_f (opn6 _ _ _ _ hg) (And.intro vi (And.intro vi ?_))
      rw [g2]
      refine fg_yop (kf := fun _ => k) (vf := fun _ => v) (i := 0) ha (by omega) g1 (fun _ => ⟨rfl, g4⟩) ?_
      refine (fg_yr46 (m := fg_oo g k v) (by omega) hm2).1 (fun q q1 q2 => ?_) ?_
      · obtain ⟨x, hx⟩ : ∃ x, l[q - 1]? = some x := ⟨l[q - 1]'(by omega), List.getElem?_eq_getElem (by omega)⟩
        refine val6 _ x ?_
        rw [he, List.getElem?_append_right (by omega), Nat.add_sub_cancel_left]
        show (fg_fS [] ++ (.inl (k, v, o) :: (l.map .inr ++ B)))[q]? = _
        rw [show fg_fS [] = ([] : List fg_I) from rfl, List.nil_append]
        obtain ⟨q', rfl⟩ : ∃ q', q = q' + 1 := ⟨q - 1, by omega⟩
        rw [List.getElem?_cons_succ, List.getElem?_append_left (by rw [List.length_map]; omega), List.getElem?_map]
        rw [Nat.add_sub_cancel] at hx
        rw [hx]; rfl
      · have e0 : (fg_fS ([] : List fg_S)).length = 0 := rfl
        rw [e0, Nat.add_zero] at hlen'
        rw [hlen']
        exact hp
    | cons z Q ih =>
      obtain ⟨k', v', o', l'⟩ := z
      intro p he hQ hlen' n hn
      have hz : l'.length < fg_oo g k' v' := hQ (k', v', o', l') List.mem_cons_self
      have hf : fg_fS ((k', v', o', l') :: Q) = .inl (k', v', o') :: (l'.map .inr ++ fg_fS Q) := rfl
      have hlt : p.length < L.length := by rw [he, hf]; simp
      obtain ⟨n, rfl⟩ : ∃ q, n = q + 1 := ⟨n - 1, by omega⟩
      have hg : L[p.length]? = some (.inl (k', v', o')) := by rw [he, hf]; simp
      have hll : p.length + l'.length + 1 < L.length := by rw [he, hf]; simp; omega
      obtain ⟨g1, g2, g3, g4⟩ := opk _ _ _ _ hg
      have hm2 : fg_oo g k' v' ≤ 2 := fg_op_le hG.2.1
      have vi : vp_in (nI p.length) 1300 := vp_in_nI (by omega) (by decide)
      have ci : (nI p.length).toNatClampNeg = p.length := nI_clamp (by omega)
      refine br_f (nI_ge hlt (by omega)) (And.intro vi ?_)
      rw [ci]
      refine br_f (opn6 _ _ _ _ hg) (And.intro vi (And.intro vi ?_))
      rw [g2]
      refine fg_yop (kf := fun _ => k') (vf := fun _ => v') (i := 0) ha (by omega) g1 (fun _ => ⟨rfl, g4⟩) ?_
      -- the next operator stands where a value is wanted
      have hnext : ∃ k2 v2 o2, L[p.length + (l'.length + 1)]? = some (.inl (k2, v2, o2)) := by
        rw [he, hf, List.getElem?_append_right (by omega), Nat.add_sub_cancel_left, List.cons_append, List.getElem?_cons_succ, List.append_assoc, List.getElem?_append_right (by rw [List.length_map]; exact Nat.le_refl _), List.length_map, Nat.sub_self]
        cases Q with
        | nil => exact ⟨k, v, o, rfl⟩
        | cons y Q' => exact ⟨y.1, y.2.1, y.2.2.1, rfl⟩
      obtain ⟨k2, v2, o2, hn2⟩ := hnext
      refine (fg_yr46 (m := fg_oo g k' v') (by omega) hm2).2 ⟨l'.length + 1, by omega, by omega, opn6 _ _ _ _ hn2⟩ ?_
      have := skip l' (p ++ [.inl (k', v', o')]) (fg_fS Q ++ (.inl (k, v, o) :: (l.map .inr ++ B))) (by rw [he, hf]; simp) (fun n' hn' => by
        have := ih (p ++ [.inl (k', v', o')] ++ l'.map .inr) (by rw [he, hf]; simp) (fun q hq => hQ q (List.mem_cons_of_mem _ hq)) (by rw [← hlen', hf]; simp; omega) n' (by simp at hn' ⊢; omega)
        simp only [List.length_append, List.length_map, List.length_singleton] at this ⊢
        exact this) n (by rw [List.length_append, List.length_singleton]; omega)
      rw [List.length_append, List.length_singleton] at this
      exact this
  exact ⟨L.length + 1, key S [] hL hS (by rw [List.length_nil, Nat.zero_add]) _ (by rw [List.length_nil]; omega)⟩
theorem fg_yready1 {post : Int32 → Prop} {t : fg_T} (hW : fg_YW T N [.inr t] y_workKind y_workWith y_owner) (hp : post (-1)) : wpY_ready post (y_cons, y_drafted, y_nodes, y_length, y_argumentLength, y_givenLength, y_steps, y_blamed, y_how, y_ran, nI 1, y_arity, y_draftKind, y_draftWith, y_kind, y_with, y_patternLength, y_resultLength, y_rows, y_head, y_left, y_right, y_size, y_list, y_stack, y_starts, y_argument, y_given, y_fits, y_ends, y_places, y_bound, y_workKind, y_workWith, y_owner, y_counts, y_openSize, y_open, y_known) := by
  have e : y_workKind 0 = 6 := (hW 0 (.inr t) rfl).1
  exact ⟨2, br_f (by decide) (And.intro (vp_in_iff.mpr (by decide)) (br_t e (nm_r (e' := nI 1) (by decide) (br_t (by decide) hp))))⟩
end
end
section
/-! Y: nodes, calls, makes -/
theorem fg_fl3 (S : List fg_S) (x : fg_I) (l : List fg_I) (B : List fg_I) : (fg_fS S ++ (x :: (l ++ B))).length = (fg_fS S).length + 1 + l.length + B.length := by
  simp only [List.length_append, List.length_cons]; omega
section
variable {y_cons y_drafted y_nodes y_length y_argumentLength y_givenLength y_steps y_blamed y_how y_ran y_working : Int32} {y_arity y_draftKind y_draftWith y_kind y_with y_patternLength y_resultLength y_rows y_head y_left y_right y_size y_list y_stack y_starts y_argument y_given y_fits y_ends y_places y_bound y_workKind y_workWith y_owner y_counts y_openSize y_open y_known : Nat → Int32}
variable {g : fg_C} {N : Nat} {T : Nat → fg_T}
theorem fg_ynode {post : Int32 → SY → Prop} {A B : Int32} {a b : fg_T} {c : Nat} (hCe : fg_Ce g y_head y_left y_right y_size N T) (hN : N < 1300) (hA : fg_pt T N A a) (hB : fg_pt T N B b)
    (hp : post (nI N) (y_cons, y_drafted, nI (N + 1), y_length, y_argumentLength, y_givenLength, y_steps, y_blamed, y_how, y_ran, y_working, y_arity, y_draftKind, y_draftWith, y_kind, y_with, y_patternLength, y_resultLength, y_rows, upd y_head N (nI c), upd y_left N A, upd y_right N B, upd y_size N (nI (1 + fg_sz a + fg_sz b)), y_list, y_stack, y_starts, y_argument, y_given, y_fits, y_ends, y_places, y_bound, y_workKind, y_workWith, y_owner, y_counts, y_openSize, y_open, y_known)) : wpY_node post (y_cons, y_drafted, nI N, y_length, y_argumentLength, y_givenLength, y_steps, y_blamed, y_how, y_ran, y_working, y_arity, y_draftKind, y_draftWith, y_kind, y_with, y_patternLength, y_resultLength, y_rows, y_head, y_left, y_right, y_size, y_list, y_stack, y_starts, y_argument, y_given, y_fits, y_ends, y_places, y_bound, y_workKind, y_workWith, y_owner, y_counts, y_openSize, y_open, y_known) (nI c) A B := by
  have vN : vp_in (nI N) 1300 := vp_in_nI hN (by decide)
  have cN : (nI N).toNatClampNeg = N := nI_clamp (by omega)
  have hbnd : ∀ (x : Int32) (t : fg_T), fg_pt T N x t → (x = -1 ∧ fg_sz t = 0) ∨ ∃ j, j < N ∧ x = nI j ∧ y_size j = nI (fg_sz t) := by
    intro x t hx
    rcases hx with ⟨q1, q2⟩ | ⟨j, j1, j2, j3⟩
    · rw [q2]; exact Or.inl ⟨q1, rfl⟩
    · obtain ⟨-, -, -, -, -, -, e7⟩ := hCe j j1
      rw [j3] at e7
      exact Or.inr ⟨j, j1, j2, e7⟩
  have w68 : ∀ z0 z1 : Nat, z1 + z0 = 1 + fg_sz a + fg_sz b → wY_node_68 post (nI z0) (nI z1) (nI N) y_cons y_drafted (nI N) y_length y_argumentLength y_givenLength y_steps y_blamed y_how y_ran y_working y_arity y_draftKind y_draftWith y_kind y_with y_patternLength y_resultLength y_rows (upd y_head N (nI c)) (upd y_left N A) (upd y_right N B) y_size y_list y_stack y_starts y_argument y_given y_fits y_ends y_places y_bound y_workKind y_workWith y_owner y_counts y_openSize y_open y_known := by
    intro z0 z1 hz
    unfold wY_node_68
    rw [nI_add, hz, cN]
    exact And.intro vN (nm_e (nm_r (nI_1 N) hp))
  have w53 : ∀ z0 : Nat, z0 = fg_sz a → wY_node_53 post B (nI z0) 1 (nI N) y_cons y_drafted (nI N) y_length y_argumentLength y_givenLength y_steps y_blamed y_how y_ran y_working y_arity y_draftKind y_draftWith y_kind y_with y_patternLength y_resultLength y_rows (upd y_head N (nI c)) (upd y_left N A) (upd y_right N B) y_size y_list y_stack y_starts y_argument y_given y_fits y_ends y_places y_bound y_workKind y_workWith y_owner y_counts y_openSize y_open y_known := by
    intro z0 hz
    unfold wY_node_53
    rw [show (1 : Int32) = nI 1 from rfl, nI_add]
    rcases hbnd B b hB with ⟨q1, q2⟩ | ⟨j, j1, j2, j3⟩
    · exact br_f (by rw [q1]; exact fg_m1le) (w68 0 (1 + z0) (by omega))
    · refine br_t (by rw [j2]; exact nI_pos' (by omega)) (And.intro (by rw [j2]; exact vp_in_nI (by omega) (by decide)) ?_)
      rw [show B.toNatClampNeg = j by rw [j2, nI_clamp (by omega)], j3]
      exact w68 _ (1 + z0) (by omega)
  unfold wpY_node
  dsimp only
  rw [cN]
  refine And.intro vN (nm_e (And.intro vN (nm_e (And.intro vN (nm_e ?_)))))
  rcases hbnd A a hA with ⟨q1, q2⟩ | ⟨j, j1, j2, j3⟩
  · exact br_f (by rw [q1]; exact fg_m1le) (w53 0 q2.symm)
  · refine br_t (by rw [j2]; exact nI_pos' (by omega)) (And.intro (by rw [j2]; exact vp_in_nI (by omega) (by decide)) ?_)
    rw [show A.toNatClampNeg = j by rw [j2, nI_clamp (by omega)], j3]
    exact w53 _ rfl
theorem fg_ybuild {post : Int32 → SY → Prop} {t : fg_T} (hG : fg_WF g) (ha : ∀ c, y_arity c = nI (fg_ar g c)) (hV : fg_V g t) (h40 : fg_sz t ≤ 40) (hl : fg_at y_list 0 (fg_fl t)) (hE : fg_En t y_ends)
    (hp : ∀ (T : Nat → fg_T) (y : Int32) (hd le ri si sta : Nat → Int32), fg_Ce g hd le ri si (fg_sz t) T → fg_pt T (fg_sz t) y t → post y (y_cons, y_drafted, nI (fg_sz t), nI (fg_sz t), y_argumentLength, y_givenLength, y_steps, y_blamed, y_how, y_ran, y_working, y_arity, y_draftKind, y_draftWith, y_kind, y_with, y_patternLength, y_resultLength, y_rows, hd, le, ri, si, y_list, y_stack, sta, y_argument, y_given, y_fits, y_ends, y_places, y_bound, y_workKind, y_workWith, y_owner, y_counts, y_openSize, y_open, y_known)) :
    wpY_build post (y_cons, y_drafted, 0, nI (fg_sz t), y_argumentLength, y_givenLength, y_steps, y_blamed, y_how, y_ran, y_working, y_arity, y_draftKind, y_draftWith, y_kind, y_with, y_patternLength, y_resultLength, y_rows, y_head, y_left, y_right, y_size, y_list, y_stack, y_starts, y_argument, y_given, y_fits, y_ends, y_places, y_bound, y_workKind, y_workWith, y_owner, y_counts, y_openSize, y_open, y_known) := by
  have h6 := hG.1
  have key : ∀ (m : Nat) (T : Nat → fg_T) (hd le ri si sta : Nat → Int32), m ≤ fg_sz t → fg_Ce g hd le ri si (fg_sz t - m) T → (∀ q, m ≤ q → q < fg_sz t → fg_pt T (fg_sz t - m) (sta q) (fg_sub t q)) → wY_build_7 post (m + 1) (nI m - 1) y_cons y_drafted (nI (fg_sz t - m)) (nI (fg_sz t)) y_argumentLength y_givenLength y_steps y_blamed y_how y_ran y_working y_arity y_draftKind y_draftWith y_kind y_with y_patternLength y_resultLength y_rows hd le ri si y_list y_stack sta y_argument y_given y_fits y_ends y_places y_bound y_workKind y_workWith y_owner y_counts y_openSize y_open y_known := by
    intro m
    induction m with
    | zero =>
      intro T hd le ri si sta _ hCe hs
      refine br_t fg_pd0 ?_
      have := hs 0 (Nat.le_refl _) (fg_szp hV.1)
      rw [fg_sub0] at this
      rw [Nat.sub_zero] at hCe this ⊢
      exact hp T (sta 0) hd le ri si sta hCe this
    | succ m ih =>
      intro T hd le ri si sta hm hCe hs
      rw [nI_pred]
      have hn := fg_sub_ne t m hm
      obtain ⟨hc, hsh, -, -⟩ := fg_ok_b (fg_ok_sub t m hV.2) hn
      have hse := fg_sube (t := t) (p := m) hm
      have hsz := fg_sz_br hn
      have hlm : y_list m = nI (fg_hd (fg_sub t m)) := fg_at_h0 hl hm
      have v40 : vp_in (nI m) 40 := vp_in_nI (by omega) (by decide)
      have cm : (nI m).toNatClampNeg = m := nI_clamp (by omega)
      have ha2 := hG.2.1 (fg_hd (fg_sub t m))
      have em : y_list (nI m).toNatClampNeg = nI (fg_hd (fg_sub t m)) := by rw [cm]; exact hlm
      refine br_f (nI_pos (by omega)) (And.intro v40 ?_)
      rw [em]
      refine And.intro (vp_in_nI (by omega) (by decide)) (nm_r (e' := nI (fg_ar g (fg_hd (fg_sub t m)))) (by rw [nI_clamp (by omega)]; exact ha _) (And.intro v40 ?_))
      -- the node
      have w68 : ∀ A B : Int32, fg_pt T (fg_sz t - (m + 1)) A (fg_L (fg_sub t m)) → fg_pt T (fg_sz t - (m + 1)) B (fg_R (fg_sub t m)) → wY_build_68 post (wY_build_7 post (m + 1)) (nI m) B A (nI (fg_hd (fg_sub t m))) y_cons y_drafted (nI (fg_sz t - (m + 1))) (nI (fg_sz t)) y_argumentLength y_givenLength y_steps y_blamed y_how y_ran y_working y_arity y_draftKind y_draftWith y_kind y_with y_patternLength y_resultLength y_rows hd le ri si y_list y_stack sta y_argument y_given y_fits y_ends y_places y_bound y_workKind y_workWith y_owner y_counts y_openSize y_open y_known := by
        intro A B hA hB
        unfold wY_build_68
        refine fg_ynode hCe (by omega) hA hB ?_
        dsimp only
        refine And.intro (vp_in_nI (by omega) (by decide)) ?_
        rw [cm]
        refine nm_e (nm_r (fg_pdm m) ?_)
        have hbr : fg_sub t m = .branch (fg_hd (fg_sub t m)) (fg_L (fg_sub t m)) (fg_R (fg_sub t m)) := fg_br hn
        have hnew := fg_Ce_new (c := fg_hd (fg_sub t m)) hCe (by rw [← hbr]; exact fg_ok_sub t m hV.2) (by rw [← hbr]; omega) hA hB
        rw [show fg_sz t - (m + 1) + 1 = fg_sz t - m by omega] at hnew ⊢
        refine ih (fg_ex T (fg_sz t - (m + 1)) (.branch (fg_hd (fg_sub t m)) (fg_L (fg_sub t m)) (fg_R (fg_sub t m)))) _ _ _ _ _ (by omega) hnew (fun q h1 h2 => ?_)
        by_cases z : q = m
        · subst z
          rw [pk_us]
          exact Or.inr ⟨fg_sz t - (q + 1), by omega, rfl, by rw [fg_ex_n]; exact hbr.symm⟩
        · rw [pk_un z]
          exact fg_pt_mono (hs q (by omega) h2) (by omega) (fun j hj => fg_ex_o hj)
      have pL : fg_L (fg_sub t m) ≠ fg_nil → fg_pt T (fg_sz t - (m + 1)) (sta (m + 1)) (fg_L (fg_sub t m)) := fun h => by
        have := hs (m + 1) (Nat.le_refl _) (by have := fg_szp h; omega)
        rw [fg_subl hm h] at this
        exact this
      have pR : fg_L (fg_sub t m) ≠ fg_nil → fg_R (fg_sub t m) ≠ fg_nil → y_ends (m + 1) = nI (m + 1 + fg_sz (fg_L (fg_sub t m))) ∧ fg_pt T (fg_sz t - (m + 1)) (sta (m + 1 + fg_sz (fg_L (fg_sub t m)))) (fg_R (fg_sub t m)) := fun h h' => by
        have e := hE (m + 1) (by have := fg_szp h; omega)
        rw [fg_subl hm h] at e
        have := hs (m + 1 + fg_sz (fg_L (fg_sub t m))) (by omega) (by have := fg_szp h'; omega)
        rw [fg_subr hm h'] at this
        exact ⟨e, this⟩
      have e1 : nI m + 1 = nI (m + 1) := nI_1 m
      rcases hsh with ⟨k0, a0, b0⟩ | ⟨k1, a0, b0⟩ | ⟨k2, a0, b0⟩
      · refine br_t (by rw [k0]; decide) ?_
        unfold wY_build_46
        exact br_t (by rw [k0]; decide) (w68 (-1) (-1) (Or.inl ⟨rfl, a0⟩) (Or.inl ⟨rfl, b0⟩))
      · have := fg_szp a0
        refine br_f (by rw [k1]; decide) ?_
        rw [e1, nI_clamp (by omega)]
        refine And.intro (vp_in_nI (by omega) (by decide)) ?_
        unfold wY_build_46
        exact br_t (by rw [k1]; decide) (w68 _ (-1) (pL a0) (Or.inl ⟨rfl, b0⟩))
      · have := fg_szp a0
        have := fg_szp b0
        obtain ⟨r1, r2⟩ := pR a0 b0
        refine br_f (by rw [k2]; decide) ?_
        rw [e1, nI_clamp (by omega)]
        refine And.intro (vp_in_nI (by omega) (by decide)) ?_
        unfold wY_build_46
        refine br_f (by rw [k2]; decide) ?_
        rw [e1, nI_clamp (by omega), r1, nI_clamp (by omega)]
        exact And.intro (vp_in_nI (by omega) (by decide)) (And.intro (vp_in_nI (by omega) (by decide)) (w68 _ _ (pL a0) r2))
  refine nm_e ⟨fg_sz t + 1, ?_⟩
  have := key (fg_sz t) (fun _ => fg_nil) y_head y_left y_right y_size y_starts (Nat.le_refl _) (fun i hi => by omega) (fun q h1 h2 => by omega)
  rw [Nat.sub_self] at this
  exact this
theorem fg_ycall {post : Int32 → SY → Prop} {S : List fg_S} {v o s : Nat} {t : fg_T} {B L : List fg_I} (hG : fg_WF g) (hC : fg_CY g y_arity y_rows y_patternLength y_resultLength y_kind y_with) (hL : L = fg_fS S ++ (.inl (5, v, o) :: ([t].map .inr ++ B)))
    (hW : fg_YW T N L y_workKind y_workWith y_owner) (hv4 : v < 4) (hV : fg_V g t) (h40 : fg_sz t ≤ 40) (hlen : L.length ≤ 2 + 12 * s) (hs : s ≤ 100) (hCe : fg_Ce g y_head y_left y_right y_size N T) (hN : N ≤ 1300)
    (h100 : s = 100 → post 2 (y_cons, y_drafted, nI N, y_length, y_argumentLength, y_givenLength, nI s, nI v, y_how, y_ran, nI L.length, y_arity, y_draftKind, y_draftWith, y_kind, y_with, y_patternLength, y_resultLength, y_rows, y_head, y_left, y_right, y_size, y_list, y_stack, y_starts, y_argument, y_given, y_fits, y_ends, y_places, y_bound, y_workKind, y_workWith, y_owner, y_counts, y_openSize, y_open, y_known))
    (hst : s < 100 → fg_tk g v t = fg_rw g v → ∀ (ln : Int32) (li stk sta en fits : Nat → Int32), post 1 (y_cons, y_drafted, nI N, ln, y_argumentLength, y_givenLength, nI (s + 1), nI v, y_how, y_ran, nI L.length, y_arity, y_draftKind, y_draftWith, y_kind, y_with, y_patternLength, y_resultLength, y_rows, y_head, y_left, y_right, y_size, li, stk, sta, y_argument, y_given, fits, en, y_places, y_bound, y_workKind, y_workWith, y_owner, y_counts, y_openSize, y_open, y_known))
    (hok : s < 100 → fg_tk g v t < fg_rw g v → ∀ (ln : Int32) (li stk sta en fits pls bnd wk ww ow : Nat → Int32), fg_YW T N (fg_fS S ++ (fg_rest g (5 * v + fg_tk g v t) t 0 (fg_rl g (5 * v + fg_tk g v t)) ++ B)) wk ww ow →
      post 0 (y_cons, y_drafted, nI N, ln, y_argumentLength, y_givenLength, nI (s + 1), nI v, y_how, y_ran, nI (fg_fS S ++ (fg_rest g (5 * v + fg_tk g v t) t 0 (fg_rl g (5 * v + fg_tk g v t)) ++ B)).length, y_arity, y_draftKind, y_draftWith, y_kind, y_with, y_patternLength, y_resultLength, y_rows, y_head, y_left, y_right, y_size, li, stk, sta, y_argument, y_given, fits, en, pls, bnd, wk, ww, ow, y_counts, y_openSize, y_open, y_known)) :
    wpY_call post (y_cons, y_drafted, nI N, y_length, y_argumentLength, y_givenLength, nI s, y_blamed, y_how, y_ran, nI L.length, y_arity, y_draftKind, y_draftWith, y_kind, y_with, y_patternLength, y_resultLength, y_rows, y_head, y_left, y_right, y_size, y_list, y_stack, y_starts, y_argument, y_given, y_fits, y_ends, y_places, y_bound, y_workKind, y_workWith, y_owner, y_counts, y_openSize, y_open, y_known) (nI (fg_fS S).length) := by
  have hlL : L.length = (fg_fS S).length + 1 + 1 + B.length := by rw [hL, fg_fl3]; rfl
  generalize hA : (fg_fS S).length = a at *
  have g0 : L[a]? = some (.inl (5, v, o)) := by rw [hL, ← hA]; simp
  have g1 : L[a + 1]? = some (.inr t) := by rw [hL, ← hA, List.getElem?_append_right (by omega), Nat.add_sub_cancel_left]; rfl
  obtain ⟨k1, k2, k3⟩ := hW a _ g0
  obtain ⟨q1, q2⟩ := hW (a + 1) _ g1
  obtain ⟨y, y1, y2, y3⟩ := fg_pt_ne hV.1 q2
  have ca : (nI a).toNatClampNeg = a := nI_clamp (by omega)
  unfold wpY_call
  dsimp only
  refine And.intro (vp_in_nI (by omega) (by decide)) (nm_r (e' := nI v) (by rw [ca]; exact k2) ?_)
  refine pk_eq s 100 (fun z => h100 z) (fun z => ?_)
  refine nm_r (nI_1 s) ?_
  rw [nI_1 a, nI_clamp (by omega), y2]
  refine And.intro (vp_in_nI (by omega) (by decide)) ?_
  refine fg_yspell hCe hN y1 y3 (fun stk li sta hli hsta => ?_)
  dsimp only
  refine fg_ytakes hG hC hv4 hV.2 hV.1 h40 hli (fun en fits hE => ?_)
  dsimp only
  have h5 := hG.2.2.1 v hv4
  have htk : fg_tk g v t ≤ fg_rw g v := (fg_fr_sp (p := fun r => fg_mr g (5 * v + r) 0 t) (fg_rw g v)).1
  unfold fg_an
  by_cases hr : fg_tk g v t < fg_rw g v
  · rw [if_pos hr]
    have hRW := hG.2.2.2 v _ hv4 hr
    have hYR := hC.2.2 v _ hv4 hr
    have hm : fg_mr g (5 * v + fg_tk g v t) 0 t = true := (fg_fr_sp (p := fun r => fg_mr g (5 * v + r) 0 t) (fg_rw g v)).2.2 hr
    have hok' := hok (by omega) hr
    generalize hRe : 5 * v + fg_tk g v t = R at *
    have hR20 : R < 20 := by omega
    obtain ⟨⟨-, -, rl1, rl12⟩, -, -, -, -, -, hRR, -⟩ := hRW
    obtain ⟨-, yrl, -, yR⟩ := hYR
    have hdiv : R / 5 = v := by omega
    refine br_t (nI_pos' (by omega)) (nm_r (e' := nI R) (by rw [show (5 : Int32) = nI 5 from rfl, fg_mulc, nI_add, hRe]) ?_)
    refine fg_ybind hG hC hv4 hr hRe.symm hV h40 hm hE hsta (fun pls bnd hbnd => ?_)
    dsimp only
    have v20 : vp_in (nI R) 20 := vp_in_nI hR20 (by decide)
    have cR : (nI R).toNatClampNeg = R := nI_clamp (by omega)
    refine And.intro v20 ?_
    rw [cR, yrl]
    refine fg_yreplace (b := 2) (by omega) (by omega) (by decide) rl12 (fun wk ww ow m1 m2 => ?_)
    dsimp only
    have hlL' : L.length - 2 + fg_rl g R = (fg_fS S ++ (fg_rest g R t 0 (fg_rl g R) ++ B)).length := by
      rw [List.length_append, List.length_append]
      unfold fg_rest
      rw [List.length_map, List.length_range']
      omega
    have key : ∀ (d i : Nat) (wk' ww' ow' : Nat → Int32), i + d = fg_rl g R → (∀ j, j < a → wk' j = wk j ∧ ww' j = ww j ∧ ow' j = ow j) → (∀ j, a + fg_rl g R ≤ j → wk' j = wk j ∧ ww' j = ww j ∧ ow' j = ow j) → (∀ j, j < i → fg_Yi T N (fg_it g R t j) (wk' (a + j)) (ww' (a + j)) (ow' (a + j))) →
        wY_call_86 post (nI a) (nI v) (nI R) (d + 1) (nI i) y_cons y_drafted (nI N) (nI (fg_sz t)) y_argumentLength y_givenLength (nI (s + 1)) (nI v) y_how y_ran (nI (L.length - 2 + fg_rl g R)) y_arity y_draftKind y_draftWith y_kind y_with y_patternLength y_resultLength y_rows y_head y_left y_right y_size li stk sta y_argument y_given fits en pls bnd wk' ww' ow' y_counts y_openSize y_open y_known := by
      intro d
      induction d with
      | zero =>
        intro i wk' ww' ow' hd e1 e2 e3
        refine And.intro v20 (br_t (by rw [cR, yrl]; exact nI_le (by omega) (by omega)) ?_)
        rw [hlL']
        refine hok' _ li stk sta en fits pls bnd wk' ww' ow' (fun j x hx => ?_)
        have hj := fg_getlt hx
        rw [← hlL'] at hj
        rcases Nat.lt_or_ge j a with w | w
        · rw [List.getElem?_append_left (by omega)] at hx
          have : L[j]? = some x := by rw [hL, List.getElem?_append_left (by omega)]; exact hx
          obtain ⟨f1, f2, f3⟩ := e1 j w
          obtain ⟨m3, m4, m5⟩ := m1 j w
          rw [f1, f2, f3, m3, m4, m5]
          exact hW j x this
        · rw [List.getElem?_append_right (by omega), hA] at hx
          rcases Nat.lt_or_ge (j - a) (fg_rl g R) with w2 | w2
          · rw [List.getElem?_append_left (by unfold fg_rest; rw [List.length_map, List.length_range']; exact w2)] at hx
            unfold fg_rest at hx
            rw [List.getElem?_map, List.getElem?_range' w2] at hx
            have hx' : some (fg_it g R t (0 + 1 * (j - a))) = some x := hx
            injection hx' with hx'
            rw [Nat.zero_add, Nat.one_mul] at hx'
            have := e3 (j - a) (by omega)
            rw [hx', show a + (j - a) = j by omega] at this
            exact this
          · have hrl : (fg_rest g R t 0 (fg_rl g R)).length = fg_rl g R := by unfold fg_rest; rw [List.length_map, List.length_range']
            rw [List.getElem?_append_right (by omega), hrl] at hx
            obtain ⟨j', rfl⟩ : ∃ j', j = a + fg_rl g R + j' := ⟨j - a - fg_rl g R, by omega⟩
            rw [show a + fg_rl g R + j' - a - fg_rl g R = j' by omega] at hx
            have hB : L[a + 2 + j']? = some x := by
              rw [hL, List.getElem?_append_right (by omega), hA, show a + 2 + j' - a = j' + 1 + 1 by omega, List.getElem?_cons_succ]
              show (.inr t :: B)[j' + 1]? = some x
              rw [List.getElem?_cons_succ]; exact hx
            obtain ⟨f1, f2, f3⟩ := e2 (a + fg_rl g R + j') (by omega)
            obtain ⟨m3, m4, m5⟩ := m2 j' (by omega)
            rw [f1, f2, f3, m3, m4, m5]
            exact hW _ x hB
      | succ d ih =>
        intro i wk' ww' ow' hd e1 e2 e3
        have hi : i < fg_rl g R := by omega
        obtain ⟨r1, r2⟩ := yR i hi
        obtain ⟨t1, t2, t3, -⟩ := hRR i hi
        have e24 : (24 : Int32) * nI R + 12 + nI i = nI (24 * R + 12 + i) := by
          rw [show (24 : Int32) = nI 24 from rfl, show (12 : Int32) = nI 12 from rfl, fg_mulc, nI_add, nI_add]
        have v24 : vp_in (nI (24 * R + 12 + i)) 480 := vp_in_nI (by omega) (by decide)
        refine And.intro v20 (br_f (by rw [cR, yrl]; exact nI_ge hi (by omega)) ?_)
        rw [e24, nI_clamp (by omega), r1, r2]
        refine And.intro v24 (nm_e (And.intro v24 (nm_e ?_)))
        have put : ∀ kk vv : Int32, fg_Yi T N (fg_it g R t i) kk vv (nI v) → wY_call_170 post (wY_call_86 post (nI a) (nI v) (nI R) (d + 1)) (nI a) (nI v) (nI R) (nI i) vv kk (nI a + nI i) y_cons y_drafted (nI N) (nI (fg_sz t)) y_argumentLength y_givenLength (nI (s + 1)) (nI v) y_how y_ran (nI (L.length - 2 + fg_rl g R)) y_arity y_draftKind y_draftWith y_kind y_with y_patternLength y_resultLength y_rows y_head y_left y_right y_size li stk sta y_argument y_given fits en pls bnd wk' ww' ow' y_counts y_openSize y_open y_known := by
          intro kk vv hy
          unfold wY_call_170
          rw [nI_add]
          refine fg_yput (by omega) ?_
          dsimp only
          refine nm_r (nI_1 i) (ih (i + 1) _ _ _ (by omega) (fun j hj => ?_) (fun j hj => ?_) (fun j hj => ?_))
          · rw [pk_un (by omega), pk_un (by omega), pk_un (by omega)]; exact e1 j hj
          · rw [pk_un (by omega), pk_un (by omega), pk_un (by omega)]; exact e2 j hj
          · by_cases z : j = i
            · subst z; rw [pk_us, pk_us, pk_us]; exact hy
            · rw [pk_un (by omega), pk_un (by omega), pk_un (by omega)]; exact e3 j (by omega)
        by_cases hvar : fg_rk g R i = 1
        · obtain ⟨u4, j, j1, j2, j3⟩ := (hRR i hi).2.2.2 hvar
          rw [hvar]
          refine br_t rfl ?_
          unfold wY_call_152
          refine br_t rfl (And.intro (vp_in_nI u4 (by decide)) ?_)
          rw [nI_clamp (by omega)]
          refine put 6 _ ?_
          rw [show fg_it g R t i = .inr (fg_bd g R t (fg_rv g R i)) from if_pos hvar]
          exact ⟨rfl, hbnd _ j j1 j2 j3⟩
        · have hne : ¬ nI (fg_rk g R i) = 1 := by rw [show (1 : Int32) = nI 1 from rfl, nI_eq (by omega) (by decide)]; exact hvar
          refine br_f hne ?_
          unfold wY_call_152
          refine br_f hne (put _ _ ?_)
          rw [show fg_it g R t i = .inl (fg_rk g R i, fg_rv g R i, R / 5) from if_neg hvar, hdiv]
          exact ⟨rfl, rfl, rfl⟩
    exact ⟨_, key (fg_rl g R) 0 wk ww ow (by omega) (fun _ _ => ⟨rfl, rfl, rfl⟩) (fun _ _ => ⟨rfl, rfl, rfl⟩) (fun j hj => absurd hj (Nat.not_lt_zero _))⟩
  · rw [if_neg hr]
    refine br_f fg_m1le ?_
    exact hst (by omega) (by omega) _ li stk sta en fits
theorem fg_ymake {post : Int32 → SY → Prop} {S : List fg_S} {v o : Nat} {l : List fg_T} {B L : List fg_I} (hG : fg_WF g) (ha : ∀ c, y_arity c = nI (fg_ar g c)) (hL : L = fg_fS S ++ (.inl (2, v, o) :: (l.map .inr ++ B))) (hl : l.length = fg_ar g v)
    (hW : fg_YW T N L y_workKind y_workWith y_owner) (hvn : v < fg_nc g) (hVl : ∀ x, x ∈ l → fg_V g x ∧ fg_sz x ≤ 40) (hlen : L.length < 1280) (hCe : fg_Ce g y_head y_left y_right y_size N T) (hN : N < 1300)
    (hbig : 40 < fg_sz (fg_nb2 v l) → ∀ (hd le ri si : Nat → Int32), post 3 (y_cons, y_drafted, nI (N + 1), y_length, y_argumentLength, y_givenLength, y_steps, nI o, y_how, y_ran, nI L.length, y_arity, y_draftKind, y_draftWith, y_kind, y_with, y_patternLength, y_resultLength, y_rows, hd, le, ri, si, y_list, y_stack, y_starts, y_argument, y_given, y_fits, y_ends, y_places, y_bound, y_workKind, y_workWith, y_owner, y_counts, y_openSize, y_open, y_known))
    (hok : fg_sz (fg_nb2 v l) ≤ 40 → ∀ (T' : Nat → fg_T) (hd le ri si wk ww ow : Nat → Int32), fg_V g (fg_nb2 v l) → fg_Ce g hd le ri si (N + 1) T' → fg_YW T' (N + 1) (fg_fS S ++ (.inr (fg_nb2 v l) :: B)) wk ww ow →
      post 0 (y_cons, y_drafted, nI (N + 1), y_length, y_argumentLength, y_givenLength, y_steps, nI o, y_how, y_ran, nI (fg_fS S ++ (.inr (fg_nb2 v l) :: B)).length, y_arity, y_draftKind, y_draftWith, y_kind, y_with, y_patternLength, y_resultLength, y_rows, hd, le, ri, si, y_list, y_stack, y_starts, y_argument, y_given, y_fits, y_ends, y_places, y_bound, wk, ww, ow, y_counts, y_openSize, y_open, y_known)) :
    wpY_make post (y_cons, y_drafted, nI N, y_length, y_argumentLength, y_givenLength, y_steps, y_blamed, y_how, y_ran, nI L.length, y_arity, y_draftKind, y_draftWith, y_kind, y_with, y_patternLength, y_resultLength, y_rows, y_head, y_left, y_right, y_size, y_list, y_stack, y_starts, y_argument, y_given, y_fits, y_ends, y_places, y_bound, y_workKind, y_workWith, y_owner, y_counts, y_openSize, y_open, y_known) (nI (fg_fS S).length) := by
  have h6 := hG.1
  have ha2 := hG.2.1 v
  have hlL : L.length = (fg_fS S).length + 1 + l.length + B.length := by rw [hL, fg_fl3, List.length_map]
  generalize hA : (fg_fS S).length = a at *
  have g0 : L[a]? = some (.inl (2, v, o)) := by rw [hL, ← hA]; simp
  have gl : ∀ q x, l[q]? = some x → L[a + (q + 1)]? = some (.inr x) := by
    intro q x hx
    have hq := fg_getlt hx
    rw [hL, List.getElem?_append_right (by omega), hA, Nat.add_sub_cancel_left, List.getElem?_cons_succ, List.getElem?_append_left (by rw [List.length_map]; exact hq), List.getElem?_map, hx]; rfl
  obtain ⟨k1, k2, k3⟩ := hW a _ g0
  have va : vp_in (nI a) 1300 := vp_in_nI (by omega) (by decide)
  have ca : (nI a).toNatClampNeg = a := nI_clamp (by omega)
  -- with the values
  have w52 : ∀ A A2 : Int32, fg_pt T N A (l.getD 0 fg_nil) → fg_pt T N A2 (l.getD 1 fg_nil) → fg_ok (fg_nc g) (fg_ar g) (fg_nb2 v l) → wY_make_52 post (nI a) (nI (fg_ar g v)) A2 A (nI v) y_cons y_drafted (nI N) y_length y_argumentLength y_givenLength y_steps y_blamed y_how y_ran (nI L.length) y_arity y_draftKind y_draftWith y_kind y_with y_patternLength y_resultLength y_rows y_head y_left y_right y_size y_list y_stack y_starts y_argument y_given y_fits y_ends y_places y_bound y_workKind y_workWith y_owner y_counts y_openSize y_open y_known := by
    intro A A2 h1 h2 hok'
    unfold wY_make_52
    refine fg_ynode hCe hN h1 h2 ?_
    dsimp only
    refine And.intro va (nm_r (e' := nI o) (by rw [ca]; exact k3) (And.intro (vp_in_nI hN (by decide)) ?_))
    rw [nI_clamp (by omega), pk_us]
    have hszn : fg_sz (fg_nb2 v l) = 1 + fg_sz (l.getD 0 fg_nil) + fg_sz (l.getD 1 fg_nil) := rfl
    have hb40 : ∀ q, fg_sz (l.getD q fg_nil) ≤ 40 := by
      intro q
      rw [List.getD_eq_getElem?_getD]
      cases hq : l[q]? with
      | none => exact Nat.zero_le _
      | some x => exact (hVl x (List.mem_of_getElem? hq)).2
    have b0 := hb40 0
    have b1 := hb40 1
    refine pk_le (fg_sz (fg_nb2 v l)) 40 (fun z => ?_) (fun z => ?_) (by rw [hszn]) rfl (by omega) (by decide)
    · rw [show (1 : Int32) + nI (fg_ar g v) = nI (1 + fg_ar g v) from nI_add 1 _]
      refine fg_yreplace (c := 1) (by omega) (by omega) (by omega) (by decide) (fun wk ww ow m1 m2 => ?_)
      dsimp only
      refine fg_yput (by omega) ?_
      dsimp only
      have hnew := fg_Ce_new (c := v) hCe hok' (by exact z) h1 h2
      have hlL' : L.length - (1 + fg_ar g v) + 1 = (fg_fS S ++ (.inr (fg_nb2 v l) :: B)).length := by
        rw [List.length_append, List.length_cons]; omega
      rw [hlL']
      refine hok z (fg_ex T N (fg_nb2 v l)) _ _ _ _ _ _ _ ⟨fg_ne_b, hok'⟩ hnew (fun j x hx => ?_)
      have hj := fg_getlt hx
      rw [← hlL'] at hj
      have mono : ∀ j x, L[j]? = some x → fg_Yi (fg_ex T N (fg_nb2 v l)) (N + 1) x (y_workKind j) (y_workWith j) (y_owner j) := fun j x h => fg_Yi_mono (hW j x h) (Nat.le_succ _) (fun i hi => fg_ex_o hi)
      rcases Nat.lt_trichotomy j a with w | w | w
      · rw [List.getElem?_append_left (by omega)] at hx
        have : L[j]? = some x := by rw [hL, List.getElem?_append_left (by omega)]; exact hx
        obtain ⟨f1, f2, f3⟩ := m1 j w
        rw [pk_un (by omega), pk_un (by omega), pk_un (by omega), f1, f2, f3]
        exact mono j x this
      · subst w
        rw [List.getElem?_append_right (by omega), hA, Nat.sub_self] at hx
        have hx' : some (.inr (fg_nb2 v l)) = some x := hx
        injection hx' with hx'
        subst hx'
        rw [pk_us, pk_us, pk_us]
        exact ⟨rfl, Or.inr ⟨N, Nat.lt_succ_self _, rfl, fg_ex_n⟩⟩
      · obtain ⟨j', rfl⟩ : ∃ j', j = a + 1 + j' := ⟨j - a - 1, by omega⟩
        rw [List.getElem?_append_right (by omega), hA, show a + 1 + j' - a = j' + 1 by omega, List.getElem?_cons_succ] at hx
        have hB : L[a + (1 + fg_ar g v) + j']? = some x := by
          rw [hL, List.getElem?_append_right (by omega), hA, show a + (1 + fg_ar g v) + j' - a = (fg_ar g v + j') + 1 by omega, List.getElem?_cons_succ, List.getElem?_append_right (by rw [List.length_map]; omega), List.length_map, hl, Nat.add_sub_cancel_left]
          exact hx
        obtain ⟨f1, f2, f3⟩ := m2 j' (by omega)
        rw [pk_un (by omega), pk_un (by omega), pk_un (by omega), f1, f2, f3]
        exact mono _ x hB
    · exact hbig z _ _ _ _
  unfold wpY_make
  dsimp only
  rw [ca, k2]
  refine And.intro va (And.intro (vp_in_nI (by omega) (by decide)) (nm_r (e' := nI (fg_ar g v)) (by rw [nI_clamp (by omega)]; exact ha v) (And.intro va ?_)))
  rcases (show fg_ar g v = 0 ∨ fg_ar g v = 1 ∨ fg_ar g v = 2 by omega) with z | z | z
  · have hl' : l = [] := List.length_eq_zero_iff.mp (by omega)
    subst hl'
    have w := w52 (-1) (-1) (Or.inl ⟨rfl, rfl⟩) (Or.inl ⟨rfl, rfl⟩) ⟨hvn, Or.inl ⟨z, rfl, rfl⟩, True.intro, True.intro⟩
    refine br_t (by rw [z]; decide) ?_
    unfold wY_make_35
    exact br_t (by rw [z]; decide) w
  · obtain ⟨x, hx⟩ : ∃ x, l = [x] := by
      cases l with
      | nil => simp at hl; omega
      | cons a' l' =>
        cases l' with
        | nil => exact ⟨a', rfl⟩
        | cons b l'' => simp at hl; omega
    subst hx
    obtain ⟨xV, x40⟩ := hVl x (by simp)
    have p0 := (hW (a + 1) _ (gl 0 x rfl)).2
    have w := w52 (y_workWith (a + 1)) (-1) p0 (Or.inl ⟨rfl, rfl⟩) ⟨hvn, Or.inr (Or.inl ⟨z, xV.1, rfl⟩), xV.2, True.intro⟩
    refine br_f (by rw [z]; decide) ?_
    rw [nI_1, nI_clamp (by omega)]
    refine And.intro (vp_in_nI (by omega) (by decide)) ?_
    unfold wY_make_35
    exact br_t (by rw [z]; decide) w
  · obtain ⟨x, y, hx⟩ : ∃ x y, l = [x, y] := by
      cases l with
      | nil => simp at hl; omega
      | cons a' l' =>
        cases l' with
        | nil => simp at hl; omega
        | cons b l'' =>
          cases l'' with
          | nil => exact ⟨a', b, rfl⟩
          | cons c l3 => simp at hl; omega
    subst hx
    obtain ⟨xV, x40⟩ := hVl x (by simp)
    obtain ⟨yV, y40⟩ := hVl y (by simp)
    have p0 := (hW (a + 1) _ (gl 0 x rfl)).2
    have p1 := (hW (a + 2) _ (gl 1 y rfl)).2
    have w := w52 (y_workWith (a + 1)) (y_workWith (a + 2)) p0 p1 ⟨hvn, Or.inr (Or.inr ⟨z, xV.1, yV.1⟩), xV.2, yV.2⟩
    refine br_f (by rw [z]; decide) ?_
    rw [nI_1, nI_clamp (by omega)]
    refine And.intro (vp_in_nI (by omega) (by decide)) ?_
    unfold wY_make_35
    refine br_f (by rw [z]; decide) ?_
    rw [show nI a + 2 = nI (a + 2) from nI_add a 2, nI_clamp (by omega)]
    exact And.intro (vp_in_nI (by omega) (by decide)) w
end
end
section
/-! Y: a run -/
def fg_no : List fg_I → Nat
  | [] => 0
  | .inl _ :: l => fg_no l + 1
  | .inr _ :: l => fg_no l
theorem fg_no_app : ∀ (l m : List fg_I), fg_no (l ++ m) = fg_no l + fg_no m
  | [], m => by simp [fg_no]
  | .inl q :: l, m => by rw [List.cons_append, fg_no, fg_no, fg_no_app l m]; omega
  | .inr q :: l, m => by rw [List.cons_append, fg_no, fg_no, fg_no_app l m]
theorem fg_no_map : ∀ (l : List fg_T), fg_no (l.map .inr) = 0
  | [] => rfl
  | _ :: l => fg_no_map l
theorem fg_no_le : ∀ (l : List fg_I), fg_no l ≤ l.length
  | [] => Nat.le_refl _
  | .inl q :: l => by have := fg_no_le l; rw [fg_no, List.length_cons]; omega
  | .inr q :: l => by have := fg_no_le l; rw [fg_no, List.length_cons]; omega
theorem fg_it_v {g : fg_C} {f r R : Nat} {t : fg_T} (hG : fg_WF g) (hf : f < 4) (hr : r < fg_rw g f) (hR : R = 5 * f + r) (hV : fg_V g t) (h40 : fg_sz t ≤ 40) (hm : fg_mr g R 0 t = true) {i : Nat} (hi : i < fg_rl g R) : fg_Iv g (fg_it g R t i) := by
  have h5 := hG.2.2.1 f hf
  have hRW : fg_RW g R := by rw [hR]; exact hG.2.2.2 f r hf hr
  have hRR := hRW.2.2.2.2.2.2.1 i hi
  by_cases hk : fg_rk g R i = 1
  · rw [show fg_it g R t i = .inr (fg_bd g R t (fg_rv g R i)) from if_pos hk]
    obtain ⟨u4, j, j1, j2, j3⟩ := hRR.2.2.2 hk
    have htx := fg_tx_eq hRW j1 j2 j3
    show fg_V g (fg_bd g R t (fg_rv g R i)) ∧ fg_sz (fg_bd g R t (fg_rv g R i)) ≤ 40
    unfold fg_bd fg_D
    rw [htx]
    have hb0 := hRW.2.2.1
    have w := fg_pe_of hRW j1 j2 12 0 t (Nat.zero_le _) (by omega) hV.1 hV.2 hm
    have w2 := fg_fo_ok (fg_wk (fg_pb g R) j 12 0) t hV.2
    exact ⟨⟨fg_pe_ne _ _ w, w2.1⟩, by omega⟩
  · rw [show fg_it g R t i = .inl (fg_rk g R i, fg_rv g R i, R / 5) from if_neg hk]
    refine ⟨?_, by omega⟩
    rcases hRR.1 with z | z | z
    · exact absurd z hk
    · exact Or.inl ⟨z, hRR.2.1 z⟩
    · exact Or.inr ⟨z, hRR.2.2.1 z⟩
section
variable {y_cons y_drafted y_nodes y_length y_argumentLength y_givenLength y_steps y_blamed y_how y_ran y_working : Int32} {y_arity y_draftKind y_draftWith y_kind y_with y_patternLength y_resultLength y_rows y_head y_left y_right y_size y_list y_stack y_starts y_argument y_given y_fits y_ends y_places y_bound y_workKind y_workWith y_owner y_counts y_openSize y_open y_known : Nat → Int32}
variable {g : fg_C} {f : Nat} {t : fg_T}
theorem fg_yrun91 {post : Int32 → SY → Prop} {z : Nat × Int32 × Nat × fg_T} (hG : fg_WF g) (hC : fg_CY g y_arity y_rows y_patternLength y_resultLength y_kind y_with) (hp : fg_Fin g z → ∀ (nodes length how working : Int32) (hd le ri si li stk sta en fits pls bnd wk ww ow : Nat → Int32) (gv : Nat → Int32), fg_at gv 0 (fg_fl z.2.2.2) → post (nI z.1) (y_cons, y_drafted, nodes, length, y_argumentLength, nI (fg_sz z.2.2.2), nI z.2.2.1, z.2.1, how, y_ran, working, y_arity, y_draftKind, y_draftWith, y_kind, y_with, y_patternLength, y_resultLength, y_rows, hd, le, ri, si, li, stk, sta, y_argument, gv, fits, en, pls, bnd, wk, ww, ow, y_counts, y_openSize, y_open, y_known)) :
    ∀ (n s : Nat) (L : List fg_I), fg_Rn g n s L z → ∀ (T : Nat → fg_T) (N : Nat) (ln bl : Int32) (hd le ri si li stk sta en fits pls bnd wk ww ow : Nat → Int32), fg_Ce g hd le ri si N T → fg_YW T N L wk ww ow → (∀ x, x ∈ L → fg_Iv g x) → L.length ≤ 2 + 12 * s → N + fg_no L ≤ 41 + 12 * s → s ≤ 100 →
      ∀ m, n < m → ∀ P : Int32 → Prop, (∀ r, wY_run_91 post m r y_cons y_drafted (nI N) ln y_argumentLength 0 (nI s) bl 0 y_ran (nI L.length) y_arity y_draftKind y_draftWith y_kind y_with y_patternLength y_resultLength y_rows hd le ri si li stk sta y_argument y_given fits en pls bnd wk ww ow y_counts y_openSize y_open y_known → P r) → wpY_ready P (y_cons, y_drafted, nI N, ln, y_argumentLength, 0, nI s, bl, 0, y_ran, nI L.length, y_arity, y_draftKind, y_draftWith, y_kind, y_with, y_patternLength, y_resultLength, y_rows, hd, le, ri, si, li, stk, sta, y_argument, y_given, fits, en, pls, bnd, wk, ww, ow, y_counts, y_openSize, y_open, y_known) := by
  have h6 := hG.1
  intro n
  induction n with
  | zero => intro s L h; exact h.elim
  | succ n ih =>
    intro s L hRn T N ln bl hd le ri si li stk sta en fits pls bnd wk ww ow hCe hW hv hlen hno hs m hm P hPP
    obtain ⟨m, rfl⟩ : ∃ q, m = q + 1 := ⟨m - 1, by omega⟩
    -- an end without a value
    have bad : ∀ (o' : Nat), 1 ≤ o' → o' ≤ 3 → z.1 = o' → z.2.2.2 = fg_nil → ∀ (s' : Nat) (bl' : Int32), z.2.2.1 = s' → z.2.1 = bl' → ∀ (nodes ln' working : Int32) (hd le ri si li stk sta en fits pls bnd wk ww ow : Nat → Int32), wY_run_126 post (wY_run_91 post m) (nI o') y_cons y_drafted nodes ln' y_argumentLength 0 (nI s') bl' 0 y_ran working y_arity y_draftKind y_draftWith y_kind y_with y_patternLength y_resultLength y_rows hd le ri si li stk sta y_argument y_given fits en pls bnd wk ww ow y_counts y_openSize y_open y_known := by
      intro o' h1 h3 hz1 hz2 s' bl' hs' hb' nodes ln' working hd le ri si li stk sta en fits pls bnd wk ww ow
      obtain ⟨m', rfl⟩ : ∃ q, m = q + 1 := ⟨m - 1, by omega⟩
      unfold wY_run_126
      refine br_f (nI_ne0 h1 (by omega)) (br_t fg_m1neg ?_)
      unfold wY_run_148
      refine br_f (nI_ne0 h1 (by omega)) ?_
      have := hp (Or.inr ⟨by omega, by omega, hz2⟩) nodes ln' (nI o') working hd le ri si li stk sta en fits pls bnd wk ww ow y_given (by rw [hz2]; exact fg_at_nil)
      rw [hz1, hz2, hs', hb'] at this
      exact this
    rcases hRn with ⟨t, rfl, hz⟩ | ⟨S, k, v, o, l, B, hL, hS, hl, hstep⟩
    · obtain ⟨hV, h40⟩ := (hv (.inr t) List.mem_cons_self : fg_V g t ∧ fg_sz t ≤ 40)
      obtain ⟨-, q2⟩ := hW 0 (.inr t) rfl
      obtain ⟨y, y1, y2, y3⟩ := fg_pt_ne hV.1 q2
      refine fg_yready1 hW (hPP _ (br_t fg_m1neg ?_))
      unfold wY_run_148
      refine br_t rfl ?_
      rw [y2]
      refine fg_yspell hCe (by omega) y1 y3 (fun stk li sta hli _ => ?_)
      dsimp only
      have key : ∀ (d i : Nat) (gv : Nat → Int32), i + d = fg_sz t → (∀ j, j < i → gv j = nI (fg_hd (fg_sub t j))) → wY_run_186 post y_cons y_drafted (nI N) (nI (fg_sz t)) y_argumentLength (nI (fg_sz t)) (nI s) (-1) 0 y_ran (nI 1) (d + 1) (nI i) y_arity y_draftKind y_draftWith y_kind y_with y_patternLength y_resultLength y_rows hd le ri si li stk sta y_argument gv fits en pls bnd wk ww ow y_counts y_openSize y_open y_known := by
        intro d
        induction d with
        | zero =>
          intro i gv hdd h1
          refine br_t (nI_le (by omega) (by omega)) ?_
          have hz1 : z.1 = 0 := by rw [hz]
          have hz2 : z.2.2.2 = t := by rw [hz]
          have hz3 : z.2.2.1 = s := by rw [hz]
          have hz4 : z.2.1 = -1 := by rw [hz]
          have := hp (Or.inl ⟨hz1, by rw [hz2]; exact hV, by rw [hz2]; exact h40⟩) (nI N) (nI (fg_sz t)) 0 (nI 1) hd le ri si li stk sta en fits pls bnd wk ww ow gv (by rw [hz2]; exact fg_at_of (fun p hp => h1 p (by omega)))
          rw [hz1, hz2, hz3, hz4] at this
          exact this
        | succ d ihd =>
          intro i gv hd h1
          have vi : vp_in (nI i) 40 := vp_in_nI (by omega) (by decide)
          refine br_f (nI_ge (by omega) (by omega)) (And.intro vi (And.intro vi ?_))
          rw [nI_clamp (by omega), fg_at_h0 hli (show i < fg_sz t by omega)]
          refine nm_e (nm_r (nI_1 i) (ihd (i + 1) _ (by omega) (fun j hj => ?_)))
          by_cases w : j = i
          · rw [w, pk_us]
          · rw [pk_un w]; exact h1 j (by omega)
      exact ⟨_, key (fg_sz t) 0 y_given (by omega) (fun j hj => absurd hj (Nat.not_lt_zero _))⟩
    · have hlL : L.length = (fg_fS S).length + 1 + l.length + B.length := by rw [hL, fg_fl3, List.length_map]
      have hnoL : fg_no L = fg_no (fg_fS S) + 1 + fg_no B := by
        rw [hL, fg_no_app]
        show fg_no (fg_fS S) + (fg_no (l.map .inr ++ B) + 1) = _
        rw [fg_no_app, fg_no_map]; omega
      have hgk : L[(fg_fS S).length]? = some (.inl (k, v, o)) := by rw [hL]; simp
      obtain ⟨w1, w2, w3⟩ := hW _ _ hgk
      obtain ⟨vk, vo⟩ := (hv _ (List.mem_of_getElem? hgk) : ((k = 2 ∧ v < fg_nc g) ∨ (k = 5 ∧ v < 4)) ∧ o < 4)
      have hvl : ∀ x, x ∈ l → fg_V g x ∧ fg_sz x ≤ 40 := fun x hx => hv (.inr x) (by rw [hL]; exact List.mem_append_right _ (List.mem_cons_of_mem _ (List.mem_append_left _ (List.mem_map_of_mem hx))))
      have hvS : ∀ x, x ∈ fg_fS S → fg_Iv g x := fun x hx => hv x (by rw [hL]; exact List.mem_append_left _ hx)
      have hvB : ∀ x, x ∈ B → fg_Iv g x := fun x hx => hv x (by rw [hL]; exact List.mem_append_right _ (List.mem_cons_of_mem _ (List.mem_append_right _ hx)))
      refine fg_yready hG hC.1 hL hS hl hW hv (by omega) (hPP _ ?_)
      have va : vp_in (nI (fg_fS S).length) 1300 := vp_in_nI (by omega) (by decide)
      have ca : (nI (fg_fS S).length).toNatClampNeg = (fg_fS S).length := nI_clamp (by omega)
      refine br_f (nI_pos (by omega)) (br_t rfl (And.intro va ?_))
      rw [ca, w1]
      rcases hstep with ⟨hk5, t, ht, hcase⟩ | ⟨hk2, hcase⟩
      · subst hk5 ht
        have hv4 : v < 4 := by
          rcases vk with q | q
          · omega
          · exact q.2
        obtain ⟨hV, h40⟩ := hvl t (by simp)
        refine br_t rfl ?_
        refine fg_ycall hG hC hL hW hv4 hV h40 hlen hs hCe (by omega) (fun h100 => ?_) (fun hs' htk ln' li' stk' sta' en' fits' => ?_) (fun hs' htk ln' li' stk' sta' en' fits' pls' bnd' wk' ww' ow' hW' => ?_)
        · rcases hcase with ⟨-, hz⟩ | ⟨q, -⟩ | ⟨q, -⟩
          · exact bad 2 (by omega) (by omega) (by rw [hz]) (by rw [hz]) s (nI v) (by rw [hz]) (by rw [hz]) _ _ _ _ _ _ _ _ _ _ _ _ _ _ _ _ _
          · omega
          · omega
        · rcases hcase with ⟨q, -⟩ | ⟨-, -, hz⟩ | ⟨-, q, -⟩
          · omega
          · exact bad 1 (by omega) (by omega) (by rw [hz]) (by rw [hz]) (s + 1) (nI v) (by rw [hz]) (by rw [hz]) _ _ _ _ _ _ _ _ _ _ _ _ _ _ _ _ _
          · omega
        · rcases hcase with ⟨q, -⟩ | ⟨-, q, -⟩ | ⟨-, -, hz⟩
          · omega
          · omega
          · have hRW := hG.2.2.2 v _ hv4 htk
            have r12 := hRW.1
            have hmm : fg_mr g (5 * v + fg_tk g v t) 0 t = true := (fg_fr_sp (p := fun r => fg_mr g (5 * v + r) 0 t) (fg_rw g v)).2.2 htk
            have hrl : (fg_rest g (5 * v + fg_tk g v t) t 0 (fg_rl g (5 * v + fg_tk g v t))).length = fg_rl g (5 * v + fg_tk g v t) := by unfold fg_rest; rw [List.length_map, List.length_range']
            have hnr := fg_no_le (fg_rest g (5 * v + fg_tk g v t) t 0 (fg_rl g (5 * v + fg_tk g v t)))
            refine br_t rfl ?_
            refine ih (s + 1) _ hz T N ln' (nI v) hd le ri si li' stk' sta' en' fits' pls' bnd' wk' ww' ow' hCe hW' (fun x hx => ?_) ?_ ?_ (by omega) m (by omega) _ (fun r hr => hr)
            · rcases List.mem_append.mp hx with y | y
              · exact hvS x y
              · rcases List.mem_append.mp y with y | y
                · unfold fg_rest at y
                  obtain ⟨i, i1, rfl⟩ := List.mem_map.mp y
                  obtain ⟨q, q1, q2⟩ := List.mem_range'.mp i1
                  exact fg_it_v hG hv4 htk rfl hV h40 hmm (by omega)
                · exact hvB x y
            · rw [List.length_append, List.length_append, hrl]
              simp only [List.length_singleton] at hlL
              omega
            · rw [fg_no_app, fg_no_app]
              omega
      · subst hk2
        have hvn : v < fg_nc g := by
          rcases vk with q | q
          · exact q.2
          · omega
        refine br_f (by decide) ?_
        refine fg_ymake hG hC.1 hL hl hW hvn hvl (by omega) hCe (by omega) (fun hbig hd' le' ri' si' => ?_) (fun hsm T' hd' le' ri' si' wk' ww' ow' hVn hCe' hW' => ?_)
        · rcases hcase with ⟨-, hz⟩ | ⟨q, -⟩
          · exact bad 3 (by omega) (by omega) (by rw [hz]) (by rw [hz]) s (nI o) (by rw [hz]) (by rw [hz]) _ _ _ _ _ _ _ _ _ _ _ _ _ _ _ _ _
          · omega
        · rcases hcase with ⟨q, -⟩ | ⟨-, hz⟩
          · omega
          · refine br_t rfl ?_
            refine ih s _ hz T' (N + 1) ln (nI o) hd' le' ri' si' li stk sta en fits pls bnd wk' ww' ow' hCe' hW' (fun x hx => ?_) ?_ ?_ hs m (by omega) _ (fun r hr => hr)
            · rcases List.mem_append.mp hx with y | y
              · exact hvS x y
              · rcases List.mem_cons.mp y with y | y
                · rw [y]; exact ⟨hVn, hsm⟩
                · exact hvB x y
            · rw [List.length_append, List.length_cons]; omega
            · rw [fg_no_app]
              show N + 1 + (fg_no (fg_fS S) + fg_no B) ≤ _
              omega
theorem fg_yrun {post : Int32 → SY → Prop} {z : Nat × Int32 × Nat × fg_T} {n : Nat} (hG : fg_WF g) (hC : fg_CY g y_arity y_rows y_patternLength y_resultLength y_kind y_with) (hf : f < 4) (hV : fg_V g t) (h40 : fg_sz t ≤ 40) (hat : fg_at y_argument 0 (fg_fl t)) (hR : fg_Rn g n 0 [.inl (5, f, f), .inr t] z)
    (hp : fg_Fin g z → ∀ (nodes length how working : Int32) (hd le ri si li stk sta en fits pls bnd wk ww ow : Nat → Int32) (gv : Nat → Int32), fg_at gv 0 (fg_fl z.2.2.2) → post (nI z.1) (y_cons, y_drafted, nodes, length, nI (fg_sz t), nI (fg_sz z.2.2.2), nI z.2.2.1, z.2.1, how, 1, working, y_arity, y_draftKind, y_draftWith, y_kind, y_with, y_patternLength, y_resultLength, y_rows, hd, le, ri, si, li, stk, sta, y_argument, gv, fits, en, pls, bnd, wk, ww, ow, y_counts, y_openSize, y_open, y_known)) :
    wpY_run post (y_cons, y_drafted, y_nodes, y_length, nI (fg_sz t), y_givenLength, y_steps, y_blamed, y_how, y_ran, y_working, y_arity, y_draftKind, y_draftWith, y_kind, y_with, y_patternLength, y_resultLength, y_rows, y_head, y_left, y_right, y_size, y_list, y_stack, y_starts, y_argument, y_given, y_fits, y_ends, y_places, y_bound, y_workKind, y_workWith, y_owner, y_counts, y_openSize, y_open, y_known) (nI f) := by
  have hpz := fg_szp hV.1
  unfold wpY_run
  dsimp only
  refine fg_y4t hf (br_f (by decide) (br_f (nI_ne0 hpz (by omega)) ?_))
  refine fg_ytake h40 hat (fun li hli => ?_)
  dsimp only
  refine fg_ymeasure hC.1 hG hV.2 h40 hli (fun en hE => ?_)
  dsimp only
  refine fg_yput (i := 0) (by decide) ?_
  dsimp only
  refine fg_ybuild hG hC.1 hV h40 hli hE (fun T y hd le ri si sta hCe hy => ?_)
  dsimp only
  refine fg_yput (i := 1) (by decide) ?_
  dsimp only
  have hW : fg_YW T (fg_sz t) [.inl (5, f, f), .inr t] (upd (upd y_workKind 0 5) 1 6) (upd (upd y_workWith 0 (nI f)) 1 y) (upd (upd y_owner 0 (nI f)) 1 (nI f)) := by
    intro i x hx
    cases i with
    | zero =>
      have : some (.inl (5, f, f)) = some x := hx
      injection this with this
      subst this
      exact ⟨rfl, rfl, rfl⟩
    | succ i =>
      cases i with
      | zero =>
        have : some (.inr t) = some x := hx
        injection this with this
        subst this
        exact ⟨rfl, hy⟩
      | succ i => exact nomatch hx
  refine fg_yrun91 (z := z) (y_ran := 1) (y_argumentLength := nI (fg_sz t)) (post := post) hG hC (fun hF nodes length how working hd le ri si li stk sta en fits pls bnd wk ww ow gv hgv => hp hF nodes length how working hd le ri si li stk sta en fits pls bnd wk ww ow gv hgv) n 0 _ hR T (fg_sz t) _ _ _ _ _ _ _ _ _ _ _ _ _ _ _ _ hCe hW (fun x hx => ?_) (by simp) (by show fg_sz t + 1 ≤ 41; omega) (by decide) (n + 1) (Nat.lt_succ_self _) _ (fun r hr => ⟨n + 1, hr⟩)
  rcases List.mem_cons.mp hx with w | w
  · rw [w]; exact ⟨Or.inr ⟨rfl, hf⟩, hf⟩
  · rw [List.mem_singleton.mp w]; exact ⟨hV, h40⟩
end
end
section
/-! run -/
theorem i_vc_run {k : Nat} {u : SX} {v : SY} (I : i_Rel k u v) (hk : k + 4 ≤ 2048) (v1 : Int32) : wpX_run (fun r u' => wpY_run (fun r' v' => r' = r ∧ i_Rel (k + 4) u' v') v v1) u v1 := by
  refine fg_el (P := fun u v => wpX_run (fun r u' => wpY_run (fun r' v' => r' = r ∧ i_Rel (k + 4) u' v') v v1) u v1) ?_ I
  intro x_cons x_drafted x_given x_cells x_calls x_opened x_held x_steps x_outcome x_culprit x_size x_kinds x_arity x_dKind x_dValue x_behind x_pKind x_pValue x_pBehind x_rKind x_rValue x_pLength x_rLength x_rows x_path x_argument x_cCon x_cFirst x_cSecond x_cSize x_table x_sets x_learnt x_pile x_callRow x_callAt x_callOpen x_bound x_openToken x_lacks x_output x_kSize x_kSet x_kMany x_kList x_counts x_counted x_firstOpen x_openSize x_values y_cons y_drafted y_nodes y_length y_argumentLength y_givenLength y_steps y_blamed y_how y_ran y_working y_arity y_draftKind y_draftWith y_kind y_with y_patternLength y_resultLength y_rows y_head y_left y_right y_size y_list y_stack y_starts y_argument y_given y_fits y_ends y_places y_bound y_workKind y_workWith y_owner y_counts y_openSize y_open y_known g nd DK DV t w R0
  have bad : (v1 < 0 ∨ nI 4 ≤ v1) → wpX_run (fun r u' => wpY_run (fun r' v' => r' = r ∧ i_Rel (k + 4) u' v') (y_cons, y_drafted, y_nodes, y_length, y_argumentLength, y_givenLength, y_steps, y_blamed, y_how, y_ran, y_working, y_arity, y_draftKind, y_draftWith, y_kind, y_with, y_patternLength, y_resultLength, y_rows, y_head, y_left, y_right, y_size, y_list, y_stack, y_starts, y_argument, y_given, y_fits, y_ends, y_places, y_bound, y_workKind, y_workWith, y_owner, y_counts, y_openSize, y_open, y_known) v1) (x_cons, x_drafted, x_given, x_cells, x_calls, x_opened, x_held, x_steps, x_outcome, x_culprit, x_size, x_kinds, x_arity, x_dKind, x_dValue, x_behind, x_pKind, x_pValue, x_pBehind, x_rKind, x_rValue, x_pLength, x_rLength, x_rows, x_path, x_argument, x_cCon, x_cFirst, x_cSecond, x_cSize, x_table, x_sets, x_learnt, x_pile, x_callRow, x_callAt, x_callOpen, x_bound, x_openToken, x_lacks, x_output, x_kSize, x_kSet, x_kMany, x_kList, x_counts, x_counted, x_firstOpen, x_openSize, x_values) v1 := by
    intro h
    unfold wpX_run
    dsimp only
    refine fg_x4f h (br_t rfl ?_)
    unfold wpY_run
    dsimp only
    exact fg_y4f h (br_t rfl ⟨rfl, fg_rel R0⟩)
  rcases pk_ix v1 (n := 4) (by decide) with h | h | ⟨f, hf, rfl⟩
  · exact bad (Or.inl h)
  · exact bad (Or.inr h)
  · have R0' := R0
    obtain ⟨hW, r2, r3, r4, r5, cx, cy, r8, ⟨a1, a2, a3, a4, a5, a6⟩, r10, r11⟩ := R0'
    subst a3 a4
    rcases Nat.eq_zero_or_pos (fg_sz t) with z | z
    · unfold wpX_run
      dsimp only
      refine fg_x4t hf (br_f (by decide) (br_t (by rw [z]; rfl) ?_))
      unfold wpY_run
      dsimp only
      exact fg_y4t hf (br_f (by decide) (br_t (by rw [z]; rfl) ⟨rfl, fg_rel R0⟩))
    · have ht : t ≠ fg_nil := fun e => by rw [fg_sz0.mpr e] at z; exact absurd z (Nat.lt_irrefl _)
      refine fg_xrun (Q := fun z => ∃ n, fg_Rn g n 0 [.inl (5, f, f), .inr t] z) hW cx hf ⟨ht, a1⟩ a2 a5 (fun z hq hF cells calls opened held con fst snd siz tab lea pile cr ca co bnd ot lk vs sts ou hou => ?_) (fun n z hz => ⟨n, hz⟩)
      obtain ⟨n, hn⟩ := hq
      refine fg_yrun hW cy hf ⟨ht, a1⟩ a2 a6 hn (fun _ nodes length how working hd le ri si li stk sta en fits pls ybnd wk ww ow gv hgv => ⟨rfl, ?_⟩)
      refine fg_rel' g nd DK DV t z.2.2.2 ⟨hW, r2, r3, r4, r5, cx, cy, r8, ⟨a1, a2, rfl, rfl, a5, a6⟩, ?_, r11⟩
      rcases hF with ⟨f1, f2, f3⟩ | ⟨f1, f2, f3⟩
      · exact ⟨f2.2, f3, rfl, hou, hgv, Or.inr ⟨rfl, rfl, rfl, rfl, Or.inl ⟨by rw [f1]; rfl, f2.1⟩⟩⟩
      · refine ⟨by rw [f3]; exact True.intro, by rw [f3]; exact Nat.zero_le _, rfl, hou, hgv, Or.inr ⟨rfl, rfl, rfl, rfl, Or.inr ⟨z.1, f1, f2, rfl, f3⟩⟩⟩
end
