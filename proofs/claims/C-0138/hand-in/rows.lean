section
/-! pure rows to paste: stores, nI and lN arithmetic, masks, shifts, narrowing, branches by naturals (pk_le, pk_lt, pk_eq), loops (lp1 .. lp16: the measure of the state; rp1 ..: recursion), negatives. Take what you need -/
theorem pk_us {f : Nat → Int32} {k : Nat} {x : Int32} : upd f k x k = x := if_pos rfl
theorem pk_un {f : Nat → Int32} {k j : Nat} {x : Int32} (h : j ≠ k) : upd f k x j = f j := if_neg h
theorem pk_uLs {f : Nat → Int64} {k : Nat} {x : Int64} : vp_updL f k x k = x := if_pos rfl
theorem pk_uLn {f : Nat → Int64} {k j : Nat} {x : Int64} (h : j ≠ k) : vp_updL f k x j = f j := if_neg h
theorem pk_sub {a b : Nat} (h : b ≤ a) : nI a - nI b = nI (a - b) := by
  obtain ⟨c, rfl⟩ : ∃ c, a = c + b := ⟨a - b, by omega⟩
  rw [← nI_add, Int32.add_sub_cancel, Nat.add_sub_cancel]
theorem pk_m1 (n : Nat) : nI (n + 1) + (-1) = nI n := by
  rw [← nI_1, Int32.add_assoc, show (1 : Int32) + (-1) = 0 from rfl, Int32.add_zero]
theorem pk_mul (a b : Nat) : nI a * nI b = nI (a * b) := (Int32.ofNat_mul a b).symm
theorem pk_div {a d : Nat} (ha : a < 2 ^ 31) (h0 : 0 < d) (hd : d < 2 ^ 31) : nI a / nI d = nI (a / d) := by
  apply Int32.toInt_inj.mp
  rw [lg_idiv_nonneg (by rw [nI_toInt ha]; omega) (by rw [nI_toInt hd]; omega), nI_toInt ha, nI_toInt hd, nI_toInt (Nat.lt_of_le_of_lt (Nat.div_le_self a d) ha)]
  first | rfl | exact (Int.natCast_ediv _ _).symm
theorem pk_rem {a d : Nat} (ha : a < 2 ^ 31) (h0 : 0 < d) (hd : d < 2 ^ 31) : nI a - nI a / nI d * nI d = nI (a % d) := by
  rw [pk_div ha h0 hd, pk_mul, pk_sub (Nat.div_mul_le_self a d)]
  exact congrArg nI (by have := Nat.div_add_mod' a d; omega)
theorem pk_sub_toInt {a b : Nat} (ha : a < 2 ^ 30) (hb : b < 2 ^ 30) : (nI a - nI b).toInt = (a : Int) - b := by
  rw [Int32.toInt_sub, nI_toInt (by omega), nI_toInt (by omega)]
  exact Int.bmod_eq_of_le (by omega) (by omega)
theorem pk_sneg {a b : Nat} (hb : b < 2 ^ 30) (h : a < b) : nI a - nI b < 0 := by
  rw [Int32.lt_iff_toInt_lt, pk_sub_toInt (by omega) hb, show (0 : Int32).toInt = 0 from by decide]
  omega
theorem pk_ix (x : Int32) {n : Nat} (hn : n < 2 ^ 31) : x < 0 ∨ nI n ≤ x ∨ ∃ j : Nat, j < n ∧ x = nI j := by
  by_cases h : x < 0
  · exact Or.inl h
  · obtain ⟨j, hj, rfl⟩ := nI_of h
    by_cases h2 : j < n
    · exact Or.inr (Or.inr ⟨j, h2, rfl⟩)
    · exact Or.inr (Or.inl (nI_le (by omega) hj))
theorem pk_le {x y : Int32} {A B : Prop} (a b : Nat) (f : a ≤ b → A) (g : b < a → B) (hx : x = nI a := by rfl) (hy : y = nI b := by rfl) (ha : a < 2 ^ 31 := by omega) (hb : b < 2 ^ 31 := by omega) : (x ≤ y → A) ∧ (¬ x ≤ y → B) := by
  subst hx hy
  rw [nI_leI ha hb]
  exact ⟨f, fun z => g (by omega)⟩
theorem pk_lt {x y : Int32} {A B : Prop} (a b : Nat) (f : a < b → A) (g : b ≤ a → B) (hx : x = nI a := by rfl) (hy : y = nI b := by rfl) (ha : a < 2 ^ 31 := by omega) (hb : b < 2 ^ 31 := by omega) : (x < y → A) ∧ (¬ x < y → B) := by
  subst hx hy
  rw [nI_ltI ha hb]
  exact ⟨f, fun z => g (by omega)⟩
theorem pk_eq {x y : Int32} {A B : Prop} (a b : Nat) (f : a = b → A) (g : a ≠ b → B) (hx : x = nI a := by rfl) (hy : y = nI b := by rfl) (ha : a < 2 ^ 31 := by omega) (hb : b < 2 ^ 31 := by omega) : (x = y → A) ∧ (¬ x = y → B) := by
  subst hx hy
  rw [nI_eq ha hb]
  exact ⟨f, g⟩
theorem pk_in {x : Int32} (n N : Nat) (h : n < N) (hx : x = nI n := by rfl) (hN : N < 2 ^ 31 := by omega) : vp_in x N := by
  subst hx
  exact vp_in_nI h hN
theorem pk_cl {x : Int32} (n : Nat) (hx : x = nI n := by rfl) (h : n < 2 ^ 31 := by omega) : x.toNatClampNeg = n := by
  subst hx
  exact nI_clamp h
theorem pk_tn {n : Nat} (h : n < 2 ^ 32) : (nI n).toBitVec.toNat = n := Nat.mod_eq_of_lt h
theorem pk_and (x : Int32) {m : Int32} (k : Nat) (hm : m.toBitVec.toNat = 2 ^ k - 1) : x &&& m = nI (x.toBitVec.toNat % 2 ^ k) := by
  apply Int32.toBitVec_inj.mp
  apply BitVec.eq_of_toNat_eq
  rw [Int32.toBitVec_and, BitVec.toNat_and, hm, Nat.and_two_pow_sub_one_eq_mod]
  show _ = (BitVec.ofNat 32 _).toNat
  rw [BitVec.toNat_ofNat]
  exact (Nat.mod_eq_of_lt (Nat.lt_of_le_of_lt (Nat.mod_le _ _) x.toBitVec.isLt)).symm
theorem pk_andN {n : Nat} (h : n < 2 ^ 32) {m : Int32} (k : Nat) (hm : m.toBitVec.toNat = 2 ^ k - 1) : nI n &&& m = nI (n % 2 ^ k) := by
  rw [pk_and _ k hm, pk_tn h]
theorem pk_andE (x : Int32) {m : Int32} (k : Nat) (hm : m.toBitVec.toNat = 2 ^ k - 1) : ∃ j : Nat, j < 2 ^ k ∧ x &&& m = nI j := ⟨_, Nat.mod_lt _ (Nat.two_pow_pos k), pk_and x k hm⟩
theorem pk_andIn (x : Int32) {m : Int32} (k : Nat) (hm : m.toBitVec.toNat = 2 ^ k - 1) (hk : k ≤ 30) : vp_in (x &&& m) (2 ^ k) := by
  obtain ⟨j, hj, e⟩ := pk_andE x k hm
  rw [e]
  exact vp_in_nI hj (Nat.lt_of_le_of_lt (Nat.pow_le_pow_right (by decide) hk) (by decide))
theorem pk_shl (a s : Int32) (k : Nat) (hs : (s.toBitVec.smod 32).toNat = k) : (a <<< s).toBitVec.toNat = a.toBitVec.toNat * 2 ^ k % 2 ^ 32 := by
  show (a.toBitVec <<< (s.toBitVec.smod 32).toNat).toNat = _
  rw [hs, BitVec.toNat_shiftLeft, Nat.shiftLeft_eq]
theorem pk_shlN {n : Nat} (s : Int32) (k : Nat) (hs : (s.toBitVec.smod 32).toNat = k) (h : n * 2 ^ k < 2 ^ 32) : nI n <<< s = nI (n * 2 ^ k) := by
  apply Int32.toBitVec_inj.mp
  apply BitVec.eq_of_toNat_eq
  have hn : n < 2 ^ 32 := Nat.lt_of_le_of_lt (Nat.le_mul_of_pos_right n (Nat.two_pow_pos k)) h
  rw [pk_shl _ _ k hs, pk_tn hn, pk_tn h, Nat.mod_eq_of_lt h]
theorem pk_shr (a s : Int32) (k : Nat) (hs : (s.toBitVec.smod 32).toNat = k) : (a >>> s).toInt = a.toInt >>> k := by
  show (a.toBitVec.sshiftRight (s.toBitVec.smod 32).toNat).toInt = _
  rw [hs, BitVec.toInt_sshiftRight]
  rfl
theorem pk_shrN {n : Nat} (h : n < 2 ^ 31) (s : Int32) (k : Nat) (hs : (s.toBitVec.smod 32).toNat = k) : nI n >>> s = nI (n / 2 ^ k) := by
  apply Int32.toInt_inj.mp
  have h2 : n / 2 ^ k ≤ n := Nat.div_le_self _ _
  rw [pk_shr _ _ k hs, nI_toInt h, nI_toInt (by omega), Int.shiftRight_eq_div_pow]
  rfl
theorem pk_ushr (x s : Int32) (k : Nat) (hs : ((s.toUInt32 &&& Int32.toUInt32 31).toBitVec % 32).toNat = k) : (x.toUInt32 >>> (s.toUInt32 &&& Int32.toUInt32 31)).toInt32.toBitVec.toNat = x.toBitVec.toNat / 2 ^ k := by
  have e : (x.toUInt32 >>> (s.toUInt32 &&& Int32.toUInt32 31)).toInt32.toBitVec = x.toBitVec >>> k := by
    rw [← hs]
    exact UInt32.toBitVec_shiftRight _ _
  rw [e, BitVec.toNat_ushiftRight, Nat.shiftRight_eq_div_pow]
theorem pk_ushrN {n : Nat} (hn : n < 2 ^ 32) (s : Int32) (k : Nat) (hs : ((s.toUInt32 &&& Int32.toUInt32 31).toBitVec % 32).toNat = k) : ((nI n).toUInt32 >>> (s.toUInt32 &&& Int32.toUInt32 31)).toInt32 = nI (n / 2 ^ k) := by
  apply Int32.toBitVec_inj.mp
  apply BitVec.eq_of_toNat_eq
  rw [pk_ushr _ s k hs, pk_tn hn, pk_tn (Nat.lt_of_le_of_lt (Nat.div_le_self _ _) hn)]
theorem pk_nb (z : Int32) : narrow .byte (.int z.toInt8.toInt32) = .int z.toInt8.toInt32 := congrArg Value.int (by simp)
theorem pk_ns (z : Int32) : narrow .short (.int z.toInt16.toInt32) = .int z.toInt16.toInt32 := congrArg Value.int (by simp)
theorem pk_fb (r : Int32) : fits .byte (.int r.toInt8.toInt32) = true := by
  have ⟨a, b⟩ := lg_i2b_range r
  have h1 : (-128 : Int32).toInt = -128 := by decide
  have h2 : (127 : Int32).toInt = 127 := by decide
  simp only [fits, Bool.and_eq_true, decide_eq_true_eq, Int32.le_iff_toInt_le, h1, h2]
  omega
theorem pk_fs (r : Int32) : fits .short (.int r.toInt16.toInt32) = true := by
  have ⟨a, b⟩ := lg_i2s_range r
  have h1 : (-32768 : Int32).toInt = -32768 := by decide
  have h2 : (32767 : Int32).toInt = 32767 := by decide
  simp only [fits, Bool.and_eq_true, decide_eq_true_eq, Int32.le_iff_toInt_le, h1, h2]
  omega
theorem pk_charN {q : Nat} (hq : q < 65536) : narrow .char (.int (nI q)) = .int (nI q) ∧ fits .char (.int (nI q)) = true := by
  constructor
  · have e : (nI q).toUInt32.toUInt16.toUInt32.toInt32 = nI q := by
      apply Int32.toBitVec_inj.mp
      apply BitVec.eq_of_toNat_eq
      show (nI q).toUInt32.toUInt16.toUInt32.toNat = q % 2 ^ 32
      rw [UInt16.toNat_toUInt32, UInt32.toNat_toUInt16, show (nI q).toUInt32.toNat = q % 2 ^ 32 from rfl]
      omega
    exact congrArg Value.int e
  · have a : (0 : Int32) ≤ nI q := nI_pos' (by omega)
    have b : nI q ≤ 65535 := nI_le (b := 65535) (by omega) (by decide)
    show (decide ((0 : Int32) ≤ nI q) && decide (nI q ≤ 65535)) = true
    rw [decide_eq_true a, decide_eq_true b]
    rfl
theorem pk_char (x : Int32) : (x.toUInt32 % 65536).toInt32 = nI (x.toBitVec.toNat % 65536) := by
  apply Int32.toBitVec_inj.mp
  apply BitVec.eq_of_toNat_eq
  rw [pk_tn (by omega)]
  show (x.toUInt32 % 65536).toNat = _
  rw [UInt32.toNat_mod]
  rfl
theorem pk_nc (x : Int32) : narrow .char (.int (x.toUInt32 % 65536).toInt32) = .int (x.toUInt32 % 65536).toInt32 := by
  rw [pk_char]
  exact (pk_charN (Nat.mod_lt _ (by decide))).1
theorem pk_fc (x : Int32) : fits .char (.int (x.toUInt32 % 65536).toInt32) = true := by
  rw [pk_char]
  exact (pk_charN (Nat.mod_lt _ (by decide))).2
theorem pk_vb (z : Int32) : vp_nar .byte z.toInt8.toInt32 = z.toInt8.toInt32 := by rw [vp_nar_byte]; simp
theorem pk_vs (z : Int32) : vp_nar .short z.toInt16.toInt32 = z.toInt16.toInt32 := by rw [vp_nar_short]; simp
theorem pk_vc (z : Int32) : vp_nar .char (z.toUInt32 % 65536).toInt32 = (z.toUInt32 % 65536).toInt32 := Value.int.inj (pk_nc z)
theorem pk_lT {n : Nat} (h : n < 2 ^ 63) : (lN n).toInt = (n : Int) := lg_ofNat_toInt h
theorem pk_lLT {a b : Nat} (ha : a < 2 ^ 63) (hb : b < 2 ^ 63) : lN a < lN b ↔ a < b := by
  rw [Int64.lt_iff_toInt_lt, pk_lT ha, pk_lT hb]; omega
theorem pk_lLE {a b : Nat} (ha : a < 2 ^ 63) (hb : b < 2 ^ 63) : lN a ≤ lN b ↔ a ≤ b := by
  rw [Int64.le_iff_toInt_le, pk_lT ha, pk_lT hb]; omega
theorem pk_lEQ {a b : Nat} (ha : a < 2 ^ 63) (hb : b < 2 ^ 63) : lN a = lN b ↔ a = b := by
  rw [← Int64.toInt_inj, pk_lT ha, pk_lT hb]; omega
theorem pk_lOf {x : Int64} (h : ¬ x < 0) : ∃ k : Nat, k < 2 ^ 63 ∧ x = lN k := by
  rw [Int64.lt_iff_toInt_lt] at h
  have h0 : (0 : Int64).toInt = 0 := by decide
  have hx := Int64.toInt_lt x
  refine ⟨x.toInt.toNat, by omega, Int64.toInt_inj.mp ?_⟩
  rw [pk_lT (by omega)]
  omega
theorem pk_lDiv {a b : Nat} (ha : a < 2 ^ 63) (h0 : 0 < b) (hb : b < 2 ^ 63) : lN a / lN b = lN (a / b) := by
  apply Int64.toInt_inj.mp
  rw [lg_ldiv_nonneg (by rw [pk_lT ha]; omega) (by rw [pk_lT hb]; omega), pk_lT ha, pk_lT hb, pk_lT (Nat.lt_of_le_of_lt (Nat.div_le_self a b) ha)]
  rfl
theorem pk_lRem {a b : Nat} (ha : a < 2 ^ 63) (h0 : 0 < b) (hb : b < 2 ^ 63) : lN a - lN a / lN b * lN b = lN (a % b) := by
  rw [pk_lDiv ha h0 hb, lN_mul, lN_sub (Nat.div_mul_le_self a b)]
  exact congrArg lN (by have := Nat.div_add_mod' a b; omega)
theorem pk_loop {σ : Type} (W : Nat → Nat → σ → Prop) (I : Nat → σ → Prop) (e i0 : Nat) (s : σ) (hi : i0 ≤ e) (h0 : I i0 s) (hx : ∀ n s, I e s → W (n + 1) e s)
    (hs : ∀ n i s, i < e → I i s → (∀ s', I (i + 1) s' → W n (i + 1) s') → W (n + 1) i s) : ∃ n, W n i0 s :=
  ⟨e + 1, loop_i W I e hx hs (e + 1) i0 s hi (by omega) h0⟩
theorem pk_loopD {σ : Type} (W : Nat → Nat → σ → Prop) (I : Nat → σ → Prop) (hx : ∀ n s, I 0 s → W (n + 1) 0 s)
    (hs : ∀ n i s, I (i + 1) s → (∀ s', I i s' → W n i s') → W (n + 1) (i + 1) s) : ∀ (e : Nat) (s : σ), I e s → W (e + 1) e s := by
  intro e
  induction e with
  | zero => exact fun s h => hx 0 s h
  | succ e ih => exact fun s h => hs (e + 1) e s h (fun s' h' => ih s' h')
theorem lp1 {A1 : Type} (W : Nat → A1 → Prop) (I : A1 → Prop) (μ : A1 → Nat) (hs : ∀ (n : Nat) (a1 : A1), I a1 → (∀ (b1 : A1), I b1 → μ b1 < μ a1 → W n b1) → W (n + 1) a1) (a1 : A1) (h : I a1) : ∃ n, W n a1 :=
  loop_m (σ := A1) (fun n s => W n s) (fun s => I s) (fun s => μ s) (fun n s hI hk => hs n s hI (fun b1 h9 hm => hk b1 h9 hm)) a1 h
theorem lp2 {A1 A2 : Type} (W : Nat → A1 → A2 → Prop) (I : A1 → A2 → Prop) (μ : A1 → A2 → Nat) (hs : ∀ (n : Nat) (a1 : A1) (a2 : A2), I a1 a2 → (∀ (b1 : A1) (b2 : A2), I b1 b2 → μ b1 b2 < μ a1 a2 → W n b1 b2) → W (n + 1) a1 a2) (a1 : A1) (a2 : A2) (h : I a1 a2) : ∃ n, W n a1 a2 :=
  loop_m (σ := A1 × A2) (fun n s => W n s.1 s.2) (fun s => I s.1 s.2) (fun s => μ s.1 s.2) (fun n s hI hk => hs n s.1 s.2 hI (fun b1 b2 h9 hm => hk (b1, b2) h9 hm)) (a1, a2) h
theorem lp3 {A1 A2 A3 : Type} (W : Nat → A1 → A2 → A3 → Prop) (I : A1 → A2 → A3 → Prop) (μ : A1 → A2 → A3 → Nat) (hs : ∀ (n : Nat) (a1 : A1) (a2 : A2) (a3 : A3), I a1 a2 a3 → (∀ (b1 : A1) (b2 : A2) (b3 : A3), I b1 b2 b3 → μ b1 b2 b3 < μ a1 a2 a3 → W n b1 b2 b3) → W (n + 1) a1 a2 a3) (a1 : A1) (a2 : A2) (a3 : A3) (h : I a1 a2 a3) : ∃ n, W n a1 a2 a3 :=
  loop_m (σ := A1 × A2 × A3) (fun n s => W n s.1 s.2.1 s.2.2) (fun s => I s.1 s.2.1 s.2.2) (fun s => μ s.1 s.2.1 s.2.2) (fun n s hI hk => hs n s.1 s.2.1 s.2.2 hI (fun b1 b2 b3 h9 hm => hk (b1, b2, b3) h9 hm)) (a1, a2, a3) h
theorem lp4 {A1 A2 A3 A4 : Type} (W : Nat → A1 → A2 → A3 → A4 → Prop) (I : A1 → A2 → A3 → A4 → Prop) (μ : A1 → A2 → A3 → A4 → Nat) (hs : ∀ (n : Nat) (a1 : A1) (a2 : A2) (a3 : A3) (a4 : A4), I a1 a2 a3 a4 → (∀ (b1 : A1) (b2 : A2) (b3 : A3) (b4 : A4), I b1 b2 b3 b4 → μ b1 b2 b3 b4 < μ a1 a2 a3 a4 → W n b1 b2 b3 b4) → W (n + 1) a1 a2 a3 a4) (a1 : A1) (a2 : A2) (a3 : A3) (a4 : A4) (h : I a1 a2 a3 a4) : ∃ n, W n a1 a2 a3 a4 :=
  loop_m (σ := A1 × A2 × A3 × A4) (fun n s => W n s.1 s.2.1 s.2.2.1 s.2.2.2) (fun s => I s.1 s.2.1 s.2.2.1 s.2.2.2) (fun s => μ s.1 s.2.1 s.2.2.1 s.2.2.2) (fun n s hI hk => hs n s.1 s.2.1 s.2.2.1 s.2.2.2 hI (fun b1 b2 b3 b4 h9 hm => hk (b1, b2, b3, b4) h9 hm)) (a1, a2, a3, a4) h
theorem lp5 {A1 A2 A3 A4 A5 : Type} (W : Nat → A1 → A2 → A3 → A4 → A5 → Prop) (I : A1 → A2 → A3 → A4 → A5 → Prop) (μ : A1 → A2 → A3 → A4 → A5 → Nat) (hs : ∀ (n : Nat) (a1 : A1) (a2 : A2) (a3 : A3) (a4 : A4) (a5 : A5), I a1 a2 a3 a4 a5 → (∀ (b1 : A1) (b2 : A2) (b3 : A3) (b4 : A4) (b5 : A5), I b1 b2 b3 b4 b5 → μ b1 b2 b3 b4 b5 < μ a1 a2 a3 a4 a5 → W n b1 b2 b3 b4 b5) → W (n + 1) a1 a2 a3 a4 a5) (a1 : A1) (a2 : A2) (a3 : A3) (a4 : A4) (a5 : A5) (h : I a1 a2 a3 a4 a5) : ∃ n, W n a1 a2 a3 a4 a5 :=
  loop_m (σ := A1 × A2 × A3 × A4 × A5) (fun n s => W n s.1 s.2.1 s.2.2.1 s.2.2.2.1 s.2.2.2.2) (fun s => I s.1 s.2.1 s.2.2.1 s.2.2.2.1 s.2.2.2.2) (fun s => μ s.1 s.2.1 s.2.2.1 s.2.2.2.1 s.2.2.2.2) (fun n s hI hk => hs n s.1 s.2.1 s.2.2.1 s.2.2.2.1 s.2.2.2.2 hI (fun b1 b2 b3 b4 b5 h9 hm => hk (b1, b2, b3, b4, b5) h9 hm)) (a1, a2, a3, a4, a5) h
theorem lp6 {A1 A2 A3 A4 A5 A6 : Type} (W : Nat → A1 → A2 → A3 → A4 → A5 → A6 → Prop) (I : A1 → A2 → A3 → A4 → A5 → A6 → Prop) (μ : A1 → A2 → A3 → A4 → A5 → A6 → Nat) (hs : ∀ (n : Nat) (a1 : A1) (a2 : A2) (a3 : A3) (a4 : A4) (a5 : A5) (a6 : A6), I a1 a2 a3 a4 a5 a6 → (∀ (b1 : A1) (b2 : A2) (b3 : A3) (b4 : A4) (b5 : A5) (b6 : A6), I b1 b2 b3 b4 b5 b6 → μ b1 b2 b3 b4 b5 b6 < μ a1 a2 a3 a4 a5 a6 → W n b1 b2 b3 b4 b5 b6) → W (n + 1) a1 a2 a3 a4 a5 a6) (a1 : A1) (a2 : A2) (a3 : A3) (a4 : A4) (a5 : A5) (a6 : A6) (h : I a1 a2 a3 a4 a5 a6) : ∃ n, W n a1 a2 a3 a4 a5 a6 :=
  loop_m (σ := A1 × A2 × A3 × A4 × A5 × A6) (fun n s => W n s.1 s.2.1 s.2.2.1 s.2.2.2.1 s.2.2.2.2.1 s.2.2.2.2.2) (fun s => I s.1 s.2.1 s.2.2.1 s.2.2.2.1 s.2.2.2.2.1 s.2.2.2.2.2) (fun s => μ s.1 s.2.1 s.2.2.1 s.2.2.2.1 s.2.2.2.2.1 s.2.2.2.2.2) (fun n s hI hk => hs n s.1 s.2.1 s.2.2.1 s.2.2.2.1 s.2.2.2.2.1 s.2.2.2.2.2 hI (fun b1 b2 b3 b4 b5 b6 h9 hm => hk (b1, b2, b3, b4, b5, b6) h9 hm)) (a1, a2, a3, a4, a5, a6) h
theorem lp7 {A1 A2 A3 A4 A5 A6 A7 : Type} (W : Nat → A1 → A2 → A3 → A4 → A5 → A6 → A7 → Prop) (I : A1 → A2 → A3 → A4 → A5 → A6 → A7 → Prop) (μ : A1 → A2 → A3 → A4 → A5 → A6 → A7 → Nat) (hs : ∀ (n : Nat) (a1 : A1) (a2 : A2) (a3 : A3) (a4 : A4) (a5 : A5) (a6 : A6) (a7 : A7), I a1 a2 a3 a4 a5 a6 a7 → (∀ (b1 : A1) (b2 : A2) (b3 : A3) (b4 : A4) (b5 : A5) (b6 : A6) (b7 : A7), I b1 b2 b3 b4 b5 b6 b7 → μ b1 b2 b3 b4 b5 b6 b7 < μ a1 a2 a3 a4 a5 a6 a7 → W n b1 b2 b3 b4 b5 b6 b7) → W (n + 1) a1 a2 a3 a4 a5 a6 a7) (a1 : A1) (a2 : A2) (a3 : A3) (a4 : A4) (a5 : A5) (a6 : A6) (a7 : A7) (h : I a1 a2 a3 a4 a5 a6 a7) : ∃ n, W n a1 a2 a3 a4 a5 a6 a7 :=
  loop_m (σ := A1 × A2 × A3 × A4 × A5 × A6 × A7) (fun n s => W n s.1 s.2.1 s.2.2.1 s.2.2.2.1 s.2.2.2.2.1 s.2.2.2.2.2.1 s.2.2.2.2.2.2) (fun s => I s.1 s.2.1 s.2.2.1 s.2.2.2.1 s.2.2.2.2.1 s.2.2.2.2.2.1 s.2.2.2.2.2.2) (fun s => μ s.1 s.2.1 s.2.2.1 s.2.2.2.1 s.2.2.2.2.1 s.2.2.2.2.2.1 s.2.2.2.2.2.2) (fun n s hI hk => hs n s.1 s.2.1 s.2.2.1 s.2.2.2.1 s.2.2.2.2.1 s.2.2.2.2.2.1 s.2.2.2.2.2.2 hI (fun b1 b2 b3 b4 b5 b6 b7 h9 hm => hk (b1, b2, b3, b4, b5, b6, b7) h9 hm)) (a1, a2, a3, a4, a5, a6, a7) h
theorem lp8 {A1 A2 A3 A4 A5 A6 A7 A8 : Type} (W : Nat → A1 → A2 → A3 → A4 → A5 → A6 → A7 → A8 → Prop) (I : A1 → A2 → A3 → A4 → A5 → A6 → A7 → A8 → Prop) (μ : A1 → A2 → A3 → A4 → A5 → A6 → A7 → A8 → Nat) (hs : ∀ (n : Nat) (a1 : A1) (a2 : A2) (a3 : A3) (a4 : A4) (a5 : A5) (a6 : A6) (a7 : A7) (a8 : A8), I a1 a2 a3 a4 a5 a6 a7 a8 → (∀ (b1 : A1) (b2 : A2) (b3 : A3) (b4 : A4) (b5 : A5) (b6 : A6) (b7 : A7) (b8 : A8), I b1 b2 b3 b4 b5 b6 b7 b8 → μ b1 b2 b3 b4 b5 b6 b7 b8 < μ a1 a2 a3 a4 a5 a6 a7 a8 → W n b1 b2 b3 b4 b5 b6 b7 b8) → W (n + 1) a1 a2 a3 a4 a5 a6 a7 a8) (a1 : A1) (a2 : A2) (a3 : A3) (a4 : A4) (a5 : A5) (a6 : A6) (a7 : A7) (a8 : A8) (h : I a1 a2 a3 a4 a5 a6 a7 a8) : ∃ n, W n a1 a2 a3 a4 a5 a6 a7 a8 :=
  loop_m (σ := A1 × A2 × A3 × A4 × A5 × A6 × A7 × A8) (fun n s => W n s.1 s.2.1 s.2.2.1 s.2.2.2.1 s.2.2.2.2.1 s.2.2.2.2.2.1 s.2.2.2.2.2.2.1 s.2.2.2.2.2.2.2) (fun s => I s.1 s.2.1 s.2.2.1 s.2.2.2.1 s.2.2.2.2.1 s.2.2.2.2.2.1 s.2.2.2.2.2.2.1 s.2.2.2.2.2.2.2) (fun s => μ s.1 s.2.1 s.2.2.1 s.2.2.2.1 s.2.2.2.2.1 s.2.2.2.2.2.1 s.2.2.2.2.2.2.1 s.2.2.2.2.2.2.2) (fun n s hI hk => hs n s.1 s.2.1 s.2.2.1 s.2.2.2.1 s.2.2.2.2.1 s.2.2.2.2.2.1 s.2.2.2.2.2.2.1 s.2.2.2.2.2.2.2 hI (fun b1 b2 b3 b4 b5 b6 b7 b8 h9 hm => hk (b1, b2, b3, b4, b5, b6, b7, b8) h9 hm)) (a1, a2, a3, a4, a5, a6, a7, a8) h
theorem lp9 {A1 A2 A3 A4 A5 A6 A7 A8 A9 : Type} (W : Nat → A1 → A2 → A3 → A4 → A5 → A6 → A7 → A8 → A9 → Prop) (I : A1 → A2 → A3 → A4 → A5 → A6 → A7 → A8 → A9 → Prop) (μ : A1 → A2 → A3 → A4 → A5 → A6 → A7 → A8 → A9 → Nat) (hs : ∀ (n : Nat) (a1 : A1) (a2 : A2) (a3 : A3) (a4 : A4) (a5 : A5) (a6 : A6) (a7 : A7) (a8 : A8) (a9 : A9), I a1 a2 a3 a4 a5 a6 a7 a8 a9 → (∀ (b1 : A1) (b2 : A2) (b3 : A3) (b4 : A4) (b5 : A5) (b6 : A6) (b7 : A7) (b8 : A8) (b9 : A9), I b1 b2 b3 b4 b5 b6 b7 b8 b9 → μ b1 b2 b3 b4 b5 b6 b7 b8 b9 < μ a1 a2 a3 a4 a5 a6 a7 a8 a9 → W n b1 b2 b3 b4 b5 b6 b7 b8 b9) → W (n + 1) a1 a2 a3 a4 a5 a6 a7 a8 a9) (a1 : A1) (a2 : A2) (a3 : A3) (a4 : A4) (a5 : A5) (a6 : A6) (a7 : A7) (a8 : A8) (a9 : A9) (h : I a1 a2 a3 a4 a5 a6 a7 a8 a9) : ∃ n, W n a1 a2 a3 a4 a5 a6 a7 a8 a9 :=
  loop_m (σ := A1 × A2 × A3 × A4 × A5 × A6 × A7 × A8 × A9) (fun n s => W n s.1 s.2.1 s.2.2.1 s.2.2.2.1 s.2.2.2.2.1 s.2.2.2.2.2.1 s.2.2.2.2.2.2.1 s.2.2.2.2.2.2.2.1 s.2.2.2.2.2.2.2.2) (fun s => I s.1 s.2.1 s.2.2.1 s.2.2.2.1 s.2.2.2.2.1 s.2.2.2.2.2.1 s.2.2.2.2.2.2.1 s.2.2.2.2.2.2.2.1 s.2.2.2.2.2.2.2.2) (fun s => μ s.1 s.2.1 s.2.2.1 s.2.2.2.1 s.2.2.2.2.1 s.2.2.2.2.2.1 s.2.2.2.2.2.2.1 s.2.2.2.2.2.2.2.1 s.2.2.2.2.2.2.2.2) (fun n s hI hk => hs n s.1 s.2.1 s.2.2.1 s.2.2.2.1 s.2.2.2.2.1 s.2.2.2.2.2.1 s.2.2.2.2.2.2.1 s.2.2.2.2.2.2.2.1 s.2.2.2.2.2.2.2.2 hI (fun b1 b2 b3 b4 b5 b6 b7 b8 b9 h9 hm => hk (b1, b2, b3, b4, b5, b6, b7, b8, b9) h9 hm)) (a1, a2, a3, a4, a5, a6, a7, a8, a9) h
theorem lp10 {A1 A2 A3 A4 A5 A6 A7 A8 A9 A10 : Type} (W : Nat → A1 → A2 → A3 → A4 → A5 → A6 → A7 → A8 → A9 → A10 → Prop) (I : A1 → A2 → A3 → A4 → A5 → A6 → A7 → A8 → A9 → A10 → Prop) (μ : A1 → A2 → A3 → A4 → A5 → A6 → A7 → A8 → A9 → A10 → Nat) (hs : ∀ (n : Nat) (a1 : A1) (a2 : A2) (a3 : A3) (a4 : A4) (a5 : A5) (a6 : A6) (a7 : A7) (a8 : A8) (a9 : A9) (a10 : A10), I a1 a2 a3 a4 a5 a6 a7 a8 a9 a10 → (∀ (b1 : A1) (b2 : A2) (b3 : A3) (b4 : A4) (b5 : A5) (b6 : A6) (b7 : A7) (b8 : A8) (b9 : A9) (b10 : A10), I b1 b2 b3 b4 b5 b6 b7 b8 b9 b10 → μ b1 b2 b3 b4 b5 b6 b7 b8 b9 b10 < μ a1 a2 a3 a4 a5 a6 a7 a8 a9 a10 → W n b1 b2 b3 b4 b5 b6 b7 b8 b9 b10) → W (n + 1) a1 a2 a3 a4 a5 a6 a7 a8 a9 a10) (a1 : A1) (a2 : A2) (a3 : A3) (a4 : A4) (a5 : A5) (a6 : A6) (a7 : A7) (a8 : A8) (a9 : A9) (a10 : A10) (h : I a1 a2 a3 a4 a5 a6 a7 a8 a9 a10) : ∃ n, W n a1 a2 a3 a4 a5 a6 a7 a8 a9 a10 :=
  loop_m (σ := A1 × A2 × A3 × A4 × A5 × A6 × A7 × A8 × A9 × A10) (fun n s => W n s.1 s.2.1 s.2.2.1 s.2.2.2.1 s.2.2.2.2.1 s.2.2.2.2.2.1 s.2.2.2.2.2.2.1 s.2.2.2.2.2.2.2.1 s.2.2.2.2.2.2.2.2.1 s.2.2.2.2.2.2.2.2.2) (fun s => I s.1 s.2.1 s.2.2.1 s.2.2.2.1 s.2.2.2.2.1 s.2.2.2.2.2.1 s.2.2.2.2.2.2.1 s.2.2.2.2.2.2.2.1 s.2.2.2.2.2.2.2.2.1 s.2.2.2.2.2.2.2.2.2) (fun s => μ s.1 s.2.1 s.2.2.1 s.2.2.2.1 s.2.2.2.2.1 s.2.2.2.2.2.1 s.2.2.2.2.2.2.1 s.2.2.2.2.2.2.2.1 s.2.2.2.2.2.2.2.2.1 s.2.2.2.2.2.2.2.2.2) (fun n s hI hk => hs n s.1 s.2.1 s.2.2.1 s.2.2.2.1 s.2.2.2.2.1 s.2.2.2.2.2.1 s.2.2.2.2.2.2.1 s.2.2.2.2.2.2.2.1 s.2.2.2.2.2.2.2.2.1 s.2.2.2.2.2.2.2.2.2 hI (fun b1 b2 b3 b4 b5 b6 b7 b8 b9 b10 h9 hm => hk (b1, b2, b3, b4, b5, b6, b7, b8, b9, b10) h9 hm)) (a1, a2, a3, a4, a5, a6, a7, a8, a9, a10) h
theorem lp11 {A1 A2 A3 A4 A5 A6 A7 A8 A9 A10 A11 : Type} (W : Nat → A1 → A2 → A3 → A4 → A5 → A6 → A7 → A8 → A9 → A10 → A11 → Prop) (I : A1 → A2 → A3 → A4 → A5 → A6 → A7 → A8 → A9 → A10 → A11 → Prop) (μ : A1 → A2 → A3 → A4 → A5 → A6 → A7 → A8 → A9 → A10 → A11 → Nat) (hs : ∀ (n : Nat) (a1 : A1) (a2 : A2) (a3 : A3) (a4 : A4) (a5 : A5) (a6 : A6) (a7 : A7) (a8 : A8) (a9 : A9) (a10 : A10) (a11 : A11), I a1 a2 a3 a4 a5 a6 a7 a8 a9 a10 a11 → (∀ (b1 : A1) (b2 : A2) (b3 : A3) (b4 : A4) (b5 : A5) (b6 : A6) (b7 : A7) (b8 : A8) (b9 : A9) (b10 : A10) (b11 : A11), I b1 b2 b3 b4 b5 b6 b7 b8 b9 b10 b11 → μ b1 b2 b3 b4 b5 b6 b7 b8 b9 b10 b11 < μ a1 a2 a3 a4 a5 a6 a7 a8 a9 a10 a11 → W n b1 b2 b3 b4 b5 b6 b7 b8 b9 b10 b11) → W (n + 1) a1 a2 a3 a4 a5 a6 a7 a8 a9 a10 a11) (a1 : A1) (a2 : A2) (a3 : A3) (a4 : A4) (a5 : A5) (a6 : A6) (a7 : A7) (a8 : A8) (a9 : A9) (a10 : A10) (a11 : A11) (h : I a1 a2 a3 a4 a5 a6 a7 a8 a9 a10 a11) : ∃ n, W n a1 a2 a3 a4 a5 a6 a7 a8 a9 a10 a11 :=
  loop_m (σ := A1 × A2 × A3 × A4 × A5 × A6 × A7 × A8 × A9 × A10 × A11) (fun n s => W n s.1 s.2.1 s.2.2.1 s.2.2.2.1 s.2.2.2.2.1 s.2.2.2.2.2.1 s.2.2.2.2.2.2.1 s.2.2.2.2.2.2.2.1 s.2.2.2.2.2.2.2.2.1 s.2.2.2.2.2.2.2.2.2.1 s.2.2.2.2.2.2.2.2.2.2) (fun s => I s.1 s.2.1 s.2.2.1 s.2.2.2.1 s.2.2.2.2.1 s.2.2.2.2.2.1 s.2.2.2.2.2.2.1 s.2.2.2.2.2.2.2.1 s.2.2.2.2.2.2.2.2.1 s.2.2.2.2.2.2.2.2.2.1 s.2.2.2.2.2.2.2.2.2.2) (fun s => μ s.1 s.2.1 s.2.2.1 s.2.2.2.1 s.2.2.2.2.1 s.2.2.2.2.2.1 s.2.2.2.2.2.2.1 s.2.2.2.2.2.2.2.1 s.2.2.2.2.2.2.2.2.1 s.2.2.2.2.2.2.2.2.2.1 s.2.2.2.2.2.2.2.2.2.2) (fun n s hI hk => hs n s.1 s.2.1 s.2.2.1 s.2.2.2.1 s.2.2.2.2.1 s.2.2.2.2.2.1 s.2.2.2.2.2.2.1 s.2.2.2.2.2.2.2.1 s.2.2.2.2.2.2.2.2.1 s.2.2.2.2.2.2.2.2.2.1 s.2.2.2.2.2.2.2.2.2.2 hI (fun b1 b2 b3 b4 b5 b6 b7 b8 b9 b10 b11 h9 hm => hk (b1, b2, b3, b4, b5, b6, b7, b8, b9, b10, b11) h9 hm)) (a1, a2, a3, a4, a5, a6, a7, a8, a9, a10, a11) h
theorem lp12 {A1 A2 A3 A4 A5 A6 A7 A8 A9 A10 A11 A12 : Type} (W : Nat → A1 → A2 → A3 → A4 → A5 → A6 → A7 → A8 → A9 → A10 → A11 → A12 → Prop) (I : A1 → A2 → A3 → A4 → A5 → A6 → A7 → A8 → A9 → A10 → A11 → A12 → Prop) (μ : A1 → A2 → A3 → A4 → A5 → A6 → A7 → A8 → A9 → A10 → A11 → A12 → Nat) (hs : ∀ (n : Nat) (a1 : A1) (a2 : A2) (a3 : A3) (a4 : A4) (a5 : A5) (a6 : A6) (a7 : A7) (a8 : A8) (a9 : A9) (a10 : A10) (a11 : A11) (a12 : A12), I a1 a2 a3 a4 a5 a6 a7 a8 a9 a10 a11 a12 → (∀ (b1 : A1) (b2 : A2) (b3 : A3) (b4 : A4) (b5 : A5) (b6 : A6) (b7 : A7) (b8 : A8) (b9 : A9) (b10 : A10) (b11 : A11) (b12 : A12), I b1 b2 b3 b4 b5 b6 b7 b8 b9 b10 b11 b12 → μ b1 b2 b3 b4 b5 b6 b7 b8 b9 b10 b11 b12 < μ a1 a2 a3 a4 a5 a6 a7 a8 a9 a10 a11 a12 → W n b1 b2 b3 b4 b5 b6 b7 b8 b9 b10 b11 b12) → W (n + 1) a1 a2 a3 a4 a5 a6 a7 a8 a9 a10 a11 a12) (a1 : A1) (a2 : A2) (a3 : A3) (a4 : A4) (a5 : A5) (a6 : A6) (a7 : A7) (a8 : A8) (a9 : A9) (a10 : A10) (a11 : A11) (a12 : A12) (h : I a1 a2 a3 a4 a5 a6 a7 a8 a9 a10 a11 a12) : ∃ n, W n a1 a2 a3 a4 a5 a6 a7 a8 a9 a10 a11 a12 :=
  loop_m (σ := A1 × A2 × A3 × A4 × A5 × A6 × A7 × A8 × A9 × A10 × A11 × A12) (fun n s => W n s.1 s.2.1 s.2.2.1 s.2.2.2.1 s.2.2.2.2.1 s.2.2.2.2.2.1 s.2.2.2.2.2.2.1 s.2.2.2.2.2.2.2.1 s.2.2.2.2.2.2.2.2.1 s.2.2.2.2.2.2.2.2.2.1 s.2.2.2.2.2.2.2.2.2.2.1 s.2.2.2.2.2.2.2.2.2.2.2) (fun s => I s.1 s.2.1 s.2.2.1 s.2.2.2.1 s.2.2.2.2.1 s.2.2.2.2.2.1 s.2.2.2.2.2.2.1 s.2.2.2.2.2.2.2.1 s.2.2.2.2.2.2.2.2.1 s.2.2.2.2.2.2.2.2.2.1 s.2.2.2.2.2.2.2.2.2.2.1 s.2.2.2.2.2.2.2.2.2.2.2) (fun s => μ s.1 s.2.1 s.2.2.1 s.2.2.2.1 s.2.2.2.2.1 s.2.2.2.2.2.1 s.2.2.2.2.2.2.1 s.2.2.2.2.2.2.2.1 s.2.2.2.2.2.2.2.2.1 s.2.2.2.2.2.2.2.2.2.1 s.2.2.2.2.2.2.2.2.2.2.1 s.2.2.2.2.2.2.2.2.2.2.2) (fun n s hI hk => hs n s.1 s.2.1 s.2.2.1 s.2.2.2.1 s.2.2.2.2.1 s.2.2.2.2.2.1 s.2.2.2.2.2.2.1 s.2.2.2.2.2.2.2.1 s.2.2.2.2.2.2.2.2.1 s.2.2.2.2.2.2.2.2.2.1 s.2.2.2.2.2.2.2.2.2.2.1 s.2.2.2.2.2.2.2.2.2.2.2 hI (fun b1 b2 b3 b4 b5 b6 b7 b8 b9 b10 b11 b12 h9 hm => hk (b1, b2, b3, b4, b5, b6, b7, b8, b9, b10, b11, b12) h9 hm)) (a1, a2, a3, a4, a5, a6, a7, a8, a9, a10, a11, a12) h
theorem lp13 {A1 A2 A3 A4 A5 A6 A7 A8 A9 A10 A11 A12 A13 : Type} (W : Nat → A1 → A2 → A3 → A4 → A5 → A6 → A7 → A8 → A9 → A10 → A11 → A12 → A13 → Prop) (I : A1 → A2 → A3 → A4 → A5 → A6 → A7 → A8 → A9 → A10 → A11 → A12 → A13 → Prop) (μ : A1 → A2 → A3 → A4 → A5 → A6 → A7 → A8 → A9 → A10 → A11 → A12 → A13 → Nat) (hs : ∀ (n : Nat) (a1 : A1) (a2 : A2) (a3 : A3) (a4 : A4) (a5 : A5) (a6 : A6) (a7 : A7) (a8 : A8) (a9 : A9) (a10 : A10) (a11 : A11) (a12 : A12) (a13 : A13), I a1 a2 a3 a4 a5 a6 a7 a8 a9 a10 a11 a12 a13 → (∀ (b1 : A1) (b2 : A2) (b3 : A3) (b4 : A4) (b5 : A5) (b6 : A6) (b7 : A7) (b8 : A8) (b9 : A9) (b10 : A10) (b11 : A11) (b12 : A12) (b13 : A13), I b1 b2 b3 b4 b5 b6 b7 b8 b9 b10 b11 b12 b13 → μ b1 b2 b3 b4 b5 b6 b7 b8 b9 b10 b11 b12 b13 < μ a1 a2 a3 a4 a5 a6 a7 a8 a9 a10 a11 a12 a13 → W n b1 b2 b3 b4 b5 b6 b7 b8 b9 b10 b11 b12 b13) → W (n + 1) a1 a2 a3 a4 a5 a6 a7 a8 a9 a10 a11 a12 a13) (a1 : A1) (a2 : A2) (a3 : A3) (a4 : A4) (a5 : A5) (a6 : A6) (a7 : A7) (a8 : A8) (a9 : A9) (a10 : A10) (a11 : A11) (a12 : A12) (a13 : A13) (h : I a1 a2 a3 a4 a5 a6 a7 a8 a9 a10 a11 a12 a13) : ∃ n, W n a1 a2 a3 a4 a5 a6 a7 a8 a9 a10 a11 a12 a13 :=
  loop_m (σ := A1 × A2 × A3 × A4 × A5 × A6 × A7 × A8 × A9 × A10 × A11 × A12 × A13) (fun n s => W n s.1 s.2.1 s.2.2.1 s.2.2.2.1 s.2.2.2.2.1 s.2.2.2.2.2.1 s.2.2.2.2.2.2.1 s.2.2.2.2.2.2.2.1 s.2.2.2.2.2.2.2.2.1 s.2.2.2.2.2.2.2.2.2.1 s.2.2.2.2.2.2.2.2.2.2.1 s.2.2.2.2.2.2.2.2.2.2.2.1 s.2.2.2.2.2.2.2.2.2.2.2.2) (fun s => I s.1 s.2.1 s.2.2.1 s.2.2.2.1 s.2.2.2.2.1 s.2.2.2.2.2.1 s.2.2.2.2.2.2.1 s.2.2.2.2.2.2.2.1 s.2.2.2.2.2.2.2.2.1 s.2.2.2.2.2.2.2.2.2.1 s.2.2.2.2.2.2.2.2.2.2.1 s.2.2.2.2.2.2.2.2.2.2.2.1 s.2.2.2.2.2.2.2.2.2.2.2.2) (fun s => μ s.1 s.2.1 s.2.2.1 s.2.2.2.1 s.2.2.2.2.1 s.2.2.2.2.2.1 s.2.2.2.2.2.2.1 s.2.2.2.2.2.2.2.1 s.2.2.2.2.2.2.2.2.1 s.2.2.2.2.2.2.2.2.2.1 s.2.2.2.2.2.2.2.2.2.2.1 s.2.2.2.2.2.2.2.2.2.2.2.1 s.2.2.2.2.2.2.2.2.2.2.2.2) (fun n s hI hk => hs n s.1 s.2.1 s.2.2.1 s.2.2.2.1 s.2.2.2.2.1 s.2.2.2.2.2.1 s.2.2.2.2.2.2.1 s.2.2.2.2.2.2.2.1 s.2.2.2.2.2.2.2.2.1 s.2.2.2.2.2.2.2.2.2.1 s.2.2.2.2.2.2.2.2.2.2.1 s.2.2.2.2.2.2.2.2.2.2.2.1 s.2.2.2.2.2.2.2.2.2.2.2.2 hI (fun b1 b2 b3 b4 b5 b6 b7 b8 b9 b10 b11 b12 b13 h9 hm => hk (b1, b2, b3, b4, b5, b6, b7, b8, b9, b10, b11, b12, b13) h9 hm)) (a1, a2, a3, a4, a5, a6, a7, a8, a9, a10, a11, a12, a13) h
theorem lp14 {A1 A2 A3 A4 A5 A6 A7 A8 A9 A10 A11 A12 A13 A14 : Type} (W : Nat → A1 → A2 → A3 → A4 → A5 → A6 → A7 → A8 → A9 → A10 → A11 → A12 → A13 → A14 → Prop) (I : A1 → A2 → A3 → A4 → A5 → A6 → A7 → A8 → A9 → A10 → A11 → A12 → A13 → A14 → Prop) (μ : A1 → A2 → A3 → A4 → A5 → A6 → A7 → A8 → A9 → A10 → A11 → A12 → A13 → A14 → Nat) (hs : ∀ (n : Nat) (a1 : A1) (a2 : A2) (a3 : A3) (a4 : A4) (a5 : A5) (a6 : A6) (a7 : A7) (a8 : A8) (a9 : A9) (a10 : A10) (a11 : A11) (a12 : A12) (a13 : A13) (a14 : A14), I a1 a2 a3 a4 a5 a6 a7 a8 a9 a10 a11 a12 a13 a14 → (∀ (b1 : A1) (b2 : A2) (b3 : A3) (b4 : A4) (b5 : A5) (b6 : A6) (b7 : A7) (b8 : A8) (b9 : A9) (b10 : A10) (b11 : A11) (b12 : A12) (b13 : A13) (b14 : A14), I b1 b2 b3 b4 b5 b6 b7 b8 b9 b10 b11 b12 b13 b14 → μ b1 b2 b3 b4 b5 b6 b7 b8 b9 b10 b11 b12 b13 b14 < μ a1 a2 a3 a4 a5 a6 a7 a8 a9 a10 a11 a12 a13 a14 → W n b1 b2 b3 b4 b5 b6 b7 b8 b9 b10 b11 b12 b13 b14) → W (n + 1) a1 a2 a3 a4 a5 a6 a7 a8 a9 a10 a11 a12 a13 a14) (a1 : A1) (a2 : A2) (a3 : A3) (a4 : A4) (a5 : A5) (a6 : A6) (a7 : A7) (a8 : A8) (a9 : A9) (a10 : A10) (a11 : A11) (a12 : A12) (a13 : A13) (a14 : A14) (h : I a1 a2 a3 a4 a5 a6 a7 a8 a9 a10 a11 a12 a13 a14) : ∃ n, W n a1 a2 a3 a4 a5 a6 a7 a8 a9 a10 a11 a12 a13 a14 :=
  loop_m (σ := A1 × A2 × A3 × A4 × A5 × A6 × A7 × A8 × A9 × A10 × A11 × A12 × A13 × A14) (fun n s => W n s.1 s.2.1 s.2.2.1 s.2.2.2.1 s.2.2.2.2.1 s.2.2.2.2.2.1 s.2.2.2.2.2.2.1 s.2.2.2.2.2.2.2.1 s.2.2.2.2.2.2.2.2.1 s.2.2.2.2.2.2.2.2.2.1 s.2.2.2.2.2.2.2.2.2.2.1 s.2.2.2.2.2.2.2.2.2.2.2.1 s.2.2.2.2.2.2.2.2.2.2.2.2.1 s.2.2.2.2.2.2.2.2.2.2.2.2.2) (fun s => I s.1 s.2.1 s.2.2.1 s.2.2.2.1 s.2.2.2.2.1 s.2.2.2.2.2.1 s.2.2.2.2.2.2.1 s.2.2.2.2.2.2.2.1 s.2.2.2.2.2.2.2.2.1 s.2.2.2.2.2.2.2.2.2.1 s.2.2.2.2.2.2.2.2.2.2.1 s.2.2.2.2.2.2.2.2.2.2.2.1 s.2.2.2.2.2.2.2.2.2.2.2.2.1 s.2.2.2.2.2.2.2.2.2.2.2.2.2) (fun s => μ s.1 s.2.1 s.2.2.1 s.2.2.2.1 s.2.2.2.2.1 s.2.2.2.2.2.1 s.2.2.2.2.2.2.1 s.2.2.2.2.2.2.2.1 s.2.2.2.2.2.2.2.2.1 s.2.2.2.2.2.2.2.2.2.1 s.2.2.2.2.2.2.2.2.2.2.1 s.2.2.2.2.2.2.2.2.2.2.2.1 s.2.2.2.2.2.2.2.2.2.2.2.2.1 s.2.2.2.2.2.2.2.2.2.2.2.2.2) (fun n s hI hk => hs n s.1 s.2.1 s.2.2.1 s.2.2.2.1 s.2.2.2.2.1 s.2.2.2.2.2.1 s.2.2.2.2.2.2.1 s.2.2.2.2.2.2.2.1 s.2.2.2.2.2.2.2.2.1 s.2.2.2.2.2.2.2.2.2.1 s.2.2.2.2.2.2.2.2.2.2.1 s.2.2.2.2.2.2.2.2.2.2.2.1 s.2.2.2.2.2.2.2.2.2.2.2.2.1 s.2.2.2.2.2.2.2.2.2.2.2.2.2 hI (fun b1 b2 b3 b4 b5 b6 b7 b8 b9 b10 b11 b12 b13 b14 h9 hm => hk (b1, b2, b3, b4, b5, b6, b7, b8, b9, b10, b11, b12, b13, b14) h9 hm)) (a1, a2, a3, a4, a5, a6, a7, a8, a9, a10, a11, a12, a13, a14) h
theorem lp15 {A1 A2 A3 A4 A5 A6 A7 A8 A9 A10 A11 A12 A13 A14 A15 : Type} (W : Nat → A1 → A2 → A3 → A4 → A5 → A6 → A7 → A8 → A9 → A10 → A11 → A12 → A13 → A14 → A15 → Prop) (I : A1 → A2 → A3 → A4 → A5 → A6 → A7 → A8 → A9 → A10 → A11 → A12 → A13 → A14 → A15 → Prop) (μ : A1 → A2 → A3 → A4 → A5 → A6 → A7 → A8 → A9 → A10 → A11 → A12 → A13 → A14 → A15 → Nat) (hs : ∀ (n : Nat) (a1 : A1) (a2 : A2) (a3 : A3) (a4 : A4) (a5 : A5) (a6 : A6) (a7 : A7) (a8 : A8) (a9 : A9) (a10 : A10) (a11 : A11) (a12 : A12) (a13 : A13) (a14 : A14) (a15 : A15), I a1 a2 a3 a4 a5 a6 a7 a8 a9 a10 a11 a12 a13 a14 a15 → (∀ (b1 : A1) (b2 : A2) (b3 : A3) (b4 : A4) (b5 : A5) (b6 : A6) (b7 : A7) (b8 : A8) (b9 : A9) (b10 : A10) (b11 : A11) (b12 : A12) (b13 : A13) (b14 : A14) (b15 : A15), I b1 b2 b3 b4 b5 b6 b7 b8 b9 b10 b11 b12 b13 b14 b15 → μ b1 b2 b3 b4 b5 b6 b7 b8 b9 b10 b11 b12 b13 b14 b15 < μ a1 a2 a3 a4 a5 a6 a7 a8 a9 a10 a11 a12 a13 a14 a15 → W n b1 b2 b3 b4 b5 b6 b7 b8 b9 b10 b11 b12 b13 b14 b15) → W (n + 1) a1 a2 a3 a4 a5 a6 a7 a8 a9 a10 a11 a12 a13 a14 a15) (a1 : A1) (a2 : A2) (a3 : A3) (a4 : A4) (a5 : A5) (a6 : A6) (a7 : A7) (a8 : A8) (a9 : A9) (a10 : A10) (a11 : A11) (a12 : A12) (a13 : A13) (a14 : A14) (a15 : A15) (h : I a1 a2 a3 a4 a5 a6 a7 a8 a9 a10 a11 a12 a13 a14 a15) : ∃ n, W n a1 a2 a3 a4 a5 a6 a7 a8 a9 a10 a11 a12 a13 a14 a15 :=
  loop_m (σ := A1 × A2 × A3 × A4 × A5 × A6 × A7 × A8 × A9 × A10 × A11 × A12 × A13 × A14 × A15) (fun n s => W n s.1 s.2.1 s.2.2.1 s.2.2.2.1 s.2.2.2.2.1 s.2.2.2.2.2.1 s.2.2.2.2.2.2.1 s.2.2.2.2.2.2.2.1 s.2.2.2.2.2.2.2.2.1 s.2.2.2.2.2.2.2.2.2.1 s.2.2.2.2.2.2.2.2.2.2.1 s.2.2.2.2.2.2.2.2.2.2.2.1 s.2.2.2.2.2.2.2.2.2.2.2.2.1 s.2.2.2.2.2.2.2.2.2.2.2.2.2.1 s.2.2.2.2.2.2.2.2.2.2.2.2.2.2) (fun s => I s.1 s.2.1 s.2.2.1 s.2.2.2.1 s.2.2.2.2.1 s.2.2.2.2.2.1 s.2.2.2.2.2.2.1 s.2.2.2.2.2.2.2.1 s.2.2.2.2.2.2.2.2.1 s.2.2.2.2.2.2.2.2.2.1 s.2.2.2.2.2.2.2.2.2.2.1 s.2.2.2.2.2.2.2.2.2.2.2.1 s.2.2.2.2.2.2.2.2.2.2.2.2.1 s.2.2.2.2.2.2.2.2.2.2.2.2.2.1 s.2.2.2.2.2.2.2.2.2.2.2.2.2.2) (fun s => μ s.1 s.2.1 s.2.2.1 s.2.2.2.1 s.2.2.2.2.1 s.2.2.2.2.2.1 s.2.2.2.2.2.2.1 s.2.2.2.2.2.2.2.1 s.2.2.2.2.2.2.2.2.1 s.2.2.2.2.2.2.2.2.2.1 s.2.2.2.2.2.2.2.2.2.2.1 s.2.2.2.2.2.2.2.2.2.2.2.1 s.2.2.2.2.2.2.2.2.2.2.2.2.1 s.2.2.2.2.2.2.2.2.2.2.2.2.2.1 s.2.2.2.2.2.2.2.2.2.2.2.2.2.2) (fun n s hI hk => hs n s.1 s.2.1 s.2.2.1 s.2.2.2.1 s.2.2.2.2.1 s.2.2.2.2.2.1 s.2.2.2.2.2.2.1 s.2.2.2.2.2.2.2.1 s.2.2.2.2.2.2.2.2.1 s.2.2.2.2.2.2.2.2.2.1 s.2.2.2.2.2.2.2.2.2.2.1 s.2.2.2.2.2.2.2.2.2.2.2.1 s.2.2.2.2.2.2.2.2.2.2.2.2.1 s.2.2.2.2.2.2.2.2.2.2.2.2.2.1 s.2.2.2.2.2.2.2.2.2.2.2.2.2.2 hI (fun b1 b2 b3 b4 b5 b6 b7 b8 b9 b10 b11 b12 b13 b14 b15 h9 hm => hk (b1, b2, b3, b4, b5, b6, b7, b8, b9, b10, b11, b12, b13, b14, b15) h9 hm)) (a1, a2, a3, a4, a5, a6, a7, a8, a9, a10, a11, a12, a13, a14, a15) h
theorem lp16 {A1 A2 A3 A4 A5 A6 A7 A8 A9 A10 A11 A12 A13 A14 A15 A16 : Type} (W : Nat → A1 → A2 → A3 → A4 → A5 → A6 → A7 → A8 → A9 → A10 → A11 → A12 → A13 → A14 → A15 → A16 → Prop) (I : A1 → A2 → A3 → A4 → A5 → A6 → A7 → A8 → A9 → A10 → A11 → A12 → A13 → A14 → A15 → A16 → Prop) (μ : A1 → A2 → A3 → A4 → A5 → A6 → A7 → A8 → A9 → A10 → A11 → A12 → A13 → A14 → A15 → A16 → Nat) (hs : ∀ (n : Nat) (a1 : A1) (a2 : A2) (a3 : A3) (a4 : A4) (a5 : A5) (a6 : A6) (a7 : A7) (a8 : A8) (a9 : A9) (a10 : A10) (a11 : A11) (a12 : A12) (a13 : A13) (a14 : A14) (a15 : A15) (a16 : A16), I a1 a2 a3 a4 a5 a6 a7 a8 a9 a10 a11 a12 a13 a14 a15 a16 → (∀ (b1 : A1) (b2 : A2) (b3 : A3) (b4 : A4) (b5 : A5) (b6 : A6) (b7 : A7) (b8 : A8) (b9 : A9) (b10 : A10) (b11 : A11) (b12 : A12) (b13 : A13) (b14 : A14) (b15 : A15) (b16 : A16), I b1 b2 b3 b4 b5 b6 b7 b8 b9 b10 b11 b12 b13 b14 b15 b16 → μ b1 b2 b3 b4 b5 b6 b7 b8 b9 b10 b11 b12 b13 b14 b15 b16 < μ a1 a2 a3 a4 a5 a6 a7 a8 a9 a10 a11 a12 a13 a14 a15 a16 → W n b1 b2 b3 b4 b5 b6 b7 b8 b9 b10 b11 b12 b13 b14 b15 b16) → W (n + 1) a1 a2 a3 a4 a5 a6 a7 a8 a9 a10 a11 a12 a13 a14 a15 a16) (a1 : A1) (a2 : A2) (a3 : A3) (a4 : A4) (a5 : A5) (a6 : A6) (a7 : A7) (a8 : A8) (a9 : A9) (a10 : A10) (a11 : A11) (a12 : A12) (a13 : A13) (a14 : A14) (a15 : A15) (a16 : A16) (h : I a1 a2 a3 a4 a5 a6 a7 a8 a9 a10 a11 a12 a13 a14 a15 a16) : ∃ n, W n a1 a2 a3 a4 a5 a6 a7 a8 a9 a10 a11 a12 a13 a14 a15 a16 :=
  loop_m (σ := A1 × A2 × A3 × A4 × A5 × A6 × A7 × A8 × A9 × A10 × A11 × A12 × A13 × A14 × A15 × A16) (fun n s => W n s.1 s.2.1 s.2.2.1 s.2.2.2.1 s.2.2.2.2.1 s.2.2.2.2.2.1 s.2.2.2.2.2.2.1 s.2.2.2.2.2.2.2.1 s.2.2.2.2.2.2.2.2.1 s.2.2.2.2.2.2.2.2.2.1 s.2.2.2.2.2.2.2.2.2.2.1 s.2.2.2.2.2.2.2.2.2.2.2.1 s.2.2.2.2.2.2.2.2.2.2.2.2.1 s.2.2.2.2.2.2.2.2.2.2.2.2.2.1 s.2.2.2.2.2.2.2.2.2.2.2.2.2.2.1 s.2.2.2.2.2.2.2.2.2.2.2.2.2.2.2) (fun s => I s.1 s.2.1 s.2.2.1 s.2.2.2.1 s.2.2.2.2.1 s.2.2.2.2.2.1 s.2.2.2.2.2.2.1 s.2.2.2.2.2.2.2.1 s.2.2.2.2.2.2.2.2.1 s.2.2.2.2.2.2.2.2.2.1 s.2.2.2.2.2.2.2.2.2.2.1 s.2.2.2.2.2.2.2.2.2.2.2.1 s.2.2.2.2.2.2.2.2.2.2.2.2.1 s.2.2.2.2.2.2.2.2.2.2.2.2.2.1 s.2.2.2.2.2.2.2.2.2.2.2.2.2.2.1 s.2.2.2.2.2.2.2.2.2.2.2.2.2.2.2) (fun s => μ s.1 s.2.1 s.2.2.1 s.2.2.2.1 s.2.2.2.2.1 s.2.2.2.2.2.1 s.2.2.2.2.2.2.1 s.2.2.2.2.2.2.2.1 s.2.2.2.2.2.2.2.2.1 s.2.2.2.2.2.2.2.2.2.1 s.2.2.2.2.2.2.2.2.2.2.1 s.2.2.2.2.2.2.2.2.2.2.2.1 s.2.2.2.2.2.2.2.2.2.2.2.2.1 s.2.2.2.2.2.2.2.2.2.2.2.2.2.1 s.2.2.2.2.2.2.2.2.2.2.2.2.2.2.1 s.2.2.2.2.2.2.2.2.2.2.2.2.2.2.2) (fun n s hI hk => hs n s.1 s.2.1 s.2.2.1 s.2.2.2.1 s.2.2.2.2.1 s.2.2.2.2.2.1 s.2.2.2.2.2.2.1 s.2.2.2.2.2.2.2.1 s.2.2.2.2.2.2.2.2.1 s.2.2.2.2.2.2.2.2.2.1 s.2.2.2.2.2.2.2.2.2.2.1 s.2.2.2.2.2.2.2.2.2.2.2.1 s.2.2.2.2.2.2.2.2.2.2.2.2.1 s.2.2.2.2.2.2.2.2.2.2.2.2.2.1 s.2.2.2.2.2.2.2.2.2.2.2.2.2.2.1 s.2.2.2.2.2.2.2.2.2.2.2.2.2.2.2 hI (fun b1 b2 b3 b4 b5 b6 b7 b8 b9 b10 b11 b12 b13 b14 b15 b16 h9 hm => hk (b1, b2, b3, b4, b5, b6, b7, b8, b9, b10, b11, b12, b13, b14, b15, b16) h9 hm)) (a1, a2, a3, a4, a5, a6, a7, a8, a9, a10, a11, a12, a13, a14, a15, a16) h
theorem pk_least (P : Nat → Prop) (h : ∃ k, P k) : ∃ k, P k ∧ ∀ j, j < k → ¬ P j := by
  obtain ⟨k, hk⟩ := h
  induction k using Nat.strongRecOn with
  | ind k ih =>
    by_cases e : ∃ j, j < k ∧ P j
    · obtain ⟨j, hj, pj⟩ := e
      exact ih j hj pj
    · exact ⟨k, hk, fun j hj pj => e ⟨j, hj, pj⟩⟩
theorem rp1 {ρ A1 : Type} (W : Nat → (ρ → Prop) → A1 → Prop) (ok : A1 → Prop) (μ : A1 → Nat) (val : A1 → ρ)
    (hs : ∀ (d : Nat) (post : ρ → Prop) (a1 : A1), ok a1 → post (val a1) → (∀ (post' : ρ → Prop) (b1 : A1), ok b1 → μ b1 < μ a1 → post' (val b1) → W d post' b1) → W (d + 1) post a1) :
    ∀ (d : Nat) (post : ρ → Prop) (a1 : A1), ok a1 → μ a1 < d → post (val a1) → W d post a1 := by
  intro d
  induction d with
  | zero => intro post a1 _ h; omega
  | succ d ih =>
    intro post a1 ho hm hp
    exact hs d post a1 ho hp (fun post' b1 ho' hm' hp' => ih post' b1 ho' (by omega) hp')
theorem rp2 {ρ A1 A2 : Type} (W : Nat → (ρ → Prop) → A1 → A2 → Prop) (ok : A1 → A2 → Prop) (μ : A1 → A2 → Nat) (val : A1 → A2 → ρ)
    (hs : ∀ (d : Nat) (post : ρ → Prop) (a1 : A1) (a2 : A2), ok a1 a2 → post (val a1 a2) → (∀ (post' : ρ → Prop) (b1 : A1) (b2 : A2), ok b1 b2 → μ b1 b2 < μ a1 a2 → post' (val b1 b2) → W d post' b1 b2) → W (d + 1) post a1 a2) :
    ∀ (d : Nat) (post : ρ → Prop) (a1 : A1) (a2 : A2), ok a1 a2 → μ a1 a2 < d → post (val a1 a2) → W d post a1 a2 := by
  intro d
  induction d with
  | zero => intro post a1 a2 _ h; omega
  | succ d ih =>
    intro post a1 a2 ho hm hp
    exact hs d post a1 a2 ho hp (fun post' b1 b2 ho' hm' hp' => ih post' b1 b2 ho' (by omega) hp')
theorem rp3 {ρ A1 A2 A3 : Type} (W : Nat → (ρ → Prop) → A1 → A2 → A3 → Prop) (ok : A1 → A2 → A3 → Prop) (μ : A1 → A2 → A3 → Nat) (val : A1 → A2 → A3 → ρ)
    (hs : ∀ (d : Nat) (post : ρ → Prop) (a1 : A1) (a2 : A2) (a3 : A3), ok a1 a2 a3 → post (val a1 a2 a3) → (∀ (post' : ρ → Prop) (b1 : A1) (b2 : A2) (b3 : A3), ok b1 b2 b3 → μ b1 b2 b3 < μ a1 a2 a3 → post' (val b1 b2 b3) → W d post' b1 b2 b3) → W (d + 1) post a1 a2 a3) :
    ∀ (d : Nat) (post : ρ → Prop) (a1 : A1) (a2 : A2) (a3 : A3), ok a1 a2 a3 → μ a1 a2 a3 < d → post (val a1 a2 a3) → W d post a1 a2 a3 := by
  intro d
  induction d with
  | zero => intro post a1 a2 a3 _ h; omega
  | succ d ih =>
    intro post a1 a2 a3 ho hm hp
    exact hs d post a1 a2 a3 ho hp (fun post' b1 b2 b3 ho' hm' hp' => ih post' b1 b2 b3 ho' (by omega) hp')
theorem rp4 {ρ A1 A2 A3 A4 : Type} (W : Nat → (ρ → Prop) → A1 → A2 → A3 → A4 → Prop) (ok : A1 → A2 → A3 → A4 → Prop) (μ : A1 → A2 → A3 → A4 → Nat) (val : A1 → A2 → A3 → A4 → ρ)
    (hs : ∀ (d : Nat) (post : ρ → Prop) (a1 : A1) (a2 : A2) (a3 : A3) (a4 : A4), ok a1 a2 a3 a4 → post (val a1 a2 a3 a4) → (∀ (post' : ρ → Prop) (b1 : A1) (b2 : A2) (b3 : A3) (b4 : A4), ok b1 b2 b3 b4 → μ b1 b2 b3 b4 < μ a1 a2 a3 a4 → post' (val b1 b2 b3 b4) → W d post' b1 b2 b3 b4) → W (d + 1) post a1 a2 a3 a4) :
    ∀ (d : Nat) (post : ρ → Prop) (a1 : A1) (a2 : A2) (a3 : A3) (a4 : A4), ok a1 a2 a3 a4 → μ a1 a2 a3 a4 < d → post (val a1 a2 a3 a4) → W d post a1 a2 a3 a4 := by
  intro d
  induction d with
  | zero => intro post a1 a2 a3 a4 _ h; omega
  | succ d ih =>
    intro post a1 a2 a3 a4 ho hm hp
    exact hs d post a1 a2 a3 a4 ho hp (fun post' b1 b2 b3 b4 ho' hm' hp' => ih post' b1 b2 b3 b4 ho' (by omega) hp')
theorem rp5 {ρ A1 A2 A3 A4 A5 : Type} (W : Nat → (ρ → Prop) → A1 → A2 → A3 → A4 → A5 → Prop) (ok : A1 → A2 → A3 → A4 → A5 → Prop) (μ : A1 → A2 → A3 → A4 → A5 → Nat) (val : A1 → A2 → A3 → A4 → A5 → ρ)
    (hs : ∀ (d : Nat) (post : ρ → Prop) (a1 : A1) (a2 : A2) (a3 : A3) (a4 : A4) (a5 : A5), ok a1 a2 a3 a4 a5 → post (val a1 a2 a3 a4 a5) → (∀ (post' : ρ → Prop) (b1 : A1) (b2 : A2) (b3 : A3) (b4 : A4) (b5 : A5), ok b1 b2 b3 b4 b5 → μ b1 b2 b3 b4 b5 < μ a1 a2 a3 a4 a5 → post' (val b1 b2 b3 b4 b5) → W d post' b1 b2 b3 b4 b5) → W (d + 1) post a1 a2 a3 a4 a5) :
    ∀ (d : Nat) (post : ρ → Prop) (a1 : A1) (a2 : A2) (a3 : A3) (a4 : A4) (a5 : A5), ok a1 a2 a3 a4 a5 → μ a1 a2 a3 a4 a5 < d → post (val a1 a2 a3 a4 a5) → W d post a1 a2 a3 a4 a5 := by
  intro d
  induction d with
  | zero => intro post a1 a2 a3 a4 a5 _ h; omega
  | succ d ih =>
    intro post a1 a2 a3 a4 a5 ho hm hp
    exact hs d post a1 a2 a3 a4 a5 ho hp (fun post' b1 b2 b3 b4 b5 ho' hm' hp' => ih post' b1 b2 b3 b4 b5 ho' (by omega) hp')
theorem rp6 {ρ A1 A2 A3 A4 A5 A6 : Type} (W : Nat → (ρ → Prop) → A1 → A2 → A3 → A4 → A5 → A6 → Prop) (ok : A1 → A2 → A3 → A4 → A5 → A6 → Prop) (μ : A1 → A2 → A3 → A4 → A5 → A6 → Nat) (val : A1 → A2 → A3 → A4 → A5 → A6 → ρ)
    (hs : ∀ (d : Nat) (post : ρ → Prop) (a1 : A1) (a2 : A2) (a3 : A3) (a4 : A4) (a5 : A5) (a6 : A6), ok a1 a2 a3 a4 a5 a6 → post (val a1 a2 a3 a4 a5 a6) → (∀ (post' : ρ → Prop) (b1 : A1) (b2 : A2) (b3 : A3) (b4 : A4) (b5 : A5) (b6 : A6), ok b1 b2 b3 b4 b5 b6 → μ b1 b2 b3 b4 b5 b6 < μ a1 a2 a3 a4 a5 a6 → post' (val b1 b2 b3 b4 b5 b6) → W d post' b1 b2 b3 b4 b5 b6) → W (d + 1) post a1 a2 a3 a4 a5 a6) :
    ∀ (d : Nat) (post : ρ → Prop) (a1 : A1) (a2 : A2) (a3 : A3) (a4 : A4) (a5 : A5) (a6 : A6), ok a1 a2 a3 a4 a5 a6 → μ a1 a2 a3 a4 a5 a6 < d → post (val a1 a2 a3 a4 a5 a6) → W d post a1 a2 a3 a4 a5 a6 := by
  intro d
  induction d with
  | zero => intro post a1 a2 a3 a4 a5 a6 _ h; omega
  | succ d ih =>
    intro post a1 a2 a3 a4 a5 a6 ho hm hp
    exact hs d post a1 a2 a3 a4 a5 a6 ho hp (fun post' b1 b2 b3 b4 b5 b6 ho' hm' hp' => ih post' b1 b2 b3 b4 b5 b6 ho' (by omega) hp')
theorem rec_p {σ ρ : Type} (W : Nat → (ρ → Prop) → σ → Prop) (ok : σ → Prop) (μ : σ → Nat) (val : σ → ρ)
    (hs : ∀ d s post, ok s → post (val s) → (∀ s' post', ok s' → μ s' < μ s → post' (val s') → W d post' s') → W (d + 1) post s) :
    ∀ d s post, ok s → μ s < d → post (val s) → W d post s := by
  intro d
  induction d with
  | zero => intro s post _ h; omega
  | succ d ih =>
    intro s post ho hm hp
    exact hs d s post ho hp (fun s' post' ho' hm' hp' => ih s' post' ho' (by omega) hp')
theorem rec_q {σ ρ : Type} (W : Nat → (ρ → Prop) → σ → Prop) (ok : σ → Prop) (μ : σ → Nat) (Q : σ → ρ → Prop)
    (hs : ∀ d s post, ok s → (∀ r, Q s r → post r) → (∀ s' post', ok s' → μ s' < μ s → (∀ r, Q s' r → post' r) → W d post' s') → W (d + 1) post s) :
    ∀ d s post, ok s → μ s < d → (∀ r, Q s r → post r) → W d post s := by
  intro d
  induction d with
  | zero => intro s post _ h; omega
  | succ d ih =>
    intro s post ho hm hp
    exact hs d s post ho hp (fun s' post' ho' hm' hp' => ih s' post' ho' (by omega) hp')
def bx_sum (f : Nat → Int32) : Nat → Int32
  | 0 => 0
  | n + 1 => bx_sum f n + f n
theorem ek_u {A : Prop} {B : Nat → Prop} {k N : Nat} (hk : k < N) (h : B k) : (some k = none → A) ∧ (∀ y : Nat, some k = some y → (y < N ∧ B y)) :=
  ⟨fun z => absurd z (Option.some_ne_none k), fun _ e => (by cases e; exact ⟨hk, h⟩)⟩
theorem ek_nu {A : Prop} {B : Nat → Prop} (h : A) : ((none : Option Nat) = none → A) ∧ (∀ y : Nat, (none : Option Nat) = some y → B y) :=
  ⟨fun _ => h, fun _ e => (by cases e)⟩
theorem ek_if {c d A B : Prop} (e : c ↔ d) (f : d → A) (g : ¬ d → B) : (c → A) ∧ (¬ c → B) :=
  ⟨fun z => f (e.mp z), fun z => g (fun y => z (e.mpr y))⟩
theorem ek_v {α : Sort _} {P : α → Prop} {a b : α} (e : a = b) (h : P b) : P a := e ▸ h
theorem co_some {x : Option Nat} {A : Prop} {B : Nat → Prop} (i : Nat) (h : B i) (hx : x = some i := by rfl) : (x = none → A) ∧ (∀ y : Nat, x = some y → B y) := by
  subst hx
  exact ⟨fun e => (nomatch e), fun y e => Option.some.inj e ▸ h⟩
theorem co_none {x : Option Nat} {A : Prop} {B : Nat → Prop} (h : A) (hx : x = none := by rfl) : (x = none → A) ∧ (∀ y : Nat, x = some y → B y) := by
  subst hx
  exact ⟨fun _ => h, fun y e => (nomatch e)⟩
theorem co_any {x : Option Nat} {A : Prop} {B : Nat → Prop} (hn : x = none → A) (hs : ∀ i : Nat, x = some i → B i) : (x = none → A) ∧ (∀ y : Nat, x = some y → B y) := ⟨hn, hs⟩
theorem co_2 {P : Nat → Prop} (h0 : P 0) (h1 : P 1) {i : Nat} (hi : i < 2) : P i :=
  match i, hi with
  | 0, _ => h0
  | 1, _ => h1
theorem co_3 {P : Nat → Prop} (h0 : P 0) (h1 : P 1) (h2 : P 2) {i : Nat} (hi : i < 3) : P i :=
  match i, hi with
  | 0, _ => h0
  | 1, _ => h1
  | 2, _ => h2
theorem co_4 {P : Nat → Prop} (h0 : P 0) (h1 : P 1) (h2 : P 2) (h3 : P 3) {i : Nat} (hi : i < 4) : P i :=
  match i, hi with
  | 0, _ => h0
  | 1, _ => h1
  | 2, _ => h2
  | 3, _ => h3
theorem co_dec {N : Nat} {P : Nat → Prop} [DecidablePred P] (h : (List.range N).all (fun i => decide (P i)) = true) {i : Nat} (hi : i < N) : P i := by
  have := List.all_eq_true.mp h i (List.mem_range.mpr hi)
  exact of_decide_eq_true this
theorem co_tab {α : Type} {l : List α} {d : α} {P : α → Prop} (h : ∀ a, a ∈ l → P a) {i : Nat} (hi : i < l.length) : P (l.getD i d) := by
  rw [List.getD_eq_getElem?_getD, List.getElem?_eq_getElem hi]
  exact h _ (List.getElem_mem hi)
theorem pk_mu {x : Int32} {L : Nat} (h0 : ¬ x < 0) (h : ¬ nI L ≤ x) (hL : L < 2 ^ 31) : ∃ j : Nat, j < L ∧ x = nI j ∧ x + 1 = nI (j + 1) ∧ x.toNatClampNeg = j ∧ L - (x + 1).toNatClampNeg < L - x.toNatClampNeg := by
  obtain ⟨j, hj, rfl⟩ := nI_of h0
  have hl : j < L := Nat.not_le.mp fun q => h (nI_le q hj)
  refine ⟨j, hl, rfl, nI_1 j, nI_clamp hj, ?_⟩
  rw [nI_1, nI_clamp (by omega), nI_clamp hj]
  omega
theorem op_s {α : Type} {r : Option α} {A : Prop} {B : α → Prop} {y : α} (h : r = some y) (b : B y) : (r = none → A) ∧ ∀ z, r = some z → B z :=
  ⟨fun e => (by rw [h] at e; cases e), fun z e => (by rw [h] at e; cases e; exact b)⟩
def l_holds {α : Type} (a : Nat → Option Nat) (LP : List Nat) (p : Nat → α) (c : Nat) (b : Nat → α) : Prop :=
  ∀ j, j < c → ∃ y, a j = some y ∧ y ∈ LP ∧ p y = b j
theorem l_holds_0 {α : Type} {a : Nat → Option Nat} {LP : List Nat} {p b : Nat → α} : l_holds a LP p 0 b := fun j h => absurd h (Nat.not_lt_zero j)
theorem l_in_new (LP : List Nat) (q : Nat) : q ∈ LP ++ [q] := List.mem_append.mpr (Or.inr (List.mem_singleton.mpr rfl))
def l_sum (b : Nat → Int32) : Nat → Int32
  | 0 => 0
  | k + 1 => l_sum b k + b k
theorem sb_shr0 (x : Int32) : x >>> ((0 : Int32) &&& 31) = x := by
  rw [show ((0 : Int32) &&& 31) = 0 by decide]
  simp
theorem sb_shl0 (x : Int32) : x <<< ((0 : Int32) &&& 31) = x := by
  rw [show ((0 : Int32) &&& 31) = 0 by decide]
  simp
theorem sb_cl0 : (0 : Int32).toNatClampNeg = 0 := by decide
theorem sb_m1 {p : Nat} (h : 0 < p) : nI p + (-1) = nI (p - 1) := by
  obtain ⟨q, rfl⟩ : ∃ q, p = q + 1 := ⟨p - 1, by omega⟩
  exact pk_m1 q
def sb_b (c : Nat) : Int32 := (nI c).toInt8.toInt32
theorem sb_byte : ∀ c, c < 256 → sb_b c &&& 255 = nI c ∧ ((nI c).toUInt32 % 65536).toInt32 = nI c ∧ nI c ≤ 255 := by decide +kernel
def sb_Fit (a : Nat → Int32) : Prop := ∀ j, fits .byte (.int (a j)) = true
def sb_Lat (t : Nat → Nat) (n : Nat) (a : Nat → Int32) : Prop := ∀ j, j < n → t j < 256 ∧ a j = sb_b (t j)
theorem sb_fitB (c : Nat) : fits .byte (.int (sb_b c)) = true := pk_fb _
theorem sb_fit0 : sb_Fit (fun _ => 0) := fun _ => by
  show fits .byte (.int 0) = true
  decide
theorem sb_fitU {a : Nat → Int32} {k : Nat} {x : Int32} (h : sb_Fit a) (hx : fits .byte (.int x) = true) : sb_Fit (upd a k x) := by
  intro j
  by_cases e : j = k
  · subst e
    rw [pk_us]
    exact hx
  · rw [pk_un e]
    exact h j
def sb_cat (t : Nat → Nat) (n : Nat) (s : Nat → Nat) : Nat → Nat := fun j => if j < n then t j else s (j - n)
theorem sb_cat_lo {t s : Nat → Nat} {n j : Nat} (h : j < n) : sb_cat t n s j = t j := if_pos h
theorem sb_cat_hi {t s : Nat → Nat} {n j : Nat} : sb_cat t n s (n + j) = s j := by
  show (if n + j < n then t (n + j) else s (n + j - n)) = s j
  rw [if_neg (by omega), Nat.add_sub_cancel_left]
theorem sb_latPut {t s : Nat → Nat} {n w : Nat} {a a' : Nat → Int32} (h : sb_Lat t n a) (hk : ∀ j, j < n → a' j = a j) (hs : ∀ i, i < w → s i < 256 ∧ a' (n + i) = sb_b (s i)) : sb_Lat (sb_cat t n s) (n + w) a' := by
  intro j hj
  by_cases e : j < n
  · rw [sb_cat_lo e, hk j e]
    exact h j e
  · obtain ⟨i, rfl⟩ : ∃ i, j = n + i := ⟨j - n, by omega⟩
    rw [sb_cat_hi]
    exact hs i (by omega)
theorem sb_latKeep {t : Nat → Nat} {n : Nat} {a a' : Nat → Int32} (h : sb_Lat t n a) (hk : ∀ j, j < n → a' j = a j) : sb_Lat t n a' := fun j hj => by
  rw [hk j hj]
  exact h j hj
def sb_cap (q m : Nat) : Nat := if q ≤ m then m else if 2 * m + 2 < q then q else 2 * m + 2
def sb_Room (q m mc ms : Nat) : Prop := q ≤ m ∨ (1 ≤ mc ∧ sb_cap q m ≤ ms ∧ sb_cap q m ≤ 65536)
theorem sb_cap_ge (q m : Nat) : q ≤ sb_cap q m := by
  unfold sb_cap
  split
  · omega
  · split <;> omega
theorem sb_cap_gem (q m : Nat) : m ≤ sb_cap q m := by
  unfold sb_cap
  split
  · omega
  · split <;> omega
theorem sb_cap_le {q m mc ms : Nat} (hm : m ≤ 65536) (hr : sb_Room q m mc ms) : sb_cap q m ≤ 65536 := by
  rcases hr with h | h
  · rw [sb_cap, if_pos h]
    exact hm
  · exact h.2.2
theorem sb_at {P : Int32 → Prop} {x y : Int32} (e : x = y) (h : P y) : P x := e ▸ h
def sb_dg (w : Nat) : Nat := if w < 10 then 1 else if w < 100 then 2 else if w < 1000 then 3 else if w < 10000 then 4 else if w < 100000 then 5 else if w < 1000000 then 6 else if w < 10000000 then 7 else if w < 100000000 then 8 else if w < 1000000000 then 9 else 10
def sb_dec (v : Nat) : Nat → Nat := fun i => 48 + v / 10 ^ (sb_dg v - 1 - i) % 10
theorem sb_dg_in (w : Nat) : 1 ≤ sb_dg w ∧ sb_dg w ≤ 10 := by
  unfold sb_dg
  constructor <;> (repeat' split) <;> omega
theorem sb_dg100 {w : Nat} (h : 100 ≤ w) (hw : w < 2 ^ 31) : sb_dg w = sb_dg (w / 100) + 2 := by
  rw [sb_dg, sb_dg, if_neg (show ¬ w < 10 by omega), if_neg (show ¬ w < 100 by omega)]
  by_cases h3 : w < 1000
  · rw [if_pos h3, if_pos (show w / 100 < 10 by omega)]
  rw [if_neg h3, if_neg (show ¬ w / 100 < 10 by omega)]
  by_cases h4 : w < 10000
  · rw [if_pos h4, if_pos (show w / 100 < 100 by omega)]
  rw [if_neg h4, if_neg (show ¬ w / 100 < 100 by omega)]
  by_cases h5 : w < 100000
  · rw [if_pos h5, if_pos (show w / 100 < 1000 by omega)]
  rw [if_neg h5, if_neg (show ¬ w / 100 < 1000 by omega)]
  by_cases h6 : w < 1000000
  · rw [if_pos h6, if_pos (show w / 100 < 10000 by omega)]
  rw [if_neg h6, if_neg (show ¬ w / 100 < 10000 by omega)]
  by_cases h7 : w < 10000000
  · rw [if_pos h7, if_pos (show w / 100 < 100000 by omega)]
  rw [if_neg h7, if_neg (show ¬ w / 100 < 100000 by omega)]
  by_cases h8 : w < 100000000
  · rw [if_pos h8, if_pos (show w / 100 < 1000000 by omega)]
  rw [if_neg h8, if_neg (show ¬ w / 100 < 1000000 by omega)]
  by_cases h9 : w < 1000000000
  · rw [if_pos h9, if_pos (show w / 100 < 10000000 by omega)]
  rw [if_neg h9, if_neg (show ¬ w / 100 < 10000000 by omega)]
  rw [if_pos (show w / 100 < 100000000 by omega)]
theorem sb_negT {w : Nat} (h : w < 2 ^ 31) : (-nI w).toInt = -(w : Int) := by
  rw [Int32.toInt_neg, nI_toInt h]
  exact Int.bmod_eq_of_le (by omega) (by omega)
theorem sb_nle {a b : Nat} (ha : a < 2 ^ 31) (hb : b < 2 ^ 31) : -nI a ≤ -nI b ↔ b ≤ a := by
  rw [Int32.le_iff_toInt_le, sb_negT ha, sb_negT hb]
  omega
theorem sb_nlt {a b : Nat} (ha : a < 2 ^ 31) (hb : b < 2 ^ 31) : -nI a < -nI b ↔ b < a := by
  rw [Int32.lt_iff_toInt_lt, sb_negT ha, sb_negT hb]
  omega
theorem sb_cmp {A B : Prop} {x : Int32} (v c : Nat) (f : c ≤ v → A) (g : v < c → B) (hv : v < 2 ^ 31) (hx : x = -nI c := by rfl) (hc : c < 2 ^ 31 := by omega) : (-nI v ≤ x → A) ∧ (¬ -nI v ≤ x → B) := by
  subst hx
  rw [sb_nle hv hc]
  exact ⟨f, fun z => g (by omega)⟩
theorem sb_ndiv {w : Nat} (hw : w < 2 ^ 31) : (-nI w) / 100 = -nI (w / 100) := by
  apply Int32.toInt_inj.mp
  have h100 : (100 : Int32).toInt = 100 := by decide
  rw [Int32.toInt_div, sb_negT hw, h100, sb_negT (by omega), Int.neg_tdiv, Int.tdiv_eq_ediv_of_nonneg (by omega), Int.bmod_eq_of_le (by omega) (by omega)]
  omega
theorem sb_nrem {w : Nat} (hw : w < 2 ^ 31) : (-nI (w / 100)) * 100 - (-nI w) = nI (w % 100) := by
  have h := pk_rem (a := w) (d := 100) hw (by decide) (by decide)
  rw [pk_div hw (by decide) (by decide)] at h
  rw [← h]
  show (-nI (w / 100)) * nI 100 - (-nI w) = nI w - nI (w / 100) * nI 100
  rw [Int32.neg_mul, Int32.sub_neg, Int32.add_comm, ← Int32.sub_eq_add_neg]
end
section
/-! rows on bits, shifts and unsigned numbers, to paste: each family out of a closed proof of our own, whole with what it rests on; each by itself clean at Lean in its own claim (generation 39, form 5). Take a family whole -/
/-! ===== Int32 by its bits: bt x i ===== -/
def bt (x : Int32) (i : Nat) : Bool := x.toBitVec.getLsbD i
theorem b_ext {x y : Int32} (h : ∀ i, i < 32 → bt x i = bt y i) : x = y := Int32.toBitVec_inj.mp (BitVec.eq_of_getLsbD_eq (fun i hi => h i hi))
theorem b_or (x y : Int32) (i : Nat) : bt (x ||| y) i = (bt x i || bt y i) := by unfold bt; rw [Int32.toBitVec_or, BitVec.getLsbD_or]
theorem b_and (x y : Int32) (i : Nat) : bt (x &&& y) i = (bt x i && bt y i) := by unfold bt; rw [Int32.toBitVec_and, BitVec.getLsbD_and]
theorem b_xor (x y : Int32) (i : Nat) : bt (x ^^^ y) i = (bt x i ^^ bt y i) := by unfold bt; rw [Int32.toBitVec_xor, BitVec.getLsbD_xor]
theorem b_big {x : Int32} {i : Nat} (h : 32 ≤ i) : bt x i = false := BitVec.getLsbD_of_ge _ _ h
theorem b_255 (i : Nat) : bt 255 i = decide (i < 8) := by
  rcases Nat.lt_or_ge i 32 with h | h
  · exact (by decide +kernel : ∀ i, i < 32 → bt 255 i = decide (i < 8)) i h
  · rw [b_big h, decide_eq_false (by omega)]
theorem b_65535 (i : Nat) : bt 65535 i = decide (i < 16) := by
  rcases Nat.lt_or_ge i 32 with h | h
  · exact (by decide +kernel : ∀ i, i < 32 → bt 65535 i = decide (i < 16)) i h
  · rw [b_big h, decide_eq_false (by omega)]
theorem b_m1 : ∀ i, i < 32 → bt (-1) i = true := by decide +kernel
theorem b_0 (i : Nat) : bt 0 i = false := BitVec.getLsbD_zero
theorem s_l : ∀ n, n < 32 → ((nI n &&& 31).toBitVec.smod 32).toNat = n := by decide +kernel
theorem s_u : ∀ n, n < 32 → (((nI n).toUInt32 &&& Int32.toUInt32 31).toBitVec % 32).toNat = n := by decide +kernel
theorem b_shl (n : Nat) (hn : n < 32) (x : Int32) {i : Nat} (hi : i < 32) : bt (x <<< (nI n &&& 31)) i = (decide (n ≤ i) && bt x (i - n)) := by
  unfold bt
  rw [Int32.toBitVec_shiftLeft]
  show (x.toBitVec <<< ((nI n &&& 31).toBitVec.smod 32).toNat).getLsbD i = _
  rw [s_l n hn, BitVec.getLsbD_shiftLeft]
  rcases Nat.lt_or_ge i n with h | h
  · simp [h, Nat.not_le.mpr h]
  · simp [hi, h, Nat.not_lt.mpr h]
theorem b_ushr (n : Nat) (hn : n < 32) (x : Int32) (i : Nat) : bt ((x.toUInt32 >>> ((nI n).toUInt32 &&& Int32.toUInt32 31)).toInt32) i = bt x (n + i) := by
  show (x.toUInt32 >>> ((nI n).toUInt32 &&& Int32.toUInt32 31)).toBitVec.getLsbD i = x.toUInt32.toBitVec.getLsbD (n + i)
  rw [UInt32.toBitVec_shiftRight]
  show (x.toUInt32.toBitVec >>> (((nI n).toUInt32 &&& Int32.toUInt32 31).toBitVec % 32).toNat).getLsbD i = _
  rw [s_u n hn, BitVec.getLsbD_ushiftRight]
theorem b_sshr (n : Nat) (hn : n < 32) (x : Int32) {i : Nat} (hi : i < 32) : bt (x >>> (nI n &&& 31)) i = if n + i < 32 then bt x (n + i) else bt x 31 := by
  unfold bt
  rw [Int32.toBitVec_shiftRight]
  show (x.toBitVec.sshiftRight ((nI n &&& 31).toBitVec.smod 32).toNat).getLsbD i = _
  rw [s_l n hn, BitVec.getLsbD_sshiftRight, BitVec.msb_eq_getLsbD_last]
  simp [hi]
theorem b_shl8 (x : Int32) {i : Nat} (hi : i < 32) : bt (x <<< ((8 : Int32) &&& 31)) i = (decide (8 ≤ i) && bt x (i - 8)) := b_shl 8 (by omega) x hi
theorem b_shl16 (x : Int32) {i : Nat} (hi : i < 32) : bt (x <<< ((16 : Int32) &&& 31)) i = (decide (16 ≤ i) && bt x (i - 16)) := b_shl 16 (by omega) x hi
theorem b_shl24 (x : Int32) {i : Nat} (hi : i < 32) : bt (x <<< ((24 : Int32) &&& 31)) i = (decide (24 ≤ i) && bt x (i - 24)) := b_shl 24 (by omega) x hi
theorem b_sshr8 (x : Int32) {i : Nat} (hi : i < 32) : bt (x >>> ((8 : Int32) &&& 31)) i = if 8 + i < 32 then bt x (8 + i) else bt x 31 := b_sshr 8 (by omega) x hi
/-! ===== nI under and, xor, >>>, one bit, 65535 ===== -/
theorem nx_and (a b : Nat) : nI a &&& nI b = nI (a &&& b) := by
  apply Int32.toBitVec_inj.1
  show BitVec.ofNat 32 a &&& BitVec.ofNat 32 b = BitVec.ofNat 32 (a &&& b)
  apply BitVec.eq_of_getLsbD_eq
  intro i hi
  simp [hi]
theorem nx_xor (a b : Nat) : nI a ^^^ nI b = nI (a ^^^ b) := by
  apply Int32.toBitVec_inj.1
  show BitVec.ofNat 32 a ^^^ BitVec.ofNat 32 b = BitVec.ofNat 32 (a ^^^ b)
  apply BitVec.eq_of_getLsbD_eq
  intro i hi
  simp [hi]
theorem nx_cnt : ∀ j : Fin 32, (UInt32.ofNat j.val &&& Int32.toUInt32 31).toNat % 32 = j.val := by decide +kernel
theorem nx_ush {k j : Nat} (hk : k < 65536) (hj : j < 32) : ((nI k).toUInt32 >>> ((nI j).toUInt32 &&& Int32.toUInt32 31)).toInt32 = nI (k >>> j) := by
  have hs : k >>> j ≤ k := by
    rw [Nat.shiftRight_eq_div_pow]
    exact Nat.div_le_self _ _
  have e2 : UInt32.ofNat k >>> (UInt32.ofNat j &&& Int32.toUInt32 31) = UInt32.ofNat (k >>> j) := by
    apply UInt32.toNat_inj.1
    have h1 : (UInt32.ofNat k).toNat = k := Nat.mod_eq_of_lt (by omega)
    have h2 : (UInt32.ofNat (k >>> j)).toNat = k >>> j := Nat.mod_eq_of_lt (by omega)
    rw [UInt32.toNat_shiftRight, nx_cnt ⟨j, hj⟩, h1, h2]
  show (UInt32.ofNat k >>> (UInt32.ofNat j &&& Int32.toUInt32 31)).toInt32 = _
  rw [e2]
  rfl
theorem nx_bit {k j : Nat} (hk : k < 65536) (hj : j < 16) : (((nI k).toUInt32 >>> ((nI j).toUInt32 &&& Int32.toUInt32 31)).toInt32 &&& 1) = 0 ↔ k.testBit j = false := by
  rw [nx_ush hk (by omega)]
  show nI (k >>> j) &&& nI 1 = 0 ↔ _
  rw [nx_and, Nat.and_one_is_mod, ← nI_0, nI_eq (by omega) (by omega), Nat.testBit_eq_decide_div_mod_eq, Nat.shiftRight_eq_div_pow, decide_eq_false_iff_not]
  generalize k / 2 ^ j = z
  omega
theorem nx_mod (k : Nat) : nI k &&& 65535 = nI (k % 65536) := by
  show nI k &&& nI 65535 = _
  rw [nx_and, show (65535 : Nat) = 2 ^ 16 - 1 from rfl, Nat.and_two_pow_sub_one_eq_mod]
theorem nx_m16 {k : Nat} (h : k < 65536) : nI k &&& 65535 = nI k := by rw [nx_mod, Nat.mod_eq_of_lt h]
theorem nx_mask (x : Int32) : ∃ k, k < 65536 ∧ x &&& 65535 = nI k := by
  have e : x = nI x.toBitVec.toNat := by
    apply Int32.toBitVec_inj.1
    show x.toBitVec = BitVec.ofNat 32 x.toBitVec.toNat
    simp
  refine ⟨x.toBitVec.toNat % 65536, Nat.mod_lt _ (by omega), ?_⟩
  rw [← nx_mod, ← e]
/-! ===== Int32 as a set of bits: test, set ===== -/
def nf_M (m : Int32) : Nat := 4294967296 - m.toBitVec.toNat
theorem nf_sh : ∀ l, l < 32 → ((1 : Int32) <<< (nI l &&& 31)).toBitVec = BitVec.twoPow 32 l := by decide +kernel
theorem nf_sl : ∀ l, l < 32 → (((nI l).toUInt32 &&& Int32.toUInt32 31).toBitVec % 32).toNat = l := by decide +kernel
theorem nf_tp : ∀ l, l < 32 → BitVec.twoPow 32 l ≠ 0#32 := by decide +kernel
theorem nf_bit (m : Int32) (l : Nat) (hl : l < 32) : ((m.toUInt32 >>> ((nI l).toUInt32 &&& Int32.toUInt32 31)).toInt32 &&& 1) = 0 ↔ (m &&& ((1 : Int32) <<< (nI l &&& 31))) = 0 := by
  have e : ((m.toUInt32 >>> ((nI l).toUInt32 &&& Int32.toUInt32 31)).toInt32).toBitVec = m.toBitVec >>> l := by
    show m.toBitVec >>> (((nI l).toUInt32 &&& Int32.toUInt32 31).toBitVec % 32) = m.toBitVec >>> l
    rw [BitVec.ushiftRight_eq', nf_sl l hl]
  rw [← Int32.toBitVec_inj, ← Int32.toBitVec_inj, Int32.toBitVec_and, Int32.toBitVec_and, nf_sh l hl, e, BitVec.and_twoPow]
  show (m.toBitVec >>> l &&& 1#32) = 0#32 ↔ _ = 0#32
  rw [BitVec.and_one_eq_setWidth_ofBool_getLsbD, BitVec.getLsbD_ushiftRight, Nat.add_zero]
  cases hb : m.toBitVec.getLsbD l
  · exact ⟨fun _ => by simp, fun _ => by decide⟩
  · exact ⟨fun z => absurd z (by decide), fun z => absurd ((if_pos rfl).symm.trans z) (nf_tp l hl)⟩
theorem nf_gr (m k : Int32) (h : m &&& k = 0) (hk : k ≠ 0) : nf_M (m ||| k) < nf_M m := by
  have hm := m.toBitVec.isLt
  have hm' := (m ||| k).toBitVec.isLt
  have h1 : m.toBitVec.toNat ≤ (m ||| k).toBitVec.toNat := by
    rw [Int32.toBitVec_or, BitVec.toNat_or]
    exact Nat.left_le_or
  have h2 : m.toBitVec.toNat ≠ (m ||| k).toBitVec.toNat := by
    intro e
    have e2 : m = m ||| k := Int32.toBitVec_inj.mp (BitVec.eq_of_toNat_eq e)
    apply hk
    apply Int32.toBitVec_inj.mp
    show k.toBitVec = 0#32
    apply BitVec.eq_of_getLsbD_eq
    intro i hi
    have a : m.toBitVec.getLsbD i = (m.toBitVec.getLsbD i || k.toBitVec.getLsbD i) := by rw [← BitVec.getLsbD_or, ← Int32.toBitVec_or, ← e2]
    have b : (m.toBitVec.getLsbD i && k.toBitVec.getLsbD i) = false := by
      rw [← BitVec.getLsbD_and, ← Int32.toBitVec_and, h]
      exact BitVec.getLsbD_zero
    rw [BitVec.getLsbD_zero]
    revert a b
    cases m.toBitVec.getLsbD i <;> cases k.toBitVec.getLsbD i <;> simp
  unfold nf_M
  omega
/-! ===== a byte read unsigned ===== -/
theorem bp_b (x : Int32) : x.toInt8.toInt32 &&& 255 = x &&& 255 := by
  apply Int32.toBitVec_inj.mp
  rw [Int32.toBitVec_and, Int32.toBitVec_and, Int8.toBitVec_toInt32, Int32.toBitVec_toInt8]
  apply BitVec.eq_of_getLsbD_eq
  intro i hi
  rw [BitVec.getLsbD_and, BitVec.getLsbD_and]
  have hm : ∀ i < 32, 8 ≤ i → (255 : Int32).toBitVec.getLsbD i = false := by decide
  rcases Nat.lt_or_ge i 8 with z | z
  · rw [BitVec.getLsbD_signExtend, BitVec.getLsbD_signExtend, if_pos z, if_pos hi]
    simp only [z, hi, decide_true, Bool.true_and]
  · rw [hm i hi z]; simp
/-! ===== the char cast and 65535 ===== -/
theorem em_w (v : Int32) : ∃ w : Nat, w < 65536 ∧ (v.toUInt32 % 65536).toInt32 = nI w ∧ v &&& 65535 = nI w := by
  have hr := lw_u16_r v
  have h0 : (0 : Int32).toInt = 0 := by decide
  obtain ⟨w, h1, h2⟩ := nI_of (x := lw_u16 v) (by rw [Int32.lt_iff_toInt_lt]; omega)
  have h3 : (v.toUInt32 % 65536).toInt32 = nI w := h2
  rw [h2, nI_toInt h1] at hr
  exact ⟨w, by omega, h3, by rw [← lg_i2c_mask, ← lg_i2c_nf, h3]⟩
/-! ===== Int64 as a set of bits: test, set, clear ===== -/
theorem ts_nf {x : Bool} (h : ¬ x = false) : x = true := by cases x <;> first | rfl | exact absurd rfl h
theorem ts_nt {x : Bool} (h : ¬ x = true) : x = false := by cases x <;> first | rfl | exact absurd rfl h
theorem ts_bit {w : Int64} {s : UInt64} {j : Nat} (hj : j < 64) (hs : s.toNat = j) : ((w.toUInt64 >>> s).toInt64 &&& 1) = 0 ↔ w.toBitVec.getLsbD j = false := by
  have e : (w.toUInt64 >>> s).toInt64.toBitVec = w.toBitVec >>> j := by
    apply BitVec.eq_of_toNat_eq
    show (w.toUInt64 >>> s).toNat = _
    rw [UInt64.toNat_shiftRight, hs, Nat.mod_eq_of_lt hj, BitVec.toNat_ushiftRight]
    rfl
  rw [← Int64.toBitVec_inj, Int64.toBitVec_and, e]
  show w.toBitVec >>> j &&& 1#64 = 0#64 ↔ _
  constructor
  · intro h
    have t := congrArg (fun x => x.getLsbD 0) h
    simpa using t
  · intro h
    apply BitVec.eq_of_getLsbD_eq
    intro i hi
    cases i with
    | zero => simp [h]
    | succ i => simp
theorem ts_or {w m : Int64} {j : Nat} (hj : j < 64) (hm : m.toBitVec = BitVec.twoPow 64 j) : (w ||| m) = w ↔ w.toBitVec.getLsbD j = true := by
  rw [← Int64.toBitVec_inj, Int64.toBitVec_or, hm]
  constructor
  · intro h
    have t := congrArg (fun x => x.getLsbD j) h
    simp only [BitVec.getLsbD_or, BitVec.getLsbD_twoPow] at t
    simpa [hj] using t.symm
  · intro h
    apply BitVec.eq_of_getLsbD_eq
    intro i hi
    rw [BitVec.getLsbD_or, BitVec.getLsbD_twoPow]
    by_cases e : j = i
    · subst e; rw [h, Bool.true_or]
    · simp [e]
theorem ts_and {w m : Int64} {j : Nat} (hj : j < 64) (hm : m.toBitVec = BitVec.twoPow 64 j) : (w &&& (m ^^^ (-1))) = w ↔ w.toBitVec.getLsbD j = false := by
  have ha : (-1 : Int64).toBitVec = BitVec.allOnes 64 := by decide
  rw [← Int64.toBitVec_inj, Int64.toBitVec_and, Int64.toBitVec_xor, hm, ha]
  constructor
  · intro h
    have t := congrArg (fun x => x.getLsbD j) h
    simp only [BitVec.getLsbD_and, BitVec.getLsbD_xor, BitVec.getLsbD_twoPow, BitVec.getLsbD_allOnes] at t
    simpa [hj] using t.symm
  · intro h
    apply BitVec.eq_of_getLsbD_eq
    intro i hi
    rw [BitVec.getLsbD_and, BitVec.getLsbD_xor, BitVec.getLsbD_twoPow, BitVec.getLsbD_allOnes]
    by_cases e : j = i
    · subst e; rw [h, Bool.false_and]
    · simp [e, hi]
/-! ===== lN n to 2^64: shifts, and, or, masks, one bit ===== -/
theorem wb_tb (n : Nat) : (lN n).toBitVec = BitVec.ofNat 64 n := rfl
theorem wb_inj {a b : Int64} (h : a.toBitVec = b.toBitVec) : a = b := Int64.toBitVec_inj.mp h
theorem wb_tn {n : Nat} (h : n < 2 ^ 64) : (lN n).toBitVec.toNat = n := by rw [wb_tb, BitVec.toNat_ofNat, Nat.mod_eq_of_lt h]
theorem wb_of (x : Int64) : ∃ n, n < 2 ^ 64 ∧ x = lN n := ⟨x.toBitVec.toNat, x.toBitVec.isLt, wb_inj (by rw [wb_tb]; simp)⟩
theorem wb_of32 (x : Int32) : ∃ n, n < 2 ^ 32 ∧ x = nI n := ⟨x.toBitVec.toNat, x.toBitVec.isLt, Int32.toBitVec_inj.mp (by show _ = BitVec.ofNat 32 _; simp)⟩
theorem wb_c : ∀ k, k < 64 → ((nI k).toInt64 &&& 63) = lN k := by decide +kernel
theorem wb_cu : ∀ k, k < 64 → ((nI k).toInt64.toUInt64 &&& Int64.toUInt64 63) = UInt64.ofNat k := by decide +kernel
theorem wb_sm : ∀ k, k < 64 → (BitVec.ofNat 64 k).smod 64 = BitVec.ofNat 64 k := by decide +kernel
theorem wb_pw {a b : Nat} (h : a ≤ b) : 2 ^ b = 2 ^ a * 2 ^ (b - a) := by rw [← Nat.pow_add]; congr 1; omega
theorem wb_lt2 {a b : Nat} (h : a < b) : 2 ^ a < 2 ^ b := Nat.pow_lt_pow_right (by decide) h
theorem wb_mod (n : Nat) : lN n = lN (n % 2 ^ 64) := wb_inj (by rw [wb_tb, wb_tb]; apply BitVec.eq_of_toNat_eq; rw [BitVec.toNat_ofNat, BitVec.toNat_ofNat, Nat.mod_mod])
theorem wb_shr {n k : Nat} (hn : n < 2 ^ 64) (hk : k < 64) : ((lN n).toUInt64 >>> ((nI k).toInt64.toUInt64 &&& Int64.toUInt64 63)).toInt64 = lN (n / 2 ^ k) := by
  rw [wb_cu k hk]
  apply wb_inj
  apply BitVec.eq_of_toNat_eq
  show ((lN n).toUInt64 >>> UInt64.ofNat k).toNat = (BitVec.ofNat 64 _).toNat
  have h1 : (UInt64.ofNat k).toNat = k := by
    show (BitVec.ofNat 64 k).toNat = k
    rw [BitVec.toNat_ofNat, Nat.mod_eq_of_lt (by omega)]
  have h2 : (lN n).toUInt64.toNat = n := wb_tn hn
  rw [UInt64.toNat_shiftRight, h1, h2, Nat.mod_eq_of_lt hk, Nat.shiftRight_eq_div_pow, BitVec.toNat_ofNat, Nat.mod_eq_of_lt (Nat.lt_of_le_of_lt (Nat.div_le_self _ _) hn)]
theorem wb_shl (n : Nat) {k : Nat} (hk : k < 64) : lN n <<< ((nI k).toInt64 &&& 63) = lN (n * 2 ^ k) := by
  rw [wb_c k hk]
  apply wb_inj
  rw [Int64.toBitVec_shiftLeft, wb_tb, wb_tb, wb_tb, wb_sm k hk]
  apply BitVec.eq_of_toNat_eq
  rw [BitVec.shiftLeft_eq', BitVec.toNat_shiftLeft, BitVec.toNat_ofNat, BitVec.toNat_ofNat, BitVec.toNat_ofNat, Nat.mod_eq_of_lt (show k < 2 ^ 64 by omega), Nat.shiftLeft_eq, Nat.mul_mod, Nat.mod_mod, ← Nat.mul_mod]
theorem wb_and {a b : Nat} (ha : a < 2 ^ 64) (hb : b < 2 ^ 64) : lN a &&& lN b = lN (a &&& b) := by
  apply wb_inj
  rw [Int64.toBitVec_and, wb_tb, wb_tb, wb_tb]
  apply BitVec.eq_of_toNat_eq
  rw [BitVec.toNat_and, BitVec.toNat_ofNat, BitVec.toNat_ofNat, BitVec.toNat_ofNat, Nat.mod_eq_of_lt ha, Nat.mod_eq_of_lt hb, Nat.mod_eq_of_lt (Nat.and_lt_two_pow _ hb)]
theorem wb_or {a b : Nat} (ha : a < 2 ^ 64) (hb : b < 2 ^ 64) : lN a ||| lN b = lN (a ||| b) := by
  apply wb_inj
  rw [Int64.toBitVec_or, wb_tb, wb_tb, wb_tb]
  apply BitVec.eq_of_toNat_eq
  rw [BitVec.toNat_or, BitVec.toNat_ofNat, BitVec.toNat_ofNat, BitVec.toNat_ofNat, Nat.mod_eq_of_lt ha, Nat.mod_eq_of_lt hb, Nat.mod_eq_of_lt (Nat.or_lt_two_pow ha hb)]
theorem wb_mask {n k : Nat} (hn : n < 2 ^ 64) (hk : k < 64) : lN n &&& lN (2 ^ k - 1) = lN (n % 2 ^ k) := by
  rw [wb_and hn (by have := wb_lt2 hk; omega), Nat.and_two_pow_sub_one_eq_mod]
theorem wb_a1 {n : Nat} (hn : n < 2 ^ 64) : lN n &&& 1 = lN (n % 2) := wb_mask (k := 1) hn (by decide)
theorem wb_bit {n k : Nat} (hn : n < 2 ^ 64) (hk : k < 64) : ((lN n).toUInt64 >>> ((nI k).toInt64.toUInt64 &&& Int64.toUInt64 63)).toInt64 &&& 1 = lN (n / 2 ^ k % 2) := by
  rw [wb_shr hn hk, wb_a1 (Nat.lt_of_le_of_lt (Nat.div_le_self _ _) hn)]
theorem wb_xor {q k : Nat} (hk : k < 63) (h : 2 ^ k ≤ q) (h2 : q < 2 ^ (k + 1)) : lN q ^^^ lN (2 ^ k) = lN (q - 2 ^ k) := by
  obtain ⟨r, rfl⟩ : ∃ r, q = 2 ^ k + r := ⟨q - 2 ^ k, by omega⟩
  have hr : r < 2 ^ k := by rw [Nat.pow_succ] at h2; omega
  have hx : (2 ^ k + r) ^^^ 2 ^ k = r := by
    apply Nat.eq_of_testBit_eq
    intro i
    rw [Nat.testBit_xor, Nat.testBit_two_pow]
    rcases Nat.lt_trichotomy i k with h | h | h
    · rw [Nat.testBit_two_pow_add_gt h]
      simp [show ¬ k = i by omega]
    · subst h
      rw [Nat.testBit_two_pow_add_eq]
      simp
    · have a1 : 2 ^ (k + 1) ≤ 2 ^ i := Nat.pow_le_pow_right (by decide) h
      rw [Nat.testBit_lt_two_pow (show 2 ^ k + r < 2 ^ i by omega), Nat.testBit_lt_two_pow (show r < 2 ^ i by omega)]
      simp [show ¬ k = i by omega]
  have b1 := wb_lt2 (show k + 1 < 64 by omega)
  have b2 := wb_lt2 (show k < 64 by omega)
  apply wb_inj
  rw [Int64.toBitVec_xor, wb_tb, wb_tb, wb_tb]
  apply BitVec.eq_of_toNat_eq
  rw [BitVec.toNat_xor, BitVec.toNat_ofNat, BitVec.toNat_ofNat, BitVec.toNat_ofNat, Nat.mod_eq_of_lt (by omega : 2 ^ k + r < 2 ^ 64), Nat.mod_eq_of_lt b2, hx, Nat.add_sub_cancel_left, Nat.mod_eq_of_lt (by omega)]
/-! ===== lN: masks, 'or' of parts that don't overlap is a sum ===== -/
theorem u_tn {n : Nat} (h : n < 2 ^ 64) : (UInt64.ofNat n).toNat = n := Nat.mod_eq_of_lt h
theorem g_and {a b c : Nat} (ha : a < 2 ^ 64) (hb : b < 2 ^ 64) (hc : a &&& b = c) : lN a &&& lN b = lN c := by
  subst hc
  have h : UInt64.ofNat a &&& UInt64.ofNat b = UInt64.ofNat (a &&& b) := UInt64.toNat_inj.mp (by rw [UInt64.toNat_and, u_tn ha, u_tn hb, u_tn (Nat.and_lt_two_pow a hb)])
  have h2 := congrArg UInt64.toInt64 h
  exact h2
theorem g_and1 {a : Nat} (ha : a < 2 ^ 64) : lN a &&& 1 = lN (a % 2) := g_and (b := 1) ha (by decide) (Nat.and_two_pow_sub_one_eq_mod a 1)
theorem g_mask {a s p : Nat} (hp : 2 ^ s = p) (hs : s < 64) (ha : a < 2 ^ 64) : lN a &&& lN (p - 1) = lN (a % p) := by
  subst hp
  have := Nat.pow_lt_pow_right (show 1 < 2 by decide) hs
  exact g_and ha (by omega) (Nat.and_two_pow_sub_one_eq_mod a s)
theorem g_or {k p a b : Nat} (hp : 2 ^ k = p) (ha : a < p) (h : b * p + a < 2 ^ 64) : lN (b * p) ||| lN a = lN (b * p + a) := by
  subst hp
  have h1 : b * 2 ^ k ||| a = b * 2 ^ k + a := by rw [← Nat.shiftLeft_eq, Nat.shiftLeft_add_eq_or_of_lt ha]
  have h3 : UInt64.ofNat (b * 2 ^ k) ||| UInt64.ofNat a = UInt64.ofNat (b * 2 ^ k + a) := UInt64.toNat_inj.mp (by rw [UInt64.toNat_or, u_tn (by omega), u_tn (by omega), u_tn h, h1])
  have h2 := congrArg UInt64.toInt64 h3
  exact h2
theorem g_or' {k p a b : Nat} (hp : 2 ^ k = p) (ha : a < p) (h : a + b * p < 2 ^ 64) : lN a ||| lN (b * p) = lN (a + b * p) := by
  rw [Int64.or_comm, g_or hp ha (by omega), Nat.add_comm]
theorem g_ushr {a k p : Nat} {y : UInt64} (hy : y = UInt64.ofNat k) (hk : k < 64) (hp : 2 ^ k = p) (ha : a < 2 ^ 64) : ((lN a).toUInt64 >>> y).toInt64 = lN (a / p) := by
  subst hy hp
  have h : UInt64.ofNat a >>> UInt64.ofNat k = UInt64.ofNat (a / 2 ^ k) := UInt64.toNat_inj.mp (by rw [UInt64.toNat_shiftRight, u_tn ha, u_tn (by omega), u_tn (Nat.lt_of_le_of_lt (Nat.div_le_self _ _) ha), Nat.mod_eq_of_lt hk, Nat.shiftRight_eq_div_pow])
  have h2 := congrArg UInt64.toInt64 h
  exact h2
theorem g_shl {a k p : Nat} {y : Int64} (hy : y.toBitVec.smod 64 = BitVec.ofNat 64 k) (hk : k < 64) (hp : 2 ^ k = p) (ha : a < 2 ^ 64) : lN a <<< y = lN (a * p) := by
  subst hp
  apply Int64.toBitVec_inj.mp
  rw [Int64.toBitVec_shiftLeft, hy]
  apply BitVec.eq_of_toNat_eq
  have hb : (lN a).toBitVec.toNat = a := Nat.mod_eq_of_lt ha
  have hk' : (BitVec.ofNat 64 k).toNat = k := Nat.mod_eq_of_lt (by omega)
  have h : ((lN a).toBitVec <<< BitVec.ofNat 64 k).toNat = (a * 2 ^ k) % 2 ^ 64 := by simp only [BitVec.shiftLeft_eq', BitVec.toNat_shiftLeft, hb, hk', Nat.shiftLeft_eq]
  exact h
/-! ===== lN to 2^62 under >> and >>> ===== -/
theorem pf_lI {a : Nat} (h : a < 2 ^ 63) : (lN a).toInt = (a : Int) := lg_ofNat_toInt h
theorem pf_shr {a d : Nat} {D : Int64} (hD : (D.toBitVec.smod 64).toNat = d) (h : a < 2 ^ 62) : lN a >>> D = lN (a / 2 ^ d) := by
  have hd : a / 2 ^ d ≤ a := Nat.div_le_self _ _
  apply Int64.toInt_inj.mp
  have e : (lN a >>> D).toInt = (lN a).toInt >>> d := by
    rw [← hD]
    exact BitVec.toInt_sshiftRight ..
  rw [e, Int.shiftRight_eq_div_pow, pf_lI (by omega), pf_lI (by omega)]
  rfl
theorem pf_ushr {a d : Nat} {D : UInt64} (hD : D.toNat % 64 = d) (h : a < 2 ^ 62) : ((lN a).toUInt64 >>> D).toInt64 = lN (a / 2 ^ d) := by
  have hd : a / 2 ^ d ≤ a := Nat.div_le_self _ _
  have e : (lN a).toUInt64 >>> D = UInt64.ofNat (a / 2 ^ d) := UInt64.toNat_inj.mp (by
    rw [UInt64.toNat_shiftRight, hD, Nat.shiftRight_eq_div_pow, UInt64.toNat_ofNat']
    show (UInt64.ofNat a).toNat / 2 ^ d = _
    rw [UInt64.toNat_ofNat', Nat.mod_eq_of_lt (by omega), Nat.mod_eq_of_lt (by omega)])
  rw [e]
  rfl
theorem pf_andw (x : Int64) : ∃ m, m < 2 ^ 32 ∧ x &&& 4294967295 = lN m := ⟨x.toBitVec.toNat % 2 ^ 32, Nat.mod_lt _ (by decide), Int64.toBitVec_inj.mp (BitVec.eq_of_toNat_eq (by
  show (x.toBitVec &&& 4294967295#64).toNat = (BitVec.ofNat 64 (x.toBitVec.toNat % 2 ^ 32)).toNat
  rw [BitVec.toNat_and, show (4294967295#64).toNat = 2 ^ 32 - 1 from by decide, Nat.and_two_pow_sub_one_eq_mod, BitVec.toNat_ofNat]
  omega))⟩
/-! ===== Int64 as an unsigned number: uN x ===== -/
def uN (x : Int64) : Nat := x.toUInt64.toNat
theorem uN_lt (x : Int64) : uN x < 18446744073709551616 := x.toUInt64.toNat_lt
theorem uN_inj {x y : Int64} (h : uN x = uN y) : x = y := congrArg UInt64.toInt64 (UInt64.toNat_inj.mp h)
theorem uN_add (x y : Int64) : uN (x + y) = (uN x + uN y) % 18446744073709551616 := by
  show (x.toUInt64 + y.toUInt64).toNat = _
  exact UInt64.toNat_add _ _
theorem uN_mul (x y : Int64) : uN (x * y) = (uN x * uN y) % 18446744073709551616 := by
  show (x.toUInt64 * y.toUInt64).toNat = _
  exact UInt64.toNat_mul _ _
theorem uN_shl (x : Int64) : uN (x <<< ((1 : Int32).toInt64 &&& 63)) = (2 * uN x) % 18446744073709551616 := by
  have h : (((1 : Int32).toInt64 &&& 63).toBitVec.smod 64).toNat = 1 := by decide
  show (x.toBitVec <<< (((1 : Int32).toInt64 &&& 63).toBitVec.smod 64).toNat).toNat = _
  rw [h, BitVec.toNat_shiftLeft, Nat.shiftLeft_eq, Nat.mul_comm]
  rfl
theorem uN_shr (x : Int64) (s : UInt64) : uN (x.toUInt64 >>> s).toInt64 = uN x / 2 ^ (s.toNat % 64) := by
  show (x.toUInt64 >>> s).toNat = _
  rw [UInt64.toNat_shiftRight, Nat.shiftRight_eq_div_pow]
  rfl
theorem uN_s32 (x : Int64) : uN (x.toUInt64 >>> ((32 : Int32).toInt64.toUInt64 &&& Int64.toUInt64 63)).toInt64 = uN x / 4294967296 := by
  have h : ((32 : Int32).toInt64.toUInt64 &&& Int64.toUInt64 63).toNat % 64 = 32 := by decide
  rw [uN_shr, h]
theorem uN_s63 (x : Int64) : uN (x.toUInt64 >>> ((63 : Int32).toInt64.toUInt64 &&& Int64.toUInt64 63)).toInt64 = uN x / 9223372036854775808 := by
  have h : ((63 : Int32).toInt64.toUInt64 &&& Int64.toUInt64 63).toNat % 64 = 63 := by decide
  rw [uN_shr, h]
theorem uN_lo (x : Int64) : uN (x &&& 4294967295) = uN x % 4294967296 := by
  show (x.toUInt64 &&& Int64.toUInt64 4294967295).toNat = _
  rw [UInt64.toNat_and]
  exact Nat.and_two_pow_sub_one_eq_mod _ 32
theorem uN_bit (x : Int64) : (x &&& 1) = 0 ↔ uN x % 2 = 0 := by
  have h : uN (x &&& 1) = uN x % 2 := by
    show (x.toUInt64 &&& Int64.toUInt64 1).toNat = _
    rw [UInt64.toNat_and]
    exact Nat.and_two_pow_sub_one_eq_mod _ 1
  rw [← h]
  exact ⟨fun z => by rw [z]; rfl, fun z => uN_inj (z.trans rfl)⟩
theorem uN_or {x y : Int64} (hy : uN y < 2) : uN ((x <<< ((1 : Int32).toInt64 &&& 63)) ||| y) = (2 * uN x) % 18446744073709551616 + uN y := by
  have h1 : uN ((x <<< ((1 : Int32).toInt64 &&& 63)) ||| y) = uN (x <<< ((1 : Int32).toInt64 &&& 63)) ||| uN y := UInt64.toNat_or _ _
  have h2 : (2 * uN x) % 18446744073709551616 = 2 ^ 1 * (uN x % 9223372036854775808) := by omega
  rw [h1, uN_shl, h2]
  exact (Nat.two_pow_add_eq_or_of_lt (i := 1) hy _).symm
theorem nat_xor {a : Nat} (h : a < 18446744073709551616) : a ^^^ 2 ^ 63 = (a + 9223372036854775808) % 18446744073709551616 := by
  have h1 : (a ^^^ 2 ^ 63) % 2 ^ 63 = a % 2 ^ 63 := by rw [Nat.xor_mod_two_pow, Nat.mod_self, Nat.xor_zero]
  have h2 : (a ^^^ 2 ^ 63) / 2 ^ 63 = (a / 2 ^ 63) ^^^ 1 := by rw [Nat.xor_div_two_pow, Nat.div_self (Nat.two_pow_pos 63)]
  have h3 : a / 2 ^ 63 = 0 ∨ a / 2 ^ 63 = 1 := by omega
  generalize a ^^^ 2 ^ 63 = t at h1 h2
  rcases h3 with h3 | h3
  · rw [h3] at h2
    have h2 : t / 2 ^ 63 = 1 := h2
    omega
  · rw [h3] at h2
    have h2 : t / 2 ^ 63 = 0 := h2
    omega
theorem uN_xor (x : Int64) : uN (x ^^^ (-9223372036854775808)) = (uN x + 9223372036854775808) % 18446744073709551616 := by
  rw [← nat_xor (uN_lt x)]
  exact UInt64.toNat_xor _ _
theorem uN_int (x : Int64) : x.toInt = if 2 * uN x < 18446744073709551616 then (uN x : Int) else (uN x : Int) - 18446744073709551616 := BitVec.toInt_eq_toNat_cond _
theorem uN_le (x y : Int64) : (x ^^^ (-9223372036854775808)) ≤ (y ^^^ (-9223372036854775808)) ↔ uN x ≤ uN y := by
  have hx := uN_lt x
  have hy := uN_lt y
  rw [Int64.le_iff_toInt_le, uN_int, uN_int, uN_xor, uN_xor]
  omega
theorem uN_sk (x : Int64) {k : Nat} (hk : k < 64) : uN (x.toUInt64 >>> ((nI k).toInt64.toUInt64 &&& Int64.toUInt64 63)).toInt64 = uN x / 2 ^ k := by
  have h : ((nI k).toInt64.toUInt64 &&& Int64.toUInt64 63).toNat % 64 = k := by
    rw [nI_l (by omega), UInt64.toNat_and]
    have e : (lN k).toUInt64.toNat = k % 2 ^ 64 := rfl
    have e2 : (Int64.toUInt64 63).toNat = 2 ^ 6 - 1 := by decide
    rw [e, e2, Nat.and_two_pow_sub_one_eq_mod]
    omega
  rw [uN_shr, h]
/-! ===== unsigned comparison by xor with the least ===== -/
theorem lN_bv (n : Nat) : (lN n).toBitVec = BitVec.ofNat 64 n := rfl
theorem lN_nat {n : Nat} (h : n < 2 ^ 64) : (lN n).toBitVec.toNat = n := by rw [lN_bv, BitVec.toNat_ofNat]; exact Nat.mod_eq_of_lt h
theorem lN_xor (a b : Nat) : lN a ^^^ lN b = lN (a ^^^ b) := by
  apply Int64.toBitVec_inj.mp; rw [Int64.toBitVec_xor, lN_bv, lN_bv, lN_bv]; apply BitVec.eq_of_getLsbD_eq; intro i hi; simp [BitVec.getLsbD_ofNat, Nat.testBit_xor, hi]
theorem lN_ti {m : Nat} (h : m < 2 ^ 64) : (lN m).toInt = if m < 2 ^ 63 then (m : Int) else (m : Int) - 2 ^ 64 := by
  have c := BitVec.toInt_eq_toNat_cond (lN m).toBitVec
  rw [lN_nat h] at c
  show (lN m).toBitVec.toInt = _
  rw [c]
  split <;> split <;> omega
theorem xor63 {x : Nat} (h : x < 2 ^ 63) : x ^^^ 2 ^ 63 = 2 ^ 63 + x := by
  apply Nat.eq_of_testBit_eq
  intro i
  rw [Nat.testBit_xor, Nat.testBit_two_pow]
  rcases Nat.lt_trichotomy i 63 with z | z | z
  · rw [Nat.testBit_two_pow_add_gt z, decide_eq_false (by omega)]; simp
  · subst z; rw [Nat.testBit_two_pow_add_eq]; simp
  · have hp : 2 ^ 64 ≤ 2 ^ i := Nat.pow_le_pow_right (by decide) z
    rw [Nat.testBit_lt_two_pow (show x < 2 ^ i by omega), Nat.testBit_lt_two_pow (show 2 ^ 63 + x < 2 ^ i by omega), decide_eq_false (by omega)]; rfl
theorem xorS {a : Nat} (h : a < 2 ^ 64) : (lN a ^^^ (-9223372036854775808)).toInt = (a : Int) - 2 ^ 63 := by
  rw [show (-9223372036854775808 : Int64) = lN (2 ^ 63) from by decide +kernel, lN_xor]
  rcases Nat.lt_or_ge a (2 ^ 63) with z | z
  · rw [xor63 z, lN_ti (by omega), if_neg (by omega)]; omega
  · obtain ⟨x, rfl⟩ : ∃ x, a = 2 ^ 63 + x := ⟨a - 2 ^ 63, by omega⟩
    rw [← xor63 (by omega), Nat.xor_assoc, Nat.xor_self, Nat.xor_zero, lN_ti (by omega), if_pos (by omega), xor63 (by omega)]; omega
theorem ultL {a b : Nat} (ha : a < 2 ^ 64) (hb : b < 2 ^ 64) : ((lN b ^^^ (-9223372036854775808)) ≤ (lN a ^^^ (-9223372036854775808))) ↔ b ≤ a := by
  rw [Int64.le_iff_toInt_le, xorS ha, xorS hb]; omega
/-! ===== Int64 masks of n low bits ===== -/
theorem cr_bits (W U M : BitVec 64) : ((W &&& U) &&& (U &&& (M ^^^ BitVec.allOnes 64))) = 0#64 ↔ (W &&& U) &&& M = W &&& U := by
  constructor
  · intro h
    apply BitVec.eq_of_getLsbD_eq
    intro i hi
    have e := congrArg (fun x => BitVec.getLsbD x i) h
    simp only [BitVec.getLsbD_and, BitVec.getLsbD_xor, BitVec.getLsbD_allOnes, BitVec.getLsbD_zero, hi, decide_true] at e ⊢
    revert e
    cases W.getLsbD i <;> cases U.getLsbD i <;> cases M.getLsbD i <;> decide
  · intro h
    apply BitVec.eq_of_getLsbD_eq
    intro i hi
    have e := congrArg (fun x => BitVec.getLsbD x i) h
    simp only [BitVec.getLsbD_and, BitVec.getLsbD_xor, BitVec.getLsbD_allOnes, BitVec.getLsbD_zero, hi, decide_true] at e ⊢
    revert e
    cases W.getLsbD i <;> cases U.getLsbD i <;> cases M.getLsbD i <;> decide
theorem cr_mask (w U m : Int64) (n : Nat) (hm : m.toBitVec.toNat = 2 ^ n - 1) : ((w &&& U) &&& (U &&& (m ^^^ (-1)))) = 0 ↔ (w &&& U).toBitVec.toNat < 2 ^ n := by
  have e0 : (-1 : Int64).toBitVec = BitVec.allOnes 64 := by decide
  have z0 : (0 : Int64).toBitVec = 0#64 := by decide
  rw [← Int64.toBitVec_inj, z0, Int64.toBitVec_and, Int64.toBitVec_and, Int64.toBitVec_and, Int64.toBitVec_xor, e0, cr_bits]
  generalize w.toBitVec &&& U.toBitVec = T
  rw [← BitVec.toNat_inj, BitVec.toNat_and, hm, Nat.and_two_pow_sub_one_eq_mod]
  constructor
  · intro h
    have t := Nat.mod_lt T.toNat (Nat.two_pow_pos n)
    rw [h] at t
    exact t
  · exact Nat.mod_eq_of_lt
theorem cr_shr (t : Int64) (x : UInt64) (n : Nat) (hx : x.toNat % 64 = n) : (t.toUInt64 >>> x).toInt64 = 0 ↔ t.toBitVec.toNat < 2 ^ n := by
  rw [← Int64.toBitVec_inj, ← BitVec.toNat_inj]
  show (t.toUInt64 >>> x).toNat = 0 ↔ t.toUInt64.toNat < 2 ^ n
  rw [UInt64.toNat_shiftRight, hx, Nat.shiftRight_eq_div_pow]
  constructor
  · intro h
    have d : t.toUInt64.toNat / 2 ^ n < 1 := by
      rw [h]
      decide
    have e := (Nat.div_lt_iff_lt_mul (Nat.two_pow_pos n)).mp d
    rw [Nat.one_mul] at e
    exact e
  · exact Nat.div_eq_of_lt
theorem cr_amt (s : Int64) : ∃ n, n < 64 ∧ s &&& 63 = lN n ∧ (s.toUInt64 &&& Int64.toUInt64 63).toNat % 64 = n := by
  have e : (s.toUInt64 &&& Int64.toUInt64 63).toNat = s.toUInt64.toNat % 2 ^ 6 := by
    rw [UInt64.toNat_and, show (Int64.toUInt64 63).toNat = 2 ^ 6 - 1 from by decide, Nat.and_two_pow_sub_one_eq_mod]
  refine ⟨s.toUInt64.toNat % 2 ^ 6, by omega, ?_, by omega⟩
  rw [← Int64.toBitVec_inj, ← BitVec.toNat_inj]
  show (s.toUInt64 &&& Int64.toUInt64 63).toNat = (BitVec.ofNat 64 (s.toUInt64.toNat % 2 ^ 6)).toNat
  rw [e, BitVec.toNat_ofNat]
  omega
end
section
/-! the pile machine as a pure function: piles are lists, top first -/
def mr_Rp (f : Nat → Int32) : List Int32 → Prop
  | [] => True
  | v :: l => f l.length = v ∧ mr_Rp f l
theorem mr_Rp_upd {f : Nat → Int32} {k : Nat} {x : Int32} : ∀ {l : List Int32}, l.length ≤ k → mr_Rp f l → mr_Rp (upd f k x) l
  | [], _, _ => trivial
  | v :: l, hk, h => by
    have hk' : l.length + 1 ≤ k := hk
    exact And.intro ((pk_un (by omega)).trans h.1) (mr_Rp_upd (by omega) h.2)
theorem mr_Rp_cong {f g : Nat → Int32} : ∀ {l : List Int32}, (∀ i, i < l.length → g i = f i) → mr_Rp f l → mr_Rp g l
  | [], _, _ => trivial
  | v :: l, e, h => And.intro ((e l.length (Nat.lt_succ_self _)).trans h.1) (mr_Rp_cong (fun i hi => e i (Nat.lt_succ_of_lt hi)) h.2)
theorem mr_Rp_push {f : Nat → Int32} {l : List Int32} (v : Int32) (h : mr_Rp f l) : mr_Rp (upd f l.length v) (v :: l) :=
  And.intro pk_us (mr_Rp_upd (Nat.le_refl _) h)
def mr_in1 (v : Int32) : Prop := ¬ v < -1000 ∧ v ≤ 1000
def mr_ok (l : List Int32) : Prop := l.length ≤ 6 ∧ ∀ v, v ∈ l → mr_in1 v
theorem mr_ok_nil : mr_ok [] := ⟨by decide, fun v hv => by cases hv⟩
theorem mr_ok_tl {v : Int32} {l : List Int32} (h : mr_ok (v :: l)) : mr_ok l :=
  ⟨Nat.le_trans (Nat.le_succ _) h.1, fun w hw => h.2 w (List.mem_cons_of_mem _ hw)⟩
theorem mr_ok_hd {v : Int32} {l : List Int32} (h : mr_ok (v :: l)) : mr_in1 v := h.2 v List.mem_cons_self
theorem mr_ok_cons {v : Int32} {l : List Int32} (hl : l.length < 6) (hv : mr_in1 v) (h : mr_ok l) : mr_ok (v :: l) :=
  ⟨hl, fun w hw => by
    rcases List.mem_cons.mp hw with e | e
    · rw [e]; exact hv
    · exact h.2 w e⟩
def mr_push (v : Int32) (l : List Int32) : Option (List Int32) :=
  if l.length = 6 then none else if v < -1000 then none else if v ≤ 1000 then some (v :: l) else none
theorem mr_push_ok {v : Int32} {l : List Int32} (h : mr_ok l) (e : mr_push v l = some (v :: l)) : mr_ok (v :: l) := by
  unfold mr_push at e
  have h6 := h.1
  by_cases c0 : l.length = 6
  · rw [if_pos c0] at e; cases e
  · rw [if_neg c0] at e
    by_cases c1 : v < -1000
    · rw [if_pos c1] at e; cases e
    · rw [if_neg c1] at e
      by_cases c2 : v ≤ 1000
      · exact mr_ok_cons (by omega) ⟨c1, c2⟩ h
      · rw [if_neg c2] at e; cases e
theorem mr_push_in {v : Int32} {l : List Int32} (hl : l.length < 6) (hv : mr_in1 v) : mr_push v l = some (v :: l) := by
  unfold mr_push
  rw [if_neg (by omega), if_neg hv.1, if_pos hv.2]
def mr_comb (o x y : Int32) : Int32 := if o = 2 then x + y else if o = 3 then x - y else if o = 4 then x * y else if y ≤ x then 0 else 1
def mr_mv (q : Nat) : Option (List Int32) → Option (Nat × List Int32)
  | none => none
  | some l => some (q, l)
def mr_two (o : Int32) (p : Nat) : List Int32 → Option (Nat × List Int32)
  | [] => none
  | [_] => none
  | y :: x :: l => mr_mv (p + 1) (mr_push (mr_comb o x y) l)
def mr_dup (p : Nat) : List Int32 → Option (Nat × List Int32)
  | [] => none
  | y :: l => mr_mv (p + 1) (mr_push y (y :: l))
def mr_swp (p : Nat) : List Int32 → Option (Nat × List Int32)
  | [] => none
  | [_] => none
  | y :: x :: l => some (p + 1, x :: y :: l)
def mr_skp (n : Int32) (p : Nat) : List Int32 → Option (Nat × List Int32)
  | [] => none
  | t :: l => if t = 0 then some (p + 1, l) else some (p + 1 + n.toNatClampNeg, l)
def mr_bck (n : Int32) (p : Nat) : List Int32 → Option (Nat × List Int32)
  | [] => none
  | t :: l => if t ≤ 0 then some (p + 1, l) else some (n.toNatClampNeg, l)
/-- one instruction o n at place p over the pile l: none is a trap -/
def mr_step (o n inp : Int32) (p : Nat) (l : List Int32) : Option (Nat × List Int32) :=
  if o = 0 then mr_mv (p + 1) (mr_push n l)
  else if o = 1 then mr_mv (p + 1) (mr_push inp l)
  else if o ≤ 5 then mr_two o p l
  else if o = 6 then mr_dup p l
  else if o = 7 then mr_swp p l
  else if o = 8 then mr_skp n p l
  else mr_bck n p l
def mr_ar (o : Int32) : Prop := o = 2 ∨ o = 3 ∨ o = 4 ∨ o = 5
def mr_V (o n : Int32) : Prop := o = 0 ∨ o = 1 ∨ mr_ar o ∨ o = 6 ∨ o = 7 ∨ (o = 8 ∧ ∃ j : Nat, j ≤ 3 ∧ n = nI j) ∨ (o = 9 ∧ ∃ j : Nat, j ≤ 9 ∧ n = nI j)
theorem mr_ar_f {o : Int32} (h : mr_ar o) : ¬ o = 0 ∧ ¬ o = 1 ∧ ¬ 5 < o ∧ o ≤ 5 ∧ 2 ≤ o ∧ ¬ 6 ≤ o ∧ ¬ o = 8 ∧ ¬ o = 9 ∧ ¬ o < 2 := by
  rcases h with rfl | rfl | rfl | rfl <;> decide
theorem mr_step0 (n inp : Int32) (p : Nat) (l : List Int32) : mr_step 0 n inp p l = mr_mv (p + 1) (mr_push n l) := if_pos rfl
theorem mr_step1 (n inp : Int32) (p : Nat) (l : List Int32) : mr_step 1 n inp p l = mr_mv (p + 1) (mr_push inp l) := by
  unfold mr_step; rw [if_neg (by decide), if_pos rfl]
theorem mr_step2 {o : Int32} (h : mr_ar o) (n inp : Int32) (p : Nat) (l : List Int32) : mr_step o n inp p l = mr_two o p l := by
  obtain ⟨h0, h1, -, h5, -⟩ := mr_ar_f h
  unfold mr_step; rw [if_neg h0, if_neg h1, if_pos h5]
theorem mr_step6 (n inp : Int32) (p : Nat) (l : List Int32) : mr_step 6 n inp p l = mr_dup p l := by
  unfold mr_step; rw [if_neg (by decide), if_neg (by decide), if_neg (by decide), if_pos rfl]
theorem mr_step7 (n inp : Int32) (p : Nat) (l : List Int32) : mr_step 7 n inp p l = mr_swp p l := by
  unfold mr_step; rw [if_neg (by decide), if_neg (by decide), if_neg (by decide), if_neg (by decide), if_pos rfl]
theorem mr_step8 (n inp : Int32) (p : Nat) (l : List Int32) : mr_step 8 n inp p l = mr_skp n p l := by
  unfold mr_step; rw [if_neg (by decide), if_neg (by decide), if_neg (by decide), if_neg (by decide), if_neg (by decide), if_pos rfl]
theorem mr_step9 (n inp : Int32) (p : Nat) (l : List Int32) : mr_step 9 n inp p l = mr_bck n p l := by
  unfold mr_step; rw [if_neg (by decide), if_neg (by decide), if_neg (by decide), if_neg (by decide), if_neg (by decide), if_neg (by decide)]
def mr_top : List Int32 → Int32
  | [] => 10003
  | v :: _ => v
def mr_nx (F : Nat → List Int32 → Int32) : Option (Nat × List Int32) → Int32
  | none => 10001
  | some a => F a.1 a.2
def mr_run (op num : Nat → Int32) (sz : Nat) (inp : Int32) : Nat → Nat → List Int32 → Int32
  | 0 => fun p l => if sz ≤ p then mr_top l else 10002
  | k + 1 => fun p l => if sz ≤ p then mr_top l else mr_nx (mr_run op num sz inp k) (mr_step (op p) (num p) inp p l)
theorem mr_run_end {op num : Nat → Int32} {sz : Nat} {inp : Int32} {p : Nat} {l : List Int32} (h : sz ≤ p) : ∀ k, mr_run op num sz inp k p l = mr_top l
  | 0 => if_pos h
  | _ + 1 => if_pos h
theorem mr_run_tired {op num : Nat → Int32} {sz : Nat} {inp : Int32} {p : Nat} {l : List Int32} (h : ¬ sz ≤ p) : mr_run op num sz inp 0 p l = 10002 := if_neg h
theorem mr_run_step {op num : Nat → Int32} {sz : Nat} {inp : Int32} {k p : Nat} {l : List Int32} (h : ¬ sz ≤ p) : mr_run op num sz inp (k + 1) p l = mr_nx (mr_run op num sz inp k) (mr_step (op p) (num p) inp p l) := if_neg h
theorem mr_run_none {op num : Nat → Int32} {sz : Nat} {inp : Int32} {k p : Nat} {l : List Int32} (h : ¬ sz ≤ p) (e : mr_step (op p) (num p) inp p l = none) : mr_run op num sz inp (k + 1) p l = 10001 := by
  rw [mr_run_step h, e]; rfl
theorem mr_run_some {op num : Nat → Int32} {sz : Nat} {inp : Int32} {k p q : Nat} {l l' : List Int32} (h : ¬ sz ≤ p) (e : mr_step (op p) (num p) inp p l = some (q, l')) : mr_run op num sz inp (k + 1) p l = mr_run op num sz inp k q l' := by
  rw [mr_run_step h, e]; rfl
/-- the code that is run: at the place ch (an int, -1: nowhere) the changed instruction -/
def mr_Eff (ch co cn : Int32) (op num eo en : Nat → Int32) : Prop := ∀ p : Nat, p < 10 → (nI p = ch → co = eo p ∧ cn = en p) ∧ (¬ nI p = ch → op p = eo p ∧ num p = en p)
theorem mr_Eff_m1 (co cn : Int32) (op num : Nat → Int32) : mr_Eff (-1) co cn op num op num := by
  intro p hp
  refine ⟨fun e => ?_, fun _ => ⟨rfl, rfl⟩⟩
  exact absurd e ((by decide +kernel : ∀ p : Nat, p < 10 → ¬ nI p = -1) p hp)
theorem mr_Eff_ch {i : Nat} (hi : i < 10) (co cn : Int32) (op num : Nat → Int32) : mr_Eff (nI i) co cn op num (upd op i co) (upd num i cn) := by
  intro p hp
  refine ⟨fun e => ?_, fun e => ?_⟩
  · rw [nI_eq (by omega) (by omega)] at e
    subst e
    exact ⟨pk_us.symm, pk_us.symm⟩
  · rw [nI_eq (by omega) (by omega)] at e
    exact ⟨(pk_un e).symm, (pk_un e).symm⟩
theorem mr_m2 (k : Nat) : nI (k + 2) - 2 = nI k := pk_sub (a := k + 2) (b := 2) (by omega)
theorem mr_c1 {k : Nat} (h : k < 100) : (nI (k + 1) - 1).toNatClampNeg = k := by rw [nI_pred, nI_clamp (by omega)]
theorem mr_c2 {k : Nat} (h : k < 100) : (nI (k + 2) - 2).toNatClampNeg = k := by rw [mr_m2, nI_clamp (by omega)]
theorem mr_i1 {k : Nat} (h : k < 6) : vp_in (nI (k + 1) - 1) 6 := by rw [nI_pred]; exact vp_in_nI h (by omega)
theorem mr_i2 {k : Nat} (h : k < 6) : vp_in (nI (k + 2) - 2) 6 := by rw [mr_m2]; exact vp_in_nI h (by omega)
end
section
section
variable {f_size f_trials f_ready f_mutants f_place f_done f_height f_input f_trapped f_changed f_changedOp f_changedNumber : Int32} {a_op a_number a_trial a_at a_newOp a_newNumber a_told a_usual a_pile a_seen a_seenDone a_seenHeight a_seenPile : Nat → Int32}
variable {P : SX → Prop} {l : List Int32} {p d : Nat} {n : Int32}
theorem mr_xput (v : Int32) (hl : l.length ≤ 6)
    (h0 : mr_push v l = none → P (f_size, f_trials, f_ready, f_mutants, f_place, f_done, nI l.length, f_input, 1, f_changed, f_changedOp, f_changedNumber, a_op, a_number, a_trial, a_at, a_newOp, a_newNumber, a_told, a_usual, a_pile, a_seen, a_seenDone, a_seenHeight, a_seenPile))
    (h1 : mr_push v l = some (v :: l) → P (f_size, f_trials, f_ready, f_mutants, f_place, f_done, nI (l.length + 1), f_input, f_trapped, f_changed, f_changedOp, f_changedNumber, a_op, a_number, a_trial, a_at, a_newOp, a_newNumber, a_told, a_usual, upd a_pile l.length v, a_seen, a_seenDone, a_seenHeight, a_seenPile)) :
    wpX_put P (f_size, f_trials, f_ready, f_mutants, f_place, f_done, nI l.length, f_input, f_trapped, f_changed, f_changedOp, f_changedNumber, a_op, a_number, a_trial, a_at, a_newOp, a_newNumber, a_told, a_usual, a_pile, a_seen, a_seenDone, a_seenHeight, a_seenPile) v := by
  refine pk_eq l.length 6 (fun e => h0 (if_pos e)) (fun e => ?_)
  by_cases c1 : v < -1000
  · exact br_t c1 (h0 (by unfold mr_push; rw [if_neg e, if_pos c1]))
  · refine br_f c1 ?_
    by_cases c2 : v ≤ 1000
    · exact br_t c2 (And.intro (vp_in_nI (by omega) (by omega)) (nm_r (e' := upd a_pile l.length v) (by rw [nI_clamp (by omega)]) (nm_r (nI_1 l.length) (h1 (by unfold mr_push; rw [if_neg e, if_neg c1, if_pos c2])))))
    · exact br_f c2 (h0 (by unfold mr_push; rw [if_neg e, if_neg c1, if_neg c2]))
theorem mr_xcomb {Q : Int32 → Prop} (o x y : Int32) (h : Q (mr_comb o x y)) : wpX_combined Q (f_size, f_trials, f_ready, f_mutants, f_place, f_done, f_height, f_input, f_trapped, f_changed, f_changedOp, f_changedNumber, a_op, a_number, a_trial, a_at, a_newOp, a_newNumber, a_told, a_usual, a_pile, a_seen, a_seenDone, a_seenHeight, a_seenPile) o x y := by
  unfold mr_comb at h
  by_cases c2 : o = 2
  · rw [if_pos c2] at h; exact br_t c2 h
  · rw [if_neg c2] at h
    refine br_f c2 ?_
    by_cases c3 : o = 3
    · rw [if_pos c3] at h; exact br_t c3 h
    · rw [if_neg c3] at h
      refine br_f c3 ?_
      by_cases c4 : o = 4
      · rw [if_pos c4] at h; exact br_t c4 h
      · rw [if_neg c4] at h
        refine br_f c4 ?_
        by_cases c5 : y ≤ x
        · rw [if_pos c5] at h; exact br_t c5 h
        · rw [if_neg c5] at h; exact br_f c5 h
/-- NUM -/
theorem mr_xex0 (hl : l.length ≤ 6)
    (h0 : mr_push n l = none → P (f_size, f_trials, f_ready, f_mutants, nI (p + 1), nI (d + 1), nI l.length, f_input, 1, f_changed, f_changedOp, f_changedNumber, a_op, a_number, a_trial, a_at, a_newOp, a_newNumber, a_told, a_usual, a_pile, a_seen, a_seenDone, a_seenHeight, a_seenPile))
    (h1 : mr_push n l = some (n :: l) → P (f_size, f_trials, f_ready, f_mutants, nI (p + 1), nI (d + 1), nI (l.length + 1), f_input, f_trapped, f_changed, f_changedOp, f_changedNumber, a_op, a_number, a_trial, a_at, a_newOp, a_newNumber, a_told, a_usual, upd a_pile l.length n, a_seen, a_seenDone, a_seenHeight, a_seenPile)) :
    wpX_execute P (f_size, f_trials, f_ready, f_mutants, nI p, nI d, nI l.length, f_input, f_trapped, f_changed, f_changedOp, f_changedNumber, a_op, a_number, a_trial, a_at, a_newOp, a_newNumber, a_told, a_usual, a_pile, a_seen, a_seenDone, a_seenHeight, a_seenPile) 0 n := by
  refine nm_r (nI_1 d) ?_
  refine br_f (by decide) ?_
  refine pk_le 0 l.length (fun _ => ?_) (fun z => absurd z (by omega))
  refine nm_r (nI_1 p) ?_
  refine br_t rfl ?_
  exact mr_xput n hl h0 h1
/-- IN -/
theorem mr_xex1 (hl : l.length ≤ 6)
    (h0 : mr_push f_input l = none → P (f_size, f_trials, f_ready, f_mutants, nI (p + 1), nI (d + 1), nI l.length, f_input, 1, f_changed, f_changedOp, f_changedNumber, a_op, a_number, a_trial, a_at, a_newOp, a_newNumber, a_told, a_usual, a_pile, a_seen, a_seenDone, a_seenHeight, a_seenPile))
    (h1 : mr_push f_input l = some (f_input :: l) → P (f_size, f_trials, f_ready, f_mutants, nI (p + 1), nI (d + 1), nI (l.length + 1), f_input, f_trapped, f_changed, f_changedOp, f_changedNumber, a_op, a_number, a_trial, a_at, a_newOp, a_newNumber, a_told, a_usual, upd a_pile l.length f_input, a_seen, a_seenDone, a_seenHeight, a_seenPile)) :
    wpX_execute P (f_size, f_trials, f_ready, f_mutants, nI p, nI d, nI l.length, f_input, f_trapped, f_changed, f_changedOp, f_changedNumber, a_op, a_number, a_trial, a_at, a_newOp, a_newNumber, a_told, a_usual, a_pile, a_seen, a_seenDone, a_seenHeight, a_seenPile) 1 n := by
  refine nm_r (nI_1 d) ?_
  refine br_f (by decide) ?_
  refine pk_le 0 l.length (fun _ => ?_) (fun z => absurd z (by omega))
  refine nm_r (nI_1 p) ?_
  refine br_f (by decide) ?_
  refine br_t rfl ?_
  exact mr_xput f_input hl h0 h1
/-- the needs are not met -/
theorem mr_xnd2 {k : Nat} {o : Int32} (ho : mr_ar o ∨ o = 7) (hk : k < 2)
    (h0 : P (f_size, f_trials, f_ready, f_mutants, f_place, nI (d + 1), nI k, f_input, 1, f_changed, f_changedOp, f_changedNumber, a_op, a_number, a_trial, a_at, a_newOp, a_newNumber, a_told, a_usual, a_pile, a_seen, a_seenDone, a_seenHeight, a_seenPile)) :
    wpX_execute P (f_size, f_trials, f_ready, f_mutants, f_place, nI d, nI k, f_input, f_trapped, f_changed, f_changedOp, f_changedNumber, a_op, a_number, a_trial, a_at, a_newOp, a_newNumber, a_told, a_usual, a_pile, a_seen, a_seenDone, a_seenHeight, a_seenPile) o n := by
  refine nm_r (nI_1 d) ?_
  rcases ho with ho | rfl
  · obtain ⟨-, -, -, h5, h2, -⟩ := mr_ar_f ho
    refine br_t h2 (br_t h5 ?_)
    exact pk_le 2 k (fun z => absurd z (by omega)) (fun _ => h0)
  · refine br_t (by decide) (br_f (by decide) (br_t rfl ?_))
    exact pk_le 2 k (fun z => absurd z (by omega)) (fun _ => h0)
theorem mr_xnd1 {o : Int32} (ho : o = 6 ∨ o = 8 ∨ o = 9)
    (h0 : P (f_size, f_trials, f_ready, f_mutants, f_place, nI (d + 1), nI 0, f_input, 1, f_changed, f_changedOp, f_changedNumber, a_op, a_number, a_trial, a_at, a_newOp, a_newNumber, a_told, a_usual, a_pile, a_seen, a_seenDone, a_seenHeight, a_seenPile)) :
    wpX_execute P (f_size, f_trials, f_ready, f_mutants, f_place, nI d, nI 0, f_input, f_trapped, f_changed, f_changedOp, f_changedNumber, a_op, a_number, a_trial, a_at, a_newOp, a_newNumber, a_told, a_usual, a_pile, a_seen, a_seenDone, a_seenHeight, a_seenPile) o n := by
  refine nm_r (nI_1 d) ?_
  rcases ho with rfl | rfl | rfl <;>
  · refine br_t (by decide) (br_f (by decide) (br_f (by decide) ?_))
    exact pk_le 1 0 (fun z => absurd z (by omega)) (fun _ => h0)
/-- two operands -/
theorem mr_xex2 {o x y : Int32} (ho : mr_ar o) (hl : l.length + 2 ≤ 6) (hx : a_pile l.length = x) (hy : a_pile (l.length + 1) = y)
    (h0 : mr_push (mr_comb o x y) l = none → P (f_size, f_trials, f_ready, f_mutants, nI (p + 1), nI (d + 1), nI l.length, f_input, 1, f_changed, f_changedOp, f_changedNumber, a_op, a_number, a_trial, a_at, a_newOp, a_newNumber, a_told, a_usual, a_pile, a_seen, a_seenDone, a_seenHeight, a_seenPile))
    (h1 : mr_push (mr_comb o x y) l = some (mr_comb o x y :: l) → P (f_size, f_trials, f_ready, f_mutants, nI (p + 1), nI (d + 1), nI (l.length + 1), f_input, f_trapped, f_changed, f_changedOp, f_changedNumber, a_op, a_number, a_trial, a_at, a_newOp, a_newNumber, a_told, a_usual, upd a_pile l.length (mr_comb o x y), a_seen, a_seenDone, a_seenHeight, a_seenPile)) :
    wpX_execute P (f_size, f_trials, f_ready, f_mutants, nI p, nI d, nI (l.length + 2), f_input, f_trapped, f_changed, f_changedOp, f_changedNumber, a_op, a_number, a_trial, a_at, a_newOp, a_newNumber, a_told, a_usual, a_pile, a_seen, a_seenDone, a_seenHeight, a_seenPile) o n := by
  obtain ⟨n0, n1, n5, h5, h2, -⟩ := mr_ar_f ho
  refine nm_r (nI_1 d) ?_
  refine br_t h2 (br_t h5 ?_)
  refine pk_le 2 (l.length + 2) (fun _ => ?_) (fun z => absurd z (by omega))
  refine nm_r (nI_1 p) ?_
  refine br_f n0 (br_f n1 (br_f n5 ?_))
  refine nm_r (mr_m2 l.length) ?_
  refine And.intro (vp_in_nI (by omega) (by omega)) ?_
  refine And.intro (by rw [nI_1]; exact vp_in_nI (by omega) (by omega)) ?_
  rw [nI_1, nI_clamp (by omega), nI_clamp (by omega), hx, hy]
  refine mr_xcomb o x y ?_
  exact mr_xput _ (by omega) h0 h1
/-- DUP -/
theorem mr_xex6 {y : Int32} {k : Nat} (hk : l.length = k + 1) (hl : l.length ≤ 6) (hy : a_pile k = y)
    (h0 : mr_push y l = none → P (f_size, f_trials, f_ready, f_mutants, nI (p + 1), nI (d + 1), nI l.length, f_input, 1, f_changed, f_changedOp, f_changedNumber, a_op, a_number, a_trial, a_at, a_newOp, a_newNumber, a_told, a_usual, a_pile, a_seen, a_seenDone, a_seenHeight, a_seenPile))
    (h1 : mr_push y l = some (y :: l) → P (f_size, f_trials, f_ready, f_mutants, nI (p + 1), nI (d + 1), nI (l.length + 1), f_input, f_trapped, f_changed, f_changedOp, f_changedNumber, a_op, a_number, a_trial, a_at, a_newOp, a_newNumber, a_told, a_usual, upd a_pile l.length y, a_seen, a_seenDone, a_seenHeight, a_seenPile)) :
    wpX_execute P (f_size, f_trials, f_ready, f_mutants, nI p, nI d, nI l.length, f_input, f_trapped, f_changed, f_changedOp, f_changedNumber, a_op, a_number, a_trial, a_at, a_newOp, a_newNumber, a_told, a_usual, a_pile, a_seen, a_seenDone, a_seenHeight, a_seenPile) 6 n := by
  refine nm_r (nI_1 d) ?_
  refine br_t (by decide) (br_f (by decide) (br_f (by decide) ?_))
  refine pk_le 1 l.length (fun _ => ?_) (fun z => absurd z (by omega))
  refine nm_r (nI_1 p) ?_
  refine br_f (by decide) (br_f (by decide) (br_t (by decide) (br_t rfl ?_)))
  refine And.intro (by rw [hk]; exact mr_i1 (by omega)) ?_
  have e : (nI l.length - 1).toNatClampNeg = k := by rw [hk]; exact mr_c1 (by omega)
  rw [e, hy]
  exact mr_xput y hl h0 h1
/-- SWAP -/
theorem mr_xex7 {k : Nat} (hk : k + 2 ≤ 6)
    (h1 : P (f_size, f_trials, f_ready, f_mutants, nI (p + 1), nI (d + 1), nI (k + 2), f_input, f_trapped, f_changed, f_changedOp, f_changedNumber, a_op, a_number, a_trial, a_at, a_newOp, a_newNumber, a_told, a_usual, upd (upd a_pile (k + 1) (a_pile k)) k (a_pile (k + 1)), a_seen, a_seenDone, a_seenHeight, a_seenPile)) :
    wpX_execute P (f_size, f_trials, f_ready, f_mutants, nI p, nI d, nI (k + 2), f_input, f_trapped, f_changed, f_changedOp, f_changedNumber, a_op, a_number, a_trial, a_at, a_newOp, a_newNumber, a_told, a_usual, a_pile, a_seen, a_seenDone, a_seenHeight, a_seenPile) 7 n := by
  refine nm_r (nI_1 d) ?_
  refine br_t (by decide) (br_f (by decide) (br_t rfl ?_))
  refine pk_le 2 (k + 2) (fun _ => ?_) (fun z => absurd z (by omega))
  refine nm_r (nI_1 p) ?_
  refine br_f (by decide) (br_f (by decide) (br_t (by decide) (br_f (by decide) (br_t rfl ?_))))
  have i1 : vp_in (nI (k + 2) - 1) 6 := mr_i1 (k := k + 1) (by omega)
  have i2 : vp_in (nI (k + 2) - 2) 6 := mr_i2 (by omega)
  have e1 : (nI (k + 2) - 1).toNatClampNeg = k + 1 := mr_c1 (k := k + 1) (by omega)
  have e2 : (nI (k + 2) - 2).toNatClampNeg = k := mr_c2 (by omega)
  refine And.intro i1 (nm_r (e' := a_pile (k + 1)) (by rw [e1]) ?_)
  refine And.intro i2 (And.intro i1 (nm_r (e' := upd a_pile (k + 1) (a_pile k)) (by rw [e1, e2]) ?_))
  exact And.intro i2 (nm_r (e' := upd (upd a_pile (k + 1) (a_pile k)) k (a_pile (k + 1))) (by rw [e2]) h1)
/-- SKIP -/
theorem mr_xex8 {k j : Nat} (hk : k + 1 ≤ 6) (hn : n = nI j)
    (h0 : a_pile k = 0 → P (f_size, f_trials, f_ready, f_mutants, nI (p + 1), nI (d + 1), nI k, f_input, f_trapped, f_changed, f_changedOp, f_changedNumber, a_op, a_number, a_trial, a_at, a_newOp, a_newNumber, a_told, a_usual, a_pile, a_seen, a_seenDone, a_seenHeight, a_seenPile))
    (h1 : ¬ a_pile k = 0 → P (f_size, f_trials, f_ready, f_mutants, nI (p + 1 + j), nI (d + 1), nI k, f_input, f_trapped, f_changed, f_changedOp, f_changedNumber, a_op, a_number, a_trial, a_at, a_newOp, a_newNumber, a_told, a_usual, a_pile, a_seen, a_seenDone, a_seenHeight, a_seenPile)) :
    wpX_execute P (f_size, f_trials, f_ready, f_mutants, nI p, nI d, nI (k + 1), f_input, f_trapped, f_changed, f_changedOp, f_changedNumber, a_op, a_number, a_trial, a_at, a_newOp, a_newNumber, a_told, a_usual, a_pile, a_seen, a_seenDone, a_seenHeight, a_seenPile) 8 n := by
  refine nm_r (nI_1 d) ?_
  refine br_t (by decide) (br_f (by decide) (br_f (by decide) ?_))
  refine pk_le 1 (k + 1) (fun _ => ?_) (fun z => absurd z (by omega))
  refine nm_r (nI_1 p) ?_
  refine br_f (by decide) (br_f (by decide) (br_t (by decide) (br_f (by decide) (br_f (by decide) ?_))))
  refine nm_r (nI_pred k) ?_
  refine br_t rfl ?_
  refine And.intro (vp_in_nI (by omega) (by omega)) ?_
  have e : (nI k).toNatClampNeg = k := nI_clamp (by omega)
  rw [e]
  refine br_c (fun z => ?_) (fun z => ?_)
  · exact br_f (by decide) (h0 z)
  · exact nm_r (e' := nI (p + 1 + j)) (by rw [hn, nI_add]) (h1 z)
/-- BACK -/
theorem mr_xex9 {k : Nat} (hk : k + 1 ≤ 6)
    (h0 : a_pile k ≤ 0 → P (f_size, f_trials, f_ready, f_mutants, nI (p + 1), nI (d + 1), nI k, f_input, f_trapped, f_changed, f_changedOp, f_changedNumber, a_op, a_number, a_trial, a_at, a_newOp, a_newNumber, a_told, a_usual, a_pile, a_seen, a_seenDone, a_seenHeight, a_seenPile))
    (h1 : ¬ a_pile k ≤ 0 → P (f_size, f_trials, f_ready, f_mutants, n, nI (d + 1), nI k, f_input, f_trapped, f_changed, f_changedOp, f_changedNumber, a_op, a_number, a_trial, a_at, a_newOp, a_newNumber, a_told, a_usual, a_pile, a_seen, a_seenDone, a_seenHeight, a_seenPile)) :
    wpX_execute P (f_size, f_trials, f_ready, f_mutants, nI p, nI d, nI (k + 1), f_input, f_trapped, f_changed, f_changedOp, f_changedNumber, a_op, a_number, a_trial, a_at, a_newOp, a_newNumber, a_told, a_usual, a_pile, a_seen, a_seenDone, a_seenHeight, a_seenPile) 9 n := by
  refine nm_r (nI_1 d) ?_
  refine br_t (by decide) (br_f (by decide) (br_f (by decide) ?_))
  refine pk_le 1 (k + 1) (fun _ => ?_) (fun z => absurd z (by omega))
  refine nm_r (nI_1 p) ?_
  refine br_f (by decide) (br_f (by decide) (br_t (by decide) (br_f (by decide) (br_f (by decide) ?_))))
  refine nm_r (nI_pred k) ?_
  refine br_f (by decide) ?_
  have e : (nI k).toNatClampNeg = k := nI_clamp (by omega)
  refine br_t rfl ?_
  refine And.intro (vp_in_nI (by omega) (by omega)) ?_
  rw [e]
  exact br_c h0 h1
/-- one instruction of X is one step of the pure machine -/
theorem mr_xexec {o : Int32} (hv : mr_V o n) (hr : mr_Rp a_pile l) (hl : mr_ok l) (hp : p < 10)
    (h0 : ∀ (pc h : Int32), mr_step o n f_input p l = none → P (f_size, f_trials, f_ready, f_mutants, pc, nI (d + 1), h, f_input, 1, f_changed, f_changedOp, f_changedNumber, a_op, a_number, a_trial, a_at, a_newOp, a_newNumber, a_told, a_usual, a_pile, a_seen, a_seenDone, a_seenHeight, a_seenPile))
    (h1 : ∀ (q : Nat) (l' : List Int32) (pl : Nat → Int32), mr_step o n f_input p l = some (q, l') → mr_Rp pl l' → mr_ok l' → q ≤ 13 → P (f_size, f_trials, f_ready, f_mutants, nI q, nI (d + 1), nI l'.length, f_input, f_trapped, f_changed, f_changedOp, f_changedNumber, a_op, a_number, a_trial, a_at, a_newOp, a_newNumber, a_told, a_usual, pl, a_seen, a_seenDone, a_seenHeight, a_seenPile)) :
    wpX_execute P (f_size, f_trials, f_ready, f_mutants, nI p, nI d, nI l.length, f_input, f_trapped, f_changed, f_changedOp, f_changedNumber, a_op, a_number, a_trial, a_at, a_newOp, a_newNumber, a_told, a_usual, a_pile, a_seen, a_seenDone, a_seenHeight, a_seenPile) o n := by
  have hl6 := hl.1
  rcases hv with rfl | rfl | ho | rfl | rfl | ⟨rfl, j, hj, rfl⟩ | ⟨rfl, j, hj, rfl⟩
  · rw [mr_step0] at h0 h1
    refine mr_xex0 hl6 (fun e => h0 _ _ (by rw [e]; rfl)) (fun e => ?_)
    exact h1 (p + 1) (n :: l) _ (by rw [e]; rfl) (mr_Rp_push n hr) (mr_push_ok hl e) (by omega)
  · rw [mr_step1] at h0 h1
    refine mr_xex1 hl6 (fun e => h0 _ _ (by rw [e]; rfl)) (fun e => ?_)
    exact h1 (p + 1) (f_input :: l) _ (by rw [e]; rfl) (mr_Rp_push f_input hr) (mr_push_ok hl e) (by omega)
  · rw [mr_step2 ho] at h0 h1
    match l, hr, hl, hl6, h0, h1 with
    | [], hr, hl, hl6, h0, h1 => exact mr_xnd2 (k := 0) (Or.inl ho) (by omega) (h0 _ _ rfl)
    | [_], hr, hl, hl6, h0, h1 => exact mr_xnd2 (k := 1) (Or.inl ho) (by omega) (h0 _ _ rfl)
    | y :: x :: l, hr, hl, hl6, h0, h1 =>
      refine mr_xex2 (l := l) (x := x) (y := y) ho hl6 hr.2.1 hr.1 (fun e => h0 _ _ ?_) (fun e => ?_)
      · show mr_mv (p + 1) (mr_push (mr_comb o x y) l) = none
        rw [e]; rfl
      · refine h1 (p + 1) (mr_comb o x y :: l) _ ?_ (mr_Rp_push _ hr.2.2) (mr_push_ok (mr_ok_tl (mr_ok_tl hl)) e) (by omega)
        show mr_mv (p + 1) (mr_push (mr_comb o x y) l) = _
        rw [e]; rfl
  · rw [mr_step6] at h0 h1
    match l, hr, hl, hl6, h0, h1 with
    | [], hr, hl, hl6, h0, h1 => exact mr_xnd1 (Or.inl rfl) (h0 _ _ rfl)
    | y :: l, hr, hl, hl6, h0, h1 =>
      refine mr_xex6 (l := y :: l) (y := y) (k := l.length) rfl hl6 hr.1 (fun e => h0 _ _ ?_) (fun e => ?_)
      · show mr_mv (p + 1) (mr_push y (y :: l)) = none
        rw [e]; rfl
      · refine h1 (p + 1) (y :: y :: l) _ ?_ (mr_Rp_push _ hr) (mr_push_ok hl e) (by omega)
        show mr_mv (p + 1) (mr_push y (y :: l)) = _
        rw [e]; rfl
  · rw [mr_step7] at h0 h1
    match l, hr, hl, hl6, h0, h1 with
    | [], hr, hl, hl6, h0, h1 => exact mr_xnd2 (k := 0) (Or.inr rfl) (by omega) (h0 _ _ rfl)
    | [_], hr, hl, hl6, h0, h1 => exact mr_xnd2 (k := 1) (Or.inr rfl) (by omega) (h0 _ _ rfl)
    | y :: x :: l, hr, hl, hl6, h0, h1 =>
      refine mr_xex7 (k := l.length) hl6 ?_
      refine h1 (p + 1) (x :: y :: l) _ rfl ?_ ?_ (by omega)
      · refine And.intro ?_ (And.intro ?_ ?_)
        · show upd _ l.length _ (l.length + 1) = x
          rw [pk_un (by omega), pk_us]; exact hr.2.1
        · show upd _ l.length _ l.length = y
          rw [pk_us]; exact hr.1
        · exact mr_Rp_upd (Nat.le_refl _) (mr_Rp_upd (Nat.le_succ _) hr.2.2)
      · have h6 : l.length + 1 + 1 ≤ 6 := hl6
        exact mr_ok_cons (show l.length + 1 < 6 by omega) (mr_ok_hd (mr_ok_tl hl)) (mr_ok_cons (by omega) (mr_ok_hd hl) (mr_ok_tl (mr_ok_tl hl)))
  · rw [mr_step8] at h0 h1
    match l, hr, hl, hl6, h0, h1 with
    | [], hr, hl, hl6, h0, h1 => exact mr_xnd1 (Or.inr (Or.inl rfl)) (h0 _ _ rfl)
    | t :: l, hr, hl, hl6, h0, h1 =>
      refine mr_xex8 (k := l.length) (j := j) hl6 rfl (fun z => ?_) (fun z => ?_)
      · exact h1 (p + 1) l _ (if_pos (hr.1.symm.trans z)) hr.2 (mr_ok_tl hl) (by omega)
      · refine h1 (p + 1 + j) l _ ?_ hr.2 (mr_ok_tl hl) (by omega)
        refine (if_neg (fun c => z (hr.1.trans c))).trans ?_
        rw [nI_clamp (by omega)]
  · rw [mr_step9] at h0 h1
    match l, hr, hl, hl6, h0, h1 with
    | [], hr, hl, hl6, h0, h1 => exact mr_xnd1 (Or.inr (Or.inr rfl)) (h0 _ _ rfl)
    | t :: l, hr, hl, hl6, h0, h1 =>
      refine mr_xex9 (k := l.length) hl6 (fun z => ?_) (fun z => ?_)
      · exact h1 (p + 1) l _ (if_pos (hr.1 ▸ z)) hr.2 (mr_ok_tl hl) (by omega)
      · refine h1 j l _ ?_ hr.2 (mr_ok_tl hl) (by omega)
        refine (if_neg (fun c => z (hr.1.symm ▸ c))).trans ?_
        rw [nI_clamp (by omega)]
end
end
section
section
variable {g_size g_tried g_height g_trapped g_place g_placeOp g_placeNumber : Int32} {b_ops b_numbers b_trials b_pile b_kills : Nat → Int32}
variable {P : SY → Prop} {Q : Int32 → SY → Prop} {l : List Int32} {p : Nat} {inp : Int32}
theorem mr_ypush (v : Int32) (hl : l.length ≤ 6)
    (h0 : mr_push v l = none → P (g_size, g_tried, nI l.length, 1, g_place, g_placeOp, g_placeNumber, b_ops, b_numbers, b_trials, b_pile, b_kills))
    (h1 : mr_push v l = some (v :: l) → P (g_size, g_tried, nI (l.length + 1), g_trapped, g_place, g_placeOp, g_placeNumber, b_ops, b_numbers, b_trials, upd b_pile l.length v, b_kills)) :
    wpY_push P (g_size, g_tried, nI l.length, g_trapped, g_place, g_placeOp, g_placeNumber, b_ops, b_numbers, b_trials, b_pile, b_kills) v := by
  refine pk_eq l.length 6 (fun e => h0 (if_pos e)) (fun e => ?_)
  by_cases c1 : v < -1000
  · exact br_t c1 (h0 (by unfold mr_push; rw [if_neg e, if_pos c1]))
  · refine br_f c1 ?_
    by_cases c2 : v ≤ 1000
    · exact br_t c2 (And.intro (vp_in_nI (by omega) (by omega)) (nm_r (e' := upd b_pile l.length v) (by rw [nI_clamp (by omega)]) (nm_r (nI_1 l.length) (h1 (by unfold mr_push; rw [if_neg e, if_neg c1, if_pos c2])))))
    · exact br_f c2 (h0 (by unfold mr_push; rw [if_neg e, if_neg c1, if_neg c2]))
theorem mr_ypop0 (h : Q 0 (g_size, g_tried, nI 0, 1, g_place, g_placeOp, g_placeNumber, b_ops, b_numbers, b_trials, b_pile, b_kills)) : wpY_pop Q (g_size, g_tried, nI 0, g_trapped, g_place, g_placeOp, g_placeNumber, b_ops, b_numbers, b_trials, b_pile, b_kills) := br_t rfl h
theorem mr_ypop1 {k : Nat} {y : Int32} (hk : k < 6) (hy : b_pile k = y) (h : Q y (g_size, g_tried, nI k, g_trapped, g_place, g_placeOp, g_placeNumber, b_ops, b_numbers, b_trials, b_pile, b_kills)) : wpY_pop Q (g_size, g_tried, nI (k + 1), g_trapped, g_place, g_placeOp, g_placeNumber, b_ops, b_numbers, b_trials, b_pile, b_kills) := by
  refine br_f (nI_ne0 (by omega) (by omega)) ?_
  refine nm_r (nI_pred k) ?_
  refine And.intro (vp_in_nI (by omega) (by omega)) ?_
  rw [nI_clamp (by omega), hy]
  exact h
theorem mr_yop_t {o z : Int32} {k : Nat} (hk : k < 2)
    (h : P (g_size, g_tried, nI 0, 1, g_place, g_placeOp, g_placeNumber, b_ops, b_numbers, b_trials, b_pile, b_kills)) (hz : k = 1 → b_pile 0 = z) :
    wpY_operate P (g_size, g_tried, nI k, g_trapped, g_place, g_placeOp, g_placeNumber, b_ops, b_numbers, b_trials, b_pile, b_kills) o := by
  unfold wpY_operate
  match k, hk, hz with
  | 0, _, _ =>
    refine mr_ypop0 ?_
    refine mr_ypop0 ?_
    exact br_f (by decide) h
  | 1, _, hz =>
    refine mr_ypop1 (k := 0) (y := z) (by omega) (hz rfl) ?_
    refine mr_ypop0 ?_
    exact br_f (by decide) h
theorem mr_yop {o x y : Int32} (hl : l.length + 2 ≤ 6) (hx : b_pile l.length = x) (hy : b_pile (l.length + 1) = y)
    (h0 : mr_push (mr_comb o x y) l = none → P (g_size, g_tried, nI l.length, 1, g_place, g_placeOp, g_placeNumber, b_ops, b_numbers, b_trials, b_pile, b_kills))
    (h1 : mr_push (mr_comb o x y) l = some (mr_comb o x y :: l) → P (g_size, g_tried, nI (l.length + 1), 0, g_place, g_placeOp, g_placeNumber, b_ops, b_numbers, b_trials, upd b_pile l.length (mr_comb o x y), b_kills)) :
    wpY_operate P (g_size, g_tried, nI (l.length + 2), 0, g_place, g_placeOp, g_placeNumber, b_ops, b_numbers, b_trials, b_pile, b_kills) o := by
  unfold wpY_operate
  refine mr_ypop1 (k := l.length + 1) (y := y) (by omega) hy ?_
  refine mr_ypop1 (k := l.length) (y := x) (by omega) hx ?_
  refine br_t rfl ?_
  have key : wpY_push P (g_size, g_tried, nI l.length, 0, g_place, g_placeOp, g_placeNumber, b_ops, b_numbers, b_trials, b_pile, b_kills) (mr_comb o x y) := mr_ypush _ (by omega) h0 h1
  unfold mr_comb at key
  by_cases c2 : o = 2
  · rw [if_pos c2] at key; exact br_t c2 key
  · rw [if_neg c2] at key
    refine br_f c2 ?_
    by_cases c3 : o = 3
    · rw [if_pos c3] at key; exact br_t c3 key
    · rw [if_neg c3] at key
      refine br_f c3 ?_
      by_cases c4 : o = 4
      · rw [if_pos c4] at key; exact br_t c4 key
      · rw [if_neg c4] at key
        refine br_f c4 ?_
        by_cases c5 : y ≤ x
        · rw [if_pos c5] at key; exact br_t c5 key
        · rw [if_neg c5] at key; exact br_f c5 key
/-- DUP -/
theorem mr_yre6_t (h : P (g_size, g_tried, nI 0, 1, g_place, g_placeOp, g_placeNumber, b_ops, b_numbers, b_trials, b_pile, b_kills)) : wpY_rearrange P (g_size, g_tried, nI 0, g_trapped, g_place, g_placeOp, g_placeNumber, b_ops, b_numbers, b_trials, b_pile, b_kills) 6 := by
  unfold wpY_rearrange
  refine mr_ypop0 ?_
  refine br_t rfl ?_
  refine br_f (by decide) ?_
  exact br_f (by decide) h
theorem mr_yre6 {y : Int32} (hl : l.length + 1 ≤ 6) (hy : b_pile l.length = y) (hv : mr_in1 y)
    (h0 : mr_push y (y :: l) = none → P (g_size, g_tried, nI (l.length + 1), 1, g_place, g_placeOp, g_placeNumber, b_ops, b_numbers, b_trials, upd b_pile l.length y, b_kills))
    (h1 : mr_push y (y :: l) = some (y :: y :: l) → P (g_size, g_tried, nI (l.length + 2), 0, g_place, g_placeOp, g_placeNumber, b_ops, b_numbers, b_trials, upd (upd b_pile l.length y) (l.length + 1) y, b_kills)) :
    wpY_rearrange P (g_size, g_tried, nI (l.length + 1), 0, g_place, g_placeOp, g_placeNumber, b_ops, b_numbers, b_trials, b_pile, b_kills) 6 := by
  unfold wpY_rearrange
  refine mr_ypop1 (k := l.length) (y := y) (by omega) hy ?_
  refine br_t rfl ?_
  refine br_t rfl ?_
  have hp : mr_push y l = some (y :: l) := mr_push_in (by omega) hv
  refine mr_ypush (l := l) y (by omega) (fun e => by rw [hp] at e; cases e) (fun _ => ?_)
  refine mr_ypush (l := y :: l) y hl (fun e => ?_) (fun e => ?_)
  · exact br_f (by decide) (h0 e)
  · exact br_f (by decide) (h1 e)
/-- SWAP -/
theorem mr_yre7_t {z : Int32} {k : Nat} (hk : k < 2) (h : P (g_size, g_tried, nI 0, 1, g_place, g_placeOp, g_placeNumber, b_ops, b_numbers, b_trials, b_pile, b_kills)) (hz : k = 1 → b_pile 0 = z) : wpY_rearrange P (g_size, g_tried, nI k, g_trapped, g_place, g_placeOp, g_placeNumber, b_ops, b_numbers, b_trials, b_pile, b_kills) 7 := by
  unfold wpY_rearrange
  match k, hk, hz with
  | 0, _, _ =>
    refine mr_ypop0 ?_
    refine br_f (by decide) ?_
    refine br_t rfl ?_
    refine mr_ypop0 ?_
    exact br_f (by decide) h
  | 1, _, hz =>
    refine mr_ypop1 (k := 0) (y := z) (by omega) (hz rfl) ?_
    refine br_f (by decide) ?_
    refine br_t rfl ?_
    refine mr_ypop0 ?_
    exact br_f (by decide) h
theorem mr_yre7 {x y : Int32} (hl : l.length + 2 ≤ 6) (hx : b_pile l.length = x) (hy : b_pile (l.length + 1) = y) (vx : mr_in1 x) (vy : mr_in1 y)
    (h1 : P (g_size, g_tried, nI (l.length + 2), 0, g_place, g_placeOp, g_placeNumber, b_ops, b_numbers, b_trials, upd (upd b_pile l.length y) (l.length + 1) x, b_kills)) :
    wpY_rearrange P (g_size, g_tried, nI (l.length + 2), 0, g_place, g_placeOp, g_placeNumber, b_ops, b_numbers, b_trials, b_pile, b_kills) 7 := by
  unfold wpY_rearrange
  refine mr_ypop1 (k := l.length + 1) (y := y) (by omega) hy ?_
  refine br_f (by decide) ?_
  refine br_t rfl ?_
  refine mr_ypop1 (k := l.length) (y := x) (by omega) hx ?_
  refine br_t rfl ?_
  have hp : mr_push y l = some (y :: l) := mr_push_in (by omega) vy
  have hq : mr_push x (y :: l) = some (x :: y :: l) := mr_push_in (show l.length + 1 < 6 by omega) vx
  refine mr_ypush (l := l) y (by omega) (fun e => by rw [hp] at e; cases e) (fun _ => ?_)
  exact mr_ypush (l := y :: l) x (show l.length + 1 ≤ 6 by omega) (fun e => by rw [hq] at e; cases e) (fun _ => h1)
/-- the look-ups -/
theorem mr_yopAt {R : Int32 → Prop} {eo en : Nat → Int32} (hE : mr_Eff g_place g_placeOp g_placeNumber b_ops b_numbers eo en) (hp : p < 10) (h : R (eo p)) : wpY_opAt R (g_size, g_tried, g_height, g_trapped, g_place, g_placeOp, g_placeNumber, b_ops, b_numbers, b_trials, b_pile, b_kills) (nI p) := by
  obtain ⟨ha, hb⟩ := hE p hp
  refine br_c (fun c => ?_) (fun c => And.intro (vp_in_nI hp (by omega)) ?_)
  · rw [(ha c).1]; exact h
  · rw [nI_clamp (by omega), (hb c).1]; exact h
theorem mr_ynumAt {R : Int32 → Prop} {eo en : Nat → Int32} (hE : mr_Eff g_place g_placeOp g_placeNumber b_ops b_numbers eo en) (hp : p < 10) (h : R (en p)) : wpY_numberAt R (g_size, g_tried, g_height, g_trapped, g_place, g_placeOp, g_placeNumber, b_ops, b_numbers, b_trials, b_pile, b_kills) (nI p) := by
  obtain ⟨ha, hb⟩ := hE p hp
  refine br_c (fun c => ?_) (fun c => And.intro (vp_in_nI hp (by omega)) ?_)
  · rw [(ha c).2]; exact h
  · rw [nI_clamp (by omega), (hb c).2]; exact h
/-- one instruction of Y is one step of the pure machine -/
theorem mr_yexec {eo en : Nat → Int32} (hE : mr_Eff g_place g_placeOp g_placeNumber b_ops b_numbers eo en) (hv : mr_V (eo p) (en p)) (hr : mr_Rp b_pile l) (hl : mr_ok l) (hp : p < 10)
    (h0 : ∀ (r h : Int32) (pl : Nat → Int32), mr_step (eo p) (en p) inp p l = none → Q r (g_size, g_tried, h, 1, g_place, g_placeOp, g_placeNumber, b_ops, b_numbers, b_trials, pl, b_kills))
    (h1 : ∀ (q : Nat) (l' : List Int32) (pl : Nat → Int32), mr_step (eo p) (en p) inp p l = some (q, l') → mr_Rp pl l' → mr_ok l' → q ≤ 13 → Q (nI q) (g_size, g_tried, nI l'.length, 0, g_place, g_placeOp, g_placeNumber, b_ops, b_numbers, b_trials, pl, b_kills)) :
    wpY_execute Q (g_size, g_tried, nI l.length, 0, g_place, g_placeOp, g_placeNumber, b_ops, b_numbers, b_trials, b_pile, b_kills) (nI p) inp := by
  have hl6 := hl.1
  unfold wpY_execute
  refine mr_yopAt hE hp ?_
  refine mr_ynumAt hE hp ?_
  generalize eo p = o at *
  generalize en p = n at *
  rcases hv with rfl | rfl | hv | rfl | rfl | ⟨rfl, j, hj, rfl⟩ | ⟨rfl, j, hj, rfl⟩
  · rw [mr_step0] at h0 h1
    refine br_f (by decide) (br_t rfl ?_)
    refine mr_ypush n hl6 (fun e => h0 _ _ _ (by rw [e]; rfl)) (fun e => ?_)
    show Q (nI p + 1) _
    rw [nI_1]
    exact h1 (p + 1) (n :: l) _ (by rw [e]; rfl) (mr_Rp_push n hr) (mr_push_ok hl e) (by omega)
  · rw [mr_step1] at h0 h1
    refine br_f (by decide) (br_f (by decide) ?_)
    refine mr_ypush inp hl6 (fun e => h0 _ _ _ (by rw [e]; rfl)) (fun e => ?_)
    show Q (nI p + 1) _
    rw [nI_1]
    exact h1 (p + 1) (inp :: l) _ (by rw [e]; rfl) (mr_Rp_push inp hr) (mr_push_ok hl e) (by omega)
  · rw [mr_step2 hv] at h0 h1
    obtain ⟨-, -, -, -, g2, g6, -⟩ := mr_ar_f hv
    refine br_t g2 (br_f g6 ?_)
    match l, hr, hl, hl6, h0, h1 with
    | [], hr, hl, hl6, h0, h1 => exact mr_yop_t (z := 0) (k := 0) (by omega) (h0 _ _ _ rfl) (fun z => absurd z (by omega))
    | [y], hr, hl, hl6, h0, h1 => exact mr_yop_t (z := y) (k := 1) (by omega) (h0 _ _ _ rfl) (fun _ => hr.1)
    | y :: x :: l, hr, hl, hl6, h0, h1 =>
      refine mr_yop (l := l) (x := x) (y := y) hl6 hr.2.1 hr.1 (fun e => h0 _ _ _ ?_) (fun e => ?_)
      · show mr_mv (p + 1) (mr_push (mr_comb o x y) l) = none
        rw [e]; rfl
      · show Q (nI p + 1) _
        rw [nI_1]
        refine h1 (p + 1) (mr_comb o x y :: l) _ ?_ (mr_Rp_push _ hr.2.2) (mr_push_ok (mr_ok_tl (mr_ok_tl hl)) e) (by omega)
        show mr_mv (p + 1) (mr_push (mr_comb o x y) l) = _
        rw [e]; rfl
  · rw [mr_step6] at h0 h1
    refine br_t (by decide) (br_t (by decide) (br_f (by decide) ?_))
    match l, hr, hl, hl6, h0, h1 with
    | [], hr, hl, hl6, h0, h1 => exact mr_yre6_t (h0 _ _ _ rfl)
    | y :: l, hr, hl, hl6, h0, h1 =>
      refine mr_yre6 (l := l) (y := y) hl6 hr.1 (mr_ok_hd hl) (fun e => h0 _ _ _ ?_) (fun e => ?_)
      · show mr_mv (p + 1) (mr_push y (y :: l)) = none
        rw [e]; rfl
      · show Q (nI p + 1) _
        rw [nI_1]
        refine h1 (p + 1) (y :: y :: l) _ ?_ (mr_Rp_push (l := y :: l) y (mr_Rp_push y hr.2)) (mr_push_ok hl e) (by omega)
        show mr_mv (p + 1) (mr_push y (y :: l)) = _
        rw [e]; rfl
  · rw [mr_step7] at h0 h1
    refine br_t (by decide) (br_t (by decide) (br_f (by decide) ?_))
    match l, hr, hl, hl6, h0, h1 with
    | [], hr, hl, hl6, h0, h1 => exact mr_yre7_t (z := 0) (k := 0) (by omega) (h0 _ _ _ rfl) (fun z => absurd z (by omega))
    | [y], hr, hl, hl6, h0, h1 => exact mr_yre7_t (z := y) (k := 1) (by omega) (h0 _ _ _ rfl) (fun _ => hr.1)
    | y :: x :: l, hr, hl, hl6, h0, h1 =>
      refine mr_yre7 (l := l) (x := x) (y := y) hl6 hr.2.1 hr.1 (mr_ok_hd (mr_ok_tl hl)) (mr_ok_hd hl) ?_
      show Q (nI p + 1) _
      rw [nI_1]
      refine h1 (p + 1) (x :: y :: l) _ rfl (mr_Rp_push (l := y :: l) x (mr_Rp_push y hr.2.2)) ?_ (by omega)
      have h6 : l.length + 1 + 1 ≤ 6 := hl6
      exact mr_ok_cons (show l.length + 1 < 6 by omega) (mr_ok_hd (mr_ok_tl hl)) (mr_ok_cons (by omega) (mr_ok_hd hl) (mr_ok_tl (mr_ok_tl hl)))
  · rw [mr_step8] at h0 h1
    refine br_t (by decide) (br_t (by decide) (br_t (by decide) ?_))
    match l, hr, hl, hl6, h0, h1 with
    | [], hr, hl, hl6, h0, h1 =>
      refine mr_ypop0 ?_
      exact br_t rfl (br_t rfl (br_f (by decide) (h0 _ _ _ rfl)))
    | t :: l, hr, hl, hl6, h0, h1 =>
      refine mr_ypop1 (k := l.length) (y := t) hl6 hr.1 ?_
      refine br_t rfl (br_c (fun z => ?_) (fun z => ?_))
      · refine br_f (by decide) ?_
        rw [nI_1]
        exact h1 (p + 1) l _ (if_pos z) hr.2 (mr_ok_tl hl) (by omega)
      · rw [nI_1, nI_add]
        refine h1 (p + 1 + j) l _ ?_ hr.2 (mr_ok_tl hl) (by omega)
        refine (if_neg z).trans ?_
        rw [nI_clamp (by omega)]
  · rw [mr_step9] at h0 h1
    refine br_t (by decide) (br_t (by decide) (br_t (by decide) ?_))
    match l, hr, hl, hl6, h0, h1 with
    | [], hr, hl, hl6, h0, h1 =>
      refine mr_ypop0 ?_
      exact br_f (by decide) (br_t rfl (br_t (by decide) (h0 _ _ _ rfl)))
    | t :: l, hr, hl, hl6, h0, h1 =>
      refine mr_ypop1 (k := l.length) (y := t) hl6 hr.1 ?_
      refine br_f (by decide) (br_t rfl (br_c (fun z => ?_) (fun z => ?_)))
      · rw [nI_1]
        exact h1 (p + 1) l _ (if_pos z) hr.2 (mr_ok_tl hl) (by omega)
      · refine h1 j l _ ?_ hr.2 (mr_ok_tl hl) (by omega)
        refine (if_neg z).trans ?_
        rw [nI_clamp (by omega)]
end
end
section
/-! whole runs: Y's run, X's finish, runWhole and runFrom -/
section
variable {g_tried g_height g_trapped g_place g_placeOp g_placeNumber : Int32} {b_ops b_numbers b_trials b_pile b_kills : Nat → Int32}
variable {Q : Int32 → SY → Prop} {inp : Int32} {sz : Nat} {eo en : Nat → Int32}
theorem mr_yend {k p : Nat} {l : List Int32} (hsz : sz ≤ 10) (hp : p ≤ 13) (hr : mr_Rp b_pile l) (hl : mr_ok l) (hk : sz ≤ p ∨ k = 0)
    (h : Q (mr_run eo en sz inp k p l) (nI sz, g_tried, nI l.length, 0, g_place, g_placeOp, g_placeNumber, b_ops, b_numbers, b_trials, b_pile, b_kills)) :
    wY_run_48 Q (nI p) (nI sz) g_tried (nI l.length) 0 g_place g_placeOp g_placeNumber b_ops b_numbers b_trials b_pile b_kills := by
  refine br_t rfl ?_
  refine pk_le sz p (fun c => ?_) (fun c => ?_)
  · rw [mr_run_end c] at h
    match l, hr, hl, h with
    | [], hr, hl, h => exact br_t rfl h
    | v :: l, hr, hl, h =>
      have h6 : l.length + 1 ≤ 6 := hl.1
      refine br_f (nI_ne0 (n := l.length + 1) (by omega) (by omega)) ?_
      refine And.intro (mr_i1 (by omega)) ?_
      have e : (nI (v :: l).length - 1).toNatClampNeg = l.length := mr_c1 (by omega)
      rw [e, hr.1]
      exact h
  · have k0 : k = 0 := by omega
    subst k0
    rw [mr_run_tired (by omega)] at h
    exact h
theorem mr_yrun14 (hsz : sz ≤ 10) (hE : mr_Eff g_place g_placeOp g_placeNumber b_ops b_numbers eo en) (hV : ∀ p, p < sz → mr_V (eo p) (en p)) :
    ∀ (k n p : Nat) (l : List Int32) (b_pile : Nat → Int32), k ≤ 40 → k < n → p ≤ 13 → mr_Rp b_pile l → mr_ok l →
      (∀ (g_height' g_trapped' : Int32) (b_pile' : Nat → Int32), Q (mr_run eo en sz inp k p l) (nI sz, g_tried, g_height', g_trapped', g_place, g_placeOp, g_placeNumber, b_ops, b_numbers, b_trials, b_pile', b_kills)) →
      wY_run_14 Q inp n (nI p) (nI (40 - k)) (nI sz) g_tried (nI l.length) 0 g_place g_placeOp g_placeNumber b_ops b_numbers b_trials b_pile b_kills := by
  intro k
  induction k with
  | zero =>
    intro n p l b_pile hk hn hp hr hl h
    obtain ⟨n, rfl⟩ : ∃ m, n = m + 1 := ⟨n - 1, by omega⟩
    refine pk_le sz p (fun c => mr_yend hsz hp hr hl (Or.inl c) (h _ _ _)) (fun c => ?_)
    refine pk_le 40 40 (fun _ => mr_yend hsz hp hr hl (Or.inr rfl) (h _ _ _)) (fun z => absurd z (by omega))
  | succ k ih =>
    intro n p l b_pile hk hn hp hr hl h
    obtain ⟨n, rfl⟩ : ∃ m, n = m + 1 := ⟨n - 1, by omega⟩
    refine pk_le sz p (fun c => mr_yend hsz hp hr hl (Or.inl c) (h _ _ _)) (fun c => ?_)
    refine pk_le 40 (40 - (k + 1)) (fun z => absurd z (by omega)) (fun _ => ?_)
    refine br_t rfl ?_
    refine mr_yexec hE (hV p c) hr hl (by omega) (fun r hh pl e => ?_) (fun q l' pl e hr' hl' hq => ?_)
    · rw [mr_run_none (by omega) e] at h
      refine nm_e ?_
      obtain ⟨n, rfl⟩ : ∃ m, n = m + 1 := ⟨n - 1, by omega⟩
      refine br_c (fun _ => br_f (by decide) (h _ _ _)) (fun _ => ?_)
      refine br_c (fun _ => br_f (by decide) (h _ _ _)) (fun _ => ?_)
      exact br_f (by decide) (br_f (by decide) (h _ _ _))
    · rw [mr_run_some (by omega) e] at h
      refine nm_r (e' := nI (40 - k)) (by rw [nI_1]; exact congrArg nI (by omega)) ?_
      exact ih n q l' pl (by omega) (by omega) hq hr' hl' h
theorem mr_yrun (hsz : sz ≤ 10) (hE : mr_Eff g_place g_placeOp g_placeNumber b_ops b_numbers eo en) (hV : ∀ p, p < sz → mr_V (eo p) (en p))
    (h : ∀ (g_height' g_trapped' : Int32) (b_pile' : Nat → Int32), Q (mr_run eo en sz inp 40 0 []) (nI sz, g_tried, g_height', g_trapped', g_place, g_placeOp, g_placeNumber, b_ops, b_numbers, b_trials, b_pile', b_kills)) : wpY_run Q (nI sz, g_tried, g_height, g_trapped, g_place, g_placeOp, g_placeNumber, b_ops, b_numbers, b_trials, b_pile, b_kills) inp :=
  Exists.intro 41 (mr_yrun14 hsz hE hV 40 41 0 [] b_pile (by omega) (by omega) (by omega) trivial mr_ok_nil h)
theorem mr_yrunP (hsz : sz ≤ 10) (hV : ∀ p, p < sz → mr_V (b_ops p) (b_numbers p))
    (h : ∀ (g_height' g_trapped' : Int32) (b_pile' : Nat → Int32), Q (mr_run b_ops b_numbers sz inp 40 0 []) (nI sz, g_tried, g_height', g_trapped', -1, g_placeOp, g_placeNumber, b_ops, b_numbers, b_trials, b_pile', b_kills)) : wpY_runProgram Q (nI sz, g_tried, g_height, g_trapped, g_place, g_placeOp, g_placeNumber, b_ops, b_numbers, b_trials, b_pile, b_kills) inp := by
  unfold wpY_runProgram
  exact mr_yrun hsz (mr_Eff_m1 _ _ _ _) hV h
end
section
variable {f_trials f_ready f_mutants f_input f_changed f_changedOp f_changedNumber : Int32} {a_op a_number a_trial a_at a_newOp a_newNumber a_told a_usual a_seen a_seenDone a_seenHeight a_seenPile : Nat → Int32}
variable {Q : Int32 → SX → Prop} {sz : Nat} {eo en : Nat → Int32}
theorem mr_xend {f_done : Int32} {a_pile : Nat → Int32} {k p : Nat} {l : List Int32} (hsz : sz ≤ 10) (hp : p ≤ 13) (hr : mr_Rp a_pile l) (hl : mr_ok l) (hk : sz ≤ p ∨ k = 0)
    (h : Q (mr_run eo en sz f_input k p l) (nI sz, f_trials, f_ready, f_mutants, nI p, f_done, nI l.length, f_input, 0, f_changed, f_changedOp, f_changedNumber, a_op, a_number, a_trial, a_at, a_newOp, a_newNumber, a_told, a_usual, a_pile, a_seen, a_seenDone, a_seenHeight, a_seenPile)) :
    wX_finish_114 Q (nI sz) f_trials f_ready f_mutants (nI p) f_done (nI l.length) f_input 0 f_changed f_changedOp f_changedNumber a_op a_number a_trial a_at a_newOp a_newNumber a_told a_usual a_pile a_seen a_seenDone a_seenHeight a_seenPile := by
  refine br_t rfl ?_
  refine pk_le sz p (fun c => ?_) (fun c => ?_)
  · rw [mr_run_end c] at h
    match l, hr, hl, h with
    | [], hr, hl, h => exact br_t rfl h
    | v :: l, hr, hl, h =>
      have h6 : l.length + 1 ≤ 6 := hl.1
      refine br_f (nI_ne0 (n := l.length + 1) (by omega) (by omega)) ?_
      refine And.intro (mr_i1 (by omega)) ?_
      have e : (nI (v :: l).length - 1).toNatClampNeg = l.length := mr_c1 (by omega)
      rw [e, hr.1]
      exact h
  · have k0 : k = 0 := by omega
    subst k0
    rw [mr_run_tired (by omega)] at h
    exact h
theorem mr_xtrap {x1 x2 f_size f_place f_done f_height : Int32} {a_pile : Nat → Int32} {n : Nat} (hn : 0 < n) (h : Q 10001 (f_size, f_trials, f_ready, f_mutants, f_place, f_done, f_height, f_input, 1, f_changed, f_changedOp, f_changedNumber, a_op, a_number, a_trial, a_at, a_newOp, a_newNumber, a_told, a_usual, a_pile, a_seen, a_seenDone, a_seenHeight, a_seenPile)) : wX_finish_7 Q x1 n x2 f_size f_trials f_ready f_mutants f_place f_done f_height f_input 1 f_changed f_changedOp f_changedNumber a_op a_number a_trial a_at a_newOp a_newNumber a_told a_usual a_pile a_seen a_seenDone a_seenHeight a_seenPile := by
  obtain ⟨n, rfl⟩ : ∃ m, n = m + 1 := ⟨n - 1, by omega⟩
  have e : wX_finish_114 Q f_size f_trials f_ready f_mutants f_place f_done f_height f_input 1 f_changed f_changedOp f_changedNumber a_op a_number a_trial a_at a_newOp a_newNumber a_told a_usual a_pile a_seen a_seenDone a_seenHeight a_seenPile := br_f (by decide) h
  refine br_c (fun _ => e) (fun _ => ?_)
  refine br_c (fun _ => e) (fun _ => ?_)
  refine br_c (fun _ => e) (fun _ => ?_)
  exact br_f (by decide) e
/-- the step under the changed code -/
theorem mr_xeff {J : Int32 → Int32 → Int32 → Int32 → Int32 → Int32 → Int32 → Int32 → Int32 → Int32 → Int32 → Int32 → Int32 → (Nat → Int32) → (Nat → Int32) → (Nat → Int32) → (Nat → Int32) → (Nat → Int32) → (Nat → Int32) → (Nat → Int32) → (Nat → Int32) → (Nat → Int32) → (Nat → Int32) → (Nat → Int32) → (Nat → Int32) → (Nat → Int32) → Prop} {x1 x2 f_trapped f_size : Int32} {a_pile : Nat → Int32} {d p : Nat} {l : List Int32} (hE : mr_Eff f_changed f_changedOp f_changedNumber a_op a_number eo en) (hV : mr_V (eo p) (en p)) (hr : mr_Rp a_pile l) (hl : mr_ok l) (hp : p < 10)
    (h0 : ∀ (pc h : Int32), mr_step (eo p) (en p) f_input p l = none → J (x2 + 1) f_size f_trials f_ready f_mutants pc (nI (d + 1)) h f_input 1 f_changed f_changedOp f_changedNumber a_op a_number a_trial a_at a_newOp a_newNumber a_told a_usual a_pile a_seen a_seenDone a_seenHeight a_seenPile)
    (h1 : ∀ (q : Nat) (l' : List Int32) (pl : Nat → Int32), mr_step (eo p) (en p) f_input p l = some (q, l') → mr_Rp pl l' → mr_ok l' → q ≤ 13 → J (x2 + 1) f_size f_trials f_ready f_mutants (nI q) (nI (d + 1)) (nI l'.length) f_input f_trapped f_changed f_changedOp f_changedNumber a_op a_number a_trial a_at a_newOp a_newNumber a_told a_usual pl a_seen a_seenDone a_seenHeight a_seenPile) :
    wX_finish_60 Q J x1 x2 f_size f_trials f_ready f_mutants (nI p) (nI d) (nI l.length) f_input f_trapped f_changed f_changedOp f_changedNumber a_op a_number a_trial a_at a_newOp a_newNumber a_told a_usual a_pile a_seen a_seenDone a_seenHeight a_seenPile := by
  obtain ⟨ha, hb⟩ := hE p hp
  refine br_c (fun c => ?_) (fun c => ?_)
  · obtain ⟨e1, e2⟩ := ha c
    rw [← e1, ← e2] at h0 h1 hV
    exact mr_xexec hV hr hl hp (fun pc h e => nm_e (h0 pc h e)) (fun q l' pl e a b c => nm_e (h1 q l' pl e a b c))
  · obtain ⟨e1, e2⟩ := hb c
    rw [← e1, ← e2] at h0 h1 hV
    refine And.intro (vp_in_nI hp (by omega)) (And.intro (vp_in_nI hp (by omega)) ?_)
    rw [nI_clamp (by omega)]
    exact mr_xexec hV hr hl hp (fun pc h e => nm_e (h0 pc h e)) (fun q l' pl e a b c => nm_e (h1 q l' pl e a b c))
/-- finish without noting -/
theorem mr_xfin0 (hsz : sz ≤ 10) (hE : mr_Eff f_changed f_changedOp f_changedNumber a_op a_number eo en) (hV : ∀ p, p < sz → mr_V (eo p) (en p)) :
    ∀ (k n i p : Nat) (l : List Int32) (a_pile : Nat → Int32), k ≤ 40 → k < n → i + k ≤ 40 → p ≤ 13 → mr_Rp a_pile l → mr_ok l →
      (∀ (f_place' f_done' f_height' f_trapped' : Int32) (a_pile' : Nat → Int32), Q (mr_run eo en sz f_input k p l) (nI sz, f_trials, f_ready, f_mutants, f_place', f_done', f_height', f_input, f_trapped', f_changed, f_changedOp, f_changedNumber, a_op, a_number, a_trial, a_at, a_newOp, a_newNumber, a_told, a_usual, a_pile', a_seen, a_seenDone, a_seenHeight, a_seenPile)) →
      wX_finish_7 Q 0 n (nI i) (nI sz) f_trials f_ready f_mutants (nI p) (nI (40 - k)) (nI l.length) f_input 0 f_changed f_changedOp f_changedNumber a_op a_number a_trial a_at a_newOp a_newNumber a_told a_usual a_pile a_seen a_seenDone a_seenHeight a_seenPile := by
  intro k
  induction k with
  | zero =>
    intro n i p l a_pile hk hn hi hp hr hl h
    obtain ⟨n, rfl⟩ : ∃ m, n = m + 1 := ⟨n - 1, by omega⟩
    have e := mr_xend hsz hp hr hl (Or.inr rfl) (h (nI p) (nI (40 - 0)) (nI l.length) 0 a_pile)
    refine br_c (fun _ => e) (fun _ => ?_)
    exact pk_le 40 40 (fun _ => e) (fun z => absurd z (by omega))
  | succ k ih =>
    intro n i p l a_pile hk hn hi hp hr hl h
    obtain ⟨n, rfl⟩ : ∃ m, n = m + 1 := ⟨n - 1, by omega⟩
    refine pk_le 40 i (fun z => absurd z (by omega)) (fun _ => ?_)
    refine pk_le 40 (40 - (k + 1)) (fun z => absurd z (by omega)) (fun _ => ?_)
    refine pk_le sz p (fun c => mr_xend hsz hp hr hl (Or.inl c) (h _ _ _ _ _)) (fun c => ?_)
    refine br_t rfl (br_t rfl ?_)
    refine mr_xeff hE (hV p c) hr hl (by omega) (fun pc hh e => ?_) (fun q l' pl e hr' hl' hq => ?_)
    · rw [mr_run_none (by omega) e] at h
      exact mr_xtrap (by omega) (h _ _ _ _ _)
    · rw [mr_run_some (by omega) e] at h
      have e1 : 40 - (k + 1) + 1 = 40 - k := by omega
      rw [nI_1, e1]
      exact ih n (i + 1) q l' pl (by omega) (by omega) (by omega) hq hr' hl' h
end
end
section
/-! what X notes while the program runs -/
def mr_Sn (op num : Nat → Int32) (sz : Nat) (inp : Int32) (R : (Nat → Int32) → (Nat → Int32) → Int32) (seen sd sh sp : Nat → Int32) : Prop :=
  ∀ q : Nat, q < 10 →
    (seen q = 0 → ∀ o n : Int32, mr_run (upd op q o) (upd num q n) sz inp 40 0 [] = R (upd op q o) (upd num q n)) ∧
    (¬ seen q = 0 → ∃ (d : Nat) (l : List Int32), d ≤ 40 ∧ mr_ok l ∧ sd q = nI d ∧ sh q = nI l.length ∧ mr_Rp (fun i => sp (q * 6 + i)) l ∧
      ∀ o n : Int32, mr_run (upd op q o) (upd num q n) sz inp 40 0 [] = mr_run (upd op q o) (upd num q n) sz inp (40 - d) q l)
theorem mr_Sn_mono {op num : Nat → Int32} {sz : Nat} {inp : Int32} {R R' : (Nat → Int32) → (Nat → Int32) → Int32} {seen sd sh sp : Nat → Int32}
    (h : mr_Sn op num sz inp R seen sd sh sp) (e : ∀ (q : Nat) (o n : Int32), q < 10 → seen q = 0 → R (upd op q o) (upd num q n) = R' (upd op q o) (upd num q n)) :
    mr_Sn op num sz inp R' seen sd sh sp := by
  intro q hq
  refine ⟨fun z o n => ?_, (h q hq).2⟩
  rw [(h q hq).1 z o n]
  exact e q o n hq z
theorem mr_Sn_0 {op num : Nat → Int32} {sz : Nat} {inp : Int32} {seen sd sh sp : Nat → Int32} (h : ∀ q, q < 10 → seen q = 0) :
    mr_Sn op num sz inp (fun o n => mr_run o n sz inp 40 0 []) seen sd sh sp := by
  intro q hq
  exact ⟨fun _ o n => rfl, fun z => absurd (h q hq) z⟩
theorem mr_Sn_note {op num : Nat → Int32} {sz : Nat} {inp v : Int32} {d p : Nat} {l : List Int32} {pile seen sd sh sp sp' : Nat → Int32}
    (h : mr_Sn op num sz inp (fun o n => mr_run o n sz inp (40 - d) p l) seen sd sh sp) (z : seen p = 0) (hv : ¬ v = 0) (hd : d ≤ 40) (hp : p < 10) (hr : mr_Rp pile l) (hl : mr_ok l)
    (c : ∀ j, j < l.length → sp' (p * 6 + j) = pile j) (f : ∀ j, ¬ (p * 6 ≤ j ∧ j < p * 6 + 6) → sp' j = sp j) :
    mr_Sn op num sz inp (fun o n => mr_run o n sz inp (40 - d) p l) (upd seen p v) (upd sd p (nI d)) (upd sh p (nI l.length)) sp' := by
  intro q hq
  by_cases e : q = p
  · subst e
    refine ⟨fun y => absurd (pk_us.symm.trans y) hv, fun _ => ⟨d, l, hd, hl, pk_us, pk_us, ?_, (h q hq).1 z⟩⟩
    exact mr_Rp_cong (f := pile) c hr
  · rw [pk_un e, pk_un e, pk_un e]
    refine ⟨(h q hq).1, fun y => ?_⟩
    obtain ⟨d', l', h1, h2, h3, h4, h5, h6⟩ := (h q hq).2 y
    refine ⟨d', l', h1, h2, h3, h4, ?_, h6⟩
    refine mr_Rp_cong (f := fun i => sp (q * 6 + i)) (fun i hi => f _ ?_) h5
    have := h2.1
    omega
theorem mr_Sn_step {op num : Nat → Int32} {sz : Nat} {inp : Int32} {k p q : Nat} {l l' : List Int32} {seen sd sh sp : Nat → Int32}
    (h : mr_Sn op num sz inp (fun o n => mr_run o n sz inp (k + 1) p l) seen sd sh sp) (z : ¬ seen p = 0) (hp : ¬ sz ≤ p) (e : mr_step (op p) (num p) inp p l = some (q, l')) :
    mr_Sn op num sz inp (fun o n => mr_run o n sz inp k q l') seen sd sh sp := by
  refine mr_Sn_mono h (fun t o n ht y => ?_)
  have ne : p ≠ t := fun c => z (c ▸ y)
  show mr_run _ _ sz inp (k + 1) p l = mr_run _ _ sz inp k q l'
  refine mr_run_some hp ?_
  rw [pk_un ne, pk_un ne]
  exact e
theorem mr_Sn_trap {op num : Nat → Int32} {sz : Nat} {inp : Int32} {k p : Nat} {l : List Int32} {seen sd sh sp : Nat → Int32}
    (h : mr_Sn op num sz inp (fun o n => mr_run o n sz inp (k + 1) p l) seen sd sh sp) (z : ¬ seen p = 0) (hp : ¬ sz ≤ p) (e : mr_step (op p) (num p) inp p l = none) :
    mr_Sn op num sz inp (fun _ _ => 10001) seen sd sh sp := by
  refine mr_Sn_mono h (fun t o n ht y => ?_)
  have ne : p ≠ t := fun c => z (c ▸ y)
  show mr_run _ _ sz inp (k + 1) p l = 10001
  refine mr_run_none hp ?_
  rw [pk_un ne, pk_un ne]
  exact e
theorem mr_Sn_end {op num : Nat → Int32} {sz : Nat} {inp : Int32} {k p : Nat} {l : List Int32} {seen sd sh sp : Nat → Int32}
    (h : mr_Sn op num sz inp (fun o n => mr_run o n sz inp k p l) seen sd sh sp) (hk : sz ≤ p ∨ k = 0) :
    mr_Sn op num sz inp (fun _ _ => mr_run op num sz inp k p l) seen sd sh sp := by
  refine mr_Sn_mono h (fun t o n ht y => ?_)
  show mr_run _ _ sz inp k p l = mr_run op num sz inp k p l
  by_cases c : sz ≤ p
  · rw [mr_run_end c, mr_run_end c]
  · have k0 : k = 0 := by omega
    subst k0
    rw [mr_run_tired c, mr_run_tired c]
theorem mr_ix (p i : Nat) : nI p * 6 + nI i = nI (p * 6 + i) := by
  show nI p * nI 6 + nI i = _
  rw [pk_mul, nI_add]
theorem mr_nb1 : ¬ vp_nar .boolean 1 = 0 := by
  show ¬ (1 : Int32) = 0
  decide
theorem mr_nb0 : vp_nar .boolean 0 = 0 := rfl
section
variable {f_trials f_ready f_mutants f_done f_input f_trapped f_changed f_changedOp f_changedNumber : Int32} {a_op a_number a_trial a_at a_newOp a_newNumber a_told a_usual a_pile a_seen a_seenDone a_seenHeight : Nat → Int32}
variable {P : SX → Prop} {Q : Int32 → SX → Prop} {f_size : Int32}
theorem mr_xnote38 {p h : Nat} (hp : p < 10) (hh : h ≤ 6) (sp0 : Nat → Int32)
    (hP : ∀ sp' : Nat → Int32, (∀ j, j < h → sp' (p * 6 + j) = a_pile j) → (∀ j, ¬ (p * 6 ≤ j ∧ j < p * 6 + 6) → sp' j = sp0 j) → P (f_size, f_trials, f_ready, f_mutants, nI p, f_done, nI h, f_input, f_trapped, f_changed, f_changedOp, f_changedNumber, a_op, a_number, a_trial, a_at, a_newOp, a_newNumber, a_told, a_usual, a_pile, a_seen, a_seenDone, a_seenHeight, sp')) :
    ∀ (k n i : Nat) (sp : Nat → Int32), i + k = h → k < n → (∀ j, j < i → sp (p * 6 + j) = a_pile j) → (∀ j, ¬ (p * 6 ≤ j ∧ j < p * 6 + 6) → sp j = sp0 j) →
      wX_note_38 P f_size f_trials f_ready f_mutants (nI p) f_done (nI h) f_input f_trapped f_changed f_changedOp f_changedNumber n (nI i) a_op a_number a_trial a_at a_newOp a_newNumber a_told a_usual a_pile a_seen a_seenDone a_seenHeight sp := by
  intro k
  induction k with
  | zero =>
    intro n i sp hi hn hc hf
    obtain ⟨n, rfl⟩ : ∃ m, n = m + 1 := ⟨n - 1, by omega⟩
    refine pk_le h i (fun _ => hP sp ?_ hf) (fun z => absurd z (by omega))
    intro j hj
    exact hc j (by omega)
  | succ k ih =>
    intro n i sp hi hn hc hf
    obtain ⟨n, rfl⟩ : ∃ m, n = m + 1 := ⟨n - 1, by omega⟩
    refine pk_le h i (fun z => absurd z (by omega)) (fun _ => ?_)
    refine And.intro (vp_in_nI (by omega) (by omega)) ?_
    refine And.intro (by rw [mr_ix]; exact vp_in_nI (by omega) (by omega)) ?_
    refine nm_r (e' := upd sp (p * 6 + i) (a_pile i)) (by rw [mr_ix, nI_clamp (by omega), nI_clamp (by omega)]) ?_
    refine nm_r (nI_1 i) ?_
    refine ih n (i + 1) _ (by omega) (by omega) (fun j hj => ?_) (fun j hj => ?_)
    · by_cases e : j = i
      · subst e; exact pk_us
      · rw [pk_un (by omega)]; exact hc j (by omega)
    · rw [pk_un (by omega)]; exact hf j hj
theorem mr_xnote {a_seenPile : Nat → Int32} {p h : Nat} (hp : p < 10) (hh : h ≤ 6)
    (hP : ∀ sp' : Nat → Int32, (∀ j, j < h → sp' (p * 6 + j) = a_pile j) → (∀ j, ¬ (p * 6 ≤ j ∧ j < p * 6 + 6) → sp' j = a_seenPile j) →
      P (f_size, f_trials, f_ready, f_mutants, nI p, f_done, nI h, f_input, f_trapped, f_changed, f_changedOp, f_changedNumber, a_op, a_number, a_trial, a_at, a_newOp, a_newNumber, a_told, a_usual, a_pile, upd a_seen p (vp_nar .boolean 1), upd a_seenDone p f_done, upd a_seenHeight p (nI h), sp')) :
    wpX_note P (f_size, f_trials, f_ready, f_mutants, nI p, f_done, nI h, f_input, f_trapped, f_changed, f_changedOp, f_changedNumber, a_op, a_number, a_trial, a_at, a_newOp, a_newNumber, a_told, a_usual, a_pile, a_seen, a_seenDone, a_seenHeight, a_seenPile) := by
  have e : (nI p).toNatClampNeg = p := nI_clamp (by omega)
  refine And.intro (vp_in_nI hp (by omega)) (nm_r (e' := upd a_seen p (vp_nar .boolean 1)) (by rw [e]) ?_)
  refine And.intro (vp_in_nI hp (by omega)) (nm_r (e' := upd a_seenDone p f_done) (by rw [e]) ?_)
  refine And.intro (vp_in_nI hp (by omega)) (nm_r (e' := upd a_seenHeight p (nI h)) (by rw [e]) ?_)
  exact Exists.intro (h + 1) (mr_xnote38 hp hh a_seenPile hP h (h + 1) 0 a_seenPile (by omega) (by omega) (fun j hj => absurd hj (by omega)) (fun _ _ => rfl))
end
section
variable {f_trials f_ready f_mutants f_input f_changedOp f_changedNumber : Int32} {a_op a_number a_trial a_at a_newOp a_newNumber a_told a_usual : Nat → Int32}
variable {Q : Int32 → SX → Prop} {sz : Nat}
/-- finish with noting -/
theorem mr_xfin1 (hsz : sz ≤ 10) (hV : ∀ p, p < sz → mr_V (a_op p) (a_number p)) :
    ∀ (k n i p : Nat) (l : List Int32) (a_pile a_seen a_seenDone a_seenHeight a_seenPile : Nat → Int32), k ≤ 40 → k < n → i + k ≤ 40 → p ≤ 13 → mr_Rp a_pile l → mr_ok l →
      mr_Sn a_op a_number sz f_input (fun o n => mr_run o n sz f_input k p l) a_seen a_seenDone a_seenHeight a_seenPile →
      (∀ (f_place' f_done' f_height' f_trapped' : Int32) (a_pile' a_seen' a_seenDone' a_seenHeight' a_seenPile' : Nat → Int32),
        mr_Sn a_op a_number sz f_input (fun _ _ => mr_run a_op a_number sz f_input k p l) a_seen' a_seenDone' a_seenHeight' a_seenPile' →
        Q (mr_run a_op a_number sz f_input k p l) (nI sz, f_trials, f_ready, f_mutants, f_place', f_done', f_height', f_input, f_trapped', -1, f_changedOp, f_changedNumber, a_op, a_number, a_trial, a_at, a_newOp, a_newNumber, a_told, a_usual, a_pile', a_seen', a_seenDone', a_seenHeight', a_seenPile')) →
      wX_finish_7 Q 1 n (nI i) (nI sz) f_trials f_ready f_mutants (nI p) (nI (40 - k)) (nI l.length) f_input 0 (-1) f_changedOp f_changedNumber a_op a_number a_trial a_at a_newOp a_newNumber a_told a_usual a_pile a_seen a_seenDone a_seenHeight a_seenPile := by
  intro k
  induction k with
  | zero =>
    intro n i p l a_pile a_seen a_seenDone a_seenHeight a_seenPile hk hn hi hp hr hl hS h
    obtain ⟨n, rfl⟩ : ∃ m, n = m + 1 := ⟨n - 1, by omega⟩
    have e := mr_xend hsz hp hr hl (Or.inr rfl) (h (nI p) (nI (40 - 0)) (nI l.length) 0 a_pile a_seen a_seenDone a_seenHeight a_seenPile (mr_Sn_end hS (Or.inr rfl)))
    refine br_c (fun _ => e) (fun _ => ?_)
    exact pk_le 40 40 (fun _ => e) (fun z => absurd z (by omega))
  | succ k ih =>
    intro n i p l a_pile a_seen a_seenDone a_seenHeight a_seenPile hk hn hi hp hr hl hS h
    obtain ⟨n, rfl⟩ : ∃ m, n = m + 1 := ⟨n - 1, by omega⟩
    refine pk_le 40 i (fun z => absurd z (by omega)) (fun _ => ?_)
    refine pk_le 40 (40 - (k + 1)) (fun z => absurd z (by omega)) (fun _ => ?_)
    refine pk_le sz p (fun c => mr_xend hsz hp hr hl (Or.inl c) (h _ _ _ _ _ _ _ _ _ (mr_Sn_end hS (Or.inl c)))) (fun c => ?_)
    refine br_t rfl (br_f (by decide) ?_)
    refine And.intro (vp_in_nI (by omega) (by omega)) ?_
    have key : ∀ (a_seen a_seenDone a_seenHeight a_seenPile : Nat → Int32), mr_Sn a_op a_number sz f_input (fun o n => mr_run o n sz f_input (k + 1) p l) a_seen a_seenDone a_seenHeight a_seenPile → ¬ a_seen p = 0 →
        wX_finish_60 Q (wX_finish_7 Q 1 n) 1 (nI i) (nI sz) f_trials f_ready f_mutants (nI p) (nI (40 - (k + 1))) (nI l.length) f_input 0 (-1) f_changedOp f_changedNumber a_op a_number a_trial a_at a_newOp a_newNumber a_told a_usual a_pile a_seen a_seenDone a_seenHeight a_seenPile := by
      intro a_seen a_seenDone a_seenHeight a_seenPile hS z
      refine mr_xeff (mr_Eff_m1 _ _ _ _) (hV p c) hr hl (by omega) (fun pc hh e => ?_) (fun q l' pl e hr' hl' hq => ?_)
      · rw [mr_run_none (by omega) e] at h
        exact mr_xtrap (by omega) (h _ _ _ _ _ _ _ _ _ (mr_Sn_trap hS z (by omega) e))
      · rw [mr_run_some (by omega) e] at h
        have e1 : 40 - (k + 1) + 1 = 40 - k := by omega
        rw [nI_1, e1]
        exact ih n (i + 1) q l' pl _ _ _ _ (by omega) (by omega) (by omega) hq hr' hl' (mr_Sn_step hS z (by omega) e) h
    have e2 : (nI p).toNatClampNeg = p := nI_clamp (by omega)
    rw [e2]
    refine br_c (fun z => ?_) (fun z => key _ _ _ _ hS z)
    refine mr_xnote (by omega) hl.1 (fun sp' h1 h2 => ?_)
    refine key _ _ _ _ ?_ ?_
    · have e3 : 40 - (40 - (k + 1)) = k + 1 := by omega
      have hS' : mr_Sn a_op a_number sz f_input (fun o n => mr_run o n sz f_input (40 - (40 - (k + 1))) p l) a_seen a_seenDone a_seenHeight a_seenPile := by rw [e3]; exact hS
      have hN := mr_Sn_note hS' z mr_nb1 (by omega) (by omega) hr hl h1 h2
      rw [e3] at hN
      exact hN
    · rw [pk_us]; exact mr_nb1
theorem mr_xwhole2 {f_changed f_place f_done f_height f_trapped x : Int32} {a_pile a_seenDone a_seenHeight a_seenPile : Nat → Int32} (hsz : sz ≤ 10) (hV : ∀ p, p < sz → mr_V (a_op p) (a_number p))
    (h : ∀ (f_place' f_done' f_height' f_trapped' : Int32) (a_pile' a_seen' a_seenDone' a_seenHeight' a_seenPile' : Nat → Int32),
        mr_Sn a_op a_number sz x (fun _ _ => mr_run a_op a_number sz x 40 0 []) a_seen' a_seenDone' a_seenHeight' a_seenPile' →
        Q (mr_run a_op a_number sz x 40 0 []) (nI sz, f_trials, f_ready, f_mutants, f_place', f_done', f_height', x, f_trapped', -1, f_changedOp, f_changedNumber, a_op, a_number, a_trial, a_at, a_newOp, a_newNumber, a_told, a_usual, a_pile', a_seen', a_seenDone', a_seenHeight', a_seenPile')) :
    ∀ (k n i : Nat) (a_seen : Nat → Int32), i + k = 10 → k < n → (∀ j, j < i → a_seen j = 0) → wX_runWhole_2 Q x (nI sz) f_trials f_ready f_mutants f_place f_done f_height f_input f_trapped f_changed f_changedOp f_changedNumber n (nI i) a_op a_number a_trial a_at a_newOp a_newNumber a_told a_usual a_pile a_seen a_seenDone a_seenHeight a_seenPile := by
  intro k
  induction k with
  | zero =>
    intro n i a_seen hi hn hc
    obtain ⟨n, rfl⟩ : ∃ m, n = m + 1 := ⟨n - 1, by omega⟩
    refine pk_le 10 i (fun _ => ?_) (fun z => absurd z (by omega))
    refine Exists.intro 41 ?_
    refine mr_xfin1 hsz hV 40 41 0 0 [] _ _ _ _ _ (by omega) (by omega) (by omega) (by omega) trivial mr_ok_nil (mr_Sn_0 (fun q hq => hc q (by omega))) h
  | succ k ih =>
    intro n i a_seen hi hn hc
    obtain ⟨n, rfl⟩ : ∃ m, n = m + 1 := ⟨n - 1, by omega⟩
    refine pk_le 10 i (fun z => absurd z (by omega)) (fun _ => ?_)
    refine And.intro (vp_in_nI (by omega) (by omega)) ?_
    refine nm_r (e' := upd a_seen i 0) (by rw [nI_clamp (by omega), mr_nb0]) ?_
    refine nm_r (nI_1 i) ?_
    refine ih n (i + 1) _ (by omega) (by omega) (fun j hj => ?_)
    by_cases e : j = i
    · subst e; exact pk_us
    · rw [pk_un e]; exact hc j (by omega)
theorem mr_xwhole {f_changed f_place f_done f_height f_trapped x : Int32} {a_pile a_seen a_seenDone a_seenHeight a_seenPile : Nat → Int32} (hsz : sz ≤ 10) (hV : ∀ p, p < sz → mr_V (a_op p) (a_number p))
    (h : ∀ (f_place' f_done' f_height' f_trapped' : Int32) (a_pile' a_seen' a_seenDone' a_seenHeight' a_seenPile' : Nat → Int32),
        mr_Sn a_op a_number sz x (fun _ _ => mr_run a_op a_number sz x 40 0 []) a_seen' a_seenDone' a_seenHeight' a_seenPile' →
        Q (mr_run a_op a_number sz x 40 0 []) (nI sz, f_trials, f_ready, f_mutants, f_place', f_done', f_height', x, f_trapped', -1, f_changedOp, f_changedNumber, a_op, a_number, a_trial, a_at, a_newOp, a_newNumber, a_told, a_usual, a_pile', a_seen', a_seenDone', a_seenHeight', a_seenPile')) :
    wpX_runWhole Q (nI sz, f_trials, f_ready, f_mutants, f_place, f_done, f_height, f_input, f_trapped, f_changed, f_changedOp, f_changedNumber, a_op, a_number, a_trial, a_at, a_newOp, a_newNumber, a_told, a_usual, a_pile, a_seen, a_seenDone, a_seenHeight, a_seenPile) x :=
  Exists.intro 11 (mr_xwhole2 hsz hV h 10 11 0 a_seen (by omega) (by omega) (fun j hj => absurd hj (by omega)))
end
section
variable {f_trials f_ready f_mutants f_input f_trapped f_changed f_changedOp f_changedNumber : Int32} {a_op a_number a_trial a_at a_newOp a_newNumber a_told a_usual a_seen a_seenDone a_seenHeight a_seenPile : Nat → Int32}
variable {Q : Int32 → SX → Prop} {sz : Nat}
theorem mr_xfrom46 {i m d h : Nat} {l : List Int32} (hsz : sz ≤ 10) (hi : i < 10) (hm : m < 30) (hd : d ≤ 40) (hh : l.length = h) (hl : mr_ok l) (hr : mr_Rp (fun t => a_seenPile (i * 6 + t)) l)
    (hV : ∀ p, p < sz → mr_V (upd a_op i (a_newOp m) p) (upd a_number i (a_newNumber m) p))
    (hQ : ∀ (f_place' f_done' f_height' f_trapped' f_changed' f_changedOp' f_changedNumber' : Int32) (a_pile' : Nat → Int32), Q (mr_run (upd a_op i (a_newOp m)) (upd a_number i (a_newNumber m)) sz f_input (40 - d) i l) (nI sz, f_trials, f_ready, f_mutants, f_place', f_done', f_height', f_input, f_trapped', f_changed', f_changedOp', f_changedNumber', a_op, a_number, a_trial, a_at, a_newOp, a_newNumber, a_told, a_usual, a_pile', a_seen, a_seenDone, a_seenHeight, a_seenPile)) :
    ∀ (k n j : Nat) (a_pile : Nat → Int32), j + k = h → k < n → (∀ t, t < j → a_pile t = a_seenPile (i * 6 + t)) → wX_runFrom_46 Q (nI m) (nI i) (nI sz) f_trials f_ready f_mutants (nI i) (nI d) (nI h) f_input f_trapped f_changed f_changedOp f_changedNumber n (nI j) a_op a_number a_trial a_at a_newOp a_newNumber a_told a_usual a_pile a_seen a_seenDone a_seenHeight a_seenPile := by
  have h6 := hl.1
  intro k
  induction k with
  | zero =>
    intro n j a_pile hj hn hc
    obtain ⟨n, rfl⟩ : ∃ m, n = m + 1 := ⟨n - 1, by omega⟩
    refine pk_le h j (fun _ => ?_) (fun z => absurd z (by omega))
    have em : (nI m).toNatClampNeg = m := nI_clamp (by omega)
    refine And.intro (vp_in_nI hm (by omega)) (nm_r (e' := a_newOp m) (by rw [em]) ?_)
    refine And.intro (vp_in_nI hm (by omega)) (nm_r (e' := a_newNumber m) (by rw [em]) ?_)
    refine Exists.intro 41 ?_
    have e3 : d = 40 - (40 - d) := by omega
    have hr' : mr_Rp a_pile l := mr_Rp_cong (f := fun t => a_seenPile (i * 6 + t)) (fun t ht => hc t (by omega)) hr
    have key := mr_xfin0 (Q := Q) (f_changed := nI i) (f_changedOp := a_newOp m) (f_changedNumber := a_newNumber m) (a_op := a_op) (a_number := a_number) hsz (mr_Eff_ch hi _ _ _ _) hV (40 - d) 41 0 i l a_pile (by omega) (by omega) (by omega) (by omega) hr' hl (fun a b c d e => hQ a b c d _ _ _ e)
    rw [← e3, hh] at key
    exact key
  | succ k ih =>
    intro n j a_pile hj hn hc
    obtain ⟨n, rfl⟩ : ∃ m, n = m + 1 := ⟨n - 1, by omega⟩
    refine pk_le h j (fun z => absurd z (by omega)) (fun _ => ?_)
    refine And.intro (by rw [mr_ix]; exact vp_in_nI (by omega) (by omega)) ?_
    refine And.intro (vp_in_nI (by omega) (by omega)) ?_
    refine nm_r (e' := upd a_pile j (a_seenPile (i * 6 + j))) (by rw [mr_ix, nI_clamp (by omega), nI_clamp (by omega)]) ?_
    refine nm_r (nI_1 j) ?_
    refine ih n (j + 1) _ (by omega) (by omega) (fun t ht => ?_)
    by_cases e : t = j
    · subst e; exact pk_us
    · rw [pk_un e]; exact hc t (by omega)
theorem mr_xfrom {f_place f_done f_height r : Int32} {a_pile : Nat → Int32} {i m : Nat} (hsz : sz ≤ 10) (hi : i < sz) (hm : m < 30) (hat : a_at m = nI i)
    (hV : ∀ p, p < sz → mr_V (upd a_op i (a_newOp m) p) (upd a_number i (a_newNumber m) p))
    (hS : mr_Sn a_op a_number sz f_input (fun _ _ => r) a_seen a_seenDone a_seenHeight a_seenPile)
    (hQ : ∀ (f_place' f_done' f_height' f_trapped' f_changed' f_changedOp' f_changedNumber' : Int32) (a_pile' : Nat → Int32), Q (mr_run (upd a_op i (a_newOp m)) (upd a_number i (a_newNumber m)) sz f_input 40 0 []) (nI sz, f_trials, f_ready, f_mutants, f_place', f_done', f_height', f_input, f_trapped', f_changed', f_changedOp', f_changedNumber', a_op, a_number, a_trial, a_at, a_newOp, a_newNumber, a_told, a_usual, a_pile', a_seen, a_seenDone, a_seenHeight, a_seenPile)) :
    wpX_runFrom Q (nI sz, f_trials, f_ready, f_mutants, f_place, f_done, f_height, f_input, f_trapped, f_changed, f_changedOp, f_changedNumber, a_op, a_number, a_trial, a_at, a_newOp, a_newNumber, a_told, a_usual, a_pile, a_seen, a_seenDone, a_seenHeight, a_seenPile) (nI m) r := by
  have em : (nI m).toNatClampNeg = m := nI_clamp (by omega)
  have ei : (nI i).toNatClampNeg = i := nI_clamp (by omega)
  have hv : vp_in (nI i) 10 := vp_in_nI (by omega) (by omega)
  obtain ⟨h1, h2⟩ := hS i (by omega)
  refine And.intro (vp_in_nI hm (by omega)) (nm_r (e' := nI i) (by rw [em, hat]) ?_)
  refine And.intro hv ?_
  rw [ei]
  refine br_c (fun z => ?_) (fun z => ?_)
  · rw [h1 z] at hQ
    exact hQ _ _ _ _ _ _ _ _
  · obtain ⟨d, l, hd, hl, e1, e2, hr, h6⟩ := h2 z
    rw [h6] at hQ
    refine And.intro hv (nm_r (e' := nI d) e1 ?_)
    refine And.intro hv (nm_r (e' := nI l.length) e2 ?_)
    exact Exists.intro (l.length + 1) (mr_xfrom46 hsz (by omega) hm hd rfl hl hr hV hQ l.length (l.length + 1) 0 a_pile (by omega) (by omega) (fun t ht => absurd ht (by omega)))
end
end
section
/-! the mutants as a list -/
def mr_mk (o n : Int32) : List (Int32 × Int32) :=
  if o = 0 then (if 7 ≤ n then [] else [(0, n + 1)]) ++ (if n ≤ -8 then [] else [(0, n - 1)])
  else if o = 1 then [(0, 0)]
  else if o = 2 then [(3, 0), (4, 0), (5, 0)]
  else if o = 3 then [(2, 0), (4, 0), (5, 0)]
  else if o = 4 then [(2, 0), (3, 0), (5, 0)]
  else if o = 5 then [(2, 0), (3, 0), (4, 0)]
  else if o = 6 then [(1, 0)]
  else if o = 7 then [(6, 0)]
  else if o = 8 then (if 3 ≤ n then [] else [(8, n + 1)]) ++ (if n ≤ 0 then [] else [(8, n - 1)])
  else if n ≤ 0 then [] else [(9, n - 1)]
theorem mr_mk0 (n : Int32) : mr_mk 0 n = (if 7 ≤ n then [] else [(0, n + 1)]) ++ (if n ≤ -8 then [] else [(0, n - 1)]) := if_pos rfl
theorem mr_mk1 (n : Int32) : mr_mk 1 n = [(0, 0)] := by unfold mr_mk; rw [if_neg (by decide), if_pos rfl]
theorem mr_mk2 (n : Int32) : mr_mk 2 n = [(3, 0), (4, 0), (5, 0)] := by unfold mr_mk; rw [if_neg (by decide), if_neg (by decide), if_pos rfl]
theorem mr_mk3 (n : Int32) : mr_mk 3 n = [(2, 0), (4, 0), (5, 0)] := by unfold mr_mk; rw [if_neg (by decide), if_neg (by decide), if_neg (by decide), if_pos rfl]
theorem mr_mk4 (n : Int32) : mr_mk 4 n = [(2, 0), (3, 0), (5, 0)] := by unfold mr_mk; rw [if_neg (by decide), if_neg (by decide), if_neg (by decide), if_neg (by decide), if_pos rfl]
theorem mr_mk5 (n : Int32) : mr_mk 5 n = [(2, 0), (3, 0), (4, 0)] := by unfold mr_mk; rw [if_neg (by decide), if_neg (by decide), if_neg (by decide), if_neg (by decide), if_neg (by decide), if_pos rfl]
theorem mr_mk6 (n : Int32) : mr_mk 6 n = [(1, 0)] := by unfold mr_mk; rw [if_neg (by decide), if_neg (by decide), if_neg (by decide), if_neg (by decide), if_neg (by decide), if_neg (by decide), if_pos rfl]
theorem mr_mk7 (n : Int32) : mr_mk 7 n = [(6, 0)] := by unfold mr_mk; rw [if_neg (by decide), if_neg (by decide), if_neg (by decide), if_neg (by decide), if_neg (by decide), if_neg (by decide), if_neg (by decide), if_pos rfl]
theorem mr_mk8 (n : Int32) : mr_mk 8 n = (if 3 ≤ n then [] else [(8, n + 1)]) ++ (if n ≤ 0 then [] else [(8, n - 1)]) := by unfold mr_mk; rw [if_neg (by decide), if_neg (by decide), if_neg (by decide), if_neg (by decide), if_neg (by decide), if_neg (by decide), if_neg (by decide), if_neg (by decide), if_pos rfl]
theorem mr_mk9 (n : Int32) : mr_mk 9 n = if n ≤ 0 then [] else [(9, n - 1)] := by unfold mr_mk; rw [if_neg (by decide), if_neg (by decide), if_neg (by decide), if_neg (by decide), if_neg (by decide), if_neg (by decide), if_neg (by decide), if_neg (by decide), if_neg (by decide)]
theorem mr_mk_len {o n : Int32} (hv : mr_V o n) : (mr_mk o n).length ≤ 3 := by
  rcases hv with rfl | rfl | (rfl | rfl | rfl | rfl) | rfl | rfl | ⟨rfl, -⟩ | ⟨rfl, -⟩
  · rw [mr_mk0]; split <;> split <;> simp
  · rw [mr_mk1]; decide
  · rw [mr_mk2]; decide
  · rw [mr_mk3]; decide
  · rw [mr_mk4]; decide
  · rw [mr_mk5]; decide
  · rw [mr_mk6]; decide
  · rw [mr_mk7]; decide
  · rw [mr_mk8]; split <;> split <;> simp
  · rw [mr_mk9]; split <;> simp
theorem mr_V0 (n : Int32) : mr_V 0 n := Or.inl rfl
theorem mr_V1 (n : Int32) : mr_V 1 n := Or.inr (Or.inl rfl)
theorem mr_Va {o : Int32} (n : Int32) (h : mr_ar o) : mr_V o n := Or.inr (Or.inr (Or.inl h))
theorem mr_V6 (n : Int32) : mr_V 6 n := Or.inr (Or.inr (Or.inr (Or.inl rfl)))
theorem mr_V8 {j : Nat} (h : j ≤ 3) : mr_V 8 (nI j) := Or.inr (Or.inr (Or.inr (Or.inr (Or.inr (Or.inl ⟨rfl, j, h, rfl⟩)))))
theorem mr_V9 {j : Nat} (h : j ≤ 9) : mr_V 9 (nI j) := Or.inr (Or.inr (Or.inr (Or.inr (Or.inr (Or.inr ⟨rfl, j, h, rfl⟩)))))
theorem mr_pr {j : Nat} (h : 0 < j) : nI j - 1 = nI (j - 1) := by
  obtain ⟨i, rfl⟩ : ∃ i, j = i + 1 := ⟨j - 1, by omega⟩
  rw [nI_pred]; rfl
theorem mr_mk_V {o n : Int32} (hv : mr_V o n) : ∀ e, e ∈ mr_mk o n → mr_V e.1 e.2 := by
  intro e he
  have t2 : ∀ {a b c : Int32 × Int32}, mr_V a.1 a.2 → mr_V b.1 b.2 → mr_V c.1 c.2 → e ∈ [a, b, c] → mr_V e.1 e.2 := by
    intro a b c ha hb hc h
    rcases List.mem_cons.mp h with rfl | h
    · exact ha
    · rcases List.mem_cons.mp h with rfl | h
      · exact hb
      · rw [List.mem_singleton.mp h]; exact hc
  have a2 : mr_V 2 0 := mr_Va 0 (Or.inl rfl)
  have a3 : mr_V 3 0 := mr_Va 0 (Or.inr (Or.inl rfl))
  have a4 : mr_V 4 0 := mr_Va 0 (Or.inr (Or.inr (Or.inl rfl)))
  have a5 : mr_V 5 0 := mr_Va 0 (Or.inr (Or.inr (Or.inr rfl)))
  rcases hv with rfl | rfl | (rfl | rfl | rfl | rfl) | rfl | rfl | ⟨rfl, j, hj, rfl⟩ | ⟨rfl, j, hj, rfl⟩
  · rw [mr_mk0] at he
    rcases List.mem_append.mp he with h | h
    · split at h
      · cases h
      · rw [List.mem_singleton.mp h]; exact mr_V0 _
    · split at h
      · cases h
      · rw [List.mem_singleton.mp h]; exact mr_V0 _
  · rw [mr_mk1] at he
    rw [List.mem_singleton.mp he]; exact mr_V0 _
  · rw [mr_mk2] at he; exact t2 a3 a4 a5 he
  · rw [mr_mk3] at he; exact t2 a2 a4 a5 he
  · rw [mr_mk4] at he; exact t2 a2 a3 a5 he
  · rw [mr_mk5] at he; exact t2 a2 a3 a4 he
  · rw [mr_mk6] at he
    rw [List.mem_singleton.mp he]; exact mr_V1 _
  · rw [mr_mk7] at he
    rw [List.mem_singleton.mp he]; exact mr_V6 _
  · rw [mr_mk8] at he
    rcases List.mem_append.mp he with h | h
    · split at h
      · cases h
      · next c =>
        have c' : ¬ nI 3 ≤ nI j := c
        rw [nI_leI (by omega) (by omega)] at c'
        rw [List.mem_singleton.mp h]
        show mr_V 8 (nI j + 1)
        rw [nI_1]; exact mr_V8 (by omega)
    · split at h
      · cases h
      · next c =>
        have c' : ¬ nI j ≤ nI 0 := c
        rw [nI_leI (by omega) (by omega)] at c'
        rw [List.mem_singleton.mp h]
        show mr_V 8 (nI j - 1)
        rw [mr_pr (by omega)]; exact mr_V8 (by omega)
  · rw [mr_mk9] at he
    split at he
    · cases he
    · next c =>
      have c' : ¬ nI j ≤ nI 0 := c
      rw [nI_leI (by omega) (by omega)] at c'
      rw [List.mem_singleton.mp he]
      show mr_V 9 (nI j - 1)
      rw [mr_pr (by omega)]; exact mr_V9 (by omega)
def mr_tag (i : Nat) (L : List (Int32 × Int32)) : List (Nat × Int32 × Int32) := L.map (fun e => (i, e.1, e.2))
theorem mr_tag_len (i : Nat) (L : List (Int32 × Int32)) : (mr_tag i L).length = L.length := List.length_map _
theorem mr_tag_get {i j : Nat} {L : List (Int32 × Int32)} {e : Int32 × Int32} (h : L[j]? = some e) : (mr_tag i L)[j]? = some (i, e.1, e.2) := by
  unfold mr_tag
  rw [List.getElem?_map, h]; rfl
/-- all mutants at the first k instructions -/
def mr_al (op num : Nat → Int32) : Nat → List (Nat × Int32 × Int32)
  | 0 => []
  | k + 1 => mr_al op num k ++ mr_tag k (mr_mk (op k) (num k))
theorem mr_al_len {op num : Nat → Int32} : ∀ {k : Nat}, (∀ p, p < k → mr_V (op p) (num p)) → (mr_al op num k).length ≤ 3 * k
  | 0, _ => Nat.le_refl _
  | k + 1, hV => by
    have h1 := mr_al_len (op := op) (num := num) (k := k) (fun p hp => hV p (by omega))
    have h2 := mr_mk_len (hV k (by omega))
    show (mr_al op num k ++ mr_tag k (mr_mk (op k) (num k))).length ≤ _
    rw [List.length_append, mr_tag_len]
    omega
theorem mr_al_s (op num : Nat → Int32) (k : Nat) : (mr_al op num (k + 1)).length = (mr_al op num k).length + (mr_mk (op k) (num k)).length := by
  show (mr_al op num k ++ mr_tag k (mr_mk (op k) (num k))).length = _
  rw [List.length_append, mr_tag_len]
theorem mr_al_mem {op num : Nat → Int32} {e : Nat × Int32 × Int32} : ∀ {k : Nat}, (∀ p, p < k → mr_V (op p) (num p)) → e ∈ mr_al op num k → e.1 < k ∧ mr_V e.2.1 e.2.2
  | 0, _, h => by cases h
  | k + 1, hV, h => by
    rcases List.mem_append.mp h with h | h
    · obtain ⟨h1, h2⟩ := mr_al_mem (fun p hp => hV p (by omega)) h
      exact ⟨by omega, h2⟩
    · obtain ⟨a, ha, rfl⟩ := List.mem_map.mp h
      exact ⟨Nat.lt_succ_self _, mr_mk_V (hV k (by omega)) a ha⟩
theorem mr_al_pre (op num : Nat → Int32) {i : Nat} : ∀ {s : Nat}, i ≤ s → ∃ t, mr_al op num s = mr_al op num i ++ t := by
  intro s
  induction s with
  | zero => intro h; obtain rfl : i = 0 := by omega
            exact ⟨[], rfl⟩
  | succ s ih =>
    intro h
    by_cases c : i = s + 1
    · subst c; exact ⟨[], (List.append_nil _).symm⟩
    · obtain ⟨t, ht⟩ := ih (by omega)
      refine ⟨t ++ mr_tag s (mr_mk (op s) (num s)), ?_⟩
      show mr_al op num s ++ mr_tag s (mr_mk (op s) (num s)) = _
      rw [ht, List.append_assoc]
theorem mr_al_get {op num : Nat → Int32} {i s j : Nat} {e : Int32 × Int32} (hi : i < s) (h : (mr_mk (op i) (num i))[j]? = some e) :
    (mr_al op num s)[(mr_al op num i).length + j]? = some (i, e.1, e.2) := by
  obtain ⟨t, ht⟩ := mr_al_pre op num (i := i + 1) (s := s) (by omega)
  have hj : j < (mr_mk (op i) (num i)).length := (List.getElem?_eq_some_iff.mp h).1
  rw [ht]
  show ((mr_al op num i ++ mr_tag i (mr_mk (op i) (num i))) ++ t)[(mr_al op num i).length + j]? = _
  rw [List.append_assoc, List.getElem?_append_right (by omega), Nat.add_sub_cancel_left, List.getElem?_append_left (by rw [mr_tag_len]; exact hj)]
  exact mr_tag_get h
theorem mr_al_lt {op num : Nat → Int32} {i s j : Nat} (hi : i < s) (h : j < (mr_mk (op i) (num i)).length) : (mr_al op num i).length + j < (mr_al op num s).length := by
  have := mr_al_get (op := op) (num := num) hi (List.getElem?_eq_getElem h)
  exact (List.getElem?_eq_some_iff.mp this).1
/-- X's tables hold the list -/
def mr_Mt (at' no nn : Nat → Int32) (L : List (Nat × Int32 × Int32)) : Prop := ∀ (m : Nat) (e : Nat × Int32 × Int32), L[m]? = some e → at' m = nI e.1 ∧ no m = e.2.1 ∧ nn m = e.2.2
theorem mr_Mt_0 (at' no nn : Nat → Int32) : mr_Mt at' no nn [] := fun m e h => by cases h
theorem mr_Mt_app {at' no nn : Nat → Int32} {L : List (Nat × Int32 × Int32)} (h : mr_Mt at' no nn L) (i : Nat) (o n : Int32) :
    mr_Mt (upd at' L.length (nI i)) (upd no L.length o) (upd nn L.length n) (L ++ [(i, o, n)]) := by
  intro m e he
  rcases Nat.lt_trichotomy m L.length with c | c | c
  · rw [List.getElem?_append_left c] at he
    rw [pk_un (by omega), pk_un (by omega), pk_un (by omega)]
    exact h m e he
  · subst c
    rw [List.getElem?_append_right (Nat.le_refl _), Nat.sub_self] at he
    cases he
    exact ⟨pk_us, pk_us, pk_us⟩
  · have := (List.getElem?_eq_some_iff.mp he).1
    rw [List.length_append] at this
    have : m < L.length + 1 := this
    omega
section
variable {f_size f_trials f_ready f_place f_done f_height f_input f_trapped f_changed f_changedOp f_changedNumber : Int32} {a_op a_number a_trial a_told a_usual a_pile a_seen a_seenDone a_seenHeight a_seenPile : Nat → Int32}
variable {P : SX → Prop} {i : Nat}
theorem mr_xadd {a_at a_newOp a_newNumber : Nat → Int32} {L : List (Nat × Int32 × Int32)} (o n : Int32) (hM : mr_Mt a_at a_newOp a_newNumber L) (hL : L.length < 30)
    (h : ∀ a_at' a_newOp' a_newNumber' : Nat → Int32, mr_Mt a_at' a_newOp' a_newNumber' (L ++ [(i, o, n)]) → P (f_size, f_trials, f_ready, nI (L ++ [(i, o, n)]).length, f_place, f_done, f_height, f_input, f_trapped, f_changed, f_changedOp, f_changedNumber, a_op, a_number, a_trial, a_at', a_newOp', a_newNumber', a_told, a_usual, a_pile, a_seen, a_seenDone, a_seenHeight, a_seenPile)) :
    wpX_add P (f_size, f_trials, f_ready, nI L.length, f_place, f_done, f_height, f_input, f_trapped, f_changed, f_changedOp, f_changedNumber, a_op, a_number, a_trial, a_at, a_newOp, a_newNumber, a_told, a_usual, a_pile, a_seen, a_seenDone, a_seenHeight, a_seenPile) (nI i) o n := by
  have e : (nI L.length).toNatClampNeg = L.length := nI_clamp (by omega)
  have hv : vp_in (nI L.length) 30 := vp_in_nI hL (by omega)
  refine And.intro hv (nm_r (e' := upd a_at L.length (nI i)) (by rw [e]) ?_)
  refine And.intro hv (nm_r (e' := upd a_newOp L.length o) (by rw [e]) ?_)
  refine And.intro hv (nm_r (e' := upd a_newNumber L.length n) (by rw [e]) ?_)
  refine nm_r (e' := nI (L ++ [(i, o, n)]).length) (by rw [nI_1, List.length_append]; rfl) ?_
  exact h _ _ _ (mr_Mt_app hM i o n)
theorem mr_x74s {a_at a_newOp a_newNumber : Nat → Int32} {L : List (Nat × Int32 × Int32)} {n : Nat} {o x y : Int32} (h5 : ¬ 5 < x) (hx : x = o) (hy : x + 1 = y)
    (h : wX_addAt_74 P (nI i) o n y f_size f_trials f_ready (nI L.length) f_place f_done f_height f_input f_trapped f_changed f_changedOp f_changedNumber a_op a_number a_trial a_at a_newOp a_newNumber a_told a_usual a_pile a_seen a_seenDone a_seenHeight a_seenPile) : wX_addAt_74 P (nI i) o (n + 1) x f_size f_trials f_ready (nI L.length) f_place f_done f_height f_input f_trapped f_changed f_changedOp f_changedNumber a_op a_number a_trial a_at a_newOp a_newNumber a_told a_usual a_pile a_seen a_seenDone a_seenHeight a_seenPile :=
  br_f h5 (br_t hx (nm_r hy h))
theorem mr_x74a {a_at a_newOp a_newNumber : Nat → Int32} {L : List (Nat × Int32 × Int32)} {n : Nat} {o x y : Int32} (h5 : ¬ 5 < x) (hx : ¬ x = o) (hy : x + 1 = y) (hM : mr_Mt a_at a_newOp a_newNumber L) (hL : L.length < 30)
    (h : ∀ a_at' a_newOp' a_newNumber' : Nat → Int32, mr_Mt a_at' a_newOp' a_newNumber' (L ++ [(i, x, 0)]) → wX_addAt_74 P (nI i) o n y f_size f_trials f_ready (nI (L ++ [(i, x, 0)]).length) f_place f_done f_height f_input f_trapped f_changed f_changedOp f_changedNumber a_op a_number a_trial a_at' a_newOp' a_newNumber' a_told a_usual a_pile a_seen a_seenDone a_seenHeight a_seenPile) :
    wX_addAt_74 P (nI i) o (n + 1) x f_size f_trials f_ready (nI L.length) f_place f_done f_height f_input f_trapped f_changed f_changedOp f_changedNumber a_op a_number a_trial a_at a_newOp a_newNumber a_told a_usual a_pile a_seen a_seenDone a_seenHeight a_seenPile := by
  refine br_f h5 (br_f hx ?_)
  exact mr_xadd x 0 hM hL (fun a b c hM' => nm_r hy (h a b c hM'))
theorem mr_x74e {a_at a_newOp a_newNumber : Nat → Int32} {L : List (Nat × Int32 × Int32)} {n : Nat} {o : Int32}
    (h : P (f_size, f_trials, f_ready, nI L.length, f_place, f_done, f_height, f_input, f_trapped, f_changed, f_changedOp, f_changedNumber, a_op, a_number, a_trial, a_at, a_newOp, a_newNumber, a_told, a_usual, a_pile, a_seen, a_seenDone, a_seenHeight, a_seenPile)) : wX_addAt_74 P (nI i) o (n + 1) 6 f_size f_trials f_ready (nI L.length) f_place f_done f_height f_input f_trapped f_changed f_changedOp f_changedNumber a_op a_number a_trial a_at a_newOp a_newNumber a_told a_usual a_pile a_seen a_seenDone a_seenHeight a_seenPile :=
  br_t (by decide) h
theorem mr_xaddAt {a_at a_newOp a_newNumber : Nat → Int32} {L : List (Nat × Int32 × Int32)} (hi : i < 10) (hv : mr_V (a_op i) (a_number i)) (hM : mr_Mt a_at a_newOp a_newNumber L) (hL : L.length + 3 ≤ 30)
    (h : ∀ a_at' a_newOp' a_newNumber' : Nat → Int32, mr_Mt a_at' a_newOp' a_newNumber' (L ++ mr_tag i (mr_mk (a_op i) (a_number i))) → P (f_size, f_trials, f_ready, nI (L ++ mr_tag i (mr_mk (a_op i) (a_number i))).length, f_place, f_done, f_height, f_input, f_trapped, f_changed, f_changedOp, f_changedNumber, a_op, a_number, a_trial, a_at', a_newOp', a_newNumber', a_told, a_usual, a_pile, a_seen, a_seenDone, a_seenHeight, a_seenPile)) :
    wpX_addAt P (f_size, f_trials, f_ready, nI L.length, f_place, f_done, f_height, f_input, f_trapped, f_changed, f_changedOp, f_changedNumber, a_op, a_number, a_trial, a_at, a_newOp, a_newNumber, a_told, a_usual, a_pile, a_seen, a_seenDone, a_seenHeight, a_seenPile) (nI i) := by
  have e : (nI i).toNatClampNeg = i := nI_clamp (by omega)
  have hin : vp_in (nI i) 10 := vp_in_nI hi (by omega)
  have l1 : ∀ (L : List (Nat × Int32 × Int32)) (a : Nat × Int32 × Int32), (L ++ [a]).length = L.length + 1 := fun L a => by rw [List.length_append]; rfl
  refine And.intro hin (nm_r (e' := a_op i) (by rw [e]) (And.intro hin (nm_r (e' := a_number i) (by rw [e]) ?_)))
  generalize a_op i = o at *
  generalize a_number i = n at *
  rcases hv with rfl | rfl | (rfl | rfl | rfl | rfl) | rfl | rfl | ⟨rfl, -⟩ | ⟨rfl, -⟩
  · rw [mr_mk0] at h
    refine br_t rfl ?_
    by_cases c1 : 7 ≤ n
    · refine br_t c1 ?_
      rw [if_pos c1] at h
      by_cases c2 : n ≤ -8
      · rw [if_pos c2] at h
        rw [show L ++ mr_tag i ([] ++ []) = L from List.append_nil L] at h
        exact br_t c2 (h _ _ _ hM)
      · rw [if_neg c2] at h
        exact br_f c2 (mr_xadd 0 (n - 1) hM (by omega) h)
    · refine br_f c1 ?_
      rw [if_neg c1] at h
      refine mr_xadd 0 (n + 1) hM (by omega) (fun a b c hM' => ?_)
      by_cases c2 : n ≤ -8
      · rw [if_pos c2] at h
        exact br_t c2 (h _ _ _ hM')
      · rw [if_neg c2] at h
        rw [show L ++ mr_tag i ([(0, n + 1)] ++ [(0, n - 1)]) = (L ++ [(i, 0, n + 1)]) ++ [(i, 0, n - 1)] from (List.append_assoc L [(i, 0, n + 1)] [(i, 0, n - 1)]).symm] at h
        exact br_f c2 (mr_xadd 0 (n - 1) hM' (by rw [l1]; omega) h)
  · rw [mr_mk1] at h
    exact br_f (by decide) (br_t rfl (mr_xadd 0 0 hM (by omega) h))
  · rw [mr_mk2, show L ++ mr_tag i [(3, 0), (4, 0), (5, 0)] = L ++ [(i, 3, 0)] ++ [(i, 4, 0)] ++ [(i, 5, 0)] by rw [List.append_assoc, List.append_assoc]; rfl] at h
    refine br_f (by decide) (br_f (by decide) (br_f (by decide) (Exists.intro 5 ?_)))
    refine mr_x74s (y := 3) (by decide) rfl rfl ?_
    refine mr_x74a (y := 4) (by decide) (by decide) rfl hM (by omega) (fun a b c hM => ?_)
    refine mr_x74a (y := 5) (by decide) (by decide) rfl hM (by rw [l1]; omega) (fun a b c hM => ?_)
    refine mr_x74a (y := 6) (by decide) (by decide) rfl hM (by rw [l1, l1]; omega) (fun a b c hM => ?_)
    exact mr_x74e (h _ _ _ hM)
  · rw [mr_mk3, show L ++ mr_tag i [(2, 0), (4, 0), (5, 0)] = L ++ [(i, 2, 0)] ++ [(i, 4, 0)] ++ [(i, 5, 0)] by rw [List.append_assoc, List.append_assoc]; rfl] at h
    refine br_f (by decide) (br_f (by decide) (br_f (by decide) (Exists.intro 5 ?_)))
    refine mr_x74a (y := 3) (by decide) (by decide) rfl hM (by omega) (fun a b c hM => ?_)
    refine mr_x74s (y := 4) (by decide) rfl rfl ?_
    refine mr_x74a (y := 5) (by decide) (by decide) rfl hM (by rw [l1]; omega) (fun a b c hM => ?_)
    refine mr_x74a (y := 6) (by decide) (by decide) rfl hM (by rw [l1, l1]; omega) (fun a b c hM => ?_)
    exact mr_x74e (h _ _ _ hM)
  · rw [mr_mk4, show L ++ mr_tag i [(2, 0), (3, 0), (5, 0)] = L ++ [(i, 2, 0)] ++ [(i, 3, 0)] ++ [(i, 5, 0)] by rw [List.append_assoc, List.append_assoc]; rfl] at h
    refine br_f (by decide) (br_f (by decide) (br_f (by decide) (Exists.intro 5 ?_)))
    refine mr_x74a (y := 3) (by decide) (by decide) rfl hM (by omega) (fun a b c hM => ?_)
    refine mr_x74a (y := 4) (by decide) (by decide) rfl hM (by rw [l1]; omega) (fun a b c hM => ?_)
    refine mr_x74s (y := 5) (by decide) rfl rfl ?_
    refine mr_x74a (y := 6) (by decide) (by decide) rfl hM (by rw [l1, l1]; omega) (fun a b c hM => ?_)
    exact mr_x74e (h _ _ _ hM)
  · rw [mr_mk5, show L ++ mr_tag i [(2, 0), (3, 0), (4, 0)] = L ++ [(i, 2, 0)] ++ [(i, 3, 0)] ++ [(i, 4, 0)] by rw [List.append_assoc, List.append_assoc]; rfl] at h
    refine br_f (by decide) (br_f (by decide) (br_f (by decide) (Exists.intro 5 ?_)))
    refine mr_x74a (y := 3) (by decide) (by decide) rfl hM (by omega) (fun a b c hM => ?_)
    refine mr_x74a (y := 4) (by decide) (by decide) rfl hM (by rw [l1]; omega) (fun a b c hM => ?_)
    refine mr_x74a (y := 5) (by decide) (by decide) rfl hM (by rw [l1, l1]; omega) (fun a b c hM => ?_)
    refine mr_x74s (y := 6) (by decide) rfl rfl ?_
    exact mr_x74e (h _ _ _ hM)
  · rw [mr_mk6] at h
    exact br_f (by decide) (br_f (by decide) (br_t (by decide) (br_t rfl (mr_xadd 1 0 hM (by omega) h))))
  · rw [mr_mk7] at h
    exact br_f (by decide) (br_f (by decide) (br_t (by decide) (br_f (by decide) (br_t rfl (mr_xadd 6 0 hM (by omega) h)))))
  · rw [mr_mk8] at h
    refine br_f (by decide) (br_f (by decide) (br_t (by decide) (br_f (by decide) (br_f (by decide) (br_t rfl ?_)))))
    by_cases c1 : 3 ≤ n
    · refine br_t c1 ?_
      rw [if_pos c1] at h
      by_cases c2 : n ≤ 0
      · rw [if_pos c2] at h
        rw [show L ++ mr_tag i ([] ++ []) = L from List.append_nil L] at h
        exact br_t c2 (h _ _ _ hM)
      · rw [if_neg c2] at h
        exact br_f c2 (mr_xadd 8 (n - 1) hM (by omega) h)
    · refine br_f c1 ?_
      rw [if_neg c1] at h
      refine mr_xadd 8 (n + 1) hM (by omega) (fun a b c hM' => ?_)
      by_cases c2 : n ≤ 0
      · rw [if_pos c2] at h
        exact br_t c2 (h _ _ _ hM')
      · rw [if_neg c2] at h
        rw [show L ++ mr_tag i ([(8, n + 1)] ++ [(8, n - 1)]) = (L ++ [(i, 8, n + 1)]) ++ [(i, 8, n - 1)] from (List.append_assoc L [(i, 8, n + 1)] [(i, 8, n - 1)]).symm] at h
        exact br_f c2 (mr_xadd 8 (n - 1) hM' (by rw [l1]; omega) h)
  · rw [mr_mk9] at h
    refine br_f (by decide) (br_f (by decide) (br_t (by decide) (br_f (by decide) (br_f (by decide) (br_f (by decide) ?_)))))
    by_cases c2 : n ≤ 0
    · rw [if_pos c2] at h
      rw [show L ++ mr_tag i [] = L from List.append_nil L] at h
      exact br_t c2 (h _ _ _ hM)
    · rw [if_neg c2] at h
      exact br_f c2 (mr_xadd 9 (n - 1) hM (by omega) h)
end
end
section
/-! Y's mutants -/
section
variable {g_tried g_height g_trapped g_place g_placeOp g_placeNumber : Int32} {b_ops b_numbers b_trials b_pile b_kills : Nat → Int32}
variable {P : SY → Prop} {Q : Int32 → SY → Prop} {R : Int32 → Prop} {sz i : Nat}
theorem mr_ymade {g_size : Int32} (hi : i < 10) (hv : mr_V (b_ops i) (b_numbers i)) (h : R (nI (mr_mk (b_ops i) (b_numbers i)).length)) : wpY_madeAt R (g_size, g_tried, g_height, g_trapped, g_place, g_placeOp, g_placeNumber, b_ops, b_numbers, b_trials, b_pile, b_kills) (nI i) := by
  have e : (nI i).toNatClampNeg = i := nI_clamp (by omega)
  have hin : vp_in (nI i) 10 := vp_in_nI hi (by omega)
  refine And.intro hin (nm_r (e' := b_numbers i) (by rw [e]) (And.intro hin ?_))
  rw [e]
  generalize b_ops i = o at *
  generalize b_numbers i = n at *
  rcases hv with rfl | rfl | (rfl | rfl | rfl | rfl) | rfl | rfl | ⟨rfl, -⟩ | ⟨rfl, -⟩
  · rw [mr_mk0] at h
    refine br_t rfl ?_
    by_cases c1 : 7 ≤ n
    · rw [if_pos c1] at h
      refine br_t c1 ?_
      by_cases c2 : n ≤ -8
      · rw [if_pos c2] at h; exact br_t c2 h
      · rw [if_neg c2] at h; exact br_f c2 h
    · rw [if_neg c1] at h
      refine br_f c1 ?_
      by_cases c2 : n ≤ -8
      · rw [if_pos c2] at h; exact br_t c2 h
      · rw [if_neg c2] at h; exact br_f c2 h
  · rw [mr_mk1] at h
    exact br_f (by decide) (And.intro hin (br_f (by decide) (And.intro hin (br_f (by decide) (And.intro hin (br_t (by decide) h))))))
  · rw [mr_mk2] at h
    exact br_f (by decide) (And.intro hin (br_f (by decide) (And.intro hin (br_f (by decide) (And.intro hin (br_f (by decide) (And.intro hin (br_f (by decide) h))))))))
  · rw [mr_mk3] at h
    exact br_f (by decide) (And.intro hin (br_f (by decide) (And.intro hin (br_f (by decide) (And.intro hin (br_f (by decide) (And.intro hin (br_f (by decide) h))))))))
  · rw [mr_mk4] at h
    exact br_f (by decide) (And.intro hin (br_f (by decide) (And.intro hin (br_f (by decide) (And.intro hin (br_f (by decide) (And.intro hin (br_f (by decide) h))))))))
  · rw [mr_mk5] at h
    exact br_f (by decide) (And.intro hin (br_f (by decide) (And.intro hin (br_f (by decide) (And.intro hin (br_f (by decide) (And.intro hin (br_f (by decide) h))))))))
  · rw [mr_mk6] at h
    exact br_f (by decide) (And.intro hin (br_f (by decide) (And.intro hin (br_f (by decide) (And.intro hin (br_f (by decide) (And.intro hin (br_t (by decide) h))))))))
  · rw [mr_mk7] at h
    exact br_f (by decide) (And.intro hin (br_f (by decide) (And.intro hin (br_f (by decide) (And.intro hin (br_f (by decide) (And.intro hin (br_t (by decide) h))))))))
  · rw [mr_mk8] at h
    refine br_f (by decide) (And.intro hin (br_t rfl ?_))
    by_cases c1 : 3 ≤ n
    · rw [if_pos c1] at h
      refine br_t c1 ?_
      by_cases c2 : n ≤ 0
      · rw [if_pos c2] at h; exact br_t c2 h
      · rw [if_neg c2] at h; exact br_f c2 h
    · rw [if_neg c1] at h
      refine br_f c1 ?_
      by_cases c2 : n ≤ 0
      · rw [if_pos c2] at h; exact br_t c2 h
      · rw [if_neg c2] at h; exact br_f c2 h
  · rw [mr_mk9] at h
    refine br_f (by decide) (And.intro hin (br_f (by decide) (And.intro hin (br_t rfl ?_))))
    by_cases c2 : n ≤ 0
    · rw [if_pos c2] at h; exact br_t c2 h
    · rw [if_neg c2] at h; exact br_f c2 h
theorem mr_get1 {α : Type} {a e : α} {j : Nat} (h : [a][j]? = some e) : j = 0 ∧ a = e := by
  match j, h with
  | 0, h => cases h; exact ⟨rfl, rfl⟩
theorem mr_get2 {α : Type} {a b e : α} {j : Nat} (h : [a, b][j]? = some e) : (j = 0 ∧ a = e) ∨ (j = 1 ∧ b = e) := by
  match j, h with
  | 0, h => cases h; exact Or.inl ⟨rfl, rfl⟩
  | 1, h => cases h; exact Or.inr ⟨rfl, rfl⟩
theorem mr_get3 {α : Type} {a b c e : α} {j : Nat} (h : [a, b, c][j]? = some e) : (j = 0 ∧ a = e) ∨ (j = 1 ∧ b = e) ∨ (j = 2 ∧ c = e) := by
  match j, h with
  | 0, h => cases h; exact Or.inl ⟨rfl, rfl⟩
  | 1, h => cases h; exact Or.inr (Or.inl ⟨rfl, rfl⟩)
  | 2, h => cases h; exact Or.inr (Or.inr ⟨rfl, rfl⟩)
theorem mr_ychoose {g_size : Int32} {j : Nat} {e : Int32 × Int32} (hi : i < 10) (hv : mr_V (b_ops i) (b_numbers i)) (he : (mr_mk (b_ops i) (b_numbers i))[j]? = some e)
    (h : P (g_size, g_tried, g_height, g_trapped, nI i, e.1, e.2, b_ops, b_numbers, b_trials, b_pile, b_kills)) : wpY_choose P (g_size, g_tried, g_height, g_trapped, g_place, g_placeOp, g_placeNumber, b_ops, b_numbers, b_trials, b_pile, b_kills) (nI i) (nI j) := by
  have ei : (nI i).toNatClampNeg = i := nI_clamp (by omega)
  have hin : vp_in (nI i) 10 := vp_in_nI hi (by omega)
  refine And.intro hin (nm_r (e' := b_numbers i) (by rw [ei]) (And.intro hin (nm_r (e' := b_ops i) (by rw [ei]) (And.intro hin ?_))))
  rw [ei]
  generalize b_ops i = o at *
  generalize b_numbers i = n at *
  rcases hv with rfl | rfl | (rfl | rfl | rfl | rfl) | rfl | rfl | ⟨rfl, -⟩ | ⟨rfl, -⟩
  · rw [mr_mk0] at he
    refine br_t rfl ?_
    by_cases c1 : 7 ≤ n
    · rw [if_pos c1] at he
      by_cases c2 : n ≤ -8
      · rw [if_pos c2] at he; cases he
      · rw [if_neg c2] at he
        obtain ⟨rfl, rfl⟩ := mr_get1 he
        exact br_t rfl (br_t c1 (nm_e h))
    · rw [if_neg c1] at he
      by_cases c2 : n ≤ -8
      · rw [if_pos c2] at he
        obtain ⟨rfl, rfl⟩ := mr_get1 he
        exact br_t rfl (br_f c1 (nm_e h))
      · rw [if_neg c2] at he
        rcases mr_get2 he with ⟨rfl, rfl⟩ | ⟨rfl, rfl⟩
        · exact br_t rfl (br_f c1 (nm_e h))
        · exact br_f (by decide) (nm_e h)
  · rw [mr_mk1] at he
    obtain ⟨rfl, rfl⟩ := mr_get1 he
    exact br_f (by decide) (And.intro hin (br_f (by decide) (And.intro hin (br_f (by decide) (And.intro hin (br_t rfl h))))))
  · rw [mr_mk2] at he
    rcases mr_get3 he with ⟨rfl, rfl⟩ | ⟨rfl, rfl⟩ | ⟨rfl, rfl⟩
    · exact br_f (by decide) (And.intro hin (br_f (by decide) (And.intro hin (br_f (by decide) (And.intro hin (br_f (by decide) (And.intro hin (br_t (by decide) (And.intro hin (br_t (by decide) (nm_r rfl h)))))))))))
    · exact br_f (by decide) (And.intro hin (br_f (by decide) (And.intro hin (br_f (by decide) (And.intro hin (br_f (by decide) (And.intro hin (br_t (by decide) (And.intro hin (br_t (by decide) (nm_r rfl h)))))))))))
    · exact br_f (by decide) (And.intro hin (br_f (by decide) (And.intro hin (br_f (by decide) (And.intro hin (br_f (by decide) (And.intro hin (br_t (by decide) (And.intro hin (br_t (by decide) (nm_r rfl h)))))))))))
  · rw [mr_mk3] at he
    rcases mr_get3 he with ⟨rfl, rfl⟩ | ⟨rfl, rfl⟩ | ⟨rfl, rfl⟩
    · exact br_f (by decide) (And.intro hin (br_f (by decide) (And.intro hin (br_f (by decide) (And.intro hin (br_f (by decide) (And.intro hin (br_t (by decide) (And.intro hin (br_f (by decide) (nm_r rfl h)))))))))))
    · exact br_f (by decide) (And.intro hin (br_f (by decide) (And.intro hin (br_f (by decide) (And.intro hin (br_f (by decide) (And.intro hin (br_t (by decide) (And.intro hin (br_t (by decide) (nm_r rfl h)))))))))))
    · exact br_f (by decide) (And.intro hin (br_f (by decide) (And.intro hin (br_f (by decide) (And.intro hin (br_f (by decide) (And.intro hin (br_t (by decide) (And.intro hin (br_t (by decide) (nm_r rfl h)))))))))))
  · rw [mr_mk4] at he
    rcases mr_get3 he with ⟨rfl, rfl⟩ | ⟨rfl, rfl⟩ | ⟨rfl, rfl⟩
    · exact br_f (by decide) (And.intro hin (br_f (by decide) (And.intro hin (br_f (by decide) (And.intro hin (br_f (by decide) (And.intro hin (br_t (by decide) (And.intro hin (br_f (by decide) (nm_r rfl h)))))))))))
    · exact br_f (by decide) (And.intro hin (br_f (by decide) (And.intro hin (br_f (by decide) (And.intro hin (br_f (by decide) (And.intro hin (br_t (by decide) (And.intro hin (br_f (by decide) (nm_r rfl h)))))))))))
    · exact br_f (by decide) (And.intro hin (br_f (by decide) (And.intro hin (br_f (by decide) (And.intro hin (br_f (by decide) (And.intro hin (br_t (by decide) (And.intro hin (br_t (by decide) (nm_r rfl h)))))))))))
  · rw [mr_mk5] at he
    rcases mr_get3 he with ⟨rfl, rfl⟩ | ⟨rfl, rfl⟩ | ⟨rfl, rfl⟩
    · exact br_f (by decide) (And.intro hin (br_f (by decide) (And.intro hin (br_f (by decide) (And.intro hin (br_f (by decide) (And.intro hin (br_t (by decide) (And.intro hin (br_f (by decide) (nm_r rfl h)))))))))))
    · exact br_f (by decide) (And.intro hin (br_f (by decide) (And.intro hin (br_f (by decide) (And.intro hin (br_f (by decide) (And.intro hin (br_t (by decide) (And.intro hin (br_f (by decide) (nm_r rfl h)))))))))))
    · exact br_f (by decide) (And.intro hin (br_f (by decide) (And.intro hin (br_f (by decide) (And.intro hin (br_f (by decide) (And.intro hin (br_t (by decide) (And.intro hin (br_f (by decide) (nm_r rfl h)))))))))))
  · rw [mr_mk6] at he
    obtain ⟨rfl, rfl⟩ := mr_get1 he
    exact br_f (by decide) (And.intro hin (br_f (by decide) (And.intro hin (br_f (by decide) (And.intro hin (br_f (by decide) (And.intro hin (br_f (by decide) (And.intro hin (br_t rfl h))))))))))
  · rw [mr_mk7] at he
    obtain ⟨rfl, rfl⟩ := mr_get1 he
    exact br_f (by decide) (And.intro hin (br_f (by decide) (And.intro hin (br_f (by decide) (And.intro hin (br_f (by decide) (And.intro hin (br_f (by decide) (And.intro hin (br_f (by decide) h))))))))))
  · rw [mr_mk8] at he
    refine br_f (by decide) (And.intro hin (br_t rfl ?_))
    by_cases c1 : 3 ≤ n
    · rw [if_pos c1] at he
      by_cases c2 : n ≤ 0
      · rw [if_pos c2] at he; cases he
      · rw [if_neg c2] at he
        obtain ⟨rfl, rfl⟩ := mr_get1 he
        exact br_t rfl (br_t c1 (nm_e h))
    · rw [if_neg c1] at he
      by_cases c2 : n ≤ 0
      · rw [if_pos c2] at he
        obtain ⟨rfl, rfl⟩ := mr_get1 he
        exact br_t rfl (br_f c1 (nm_e h))
      · rw [if_neg c2] at he
        rcases mr_get2 he with ⟨rfl, rfl⟩ | ⟨rfl, rfl⟩
        · exact br_t rfl (br_f c1 (nm_e h))
        · exact br_f (by decide) (nm_e h)
  · rw [mr_mk9] at he
    refine br_f (by decide) (And.intro hin (br_f (by decide) (And.intro hin (br_t rfl ?_))))
    by_cases c2 : n ≤ 0
    · rw [if_pos c2] at he; cases he
    · rw [if_neg c2] at he
      obtain ⟨rfl, rfl⟩ := mr_get1 he
      exact nm_e h
theorem mr_yfind4 (hsz : sz ≤ 10) (hV : ∀ p, p < sz → mr_V (b_ops p) (b_numbers p)) :
    ∀ (k n i left : Nat), i + k = sz → k < n → left < 2 ^ 31 →
      (∀ e, (mr_al b_ops b_numbers sz)[(mr_al b_ops b_numbers i).length + left]? = some e → Q 1 (nI sz, g_tried, g_height, g_trapped, nI e.1, e.2.1, e.2.2, b_ops, b_numbers, b_trials, b_pile, b_kills)) →
      ((mr_al b_ops b_numbers sz).length ≤ (mr_al b_ops b_numbers i).length + left → Q 0 (nI sz, g_tried, g_height, g_trapped, g_place, g_placeOp, g_placeNumber, b_ops, b_numbers, b_trials, b_pile, b_kills)) →
      wY_find_4 Q (nI sz) g_tried g_height g_trapped g_place g_placeOp g_placeNumber b_ops b_numbers b_trials b_pile b_kills n (nI left) (nI i) := by
  intro k
  induction k with
  | zero =>
    intro n i left hi hn hl h1 h0
    obtain ⟨n, rfl⟩ : ∃ m, n = m + 1 := ⟨n - 1, by omega⟩
    have hi' : i = sz := by omega
    subst hi'
    exact pk_le i i (fun _ => h0 (by omega)) (fun z => absurd z (by omega))
  | succ k ih =>
    intro n i left hi hn hl h1 h0
    obtain ⟨n, rfl⟩ : ∃ m, n = m + 1 := ⟨n - 1, by omega⟩
    refine pk_le sz i (fun z => absurd z (by omega)) (fun _ => ?_)
    refine br_f (nI_pos hl) ?_
    have hm := mr_mk_len (hV i (by omega))
    refine mr_ymade (by omega) (hV i (by omega)) ?_
    refine pk_le (mr_mk (b_ops i) (b_numbers i)).length left (fun c => ?_) (fun c => ?_)
    · refine nm_r (pk_sub c) (nm_r (nI_1 i) ?_)
      have es := mr_al_s b_ops b_numbers i
      have ee : (mr_al b_ops b_numbers (i + 1)).length + (left - (mr_mk (b_ops i) (b_numbers i)).length) = (mr_al b_ops b_numbers i).length + left := by omega
      refine ih n (i + 1) _ (by omega) (by omega) (by omega) ?_ ?_
      · rw [ee]; exact h1
      · rw [ee]; exact h0
    · have hg := List.getElem?_eq_getElem c
      exact mr_ychoose (by omega) (hV i (by omega)) hg (h1 _ (mr_al_get (by omega) hg))
theorem mr_yfind_y {j : Nat} {e : Nat × Int32 × Int32} (hsz : sz ≤ 10) (hV : ∀ p, p < sz → mr_V (b_ops p) (b_numbers p)) (he : (mr_al b_ops b_numbers sz)[j]? = some e)
    (h : Q 1 (nI sz, g_tried, g_height, g_trapped, nI e.1, e.2.1, e.2.2, b_ops, b_numbers, b_trials, b_pile, b_kills)) : wpY_find Q (nI sz, g_tried, g_height, g_trapped, g_place, g_placeOp, g_placeNumber, b_ops, b_numbers, b_trials, b_pile, b_kills) (nI j) := by
  have hj := (List.getElem?_eq_some_iff.mp he).1
  have hl := mr_al_len hV
  refine Exists.intro (sz + 1) (mr_yfind4 hsz hV sz (sz + 1) 0 j (by omega) (by omega) (by omega) (fun e' he' => ?_) (fun z => ?_))
  · have e0 : (mr_al b_ops b_numbers 0).length + j = j := Nat.zero_add j
    rw [e0, he] at he'
    cases he'
    exact h
  · have e0 : (mr_al b_ops b_numbers 0).length + j = j := Nat.zero_add j
    omega
theorem mr_yfind_n {m : Int32} (hsz : sz ≤ 10) (hV : ∀ p, p < sz → mr_V (b_ops p) (b_numbers p)) (hm : m < 0 ∨ nI (mr_al b_ops b_numbers sz).length ≤ m)
    (h : Q 0 (nI sz, g_tried, g_height, g_trapped, g_place, g_placeOp, g_placeNumber, b_ops, b_numbers, b_trials, b_pile, b_kills)) : wpY_find Q (nI sz, g_tried, g_height, g_trapped, g_place, g_placeOp, g_placeNumber, b_ops, b_numbers, b_trials, b_pile, b_kills) m := by
  have hl := mr_al_len hV
  by_cases c : m < 0
  · refine Exists.intro 1 ?_
    exact br_c (fun _ => h) (fun _ => br_t c h)
  · obtain ⟨j, hj, rfl⟩ := nI_of c
    have hm' : nI (mr_al b_ops b_numbers sz).length ≤ nI j := hm.resolve_left c
    rw [nI_leI (by omega) hj] at hm'
    refine Exists.intro (sz + 1) (mr_yfind4 hsz hV sz (sz + 1) 0 j (by omega) (by omega) hj (fun e' he' => ?_) (fun _ => h))
    have e0 : (mr_al b_ops b_numbers 0).length + j = j := Nat.zero_add j
    have := (List.getElem?_eq_some_iff.mp he').1
    omega
theorem mr_ymuts (hsz : sz ≤ 10) (hV : ∀ p, p < sz → mr_V (b_ops p) (b_numbers p)) (h : R (nI (mr_al b_ops b_numbers sz).length)) : wpY_mutants R (nI sz, g_tried, g_height, g_trapped, g_place, g_placeOp, g_placeNumber, b_ops, b_numbers, b_trials, b_pile, b_kills) := by
  have key : ∀ (k n i : Nat), i + k = sz → k < n → wY_mutants_4 R (nI sz) g_tried g_height g_trapped g_place g_placeOp g_placeNumber b_ops b_numbers b_trials b_pile b_kills n (nI (mr_al b_ops b_numbers i).length) (nI i) := by
    intro k
    induction k with
    | zero =>
      intro n i hi hn
      obtain ⟨n, rfl⟩ : ∃ m, n = m + 1 := ⟨n - 1, by omega⟩
      have hi' : i = sz := by omega
      subst hi'
      exact pk_le i i (fun _ => h) (fun z => absurd z (by omega))
    | succ k ih =>
      intro n i hi hn
      obtain ⟨n, rfl⟩ : ∃ m, n = m + 1 := ⟨n - 1, by omega⟩
      refine pk_le sz i (fun z => absurd z (by omega)) (fun _ => ?_)
      refine mr_ymade (by omega) (hV i (by omega)) ?_
      refine nm_r (e' := nI (mr_al b_ops b_numbers (i + 1)).length) (by rw [nI_add, mr_al_s]) (nm_r (nI_1 i) ?_)
      exact ih n (i + 1) (by omega) (by omega)
  exact Exists.intro (sz + 1) (key sz (sz + 1) 0 (by omega) (by omega))
end
end
section
/-! inputs, bit sets, counts: what the answers are -/
def mr_iv (x : Nat) : Int32 := nI x - 8
theorem mr_iv1 : ∀ x : Nat, x < 16 → ¬ mr_iv x < -8 ∧ mr_iv x ≤ 7 := by decide +kernel
theorem mr_iv2 : ∀ x : Nat, x < 16 → ¬ 7 < mr_iv x ∧ ¬ 8 ≤ mr_iv x := by decide +kernel
theorem mr_iv3 : ∀ x : Nat, x < 16 → mr_iv x + 8 = nI x ∧ mr_iv x + 1 = mr_iv (x + 1) := by decide +kernel
theorem mr_iv4 : ∀ x : Nat, x < 16 → ¬ mr_iv x = -10004 := by decide +kernel
theorem mr_iv5 : ∀ x : Nat, x < 16 → (mr_iv x).toInt = (x : Int) - 8 := by decide +kernel
theorem mr_inp (v : Int32) : v < -8 ∨ (¬ v < -8 ∧ ¬ v ≤ 7) ∨ ∃ x : Nat, x < 16 ∧ v = mr_iv x := by
  by_cases c1 : v < -8
  · exact Or.inl c1
  · by_cases c2 : v ≤ 7
    · refine Or.inr (Or.inr ?_)
      have e8 : (-8 : Int32).toInt = -8 := by decide
      have e7 : (7 : Int32).toInt = 7 := by decide
      rw [Int32.lt_iff_toInt_lt, e8] at c1
      rw [Int32.le_iff_toInt_le, e7] at c2
      refine ⟨(v.toInt + 8).toNat, by omega, Int32.toInt_inj.mp ?_⟩
      rw [mr_iv5 _ (by omega)]
      omega
    · exact Or.inr (Or.inl ⟨c1, c2⟩)
def mr_bits (f : Nat → Bool) : Nat → Nat
  | 0 => 0
  | k + 1 => mr_bits f k + (if f k = true then 2 ^ k else 0)
theorem mr_bits_t {f : Nat → Bool} {k : Nat} (h : f k = true) : mr_bits f (k + 1) = mr_bits f k + 2 ^ k := by
  show mr_bits f k + (if f k = true then 2 ^ k else 0) = _
  rw [if_pos h]
theorem mr_bits_f {f : Nat → Bool} {k : Nat} (h : ¬ f k = true) : mr_bits f (k + 1) = mr_bits f k := by
  show mr_bits f k + (if f k = true then 2 ^ k else 0) = _
  rw [if_neg h]; rfl
theorem mr_bits_lt (f : Nat → Bool) : ∀ k, mr_bits f k < 2 ^ k
  | 0 => Nat.lt_succ_self 0
  | k + 1 => by
    have h := mr_bits_lt f k
    have h2 : 2 ^ (k + 1) = 2 ^ k + 2 ^ k := by rw [Nat.pow_succ]; omega
    by_cases c : f k = true
    · rw [mr_bits_t c]; omega
    · rw [mr_bits_f c]; omega
theorem mr_bits_get (f : Nat → Bool) : ∀ {k i : Nat}, i < k → (mr_bits f k).testBit i = f i
  | 0, i, h => by omega
  | k + 1, i, h => by
    have hl := mr_bits_lt f k
    by_cases c : f k = true
    · have e : mr_bits f (k + 1) = 2 ^ k * 1 + mr_bits f k := by rw [mr_bits_t c]; omega
      rw [e, Nat.testBit_two_pow_mul_add 1 hl]
      by_cases ci : i < k
      · rw [if_pos ci]; exact mr_bits_get f ci
      · rw [if_neg ci]
        obtain rfl : i = k := by omega
        rw [Nat.sub_self, c]; rfl
    · rw [mr_bits_f c]
      by_cases ci : i < k
      · exact mr_bits_get f ci
      · obtain rfl : i = k := by omega
        rw [Nat.testBit_lt_two_pow hl]
        exact (Bool.eq_false_iff.mpr c).symm
theorem mr_bits_0 {f : Nat → Bool} : ∀ {k : Nat}, mr_bits f k = 0 ↔ ∀ i, i < k → f i = false
  | 0 => ⟨fun _ i h => by omega, fun _ => rfl⟩
  | k + 1 => by
    have ih := mr_bits_0 (f := f) (k := k)
    by_cases c : f k = true
    · rw [mr_bits_t c]
      refine ⟨fun h => ?_, fun h => ?_⟩
      · have := Nat.two_pow_pos k
        omega
      · have := h k (by omega)
        rw [c] at this; cases this
    · rw [mr_bits_f c, ih]
      refine ⟨fun h i hi => ?_, fun h i hi => h i (by omega)⟩
      by_cases ci : i < k
      · exact h i ci
      · obtain rfl : i = k := by omega
        exact Bool.eq_false_iff.mpr c
theorem mr_p31 {k : Nat} (h : k ≤ 30) : 2 ^ k < 2 ^ 31 := Nat.pow_lt_pow_right (by decide) (by omega)
theorem mr_shr1 {t i : Nat} (ht : t < 2 ^ 31) (hi : i < 32) : ((nI t >>> (nI i &&& 31)) &&& 1) = nI (t / 2 ^ i % 2) := by
  rw [pk_shrN ht _ i (s_l i hi)]
  have h2 : t / 2 ^ i ≤ t := Nat.div_le_self _ _
  exact pk_andN (by omega) (m := 1) 1 (by decide)
theorem mr_tbit {f : Nat → Bool} {k i : Nat} (hk : k ≤ 30) (hi : i < k) : ((nI (mr_bits f k) >>> (nI i &&& 31)) &&& 1) = 1 ↔ f i = true := by
  have hl := mr_bits_lt f k
  have hp := mr_p31 hk
  rw [mr_shr1 (by omega) (by omega), ← mr_bits_get f hi, Nat.testBit_eq_decide_div_mod_eq, decide_eq_true_iff]
  show nI (mr_bits f k / 2 ^ i % 2) = nI 1 ↔ _
  exact nI_eq (by omega) (by omega)
theorem mr_nor (a b : Nat) : nI a ||| nI b = nI (a ||| b) := by
  apply Int32.toBitVec_inj.1
  show BitVec.ofNat 32 a ||| BitVec.ofNat 32 b = BitVec.ofNat 32 (a ||| b)
  apply BitVec.eq_of_getLsbD_eq
  intro i hi
  simp [hi]
theorem mr_one {k : Nat} (hk : k ≤ 30) : (1 : Int32) <<< (nI k &&& 31) = nI (2 ^ k) := by
  have hp := mr_p31 hk
  have e := pk_shlN (n := 1) (nI k &&& 31) k (s_l k (by omega)) (by omega)
  rw [Nat.one_mul] at e
  exact e
theorem mr_or1 {a k : Nat} (hk : k ≤ 30) (ha : a < 2 ^ k) : nI a ||| ((1 : Int32) <<< (nI k &&& 31)) = nI (a + 2 ^ k) := by
  rw [mr_one hk, mr_nor, Nat.or_comm]
  have e := Nat.two_pow_add_eq_or_of_lt ha 1
  rw [Nat.mul_one] at e
  rw [← e, Nat.add_comm]
theorem mr_ad1 {a k : Nat} (hk : k ≤ 30) : nI a + ((1 : Int32) <<< (nI k &&& 31)) = nI (a + 2 ^ k) := by
  rw [mr_one hk, nI_add]
def mr_cnt (f : Nat → Bool) : Nat → Nat
  | 0 => 0
  | k + 1 => mr_cnt f k + (if f k = true then 1 else 0)
theorem mr_cnt_t {f : Nat → Bool} {k : Nat} (h : f k = true) : mr_cnt f (k + 1) = mr_cnt f k + 1 := by
  show mr_cnt f k + (if f k = true then 1 else 0) = _
  rw [if_pos h]
theorem mr_cnt_f {f : Nat → Bool} {k : Nat} (h : ¬ f k = true) : mr_cnt f (k + 1) = mr_cnt f k := by
  show mr_cnt f k + (if f k = true then 1 else 0) = _
  rw [if_neg h]; rfl
theorem mr_cnt_ext {f : Nat → Bool} {M : Nat} (h : ∀ m, M ≤ m → ¬ f m = true) : ∀ {N : Nat}, M ≤ N → mr_cnt f N = mr_cnt f M := by
  intro N
  induction N with
  | zero => intro hN; obtain rfl : M = 0 := by omega
            rfl
  | succ N ih =>
    intro hN
    by_cases c : M = N + 1
    · subst c; rfl
    · rw [mr_cnt_f (h N (by omega))]; exact ih (by omega)
/-- outcomes of the program and of a mutant, by the input's number -/
def mr_O (op num : Nat → Int32) (sz x : Nat) : Int32 := mr_run op num sz (mr_iv x) 40 0 []
def mr_U (op num : Nat → Int32) (sz : Nat) (e : Nat × Int32 × Int32) (x : Nat) : Int32 := mr_run (upd op e.1 e.2.1) (upd num e.1 e.2.2) sz (mr_iv x) 40 0 []
def mr_K (op num : Nat → Int32) (sz : Nat) (e : Nat × Int32 × Int32) (x : Nat) : Bool := decide (¬ mr_U op num sz e x = mr_O op num sz x)
theorem mr_K_f {op num : Nat → Int32} {sz x : Nat} {e : Nat × Int32 × Int32} (h : mr_U op num sz e x = mr_O op num sz x) : ¬ mr_K op num sz e x = true := by
  unfold mr_K; rw [decide_eq_true_iff]; exact fun z => z h
theorem mr_K_t {op num : Nat → Int32} {sz x : Nat} {e : Nat × Int32 × Int32} (h : ¬ mr_U op num sz e x = mr_O op num sz x) : mr_K op num sz e x = true := by
  unfold mr_K; rw [decide_eq_true_iff]; exact h
def mr_g (trial : Nat → Int32) (i : Nat) : Nat := (trial i + 8).toNatClampNeg
def mr_T (trial : Nat → Int32) (tr : Nat) : Prop := tr ≤ 6 ∧ ∀ i, i < tr → mr_g trial i < 16 ∧ trial i = mr_iv (mr_g trial i)
theorem mr_T_app {trial : Nat → Int32} {tr x : Nat} (h : mr_T trial tr) (ht : tr < 6) (hx : x < 16) : mr_T (upd trial tr (mr_iv x)) (tr + 1) := by
  refine ⟨by omega, fun i hi => ?_⟩
  by_cases c : i = tr
  · subst c
    have e : mr_g (upd trial i (mr_iv x)) i = x := by
      unfold mr_g
      rw [pk_us, (mr_iv3 x hx).1, nI_clamp (by omega)]
    rw [e]
    exact ⟨hx, pk_us⟩
  · have e : mr_g (upd trial tr (mr_iv x)) i = mr_g trial i := by
      unfold mr_g
      rw [pk_un c]
    rw [e, pk_un c]
    exact h.2 i (by omega)
/-- the trials that kill the mutant e -/
def mr_ks (op num : Nat → Int32) (sz : Nat) (trial : Nat → Int32) (tr : Nat) (e : Nat × Int32 × Int32) : Nat := mr_bits (fun i => mr_K op num sz e (mr_g trial i)) tr
def mr_ko (op num : Nat → Int32) (sz : Nat) (trial : Nat → Int32) (tr : Nat) : Option (Nat × Int32 × Int32) → Nat
  | none => 0
  | some e => mr_ks op num sz trial tr e
/-- the same by the mutant's number; 0 where there is none -/
def mr_kf (op num : Nat → Int32) (sz : Nat) (trial : Nat → Int32) (tr : Nat) (m : Nat) : Nat := mr_ko op num sz trial tr (mr_al op num sz)[m]?
theorem mr_kf_y {op num trial : Nat → Int32} {sz tr m : Nat} {e : Nat × Int32 × Int32} (h : (mr_al op num sz)[m]? = some e) : mr_kf op num sz trial tr m = mr_ks op num sz trial tr e := by
  unfold mr_kf; rw [h]; rfl
theorem mr_kf_n {op num trial : Nat → Int32} {sz tr m : Nat} (h : (mr_al op num sz).length ≤ m) : mr_kf op num sz trial tr m = 0 := by
  unfold mr_kf; rw [List.getElem?_eq_none h]; rfl
theorem mr_kf_lt {op num trial : Nat → Int32} {sz tr : Nat} (m : Nat) : mr_kf op num sz trial tr m < 2 ^ tr := by
  by_cases c : m < (mr_al op num sz).length
  · rw [mr_kf_y (List.getElem?_eq_getElem c)]; exact mr_bits_lt _ _
  · rw [mr_kf_n (by omega)]; exact Nat.two_pow_pos _
theorem mr_kf_64 {op num trial : Nat → Int32} {sz tr : Nat} (h : mr_T trial tr) (m : Nat) : mr_kf op num sz trial tr m < 64 := by
  have h1 := mr_kf_lt (op := op) (num := num) (sz := sz) (trial := trial) (tr := tr) m
  have h2 : 2 ^ tr ≤ 2 ^ 6 := Nat.pow_le_pow_right (by decide) h.1
  have h3 : (2 : Nat) ^ 6 = 64 := by decide
  omega
/-- the first input that tells, from the k last ones -/
def mr_kr (f : Nat → Bool) : Nat → Int32
  | 0 => -10004
  | k + 1 => if f (16 - (k + 1)) = true then mr_iv (16 - (k + 1)) else mr_kr f k
theorem mr_kr_0 {f : Nat → Bool} : ∀ {k : Nat}, k ≤ 16 → (mr_kr f k = -10004 ↔ ∀ x, 16 - k ≤ x → x < 16 → f x = false)
  | 0, _ => ⟨fun _ x h1 h2 => by omega, fun _ => rfl⟩
  | k + 1, hk => by
    have ih := mr_kr_0 (f := f) (k := k) (by omega)
    show (if f (16 - (k + 1)) = true then mr_iv (16 - (k + 1)) else mr_kr f k) = -10004 ↔ _
    by_cases c : f (16 - (k + 1)) = true
    · rw [if_pos c]
      refine ⟨fun h => absurd h (mr_iv4 _ (by omega)), fun h => ?_⟩
      have := h (16 - (k + 1)) (by omega) (by omega)
      rw [c] at this; cases this
    · rw [if_neg c, ih]
      refine ⟨fun h x h1 h2 => ?_, fun h x h1 h2 => h x (by omega) h2⟩
      by_cases cx : x = 16 - (k + 1)
      · rw [cx]; exact Bool.eq_false_iff.mpr c
      · exact h x (by omega) h2
theorem mr_kr_bits {f : Nat → Bool} : mr_kr f 16 = -10004 ↔ mr_bits f 16 = 0 := by
  rw [mr_kr_0 (by omega), mr_bits_0]
  exact ⟨fun h i hi => h i (by omega) hi, fun h i _ hi => h i hi⟩
/-! few trials -/
def mr_pop (s : Nat) : Nat → Nat
  | 0 => 0
  | k + 1 => mr_pop s k + s / 2 ^ k % 2
theorem mr_pop_le : ∀ (s k : Nat), mr_pop s k ≤ k
  | s, 0 => Nat.le_refl _
  | s, k + 1 => by
    have := mr_pop_le s k
    show mr_pop s k + s / 2 ^ k % 2 ≤ k + 1
    omega
theorem mr_pop_full : ∀ tr, tr < 7 → mr_pop (2 ^ tr - 1) 6 = tr := by decide +kernel
theorem mr_pop_mod : ∀ tr, tr < 7 → ∀ s, s < 64 → mr_pop (s % 2 ^ tr) 6 ≤ mr_pop s 6 := by decide +kernel
def mr_D (kf : Nat → Nat) (N s : Nat) : Bool := decide (∀ m, m < N → ¬ kf m = 0 → ¬ kf m &&& s = 0)
/-- the least size of a set below s that does all, b0 if none is less -/
def mr_nd (D : Nat → Bool) (b0 : Nat) : Nat → Nat
  | 0 => b0
  | s + 1 => if mr_pop s 6 < mr_nd D b0 s ∧ D s = true then mr_pop s 6 else mr_nd D b0 s
theorem mr_nd_t {D : Nat → Bool} {b0 s : Nat} (h : mr_pop s 6 < mr_nd D b0 s) (hd : D s = true) : mr_nd D b0 (s + 1) = mr_pop s 6 := if_pos ⟨h, hd⟩
theorem mr_nd_f {D : Nat → Bool} {b0 s : Nat} (h : ¬ (mr_pop s 6 < mr_nd D b0 s ∧ D s = true)) : mr_nd D b0 (s + 1) = mr_nd D b0 s := if_neg h
theorem mr_nd_le {D : Nat → Bool} {b0 : Nat} : ∀ s, mr_nd D b0 s ≤ b0
  | 0 => Nat.le_refl _
  | s + 1 => by
    have ih := mr_nd_le (D := D) (b0 := b0) s
    by_cases c : mr_pop s 6 < mr_nd D b0 s ∧ D s = true
    · rw [mr_nd_t c.1 c.2]; omega
    · rw [mr_nd_f c]; exact ih
theorem mr_nd_low {D : Nat → Bool} {b0 : Nat} : ∀ {s t : Nat}, t < s → D t = true → mr_nd D b0 s ≤ mr_pop t 6
  | 0, t, h, _ => by omega
  | s + 1, t, h, hd => by
    by_cases c : mr_pop s 6 < mr_nd D b0 s ∧ D s = true
    · rw [mr_nd_t c.1 c.2]
      by_cases e : t = s
      · subst e; exact Nat.le_refl _
      · have := mr_nd_low (D := D) (b0 := b0) (s := s) (t := t) (by omega) hd
        omega
    · rw [mr_nd_f c]
      by_cases e : t = s
      · subst e
        by_cases z : mr_pop t 6 < mr_nd D b0 t
        · exact absurd ⟨z, hd⟩ c
        · omega
      · exact mr_nd_low (by omega) hd
theorem mr_nd_at {D : Nat → Bool} {b0 : Nat} : ∀ s, mr_nd D b0 s = b0 ∨ ∃ t, t < s ∧ D t = true ∧ mr_nd D b0 s = mr_pop t 6
  | 0 => Or.inl rfl
  | s + 1 => by
    by_cases c : mr_pop s 6 < mr_nd D b0 s ∧ D s = true
    · rw [mr_nd_t c.1 c.2]; exact Or.inr ⟨s, by omega, c.2, rfl⟩
    · rw [mr_nd_f c]
      rcases mr_nd_at (D := D) (b0 := b0) s with h | ⟨t, h1, h2, h3⟩
      · exact Or.inl h
      · exact Or.inr ⟨t, by omega, h2, h3⟩
theorem mr_nd_eq {kf : Nat → Nat} {N tr : Nat} (htr : tr ≤ 6) (hk : ∀ m, kf m < 2 ^ tr) : mr_nd (mr_D kf N) 6 64 = mr_nd (mr_D kf N) tr (2 ^ tr) := by
  have h64 : 2 ^ tr ≤ 2 ^ 6 := Nat.pow_le_pow_right (by decide) htr
  have e64 : (2 : Nat) ^ 6 = 64 := by decide
  have hpos := Nat.two_pow_pos tr
  apply Nat.le_antisymm
  · rcases mr_nd_at (D := mr_D kf N) (b0 := tr) (2 ^ tr) with h | ⟨t, h1, h2, h3⟩
    · rw [h]
      have hD : mr_D kf N (2 ^ tr - 1) = true := by
        unfold mr_D
        rw [decide_eq_true_iff]
        intro m hm h0
        rw [Nat.and_two_pow_sub_one_of_lt_two_pow (hk m)]
        exact h0
      have := mr_nd_low (b0 := 6) (s := 64) (t := 2 ^ tr - 1) (by omega) hD
      rw [mr_pop_full tr (by omega)] at this
      exact this
    · rw [h3]
      exact mr_nd_low (by omega) h2
  · rcases mr_nd_at (D := mr_D kf N) (b0 := 6) 64 with h | ⟨t, h1, h2, h3⟩
    · rw [h]
      exact Nat.le_trans (mr_nd_le _) htr
    · rw [h3]
      have hD : mr_D kf N (t % 2 ^ tr) = true := by
        unfold mr_D at h2 ⊢
        rw [decide_eq_true_iff] at h2 ⊢
        intro m hm h0
        have := h2 m hm h0
        rw [← Nat.and_two_pow_sub_one_eq_mod, Nat.and_comm t, ← Nat.and_assoc, Nat.and_two_pow_sub_one_of_lt_two_pow (hk m)]
        exact this
      exact Nat.le_trans (mr_nd_low (Nat.mod_lt _ hpos) hD) (mr_pop_mod tr (by omega) t (by omega))
/-! leading -/
def mr_ld (kf : Nat → Nat) (N m : Nat) : Bool := decide (¬ kf m = 0 ∧ ∀ l, l < N → ¬ kf l = 0 → ¬ kf l = kf m → ¬ kf l &&& kf m = kf l)
theorem mr_ld_t {kf : Nat → Nat} {N m : Nat} (h0 : ¬ kf m = 0) (h : ∀ l, l < N → ¬ kf l = 0 → ¬ kf l = kf m → ¬ kf l &&& kf m = kf l) : mr_ld kf N m = true := by
  unfold mr_ld; rw [decide_eq_true_iff]; exact ⟨h0, h⟩
theorem mr_ld_f0 {kf : Nat → Nat} {N m : Nat} (h0 : kf m = 0) : ¬ mr_ld kf N m = true := by
  unfold mr_ld; rw [decide_eq_true_iff]; exact fun z => z.1 h0
theorem mr_ld_f {kf : Nat → Nat} {N m l : Nat} (hl : l < N) (h0 : ¬ kf l = 0) (h1 : ¬ kf l = kf m) (h2 : kf l &&& kf m = kf l) : ¬ mr_ld kf N m = true := by
  unfold mr_ld; rw [decide_eq_true_iff]; exact fun z => z.2 l hl h0 h1 h2
theorem mr_D_ext {kf : Nat → Nat} {M N : Nat} (h : ∀ m, M ≤ m → kf m = 0) (hN : M ≤ N) (s : Nat) : mr_D kf N s = mr_D kf M s := by
  unfold mr_D
  apply decide_eq_decide.mpr
  refine ⟨fun H m hm => H m (by omega), fun H m hm h0 => ?_⟩
  by_cases c : m < M
  · exact H m c h0
  · exact absurd (h m (by omega)) h0
theorem mr_ld_ext {kf : Nat → Nat} {M N : Nat} (h : ∀ m, M ≤ m → kf m = 0) (hN : M ≤ N) (m : Nat) : mr_ld kf N m = mr_ld kf M m := by
  unfold mr_ld
  apply decide_eq_decide.mpr
  refine ⟨fun H => ⟨H.1, fun l hl => H.2 l (by omega)⟩, fun H => ⟨H.1, fun l hl h0 => ?_⟩⟩
  by_cases c : l < M
  · exact H.2 l c h0
  · exact absurd (h l (by omega)) h0
theorem mr_nand : ∀ a, a < 64 → ∀ b, b < 64 → ((nI a &&& (nI b ^^^ (-1))) = 0 ↔ a &&& b = a) := by decide +kernel
theorem mr_and0 {a b : Nat} (ha : a < 64) : (nI a &&& nI b) = 0 ↔ a &&& b = 0 := by
  have h : a &&& b ≤ a := Nat.and_le_left
  rw [nx_and]
  show nI (a &&& b) = nI 0 ↔ _
  exact nI_eq (by omega) (by omega)
theorem mr_andE {a b : Nat} (ha : a < 64) : (nI a &&& nI b) = nI a ↔ a &&& b = a := by
  have h : a &&& b ≤ a := Nat.and_le_left
  rw [nx_and]
  exact nI_eq (by omega) (by omega)
end
section
/-! Y's answers -/
theorem mr_V_upd {op num : Nat → Int32} {sz i : Nat} {o n : Int32} (hV : ∀ p, p < sz → mr_V (op p) (num p)) (h : mr_V o n) : ∀ p, p < sz → mr_V (upd op i o p) (upd num i n p) := by
  intro p hp
  by_cases c : p = i
  · subst c; rw [pk_us, pk_us]; exact h
  · rw [pk_un c, pk_un c]; exact hV p hp
theorem mr_al_ok {op num : Nat → Int32} {sz j : Nat} {e : Nat × Int32 × Int32} (hV : ∀ p, p < sz → mr_V (op p) (num p)) (he : (mr_al op num sz)[j]? = some e) : e.1 < sz ∧ mr_V e.2.1 e.2.2 :=
  mr_al_mem hV (List.mem_of_getElem? he)
def mr_zo (op num : Nat → Int32) (sz : Nat) : Option (Nat × Int32 × Int32) → Bool
  | none => false
  | some e => decide (mr_bits (mr_K op num sz e) 16 = 0)
/-- the mutant m is like the program on all inputs -/
def mr_z (op num : Nat → Int32) (sz m : Nat) : Bool := mr_zo op num sz (mr_al op num sz)[m]?
theorem mr_z_y {op num : Nat → Int32} {sz m : Nat} {e : Nat × Int32 × Int32} (h : (mr_al op num sz)[m]? = some e) : mr_z op num sz m = true ↔ mr_bits (mr_K op num sz e) 16 = 0 := by
  unfold mr_z; rw [h]; exact decide_eq_true_iff
section
variable {g_height g_trapped g_place g_placeOp g_placeNumber : Int32} {b_ops b_numbers b_trials b_pile b_kills : Nat → Int32}
variable {P : SY → Prop} {Q : Int32 → SY → Prop} {R : Int32 → Prop} {sz tr : Nat}
theorem mr_yin_y {g_size g_tried : Int32} {x : Nat} (hx : x < 16) (h : R 1) : wpY_isInput R (g_size, g_tried, g_height, g_trapped, g_place, g_placeOp, g_placeNumber, b_ops, b_numbers, b_trials, b_pile, b_kills) (mr_iv x) :=
  br_f (mr_iv1 x hx).1 (br_f (mr_iv2 x hx).1 h)
theorem mr_yin_n {g_size g_tried v : Int32} (hv : v < -8 ∨ (¬ v < -8 ∧ ¬ v ≤ 7)) (h : R 0) : wpY_isInput R (g_size, g_tried, g_height, g_trapped, g_place, g_placeOp, g_placeNumber, b_ops, b_numbers, b_trials, b_pile, b_kills) v := by
  rcases hv with c | ⟨c1, c2⟩
  · exact br_t c h
  · exact br_f c1 (br_t (Int32.not_le.mp c2) h)
theorem mr_youtOf_y {g_tried : Int32} {j x : Nat} {e : Nat × Int32 × Int32} (hsz : sz ≤ 10) (hV : ∀ p, p < sz → mr_V (b_ops p) (b_numbers p)) (hx : x < 16) (he : (mr_al b_ops b_numbers sz)[j]? = some e)
    (h : ∀ (g_height' g_trapped' : Int32) (b_pile' : Nat → Int32), Q (mr_U b_ops b_numbers sz e x) (nI sz, g_tried, g_height', g_trapped', nI e.1, e.2.1, e.2.2, b_ops, b_numbers, b_trials, b_pile', b_kills)) :
    wpY_outcomeOf Q (nI sz, g_tried, g_height, g_trapped, g_place, g_placeOp, g_placeNumber, b_ops, b_numbers, b_trials, b_pile, b_kills) (nI j) (mr_iv x) := by
  obtain ⟨h1, h2⟩ := mr_al_ok hV he
  unfold wpY_outcomeOf
  refine mr_yin_y hx ?_
  refine br_f (by decide) ?_
  refine mr_yfind_y hsz hV he ?_
  refine br_f (by decide) ?_
  exact mr_yrun hsz (mr_Eff_ch (by omega) _ _ _ _) (mr_V_upd hV h2) h
theorem mr_youtOf_n {g_tried m : Int32} {x : Nat} (hsz : sz ≤ 10) (hV : ∀ p, p < sz → mr_V (b_ops p) (b_numbers p)) (hx : x < 16) (hm : m < 0 ∨ nI (mr_al b_ops b_numbers sz).length ≤ m)
    (h : Q (-10004) (nI sz, g_tried, g_height, g_trapped, g_place, g_placeOp, g_placeNumber, b_ops, b_numbers, b_trials, b_pile, b_kills)) :
    wpY_outcomeOf Q (nI sz, g_tried, g_height, g_trapped, g_place, g_placeOp, g_placeNumber, b_ops, b_numbers, b_trials, b_pile, b_kills) m (mr_iv x) := by
  unfold wpY_outcomeOf
  refine mr_yin_y hx ?_
  refine br_f (by decide) ?_
  refine mr_yfind_n hsz hV hm ?_
  exact br_t rfl h
theorem mr_ykill16 {j : Nat} {e : Nat × Int32 × Int32} (hsz : sz ≤ 10) (hV : ∀ p, p < sz → mr_V (b_ops p) (b_numbers p)) (hT : mr_T b_trials tr) (he : (mr_al b_ops b_numbers sz)[j]? = some e)
    (h : ∀ (g_height' g_trapped' g_place' g_placeOp' g_placeNumber' : Int32) (b_pile' : Nat → Int32), Q (nI (mr_ks b_ops b_numbers sz b_trials tr e)) (nI sz, nI tr, g_height', g_trapped', g_place', g_placeOp', g_placeNumber', b_ops, b_numbers, b_trials, b_pile', b_kills)) :
    ∀ (k n i : Nat) (g_height g_trapped g_place g_placeOp g_placeNumber : Int32) (b_pile : Nat → Int32), i + k = tr → k < n →
      wY_killers_16 Q (nI j) n (nI (mr_bits (fun i => mr_K b_ops b_numbers sz e (mr_g b_trials i)) i)) (nI i) (nI sz) (nI tr) g_height g_trapped g_place g_placeOp g_placeNumber b_ops b_numbers b_trials b_pile b_kills := by
  have h6 := hT.1
  intro k
  induction k with
  | zero =>
    intro n i g_height g_trapped g_place g_placeOp g_placeNumber b_pile hi hn
    obtain ⟨n, rfl⟩ : ∃ m, n = m + 1 := ⟨n - 1, by omega⟩
    obtain rfl : i = tr := by omega
    exact pk_le i i (fun _ => h _ _ _ _ _ _) (fun z => absurd z (by omega))
  | succ k ih =>
    intro n i g_height g_trapped g_place g_placeOp g_placeNumber b_pile hi hn
    obtain ⟨n, rfl⟩ : ∃ m, n = m + 1 := ⟨n - 1, by omega⟩
    have hin : vp_in (nI i) 6 := vp_in_nI (by omega) (by omega)
    have hg := hT.2 i (by omega)
    have et : b_trials (nI i).toNatClampNeg = mr_iv (mr_g b_trials i) := by rw [nI_clamp (by omega)]; exact hg.2
    refine pk_le tr i (fun z => absurd z (by omega)) (fun _ => ?_)
    refine And.intro hin ?_
    rw [et]
    refine mr_youtOf_y hsz hV hg.1 he (fun a1 a2 a3 => ?_)
    refine And.intro hin ?_
    rw [et]
    refine mr_yrunP hsz hV (fun c1 c2 c3 => ?_)
    by_cases c : mr_U b_ops b_numbers sz e (mr_g b_trials i) = mr_O b_ops b_numbers sz (mr_g b_trials i)
    · refine br_t c (nm_r (nI_1 i) ?_)
      have key := ih n (i + 1) c1 c2 (-1) e.2.1 e.2.2 c3 (by omega) (by omega)
      rw [mr_bits_f (f := fun i => mr_K b_ops b_numbers sz e (mr_g b_trials i)) (mr_K_f c)] at key
      exact key
    · refine br_f c (nm_r (mr_ad1 (by omega)) (nm_r (nI_1 i) ?_))
      have key := ih n (i + 1) c1 c2 (-1) e.2.1 e.2.2 c3 (by omega) (by omega)
      rw [mr_bits_t (f := fun i => mr_K b_ops b_numbers sz e (mr_g b_trials i)) (mr_K_t c)] at key
      exact key
theorem mr_ykill_y {j : Nat} {e : Nat × Int32 × Int32} (hsz : sz ≤ 10) (hV : ∀ p, p < sz → mr_V (b_ops p) (b_numbers p)) (hT : mr_T b_trials tr) (he : (mr_al b_ops b_numbers sz)[j]? = some e)
    (h : ∀ (g_height' g_trapped' g_place' g_placeOp' g_placeNumber' : Int32) (b_pile' : Nat → Int32), Q (nI (mr_kf b_ops b_numbers sz b_trials tr j)) (nI sz, nI tr, g_height', g_trapped', g_place', g_placeOp', g_placeNumber', b_ops, b_numbers, b_trials, b_pile', b_kills)) :
    wpY_killers Q (nI sz, nI tr, g_height, g_trapped, g_place, g_placeOp, g_placeNumber, b_ops, b_numbers, b_trials, b_pile, b_kills) (nI j) := by
  rw [mr_kf_y he] at h
  unfold wpY_killers
  refine mr_yfind_y hsz hV he ?_
  refine br_f (by decide) ?_
  exact Exists.intro (tr + 1) (mr_ykill16 hsz hV hT he h tr (tr + 1) 0 _ _ _ _ _ _ (by omega) (by omega))
theorem mr_ykill_n {m : Int32} (hsz : sz ≤ 10) (hV : ∀ p, p < sz → mr_V (b_ops p) (b_numbers p)) (hm : m < 0 ∨ nI (mr_al b_ops b_numbers sz).length ≤ m)
    (h : Q (-10004) (nI sz, nI tr, g_height, g_trapped, g_place, g_placeOp, g_placeNumber, b_ops, b_numbers, b_trials, b_pile, b_kills)) :
    wpY_killers Q (nI sz, nI tr, g_height, g_trapped, g_place, g_placeOp, g_placeNumber, b_ops, b_numbers, b_trials, b_pile, b_kills) m := by
  unfold wpY_killers
  refine mr_yfind_n hsz hV hm ?_
  exact br_t rfl h
theorem mr_ykill_a {m : Nat} (hsz : sz ≤ 10) (hV : ∀ p, p < sz → mr_V (b_ops p) (b_numbers p)) (hT : mr_T b_trials tr) (hm : m < 30)
    (h : ∀ (r g_height' g_trapped' g_place' g_placeOp' g_placeNumber' : Int32) (b_pile' : Nat → Int32), (r ≤ 0 → mr_kf b_ops b_numbers sz b_trials tr m = 0) → (¬ r ≤ 0 → r = nI (mr_kf b_ops b_numbers sz b_trials tr m) ∧ ¬ mr_kf b_ops b_numbers sz b_trials tr m = 0) → Q r (nI sz, nI tr, g_height', g_trapped', g_place', g_placeOp', g_placeNumber', b_ops, b_numbers, b_trials, b_pile', b_kills)) :
    wpY_killers Q (nI sz, nI tr, g_height, g_trapped, g_place, g_placeOp, g_placeNumber, b_ops, b_numbers, b_trials, b_pile, b_kills) (nI m) := by
  have hl := mr_al_len hV
  have h64 := mr_kf_64 (op := b_ops) (num := b_numbers) (sz := sz) hT m
  by_cases c : m < (mr_al b_ops b_numbers sz).length
  · refine mr_ykill_y hsz hV hT (List.getElem?_eq_getElem c) (fun a1 a2 a3 a4 a5 a6 => h _ a1 a2 a3 a4 a5 a6 (fun z => ?_) (fun z => ?_))
    · have z' : nI (mr_kf b_ops b_numbers sz b_trials tr m) ≤ nI 0 := z
      rw [nI_leI (by omega) (by omega)] at z'
      omega
    · have z' : ¬ nI (mr_kf b_ops b_numbers sz b_trials tr m) ≤ nI 0 := z
      rw [nI_leI (by omega) (by omega)] at z'
      exact ⟨rfl, by omega⟩
  · refine mr_ykill_n hsz hV (Or.inr ?_) (h _ _ _ _ _ _ _ (fun _ => mr_kf_n (by omega)) (fun z => absurd (by decide) z))
    rw [nI_leI (by omega) (by omega)]; omega
theorem mr_ykilled4 (hsz : sz ≤ 10) (hV : ∀ p, p < sz → mr_V (b_ops p) (b_numbers p)) (hT : mr_T b_trials tr)
    (h : ∀ (g_height' g_trapped' g_place' g_placeOp' g_placeNumber' : Int32) (b_pile' : Nat → Int32), Q (nI (mr_cnt (fun m => decide (¬ mr_kf b_ops b_numbers sz b_trials tr m = 0)) 30)) (nI sz, nI tr, g_height', g_trapped', g_place', g_placeOp', g_placeNumber', b_ops, b_numbers, b_trials, b_pile', b_kills)) :
    ∀ (k n m : Nat) (g_height g_trapped g_place g_placeOp g_placeNumber : Int32) (b_pile : Nat → Int32), m + k = 30 → k < n →
      wY_killed_4 Q n (nI (mr_cnt (fun m => decide (¬ mr_kf b_ops b_numbers sz b_trials tr m = 0)) m)) (nI m) (nI sz) (nI tr) g_height g_trapped g_place g_placeOp g_placeNumber b_ops b_numbers b_trials b_pile b_kills := by
  intro k
  induction k with
  | zero =>
    intro n m g_height g_trapped g_place g_placeOp g_placeNumber b_pile hm hn
    obtain ⟨n, rfl⟩ : ∃ m, n = m + 1 := ⟨n - 1, by omega⟩
    obtain rfl : m = 30 := by omega
    exact pk_le 30 30 (fun _ => h _ _ _ _ _ _) (fun z => absurd z (by omega))
  | succ k ih =>
    intro n m g_height g_trapped g_place g_placeOp g_placeNumber b_pile hm hn
    obtain ⟨n, rfl⟩ : ∃ m, n = m + 1 := ⟨n - 1, by omega⟩
    refine pk_le 30 m (fun z => absurd z (by omega)) (fun _ => ?_)
    refine mr_ykill_a hsz hV hT (by omega) (fun r a1 a2 a3 a4 a5 a6 hr0 hr1 => ?_)
    have key := ih n (m + 1) a1 a2 a3 a4 a5 a6 (by omega) (by omega)
    by_cases c : r ≤ 0
    · refine br_t c (nm_r (nI_1 m) ?_)
      rw [mr_cnt_f (by rw [decide_eq_true_iff]; exact fun z => z (hr0 c))] at key
      exact key
    · refine br_f c (nm_r (nI_1 _) (nm_r (nI_1 m) ?_))
      rw [mr_cnt_t (by rw [decide_eq_true_iff]; exact (hr1 c).2)] at key
      exact key
theorem mr_ykilled (hsz : sz ≤ 10) (hV : ∀ p, p < sz → mr_V (b_ops p) (b_numbers p)) (hT : mr_T b_trials tr)
    (h : ∀ (g_height' g_trapped' g_place' g_placeOp' g_placeNumber' : Int32) (b_pile' : Nat → Int32), Q (nI (mr_cnt (fun m => decide (¬ mr_kf b_ops b_numbers sz b_trials tr m = 0)) 30)) (nI sz, nI tr, g_height', g_trapped', g_place', g_placeOp', g_placeNumber', b_ops, b_numbers, b_trials, b_pile', b_kills)) :
    wpY_killed Q (nI sz, nI tr, g_height, g_trapped, g_place, g_placeOp, g_placeNumber, b_ops, b_numbers, b_trials, b_pile, b_kills) :=
  Exists.intro 31 (mr_ykilled4 hsz hV hT h 30 31 0 _ _ _ _ _ _ (by omega) (by omega))
theorem mr_ykiller15 {g_tried : Int32} {j : Nat} {e : Nat × Int32 × Int32} (hsz : sz ≤ 10) (hV : ∀ p, p < sz → mr_V (b_ops p) (b_numbers p)) (he : (mr_al b_ops b_numbers sz)[j]? = some e) :
    ∀ (k n : Nat) (g_height g_trapped g_place g_placeOp g_placeNumber : Int32) (b_pile : Nat → Int32), k ≤ 16 → k < n →
      (∀ (g_height' g_trapped' g_place' g_placeOp' g_placeNumber' : Int32) (b_pile' : Nat → Int32), Q (mr_kr (mr_K b_ops b_numbers sz e) k) (nI sz, g_tried, g_height', g_trapped', g_place', g_placeOp', g_placeNumber', b_ops, b_numbers, b_trials, b_pile', b_kills)) →
      wY_killer_15 Q (nI j) n (mr_iv (16 - k)) (nI sz) g_tried g_height g_trapped g_place g_placeOp g_placeNumber b_ops b_numbers b_trials b_pile b_kills := by
  intro k
  induction k with
  | zero =>
    intro n g_height g_trapped g_place g_placeOp g_placeNumber b_pile hk hn h
    obtain ⟨n, rfl⟩ : ∃ m, n = m + 1 := ⟨n - 1, by omega⟩
    exact br_t (by decide) (h _ _ _ _ _ _)
  | succ k ih =>
    intro n g_height g_trapped g_place g_placeOp g_placeNumber b_pile hk hn h
    obtain ⟨n, rfl⟩ : ∃ m, n = m + 1 := ⟨n - 1, by omega⟩
    have hx : 16 - (k + 1) < 16 := by omega
    refine br_f (mr_iv2 _ hx).2 ?_
    refine mr_youtOf_y hsz hV hx he (fun a1 a2 a3 => ?_)
    refine mr_yrunP hsz hV (fun c1 c2 c3 => ?_)
    by_cases c : mr_U b_ops b_numbers sz e (16 - (k + 1)) = mr_O b_ops b_numbers sz (16 - (k + 1))
    · have e1 : 16 - (k + 1) + 1 = 16 - k := by omega
      refine br_t c (nm_r (e' := mr_iv (16 - k)) (by rw [(mr_iv3 _ hx).2, e1]) ?_)
      refine ih n _ _ _ _ _ _ (by omega) (by omega) ?_
      have e2 : mr_kr (mr_K b_ops b_numbers sz e) (k + 1) = mr_kr (mr_K b_ops b_numbers sz e) k := if_neg (mr_K_f c)
      rw [e2] at h
      exact h
    · refine br_f c ?_
      have e2 : mr_kr (mr_K b_ops b_numbers sz e) (k + 1) = mr_iv (16 - (k + 1)) := if_pos (mr_K_t c)
      rw [e2] at h
      exact h _ _ _ _ _ _
theorem mr_ykiller_y {g_tried : Int32} {j : Nat} {e : Nat × Int32 × Int32} (hsz : sz ≤ 10) (hV : ∀ p, p < sz → mr_V (b_ops p) (b_numbers p)) (he : (mr_al b_ops b_numbers sz)[j]? = some e)
    (h : ∀ (g_height' g_trapped' g_place' g_placeOp' g_placeNumber' : Int32) (b_pile' : Nat → Int32), Q (mr_kr (mr_K b_ops b_numbers sz e) 16) (nI sz, g_tried, g_height', g_trapped', g_place', g_placeOp', g_placeNumber', b_ops, b_numbers, b_trials, b_pile', b_kills)) : wpY_killer Q (nI sz, g_tried, g_height, g_trapped, g_place, g_placeOp, g_placeNumber, b_ops, b_numbers, b_trials, b_pile, b_kills) (nI j) := by
  unfold wpY_killer
  refine mr_yfind_y hsz hV he ?_
  refine br_f (by decide) ?_
  refine Exists.intro 17 ?_
  have e8 : (-8 : Int32) = mr_iv (16 - 16) := by decide
  rw [e8]
  exact mr_ykiller15 hsz hV he 16 17 _ _ _ _ _ _ (by omega) (by omega) h
theorem mr_ykiller_n {g_tried m : Int32} (hsz : sz ≤ 10) (hV : ∀ p, p < sz → mr_V (b_ops p) (b_numbers p)) (hm : m < 0 ∨ nI (mr_al b_ops b_numbers sz).length ≤ m)
    (h : Q (-10004) (nI sz, g_tried, g_height, g_trapped, g_place, g_placeOp, g_placeNumber, b_ops, b_numbers, b_trials, b_pile, b_kills)) : wpY_killer Q (nI sz, g_tried, g_height, g_trapped, g_place, g_placeOp, g_placeNumber, b_ops, b_numbers, b_trials, b_pile, b_kills) m := by
  unfold wpY_killer
  refine mr_yfind_n hsz hV hm ?_
  exact br_t rfl h
theorem mr_yequal9 {g_tried : Int32} (hsz : sz ≤ 10) (hV : ∀ p, p < sz → mr_V (b_ops p) (b_numbers p))
    (h : ∀ (g_height' g_trapped' g_place' g_placeOp' g_placeNumber' : Int32) (b_pile' : Nat → Int32), Q (nI (mr_cnt (mr_z b_ops b_numbers sz) (mr_al b_ops b_numbers sz).length)) (nI sz, g_tried, g_height', g_trapped', g_place', g_placeOp', g_placeNumber', b_ops, b_numbers, b_trials, b_pile', b_kills)) :
    ∀ (k n m : Nat) (g_height g_trapped g_place g_placeOp g_placeNumber : Int32) (b_pile : Nat → Int32), m + k = (mr_al b_ops b_numbers sz).length → k < n →
      wY_equalOnes_9 Q (nI (mr_al b_ops b_numbers sz).length) n (nI (mr_cnt (mr_z b_ops b_numbers sz) m)) (nI m) (nI sz) g_tried g_height g_trapped g_place g_placeOp g_placeNumber b_ops b_numbers b_trials b_pile b_kills := by
  have hl := mr_al_len hV
  intro k
  induction k with
  | zero =>
    intro n m g_height g_trapped g_place g_placeOp g_placeNumber b_pile hm hn
    obtain ⟨n, rfl⟩ : ∃ m, n = m + 1 := ⟨n - 1, by omega⟩
    have hm' : m = (mr_al b_ops b_numbers sz).length := by omega
    rw [hm']
    exact pk_le (mr_al b_ops b_numbers sz).length (mr_al b_ops b_numbers sz).length (fun _ => h _ _ _ _ _ _) (fun z => absurd z (by omega))
  | succ k ih =>
    intro n m g_height g_trapped g_place g_placeOp g_placeNumber b_pile hm hn
    obtain ⟨n, rfl⟩ : ∃ m, n = m + 1 := ⟨n - 1, by omega⟩
    have hlt : m < (mr_al b_ops b_numbers sz).length := by omega
    have he := List.getElem?_eq_getElem hlt
    refine pk_le (mr_al b_ops b_numbers sz).length m (fun z => absurd z (by omega)) (fun _ => ?_)
    refine mr_ykiller_y hsz hV he (fun a1 a2 a3 a4 a5 a6 => ?_)
    have key := ih n (m + 1) a1 a2 a3 a4 a5 a6 (by omega) (by omega)
    refine br_c (fun c => nm_r (nI_1 _) (nm_r (nI_1 m) ?_)) (fun c => nm_r (nI_1 m) ?_)
    · rw [mr_cnt_t ((mr_z_y he).mpr (mr_kr_bits.mp c))] at key
      exact key
    · rw [mr_cnt_f (fun z => c (mr_kr_bits.mpr ((mr_z_y he).mp z)))] at key
      exact key
theorem mr_yequal {g_tried : Int32} (hsz : sz ≤ 10) (hV : ∀ p, p < sz → mr_V (b_ops p) (b_numbers p))
    (h : ∀ (g_height' g_trapped' g_place' g_placeOp' g_placeNumber' : Int32) (b_pile' : Nat → Int32), Q (nI (mr_cnt (mr_z b_ops b_numbers sz) (mr_al b_ops b_numbers sz).length)) (nI sz, g_tried, g_height', g_trapped', g_place', g_placeOp', g_placeNumber', b_ops, b_numbers, b_trials, b_pile', b_kills)) :
    wpY_equalOnes Q (nI sz, g_tried, g_height, g_trapped, g_place, g_placeOp, g_placeNumber, b_ops, b_numbers, b_trials, b_pile, b_kills) := by
  unfold wpY_equalOnes
  refine mr_ymuts hsz hV ?_
  exact Exists.intro _ (mr_yequal9 hsz hV h (mr_al b_ops b_numbers sz).length _ 0 _ _ _ _ _ _ (by omega) (Nat.lt_succ_self _))
theorem mr_ynumbers5 {g_tried : Int32} (hsz : sz ≤ 10) (hV : ∀ p, p < sz → mr_V (b_ops p) (b_numbers p))
    (h : ∀ (g_height' g_trapped' g_place' g_placeOp' g_placeNumber' : Int32) (b_pile' : Nat → Int32), Q (nI (mr_cnt (fun x => decide (¬ 1000 < mr_O b_ops b_numbers sz x)) 16)) (nI sz, g_tried, g_height', g_trapped', g_place', g_placeOp', g_placeNumber', b_ops, b_numbers, b_trials, b_pile', b_kills)) :
    ∀ (k n x : Nat) (g_height g_trapped g_place g_placeOp g_placeNumber : Int32) (b_pile : Nat → Int32), x + k = 16 → k < n →
      wY_numbers_5 Q n (nI (mr_cnt (fun x => decide (¬ 1000 < mr_O b_ops b_numbers sz x)) x)) (mr_iv x) (nI sz) g_tried g_height g_trapped g_place g_placeOp g_placeNumber b_ops b_numbers b_trials b_pile b_kills := by
  intro k
  induction k with
  | zero =>
    intro n x g_height g_trapped g_place g_placeOp g_placeNumber b_pile hx hn
    obtain ⟨n, rfl⟩ : ∃ m, n = m + 1 := ⟨n - 1, by omega⟩
    obtain rfl : x = 16 := by omega
    exact br_t (by decide) (h _ _ _ _ _ _)
  | succ k ih =>
    intro n x g_height g_trapped g_place g_placeOp g_placeNumber b_pile hx hn
    obtain ⟨n, rfl⟩ : ∃ m, n = m + 1 := ⟨n - 1, by omega⟩
    have hx' : x < 16 := by omega
    refine br_f (mr_iv2 _ hx').2 ?_
    refine mr_yrunP hsz hV (fun c1 c2 c3 => ?_)
    have key := ih n (x + 1) c1 c2 (-1) g_placeOp g_placeNumber c3 (by omega) (by omega)
    by_cases c : 1000 < mr_O b_ops b_numbers sz x
    · refine br_t c (nm_r (mr_iv3 _ hx').2 ?_)
      rw [mr_cnt_f (by rw [decide_eq_true_iff]; exact fun z => z c)] at key
      exact key
    · refine br_f c (nm_r (nI_1 _) (nm_r (mr_iv3 _ hx').2 ?_))
      rw [mr_cnt_t (by rw [decide_eq_true_iff]; exact c)] at key
      exact key
theorem mr_ynumbers {g_tried : Int32} (hsz : sz ≤ 10) (hV : ∀ p, p < sz → mr_V (b_ops p) (b_numbers p))
    (h : ∀ (g_height' g_trapped' g_place' g_placeOp' g_placeNumber' : Int32) (b_pile' : Nat → Int32), Q (nI (mr_cnt (fun x => decide (¬ 1000 < mr_O b_ops b_numbers sz x)) 16)) (nI sz, g_tried, g_height', g_trapped', g_place', g_placeOp', g_placeNumber', b_ops, b_numbers, b_trials, b_pile', b_kills)) :
    wpY_numbers Q (nI sz, g_tried, g_height, g_trapped, g_place, g_placeOp, g_placeNumber, b_ops, b_numbers, b_trials, b_pile, b_kills) := by
  refine Exists.intro 17 ?_
  have e8 : (-8 : Int32) = mr_iv 0 := by decide
  rw [e8]
  exact mr_ynumbers5 hsz hV h 16 17 0 _ _ _ _ _ _ (by omega) (by omega)
end
end
section
/-! Y: listKills, needed, leading -/
section
variable {g_height g_trapped g_place g_placeOp g_placeNumber : Int32} {b_ops b_numbers b_trials b_pile b_kills : Nat → Int32}
variable {P : SY → Prop} {Q : Int32 → SY → Prop} {R : Int32 → Prop} {sz tr : Nat}
theorem mr_ylist2 (hsz : sz ≤ 10) (hV : ∀ p, p < sz → mr_V (b_ops p) (b_numbers p)) (hT : mr_T b_trials tr)
    (h : ∀ (g_height' g_trapped' g_place' g_placeOp' g_placeNumber' : Int32) (b_pile' b_kills' : Nat → Int32), (∀ m, m < 30 → b_kills' m = nI (mr_kf b_ops b_numbers sz b_trials tr m)) → P (nI sz, nI tr, g_height', g_trapped', g_place', g_placeOp', g_placeNumber', b_ops, b_numbers, b_trials, b_pile', b_kills')) :
    ∀ (k n m : Nat) (g_height g_trapped g_place g_placeOp g_placeNumber : Int32) (b_pile b_kills : Nat → Int32), m + k = 30 → k < n → (∀ j, j < m → b_kills j = nI (mr_kf b_ops b_numbers sz b_trials tr j)) →
      wY_listKills_2 P n (nI m) (nI sz) (nI tr) g_height g_trapped g_place g_placeOp g_placeNumber b_ops b_numbers b_trials b_pile b_kills := by
  intro k
  induction k with
  | zero =>
    intro n m g_height g_trapped g_place g_placeOp g_placeNumber b_pile b_kills hm hn hc
    obtain ⟨n, rfl⟩ : ∃ m, n = m + 1 := ⟨n - 1, by omega⟩
    obtain rfl : m = 30 := by omega
    exact pk_le 30 30 (fun _ => h _ _ _ _ _ _ _ hc) (fun z => absurd z (by omega))
  | succ k ih =>
    intro n m g_height g_trapped g_place g_placeOp g_placeNumber b_pile b_kills hm hn hc
    obtain ⟨n, rfl⟩ : ∃ m, n = m + 1 := ⟨n - 1, by omega⟩
    have hin : vp_in (nI m) 30 := vp_in_nI (by omega) (by omega)
    have em : (nI m).toNatClampNeg = m := nI_clamp (by omega)
    have step : ∀ v : Int32, v = nI (mr_kf b_ops b_numbers sz b_trials tr m) → ∀ j, j < m + 1 → upd b_kills m v j = nI (mr_kf b_ops b_numbers sz b_trials tr j) := by
      intro v hv j hj
      by_cases c : j = m
      · subst c; rw [pk_us]; exact hv
      · rw [pk_un c]; exact hc j (by omega)
    refine pk_le 30 m (fun z => absurd z (by omega)) (fun _ => ?_)
    refine mr_ykill_a hsz hV hT (by omega) (fun r a1 a2 a3 a4 a5 a6 hr0 hr1 => ?_)
    by_cases c : r ≤ 0
    · refine br_t c (And.intro hin (nm_r (e' := upd b_kills m 0) (by rw [em]) (nm_r (nI_1 m) ?_)))
      exact ih n (m + 1) _ _ _ _ _ _ _ (by omega) (by omega) (step 0 (by rw [hr0 c]; rfl))
    · refine br_f c (And.intro hin (nm_r (e' := upd b_kills m r) (by rw [em]) (nm_r (nI_1 m) ?_)))
      exact ih n (m + 1) _ _ _ _ _ _ _ (by omega) (by omega) (step r (hr1 c).1)
theorem mr_ylist (hsz : sz ≤ 10) (hV : ∀ p, p < sz → mr_V (b_ops p) (b_numbers p)) (hT : mr_T b_trials tr)
    (h : ∀ (g_height' g_trapped' g_place' g_placeOp' g_placeNumber' : Int32) (b_pile' b_kills' : Nat → Int32), (∀ m, m < 30 → b_kills' m = nI (mr_kf b_ops b_numbers sz b_trials tr m)) → P (nI sz, nI tr, g_height', g_trapped', g_place', g_placeOp', g_placeNumber', b_ops, b_numbers, b_trials, b_pile', b_kills')) :
    wpY_listKills P (nI sz, nI tr, g_height, g_trapped, g_place, g_placeOp, g_placeNumber, b_ops, b_numbers, b_trials, b_pile, b_kills) :=
  Exists.intro 31 (mr_ylist2 hsz hV hT h 30 31 0 _ _ _ _ _ _ _ (by omega) (by omega) (fun j hj => absurd hj (by omega)))
theorem mr_ysize {g_size g_tried : Int32} {s : Nat} (hs : s < 64) (h : R (nI (mr_pop s 6))) : wpY_sizeOf R (g_size, g_tried, g_height, g_trapped, g_place, g_placeOp, g_placeNumber, b_ops, b_numbers, b_trials, b_pile, b_kills) (nI s) := by
  have key : ∀ (k n i : Nat), i + k = 6 → k < n → wY_sizeOf_4 R (nI s) g_size g_tried g_height g_trapped g_place g_placeOp g_placeNumber b_ops b_numbers b_trials b_pile b_kills n (nI (mr_pop s i)) (nI i) := by
    intro k
    induction k with
    | zero =>
      intro n i hi hn
      obtain ⟨n, rfl⟩ : ∃ m, n = m + 1 := ⟨n - 1, by omega⟩
      obtain rfl : i = 6 := by omega
      exact pk_le 6 6 (fun _ => h) (fun z => absurd z (by omega))
    | succ k ih =>
      intro n i hi hn
      obtain ⟨n, rfl⟩ : ∃ m, n = m + 1 := ⟨n - 1, by omega⟩
      refine pk_le 6 i (fun z => absurd z (by omega)) (fun _ => ?_)
      refine nm_r (e' := nI (mr_pop s (i + 1))) (by rw [mr_shr1 (by omega) (by omega), nI_add]; rfl) (nm_r (nI_1 i) ?_)
      exact ih n (i + 1) (by omega) (by omega)
  exact Exists.intro 7 (key 6 7 0 (by omega) (by omega))
theorem mr_ydoes {g_size g_tried : Int32} {kf : Nat → Nat} {s : Nat} (hk : ∀ m, m < 30 → b_kills m = nI (kf m)) (h64 : ∀ m, kf m < 64)
    (h1 : mr_D kf 30 s = true → R 1) (h0 : ¬ mr_D kf 30 s = true → R 0) : wpY_doesAll R (g_size, g_tried, g_height, g_trapped, g_place, g_placeOp, g_placeNumber, b_ops, b_numbers, b_trials, b_pile, b_kills) (nI s) := by
  have key : ∀ (k n m : Nat), m + k = 30 → k < n → (∀ j, j < m → ¬ kf j = 0 → ¬ kf j &&& s = 0) → wY_doesAll_2 R (nI s) g_size g_tried g_height g_trapped g_place g_placeOp g_placeNumber b_ops b_numbers b_trials b_pile b_kills n (nI m) := by
    intro k
    induction k with
    | zero =>
      intro n m hm hn hc
      obtain ⟨n, rfl⟩ : ∃ m, n = m + 1 := ⟨n - 1, by omega⟩
      obtain rfl : m = 30 := by omega
      exact pk_le 30 30 (fun _ => h1 (by unfold mr_D; rw [decide_eq_true_iff]; exact hc)) (fun z => absurd z (by omega))
    | succ k ih =>
      intro n m hm hn hc
      obtain ⟨n, rfl⟩ : ∃ m, n = m + 1 := ⟨n - 1, by omega⟩
      have hin : vp_in (nI m) 30 := vp_in_nI (by omega) (by omega)
      have em : b_kills (nI m).toNatClampNeg = nI (kf m) := by rw [nI_clamp (by omega)]; exact hk m (by omega)
      have hm64 := h64 m
      refine pk_le 30 m (fun z => absurd z (by omega)) (fun _ => ?_)
      refine And.intro hin ?_
      rw [em]
      refine pk_eq (kf m) 0 (fun c => ?_) (fun c => ?_)
      · refine nm_r (nI_1 m) ?_
        refine ih n (m + 1) (by omega) (by omega) (lt_s hc (fun z => absurd c z))
      · refine And.intro hin ?_
        by_cases d : kf m &&& s = 0
        · refine br_t ((mr_and0 hm64).mpr d) (h0 ?_)
          unfold mr_D
          rw [decide_eq_true_iff]
          exact fun z => z m (by omega) c d
        · refine br_f (fun z => d ((mr_and0 hm64).mp z)) (nm_r (nI_1 m) ?_)
          exact ih n (m + 1) (by omega) (by omega) (lt_s hc (fun _ => d))
  exact Exists.intro 31 (key 30 31 0 (by omega) (by omega) (fun j hj => absurd hj (by omega)))
theorem mr_yneed9 {g_size g_tried : Int32} {kf : Nat → Nat} (hk : ∀ m, m < 30 → b_kills m = nI (kf m)) (h64 : ∀ m, kf m < 64)
    (h : Q (nI (mr_nd (mr_D kf 30) 6 64)) (g_size, g_tried, g_height, g_trapped, g_place, g_placeOp, g_placeNumber, b_ops, b_numbers, b_trials, b_pile, b_kills)) :
    ∀ (k n s : Nat), s + k = 64 → k < n → wY_needed_9 Q g_size g_tried g_height g_trapped g_place g_placeOp g_placeNumber b_ops b_numbers b_trials b_pile b_kills n (nI (mr_nd (mr_D kf 30) 6 s)) (nI s) := by
  intro k
  induction k with
  | zero =>
    intro n s hs hn
    obtain ⟨n, rfl⟩ : ∃ m, n = m + 1 := ⟨n - 1, by omega⟩
    obtain rfl : s = 64 := by omega
    exact pk_le 64 64 (fun _ => h) (fun z => absurd z (by omega))
  | succ k ih =>
    intro n s hs hn
    obtain ⟨n, rfl⟩ : ∃ m, n = m + 1 := ⟨n - 1, by omega⟩
    have hp := mr_pop_le s 6
    have hb := mr_nd_le (D := mr_D kf 30) (b0 := 6) s
    have key := ih n (s + 1) (by omega) (by omega)
    refine pk_le 64 s (fun z => absurd z (by omega)) (fun _ => ?_)
    refine mr_ysize (by omega) ?_
    refine pk_le (mr_nd (mr_D kf 30) 6 s) (mr_pop s 6) (fun c => ?_) (fun c => ?_)
    · refine nm_r (nI_1 s) ?_
      rw [mr_nd_f (fun z => by omega)] at key
      exact key
    · refine mr_ydoes hk h64 (fun d => ?_) (fun d => ?_)
      · refine br_f (by decide) ?_
        refine mr_ysize (by omega) (nm_r (nI_1 s) ?_)
        rw [mr_nd_t c d] at key
        exact key
      · refine br_t rfl (nm_r (nI_1 s) ?_)
        rw [mr_nd_f (fun z => d z.2)] at key
        exact key
theorem mr_yneed (hsz : sz ≤ 10) (hV : ∀ p, p < sz → mr_V (b_ops p) (b_numbers p)) (hT : mr_T b_trials tr)
    (h : ∀ (g_height' g_trapped' g_place' g_placeOp' g_placeNumber' : Int32) (b_pile' b_kills' : Nat → Int32), Q (nI (mr_nd (mr_D (mr_kf b_ops b_numbers sz b_trials tr) 30) 6 64)) (nI sz, nI tr, g_height', g_trapped', g_place', g_placeOp', g_placeNumber', b_ops, b_numbers, b_trials, b_pile', b_kills')) :
    wpY_needed Q (nI sz, nI tr, g_height, g_trapped, g_place, g_placeOp, g_placeNumber, b_ops, b_numbers, b_trials, b_pile, b_kills) := by
  unfold wpY_needed
  refine mr_ylist hsz hV hT (fun a1 a2 a3 a4 a5 a6 a7 hk => ?_)
  exact Exists.intro 65 (mr_yneed9 hk (mr_kf_64 hT) (h _ _ _ _ _ _ _) 64 65 0 (by omega) (by omega))
theorem mr_ylead {g_size g_tried : Int32} {kf : Nat → Nat} {m : Nat} (hm : m < 30) (hk : ∀ m, m < 30 → b_kills m = nI (kf m)) (h64 : ∀ m, kf m < 64)
    (h1 : mr_ld kf 30 m = true → R 1) (h0 : ¬ mr_ld kf 30 m = true → R 0) : wpY_leads R (g_size, g_tried, g_height, g_trapped, g_place, g_placeOp, g_placeNumber, b_ops, b_numbers, b_trials, b_pile, b_kills) (nI m) := by
  have him : vp_in (nI m) 30 := vp_in_nI (by omega) (by omega)
  have em : b_kills (nI m).toNatClampNeg = nI (kf m) := by rw [nI_clamp (by omega)]; exact hk m (by omega)
  have hm64 := h64 m
  have key : ∀ (k n l : Nat), l + k = 30 → k < n → (∀ j, j < l → ¬ kf j = 0 → ¬ kf j = kf m → ¬ kf j &&& kf m = kf j) → wY_leads_2 R (nI m) g_size g_tried g_height g_trapped g_place g_placeOp g_placeNumber b_ops b_numbers b_trials b_pile b_kills n (nI l) := by
    intro k
    induction k with
    | zero =>
      intro n l hl hn hc
      obtain ⟨n, rfl⟩ : ∃ m, n = m + 1 := ⟨n - 1, by omega⟩
      obtain rfl : l = 30 := by omega
      refine pk_le 30 30 (fun _ => And.intro him ?_) (fun z => absurd z (by omega))
      rw [em]
      exact pk_eq (kf m) 0 (fun c => h0 (mr_ld_f0 c)) (fun c => h1 (mr_ld_t c hc))
    | succ k ih =>
      intro n l hl hn hc
      obtain ⟨n, rfl⟩ : ∃ m, n = m + 1 := ⟨n - 1, by omega⟩
      have hin : vp_in (nI l) 30 := vp_in_nI (by omega) (by omega)
      have el : b_kills (nI l).toNatClampNeg = nI (kf l) := by rw [nI_clamp (by omega)]; exact hk l (by omega)
      have hl64 := h64 l
      refine pk_le 30 l (fun z => absurd z (by omega)) (fun _ => ?_)
      refine And.intro hin ?_
      rw [el, em]
      refine pk_eq (kf l) 0 (fun c => ?_) (fun c => ?_)
      · refine nm_r (nI_1 l) ?_
        exact ih n (l + 1) (by omega) (by omega) (lt_s hc (fun z => absurd c z))
      · refine And.intro hin (And.intro him ?_)
        refine pk_eq (kf l) (kf m) (fun d => ?_) (fun d => ?_)
        · refine nm_r (nI_1 l) ?_
          exact ih n (l + 1) (by omega) (by omega) (lt_s hc (fun _ z => absurd d z))
        · refine And.intro hin (And.intro him (And.intro hin ?_))
          by_cases f : kf l &&& kf m = kf l
          · exact br_t ((mr_andE hl64).mpr f) (h0 (mr_ld_f (by omega) c d f))
          · refine br_f (fun z => f ((mr_andE hl64).mp z)) (nm_r (nI_1 l) ?_)
            exact ih n (l + 1) (by omega) (by omega) (lt_s hc (fun _ _ => f))
  exact Exists.intro 31 (key 30 31 0 (by omega) (by omega) (fun j hj => absurd hj (by omega)))
theorem mr_ylead8 {g_size g_tried : Int32} {kf : Nat → Nat} (hk : ∀ m, m < 30 → b_kills m = nI (kf m)) (h64 : ∀ m, kf m < 64)
    (h : Q (nI (mr_cnt (mr_ld kf 30) 30)) (g_size, g_tried, g_height, g_trapped, g_place, g_placeOp, g_placeNumber, b_ops, b_numbers, b_trials, b_pile, b_kills)) :
    ∀ (k n m : Nat), m + k = 30 → k < n → wY_leading_8 Q g_size g_tried g_height g_trapped g_place g_placeOp g_placeNumber b_ops b_numbers b_trials b_pile b_kills n (nI (mr_cnt (mr_ld kf 30) m)) (nI m) := by
  intro k
  induction k with
  | zero =>
    intro n m hm hn
    obtain ⟨n, rfl⟩ : ∃ m, n = m + 1 := ⟨n - 1, by omega⟩
    obtain rfl : m = 30 := by omega
    exact pk_le 30 30 (fun _ => h) (fun z => absurd z (by omega))
  | succ k ih =>
    intro n m hm hn
    obtain ⟨n, rfl⟩ : ∃ m, n = m + 1 := ⟨n - 1, by omega⟩
    have key := ih n (m + 1) (by omega) (by omega)
    refine pk_le 30 m (fun z => absurd z (by omega)) (fun _ => ?_)
    refine mr_ylead (by omega) hk h64 (fun d => ?_) (fun d => ?_)
    · refine br_f (by decide) (nm_r (nI_1 _) (nm_r (nI_1 m) ?_))
      rw [mr_cnt_t d] at key
      exact key
    · refine br_t rfl (nm_r (nI_1 m) ?_)
      rw [mr_cnt_f d] at key
      exact key
theorem mr_yleading (hsz : sz ≤ 10) (hV : ∀ p, p < sz → mr_V (b_ops p) (b_numbers p)) (hT : mr_T b_trials tr)
    (h : ∀ (g_height' g_trapped' g_place' g_placeOp' g_placeNumber' : Int32) (b_pile' b_kills' : Nat → Int32), Q (nI (mr_cnt (mr_ld (mr_kf b_ops b_numbers sz b_trials tr) 30) 30)) (nI sz, nI tr, g_height', g_trapped', g_place', g_placeOp', g_placeNumber', b_ops, b_numbers, b_trials, b_pile', b_kills')) :
    wpY_leading Q (nI sz, nI tr, g_height, g_trapped, g_place, g_placeOp, g_placeNumber, b_ops, b_numbers, b_trials, b_pile, b_kills) := by
  unfold wpY_leading
  refine mr_ylist hsz hV hT (fun a1 a2 a3 a4 a5 a6 a7 hk => ?_)
  exact Exists.intro 31 (mr_ylead8 hk (mr_kf_64 hT) (h _ _ _ _ _ _ _) 30 31 0 (by omega) (by omega))
end
end
section
/-! X: prepare -/
def mr_Rd (op num : Nat → Int32) (sz : Nat) (mu : Int32) (at' no nn told usual : Nat → Int32) : Prop :=
  mu = nI (mr_al op num sz).length ∧ mr_Mt at' no nn (mr_al op num sz) ∧
  (∀ (m : Nat) (e : Nat × Int32 × Int32), (mr_al op num sz)[m]? = some e → told m = nI (mr_bits (mr_K op num sz e) 16)) ∧
  ∀ x, x < 16 → usual x = mr_O op num sz x
section
variable {f_trials f_ready f_place f_done f_height f_input f_trapped f_changed f_changedOp f_changedNumber : Int32} {a_op a_number a_trial a_at a_newOp a_newNumber a_told a_usual a_pile a_seen a_seenDone a_seenHeight a_seenPile : Nat → Int32}
variable {P : SX → Prop} {sz : Nat}
theorem mr_xp81 {J : Int32 → Int32 → Int32 → Int32 → Int32 → Int32 → Int32 → Int32 → Int32 → Int32 → Int32 → Int32 → Int32 → (Nat → Int32) → (Nat → Int32) → (Nat → Int32) → (Nat → Int32) → (Nat → Int32) → (Nat → Int32) → (Nat → Int32) → (Nat → Int32) → (Nat → Int32) → (Nat → Int32) → (Nat → Int32) → (Nat → Int32) → (Nat → Int32) → Prop} {x : Nat} (hx : x < 16) (hsz : sz ≤ 10) (hV : ∀ p, p < sz → mr_V (a_op p) (a_number p)) (hM : mr_Mt a_at a_newOp a_newNumber (mr_al a_op a_number sz))
    (hu : a_usual x = mr_O a_op a_number sz x) (hS : mr_Sn a_op a_number sz (mr_iv x) (fun _ _ => mr_O a_op a_number sz x) a_seen a_seenDone a_seenHeight a_seenPile)
    (hJ : ∀ (f_place' f_done' f_height' f_trapped' f_changed' f_changedOp' f_changedNumber' : Int32) (a_pile' a_told' : Nat → Int32), (∀ (m : Nat) (e : Nat × Int32 × Int32), (mr_al a_op a_number sz)[m]? = some e → a_told' m = nI (mr_bits (mr_K a_op a_number sz e) (x + 1))) →
      J (nI (x + 1)) (nI sz) f_trials f_ready (nI (mr_al a_op a_number sz).length) f_place' f_done' f_height' (mr_iv x) f_trapped' f_changed' f_changedOp' f_changedNumber' a_op a_number a_trial a_at a_newOp a_newNumber a_told' a_usual a_pile' a_seen a_seenDone a_seenHeight a_seenPile) :
    ∀ (k n m : Nat) (f_place f_done f_height f_trapped f_changed f_changedOp f_changedNumber : Int32) (a_pile a_told : Nat → Int32), m + k = (mr_al a_op a_number sz).length → k < n →
      (∀ (j : Nat) (e : Nat × Int32 × Int32), (mr_al a_op a_number sz)[j]? = some e → a_told j = nI (mr_bits (mr_K a_op a_number sz e) (if j < m then x + 1 else x))) →
      wX_prepare_81 P J (nI x) n (nI m) (nI sz) f_trials f_ready (nI (mr_al a_op a_number sz).length) f_place f_done f_height (mr_iv x) f_trapped f_changed f_changedOp f_changedNumber a_op a_number a_trial a_at a_newOp a_newNumber a_told a_usual a_pile a_seen a_seenDone a_seenHeight a_seenPile := by
  have hl := mr_al_len hV
  intro k
  induction k with
  | zero =>
    intro n m f_place f_done f_height f_trapped f_changed f_changedOp f_changedNumber a_pile a_told hm hn ht
    obtain ⟨n, rfl⟩ : ∃ m, n = m + 1 := ⟨n - 1, by omega⟩
    refine pk_le (mr_al a_op a_number sz).length m (fun _ => nm_r (nI_1 x) ?_) (fun z => absurd z (by omega))
    refine hJ _ _ _ _ _ _ _ _ _ (fun j e he => ?_)
    have hj := (List.getElem?_eq_some_iff.mp he).1
    rw [ht j e he, if_pos (by omega)]
  | succ k ih =>
    intro n m f_place f_done f_height f_trapped f_changed f_changedOp f_changedNumber a_pile a_told hm hn ht
    obtain ⟨n, rfl⟩ : ∃ m, n = m + 1 := ⟨n - 1, by omega⟩
    have hlt : m < (mr_al a_op a_number sz).length := by omega
    have he := List.getElem?_eq_getElem hlt
    generalize (mr_al a_op a_number sz)[m] = e at he
    obtain ⟨h1, h2⟩ := mr_al_ok hV he
    obtain ⟨m1, m2, m3⟩ := hM m e he
    have hin : vp_in (nI x) 16 := vp_in_nI (by omega) (by omega)
    have him : vp_in (nI m) 30 := vp_in_nI (by omega) (by omega)
    have eu : a_usual (nI x).toNatClampNeg = mr_O a_op a_number sz x := by rw [nI_clamp (by omega)]; exact hu
    have em : (nI m).toNatClampNeg = m := nI_clamp (by omega)
    have hVe : ∀ p, p < sz → mr_V (upd a_op e.1 (a_newOp m) p) (upd a_number e.1 (a_newNumber m) p) := by rw [m2, m3]; exact mr_V_upd hV h2
    have eU : mr_run (upd a_op e.1 (a_newOp m)) (upd a_number e.1 (a_newNumber m)) sz (mr_iv x) 40 0 [] = mr_U a_op a_number sz e x := by rw [m2, m3]; rfl
    refine pk_le (mr_al a_op a_number sz).length m (fun z => absurd z (by omega)) (fun _ => ?_)
    refine And.intro hin ?_
    rw [eu]
    refine mr_xfrom hsz h1 (by omega) m1 hVe hS (fun a1 a2 a3 a4 a5 a6 a7 a8 => ?_)
    refine And.intro hin ?_
    rw [eu, eU]
    by_cases c : mr_U a_op a_number sz e x = mr_O a_op a_number sz x
    · refine br_t c (nm_r (nI_1 m) ?_)
      refine ih n (m + 1) _ _ _ _ _ _ _ _ _ (by omega) (by omega) (fun j e' he' => ?_)
      by_cases cj : j = m
      · subst cj
        rw [he] at he'
        cases he'
        rw [ht j e he, if_neg (by omega), if_pos (by omega), mr_bits_f (mr_K_f c)]
      · rw [ht j e' he']
        by_cases cl : j < m
        · rw [if_pos cl, if_pos (by omega)]
        · rw [if_neg cl, if_neg (by omega)]
    · refine br_f c (And.intro him (And.intro him ?_))
      refine nm_r (e' := upd a_told m (nI (mr_bits (mr_K a_op a_number sz e) (x + 1)))) ?_ (nm_r (nI_1 m) ?_)
      · rw [em, ht m e he, if_neg (by omega), mr_or1 (by omega) (mr_bits_lt _ _), mr_bits_t (mr_K_t c)]
      · refine ih n (m + 1) _ _ _ _ _ _ _ _ _ (by omega) (by omega) (fun j e' he' => ?_)
        by_cases cj : j = m
        · subst cj
          rw [he] at he'
          cases he'
          rw [pk_us, if_pos (by omega)]
        · rw [pk_un cj, ht j e' he']
          by_cases cl : j < m
          · rw [if_pos cl, if_pos (by omega)]
          · rw [if_neg cl, if_neg (by omega)]
theorem mr_xp59 (hsz : sz ≤ 10) (hV : ∀ p, p < sz → mr_V (a_op p) (a_number p)) (hM : mr_Mt a_at a_newOp a_newNumber (mr_al a_op a_number sz))
    (h : ∀ (f_place' f_done' f_height' f_input' f_trapped' f_changed' f_changedOp' f_changedNumber' : Int32) (a_told' a_usual' a_pile' a_seen' a_seenDone' a_seenHeight' a_seenPile' : Nat → Int32),
      mr_Rd a_op a_number sz (nI (mr_al a_op a_number sz).length) a_at a_newOp a_newNumber a_told' a_usual' →
      P (nI sz, f_trials, 1, nI (mr_al a_op a_number sz).length, f_place', f_done', f_height', f_input', f_trapped', f_changed', f_changedOp', f_changedNumber', a_op, a_number, a_trial, a_at, a_newOp, a_newNumber, a_told', a_usual', a_pile', a_seen', a_seenDone', a_seenHeight', a_seenPile')) :
    ∀ (k n x : Nat) (f_place f_done f_height f_input f_trapped f_changed f_changedOp f_changedNumber : Int32) (a_told a_usual a_pile a_seen a_seenDone a_seenHeight a_seenPile : Nat → Int32), x + k = 16 → k < n →
      (∀ (j : Nat) (e : Nat × Int32 × Int32), (mr_al a_op a_number sz)[j]? = some e → a_told j = nI (mr_bits (mr_K a_op a_number sz e) x)) → (∀ y, y < x → a_usual y = mr_O a_op a_number sz y) →
      wX_prepare_59 P n (nI x) (nI sz) f_trials f_ready (nI (mr_al a_op a_number sz).length) f_place f_done f_height f_input f_trapped f_changed f_changedOp f_changedNumber a_op a_number a_trial a_at a_newOp a_newNumber a_told a_usual a_pile a_seen a_seenDone a_seenHeight a_seenPile := by
  intro k
  induction k with
  | zero =>
    intro n x f_place f_done f_height f_input f_trapped f_changed f_changedOp f_changedNumber a_told a_usual a_pile a_seen a_seenDone a_seenHeight a_seenPile hx hn ht hu
    obtain ⟨n, rfl⟩ : ∃ m, n = m + 1 := ⟨n - 1, by omega⟩
    obtain rfl : x = 16 := by omega
    exact pk_le 16 16 (fun _ => h _ _ _ _ _ _ _ _ _ _ _ _ _ _ _ ⟨rfl, hM, ht, hu⟩) (fun z => absurd z (by omega))
  | succ k ih =>
    intro n x f_place f_done f_height f_input f_trapped f_changed f_changedOp f_changedNumber a_told a_usual a_pile a_seen a_seenDone a_seenHeight a_seenPile hx hn ht hu
    obtain ⟨n, rfl⟩ : ∃ m, n = m + 1 := ⟨n - 1, by omega⟩
    refine pk_le 16 x (fun z => absurd z (by omega)) (fun _ => ?_)
    refine mr_xwhole (x := mr_iv x) hsz hV (fun a1 a2 a3 a4 a5 a6 a7 a8 a9 hS => ?_)
    refine And.intro (vp_in_nI (by omega) (by omega)) ?_
    refine nm_r (e' := upd a_usual x (mr_O a_op a_number sz x)) (by rw [nI_clamp (by omega)]; rfl) ?_
    refine Exists.intro ((mr_al a_op a_number sz).length + 1) ?_
    refine mr_xp81 (by omega) hsz hV hM pk_us hS (fun b1 b2 b3 b4 b5 b6 b7 b8 b9 ht' => ?_) (mr_al a_op a_number sz).length _ 0 _ _ _ _ _ _ _ _ _ (by omega) (by omega) (fun j e he => ?_)
    · refine ih n (x + 1) _ _ _ _ _ _ _ _ _ _ _ _ _ _ _ (by omega) (by omega) ht' (fun y hy => ?_)
      by_cases c : y = x
      · subst c; exact pk_us
      · rw [pk_un c]; exact hu y (by omega)
    · rw [if_neg (by omega)]; exact ht j e he
theorem mr_xp36 (hsz : sz ≤ 10) (hV : ∀ p, p < sz → mr_V (a_op p) (a_number p)) (hM : mr_Mt a_at a_newOp a_newNumber (mr_al a_op a_number sz))
    (h : ∀ (f_place' f_done' f_height' f_input' f_trapped' f_changed' f_changedOp' f_changedNumber' : Int32) (a_told' a_usual' a_pile' a_seen' a_seenDone' a_seenHeight' a_seenPile' : Nat → Int32),
      mr_Rd a_op a_number sz (nI (mr_al a_op a_number sz).length) a_at a_newOp a_newNumber a_told' a_usual' →
      P (nI sz, f_trials, 1, nI (mr_al a_op a_number sz).length, f_place', f_done', f_height', f_input', f_trapped', f_changed', f_changedOp', f_changedNumber', a_op, a_number, a_trial, a_at, a_newOp, a_newNumber, a_told', a_usual', a_pile', a_seen', a_seenDone', a_seenHeight', a_seenPile')) :
    ∀ (k n m : Nat) (a_told : Nat → Int32), m + k = (mr_al a_op a_number sz).length → k < n → (∀ j, j < m → a_told j = 0) →
      wX_prepare_36 P (nI sz) f_trials f_ready (nI (mr_al a_op a_number sz).length) f_place f_done f_height f_input f_trapped f_changed f_changedOp f_changedNumber n (nI m) a_op a_number a_trial a_at a_newOp a_newNumber a_told a_usual a_pile a_seen a_seenDone a_seenHeight a_seenPile := by
  have hl := mr_al_len hV
  intro k
  induction k with
  | zero =>
    intro n m a_told hm hn ht
    obtain ⟨n, rfl⟩ : ∃ m, n = m + 1 := ⟨n - 1, by omega⟩
    refine pk_le (mr_al a_op a_number sz).length m (fun _ => Exists.intro 17 ?_) (fun z => absurd z (by omega))
    refine mr_xp59 hsz hV hM h 16 17 0 _ _ _ _ _ _ _ _ _ _ _ _ _ _ _ (by omega) (by omega) (fun j e he => ?_) (fun y hy => absurd hy (by omega))
    have hj := (List.getElem?_eq_some_iff.mp he).1
    exact ht j (by omega)
  | succ k ih =>
    intro n m a_told hm hn ht
    obtain ⟨n, rfl⟩ : ∃ m, n = m + 1 := ⟨n - 1, by omega⟩
    refine pk_le (mr_al a_op a_number sz).length m (fun z => absurd z (by omega)) (fun _ => ?_)
    refine And.intro (vp_in_nI (by omega) (by omega)) ?_
    refine nm_r (e' := upd a_told m 0) (by rw [nI_clamp (by omega)]) (nm_r (nI_1 m) ?_)
    refine ih n (m + 1) _ (by omega) (by omega) (fun j hj => ?_)
    by_cases c : j = m
    · subst c; exact pk_us
    · rw [pk_un c]; exact ht j (by omega)
theorem mr_xp15 (hsz : sz ≤ 10) (hV : ∀ p, p < sz → mr_V (a_op p) (a_number p))
    (h : ∀ (f_ready' f_mutants' f_place' f_done' f_height' f_input' f_trapped' f_changed' f_changedOp' f_changedNumber' : Int32) (a_at' a_newOp' a_newNumber' a_told' a_usual' a_pile' a_seen' a_seenDone' a_seenHeight' a_seenPile' : Nat → Int32), ¬ f_ready' = 0 → mr_Rd a_op a_number sz f_mutants' a_at' a_newOp' a_newNumber' a_told' a_usual' → P (nI sz, f_trials, f_ready', f_mutants', f_place', f_done', f_height', f_input', f_trapped', f_changed', f_changedOp', f_changedNumber', a_op, a_number, a_trial, a_at', a_newOp', a_newNumber', a_told', a_usual', a_pile', a_seen', a_seenDone', a_seenHeight', a_seenPile')) :
    ∀ (k n i : Nat) (a_at a_newOp a_newNumber : Nat → Int32), i + k = sz → k < n → mr_Mt a_at a_newOp a_newNumber (mr_al a_op a_number i) →
      wX_prepare_15 P n (nI i) (nI sz) f_trials f_ready (nI (mr_al a_op a_number i).length) f_place f_done f_height f_input f_trapped f_changed f_changedOp f_changedNumber a_op a_number a_trial a_at a_newOp a_newNumber a_told a_usual a_pile a_seen a_seenDone a_seenHeight a_seenPile := by
  intro k
  induction k with
  | zero =>
    intro n i a_at a_newOp a_newNumber hi hn hM
    obtain ⟨n, rfl⟩ : ∃ m, n = m + 1 := ⟨n - 1, by omega⟩
    obtain rfl : i = sz := by omega
    refine pk_le i i (fun _ => Exists.intro ((mr_al a_op a_number i).length + 1) ?_) (fun z => absurd z (by omega))
    refine mr_xp36 hsz hV hM (fun b1 b2 b3 b4 b5 b6 b7 b8 b9 b10 b11 b12 b13 b14 b15 hR => ?_) (mr_al a_op a_number i).length _ 0 _ (by omega) (by omega) (fun j hj => absurd hj (by omega))
    exact h _ _ _ _ _ _ _ _ _ _ _ _ _ _ _ _ _ _ _ _ (by decide) hR
  | succ k ih =>
    intro n i a_at a_newOp a_newNumber hi hn hM
    obtain ⟨n, rfl⟩ : ∃ m, n = m + 1 := ⟨n - 1, by omega⟩
    have hl := mr_al_len (op := a_op) (num := a_number) (k := i) (fun p hp => hV p (by omega))
    refine pk_le sz i (fun z => absurd z (by omega)) (fun _ => ?_)
    refine mr_xaddAt (by omega) (hV i (by omega)) hM (by omega) (fun b1 b2 b3 hM' => ?_)
    refine nm_r (nI_1 i) ?_
    exact ih n (i + 1) b1 b2 b3 (by omega) (by omega) hM'
theorem mr_xprep {f_mutants : Int32} (hsz : sz ≤ 10) (hV : ∀ p, p < sz → mr_V (a_op p) (a_number p))
    (hR : ¬ f_ready = 0 → mr_Rd a_op a_number sz f_mutants a_at a_newOp a_newNumber a_told a_usual)
    (h : ∀ (f_ready' f_mutants' f_place' f_done' f_height' f_input' f_trapped' f_changed' f_changedOp' f_changedNumber' : Int32) (a_at' a_newOp' a_newNumber' a_told' a_usual' a_pile' a_seen' a_seenDone' a_seenHeight' a_seenPile' : Nat → Int32), ¬ f_ready' = 0 → mr_Rd a_op a_number sz f_mutants' a_at' a_newOp' a_newNumber' a_told' a_usual' → P (nI sz, f_trials, f_ready', f_mutants', f_place', f_done', f_height', f_input', f_trapped', f_changed', f_changedOp', f_changedNumber', a_op, a_number, a_trial, a_at', a_newOp', a_newNumber', a_told', a_usual', a_pile', a_seen', a_seenDone', a_seenHeight', a_seenPile')) :
    wpX_prepare P (nI sz, f_trials, f_ready, f_mutants, f_place, f_done, f_height, f_input, f_trapped, f_changed, f_changedOp, f_changedNumber, a_op, a_number, a_trial, a_at, a_newOp, a_newNumber, a_told, a_usual, a_pile, a_seen, a_seenDone, a_seenHeight, a_seenPile) := by
  refine br_c (fun _ => ?_) (fun c => ?_)
  · exact Exists.intro (sz + 1) (mr_xp15 hsz hV h sz (sz + 1) 0 a_at a_newOp a_newNumber (by omega) (by omega) (mr_Mt_0 _ _ _))
  · exact h _ _ _ _ _ _ _ _ _ _ _ _ _ _ _ _ _ _ _ _ c (hR c)
end
end
section
/-! X's answers once it is ready -/
section
variable {f_size f_ready f_place f_done f_height f_input f_trapped f_changed f_changedOp f_changedNumber : Int32} {a_op a_number a_trial a_at a_newOp a_newNumber a_told a_usual a_pile a_seen a_seenDone a_seenHeight a_seenPile : Nat → Int32}
variable {Q : Int32 → SX → Prop} {R : Int32 → Prop} {sz tr : Nat}
theorem mr_xbad_y {f_trials f_mutants : Int32} {x : Nat} (hx : x < 16) (h : R 0) : wpX_badInput R (f_size, f_trials, f_ready, f_mutants, f_place, f_done, f_height, f_input, f_trapped, f_changed, f_changedOp, f_changedNumber, a_op, a_number, a_trial, a_at, a_newOp, a_newNumber, a_told, a_usual, a_pile, a_seen, a_seenDone, a_seenHeight, a_seenPile) (mr_iv x) :=
  br_f (mr_iv1 x hx).1 (br_t (mr_iv1 x hx).2 h)
theorem mr_xbad_n {f_trials f_mutants v : Int32} (hv : v < -8 ∨ (¬ v < -8 ∧ ¬ v ≤ 7)) (h : R 1) : wpX_badInput R (f_size, f_trials, f_ready, f_mutants, f_place, f_done, f_height, f_input, f_trapped, f_changed, f_changedOp, f_changedNumber, a_op, a_number, a_trial, a_at, a_newOp, a_newNumber, a_told, a_usual, a_pile, a_seen, a_seenDone, a_seenHeight, a_seenPile) v := by
  rcases hv with c | ⟨c1, c2⟩
  · exact br_t c h
  · exact br_f c1 (br_f c2 h)
theorem mr_xkillOf {f_mutants : Int32} {m : Nat} (hV : ∀ p, p < sz → mr_V (a_op p) (a_number p)) (hsz : sz ≤ 10) (hT : mr_T a_trial tr)
    (hto : ∀ (m : Nat) (e : Nat × Int32 × Int32), (mr_al a_op a_number sz)[m]? = some e → a_told m = nI (mr_bits (mr_K a_op a_number sz e) 16))
    (hm : m < (mr_al a_op a_number sz).length) (h : R (nI (mr_kf a_op a_number sz a_trial tr m))) : wpX_killersOf R (f_size, nI tr, f_ready, f_mutants, f_place, f_done, f_height, f_input, f_trapped, f_changed, f_changedOp, f_changedNumber, a_op, a_number, a_trial, a_at, a_newOp, a_newNumber, a_told, a_usual, a_pile, a_seen, a_seenDone, a_seenHeight, a_seenPile) (nI m) := by
  have hl := mr_al_len hV
  have h6 := hT.1
  have he := List.getElem?_eq_getElem hm
  generalize (mr_al a_op a_number sz)[m] = e at he
  rw [mr_kf_y he] at h
  have him : vp_in (nI m) 30 := vp_in_nI (by omega) (by omega)
  have em : a_told (nI m).toNatClampNeg = nI (mr_bits (mr_K a_op a_number sz e) 16) := by rw [nI_clamp (by omega)]; exact hto m e he
  have key : ∀ (k n i : Nat), i + k = tr → k < n → wX_killersOf_4 R (nI m) f_size (nI tr) f_ready f_mutants f_place f_done f_height f_input f_trapped f_changed f_changedOp f_changedNumber a_op a_number a_trial a_at a_newOp a_newNumber a_told a_usual a_pile a_seen a_seenDone a_seenHeight a_seenPile n (nI (mr_bits (fun i => mr_K a_op a_number sz e (mr_g a_trial i)) i)) (nI i) := by
    intro k
    induction k with
    | zero =>
      intro n i hi hn
      obtain ⟨n, rfl⟩ : ∃ m, n = m + 1 := ⟨n - 1, by omega⟩
      obtain rfl : i = tr := by omega
      exact pk_le i i (fun _ => h) (fun z => absurd z (by omega))
    | succ k ih =>
      intro n i hi hn
      obtain ⟨n, rfl⟩ : ∃ m, n = m + 1 := ⟨n - 1, by omega⟩
      have hg := hT.2 i (by omega)
      have et : a_trial (nI i).toNatClampNeg + 8 = nI (mr_g a_trial i) := by rw [nI_clamp (by omega), hg.2, (mr_iv3 _ hg.1).1]
      have k1 := ih n (i + 1) (by omega) (by omega)
      refine pk_le tr i (fun z => absurd z (by omega)) (fun _ => ?_)
      refine And.intro him (And.intro (vp_in_nI (by omega) (by omega)) ?_)
      rw [em, et]
      by_cases c : mr_K a_op a_number sz e (mr_g a_trial i) = true
      · refine br_t ((mr_tbit (by omega) hg.1).mpr c) (nm_r (mr_or1 (by omega) (mr_bits_lt _ _)) (nm_r (nI_1 i) ?_))
        rw [mr_bits_t (f := fun i => mr_K a_op a_number sz e (mr_g a_trial i)) c] at k1
        exact k1
      · refine br_f (fun z => c ((mr_tbit (by omega) hg.1).mp z)) (nm_r (nI_1 i) ?_)
        rw [mr_bits_f (f := fun i => mr_K a_op a_number sz e (mr_g a_trial i)) c] at k1
        exact k1
  exact Exists.intro (tr + 1) (key tr (tr + 1) 0 (by omega) (by omega))
theorem mr_xkilled8 (hV : ∀ p, p < sz → mr_V (a_op p) (a_number p)) (hsz : sz ≤ 10) (hT : mr_T a_trial tr)
    (hto : ∀ (m : Nat) (e : Nat × Int32 × Int32), (mr_al a_op a_number sz)[m]? = some e → a_told m = nI (mr_bits (mr_K a_op a_number sz e) 16))
    (h : Q (nI (mr_cnt (fun m => decide (¬ mr_kf a_op a_number sz a_trial tr m = 0)) (mr_al a_op a_number sz).length)) (f_size, nI tr, f_ready, nI (mr_al a_op a_number sz).length, f_place, f_done, f_height, f_input, f_trapped, f_changed, f_changedOp, f_changedNumber, a_op, a_number, a_trial, a_at, a_newOp, a_newNumber, a_told, a_usual, a_pile, a_seen, a_seenDone, a_seenHeight, a_seenPile)) :
    ∀ (k n m : Nat), m + k = (mr_al a_op a_number sz).length → k < n → wX_killed_8 Q f_size (nI tr) f_ready (nI (mr_al a_op a_number sz).length) f_place f_done f_height f_input f_trapped f_changed f_changedOp f_changedNumber a_op a_number a_trial a_at a_newOp a_newNumber a_told a_usual a_pile a_seen a_seenDone a_seenHeight a_seenPile n (nI (mr_cnt (fun m => decide (¬ mr_kf a_op a_number sz a_trial tr m = 0)) m)) (nI m) := by
  have hl := mr_al_len hV
  intro k
  induction k with
  | zero =>
    intro n m hm hn
    obtain ⟨n, rfl⟩ : ∃ m, n = m + 1 := ⟨n - 1, by omega⟩
    have hm' : m = (mr_al a_op a_number sz).length := by omega
    rw [hm']
    exact pk_le (mr_al a_op a_number sz).length (mr_al a_op a_number sz).length (fun _ => h) (fun z => absurd z (by omega))
  | succ k ih =>
    intro n m hm hn
    obtain ⟨n, rfl⟩ : ∃ m, n = m + 1 := ⟨n - 1, by omega⟩
    have k1 := ih n (m + 1) (by omega) (by omega)
    have h64 := mr_kf_64 (op := a_op) (num := a_number) (sz := sz) hT m
    refine pk_le (mr_al a_op a_number sz).length m (fun z => absurd z (by omega)) (fun _ => ?_)
    refine mr_xkillOf hV hsz hT hto (by omega) ?_
    refine pk_eq (mr_kf a_op a_number sz a_trial tr m) 0 (fun c => ?_) (fun c => ?_)
    · refine nm_r (nI_1 m) ?_
      rw [mr_cnt_f (by rw [decide_eq_true_iff]; exact fun z => z c)] at k1
      exact k1
    · refine nm_r (nI_1 _) (nm_r (nI_1 m) ?_)
      rw [mr_cnt_t (by rw [decide_eq_true_iff]; exact c)] at k1
      exact k1
theorem mr_xequal8 {f_trials : Int32} (hV : ∀ p, p < sz → mr_V (a_op p) (a_number p)) (hsz : sz ≤ 10)
    (hto : ∀ (m : Nat) (e : Nat × Int32 × Int32), (mr_al a_op a_number sz)[m]? = some e → a_told m = nI (mr_bits (mr_K a_op a_number sz e) 16))
    (h : Q (nI (mr_cnt (mr_z a_op a_number sz) (mr_al a_op a_number sz).length)) (f_size, f_trials, f_ready, nI (mr_al a_op a_number sz).length, f_place, f_done, f_height, f_input, f_trapped, f_changed, f_changedOp, f_changedNumber, a_op, a_number, a_trial, a_at, a_newOp, a_newNumber, a_told, a_usual, a_pile, a_seen, a_seenDone, a_seenHeight, a_seenPile)) :
    ∀ (k n m : Nat), m + k = (mr_al a_op a_number sz).length → k < n → wX_equalOnes_8 Q f_size f_trials f_ready (nI (mr_al a_op a_number sz).length) f_place f_done f_height f_input f_trapped f_changed f_changedOp f_changedNumber a_op a_number a_trial a_at a_newOp a_newNumber a_told a_usual a_pile a_seen a_seenDone a_seenHeight a_seenPile n (nI (mr_cnt (mr_z a_op a_number sz) m)) (nI m) := by
  have hl := mr_al_len hV
  intro k
  induction k with
  | zero =>
    intro n m hm hn
    obtain ⟨n, rfl⟩ : ∃ m, n = m + 1 := ⟨n - 1, by omega⟩
    have hm' : m = (mr_al a_op a_number sz).length := by omega
    rw [hm']
    exact pk_le (mr_al a_op a_number sz).length (mr_al a_op a_number sz).length (fun _ => h) (fun z => absurd z (by omega))
  | succ k ih =>
    intro n m hm hn
    obtain ⟨n, rfl⟩ : ∃ m, n = m + 1 := ⟨n - 1, by omega⟩
    have k1 := ih n (m + 1) (by omega) (by omega)
    have hlt : m < (mr_al a_op a_number sz).length := by omega
    have he := List.getElem?_eq_getElem hlt
    generalize (mr_al a_op a_number sz)[m] = e at he
    have em : a_told (nI m).toNatClampNeg = nI (mr_bits (mr_K a_op a_number sz e) 16) := by rw [nI_clamp (by omega)]; exact hto m e he
    have hb := mr_bits_lt (mr_K a_op a_number sz e) 16
    refine pk_le (mr_al a_op a_number sz).length m (fun z => absurd z (by omega)) (fun _ => ?_)
    refine And.intro (vp_in_nI (by omega) (by omega)) ?_
    rw [em]
    refine pk_eq (mr_bits (mr_K a_op a_number sz e) 16) 0 (fun c => ?_) (fun c => ?_)
    · refine nm_r (nI_1 _) (nm_r (nI_1 m) ?_)
      rw [mr_cnt_t ((mr_z_y he).mpr c)] at k1
      exact k1
    · refine nm_r (nI_1 m) ?_
      rw [mr_cnt_f (fun z => c ((mr_z_y he).mp z))] at k1
      exact k1
theorem mr_xkiller14 {f_trials f_mutants : Int32} {m : Nat} {e : Nat × Int32 × Int32} (hm : m < 30) (em : a_told m = nI (mr_bits (mr_K a_op a_number sz e) 16)) :
    ∀ (k n : Nat), k ≤ 16 → k < n → Q (mr_kr (mr_K a_op a_number sz e) k) (f_size, f_trials, f_ready, f_mutants, f_place, f_done, f_height, f_input, f_trapped, f_changed, f_changedOp, f_changedNumber, a_op, a_number, a_trial, a_at, a_newOp, a_newNumber, a_told, a_usual, a_pile, a_seen, a_seenDone, a_seenHeight, a_seenPile) → wX_killer_14 Q (nI m) f_size f_trials f_ready f_mutants f_place f_done f_height f_input f_trapped f_changed f_changedOp f_changedNumber a_op a_number a_trial a_at a_newOp a_newNumber a_told a_usual a_pile a_seen a_seenDone a_seenHeight a_seenPile n (nI (16 - k)) := by
  have em' : a_told (nI m).toNatClampNeg = nI (mr_bits (mr_K a_op a_number sz e) 16) := by rw [nI_clamp (by omega)]; exact em
  intro k
  induction k with
  | zero =>
    intro n hk hn h
    obtain ⟨n, rfl⟩ : ∃ m, n = m + 1 := ⟨n - 1, by omega⟩
    exact pk_le 16 16 (fun _ => h) (fun z => absurd z (by omega))
  | succ k ih =>
    intro n hk hn h
    obtain ⟨n, rfl⟩ : ∃ m, n = m + 1 := ⟨n - 1, by omega⟩
    refine pk_le 16 (16 - (k + 1)) (fun z => absurd z (by omega)) (fun _ => ?_)
    refine And.intro (vp_in_nI (by omega) (by omega)) ?_
    rw [em']
    by_cases c : mr_K a_op a_number sz e (16 - (k + 1)) = true
    · refine br_t ((mr_tbit (by omega) (by omega)).mpr c) ?_
      have e2 : mr_kr (mr_K a_op a_number sz e) (k + 1) = mr_iv (16 - (k + 1)) := if_pos c
      rw [e2] at h
      exact h
    · have e1 : 16 - (k + 1) + 1 = 16 - k := by omega
      refine br_f (fun z => c ((mr_tbit (by omega) (by omega)).mp z)) (nm_r (e' := nI (16 - k)) (by rw [nI_1, e1]) ?_)
      have e2 : mr_kr (mr_K a_op a_number sz e) (k + 1) = mr_kr (mr_K a_op a_number sz e) k := if_neg c
      rw [e2] at h
      exact ih n (by omega) (by omega) h
theorem mr_xsize {f_trials f_mutants : Int32} {s : Nat} (hs : s < 64) (h : R (nI (mr_pop s 6))) : wpX_sizeOf R (f_size, f_trials, f_ready, f_mutants, f_place, f_done, f_height, f_input, f_trapped, f_changed, f_changedOp, f_changedNumber, a_op, a_number, a_trial, a_at, a_newOp, a_newNumber, a_told, a_usual, a_pile, a_seen, a_seenDone, a_seenHeight, a_seenPile) (nI s) := by
  have key : ∀ (k n i : Nat), i + k = 6 → k < n → wX_sizeOf_4 R (nI s) f_size f_trials f_ready f_mutants f_place f_done f_height f_input f_trapped f_changed f_changedOp f_changedNumber a_op a_number a_trial a_at a_newOp a_newNumber a_told a_usual a_pile a_seen a_seenDone a_seenHeight a_seenPile n (nI (mr_pop s i)) (nI i) := by
    intro k
    induction k with
    | zero =>
      intro n i hi hn
      obtain ⟨n, rfl⟩ : ∃ m, n = m + 1 := ⟨n - 1, by omega⟩
      obtain rfl : i = 6 := by omega
      exact pk_le 6 6 (fun _ => h) (fun z => absurd z (by omega))
    | succ k ih =>
      intro n i hi hn
      obtain ⟨n, rfl⟩ : ∃ m, n = m + 1 := ⟨n - 1, by omega⟩
      refine pk_le 6 i (fun z => absurd z (by omega)) (fun _ => ?_)
      refine nm_r (e' := nI (mr_pop s (i + 1))) (by rw [mr_shr1 (by omega) (by omega), nI_add]; rfl) (nm_r (nI_1 i) ?_)
      exact ih n (i + 1) (by omega) (by omega)
  exact Exists.intro 7 (key 6 7 0 (by omega) (by omega))
theorem mr_xenough {s : Nat} (hV : ∀ p, p < sz → mr_V (a_op p) (a_number p)) (hsz : sz ≤ 10) (hT : mr_T a_trial tr)
    (hto : ∀ (m : Nat) (e : Nat × Int32 × Int32), (mr_al a_op a_number sz)[m]? = some e → a_told m = nI (mr_bits (mr_K a_op a_number sz e) 16))
    (h1 : mr_D (mr_kf a_op a_number sz a_trial tr) (mr_al a_op a_number sz).length s = true → R 1) (h0 : ¬ mr_D (mr_kf a_op a_number sz a_trial tr) (mr_al a_op a_number sz).length s = true → R 0) :
    wpX_enough R (f_size, nI tr, f_ready, nI (mr_al a_op a_number sz).length, f_place, f_done, f_height, f_input, f_trapped, f_changed, f_changedOp, f_changedNumber, a_op, a_number, a_trial, a_at, a_newOp, a_newNumber, a_told, a_usual, a_pile, a_seen, a_seenDone, a_seenHeight, a_seenPile) (nI s) := by
  have hl := mr_al_len hV
  have key : ∀ (k n m : Nat), m + k = (mr_al a_op a_number sz).length → k < n → (∀ j, j < m → ¬ mr_kf a_op a_number sz a_trial tr j = 0 → ¬ mr_kf a_op a_number sz a_trial tr j &&& s = 0) → wX_enough_2 R (nI s) f_size (nI tr) f_ready (nI (mr_al a_op a_number sz).length) f_place f_done f_height f_input f_trapped f_changed f_changedOp f_changedNumber a_op a_number a_trial a_at a_newOp a_newNumber a_told a_usual a_pile a_seen a_seenDone a_seenHeight a_seenPile n (nI m) := by
    intro k
    induction k with
    | zero =>
      intro n m hm hn hc
      obtain ⟨n, rfl⟩ : ∃ m, n = m + 1 := ⟨n - 1, by omega⟩
      have hm' : m = (mr_al a_op a_number sz).length := by omega
      rw [hm'] at hc ⊢
      exact pk_le (mr_al a_op a_number sz).length (mr_al a_op a_number sz).length (fun _ => h1 (by unfold mr_D; rw [decide_eq_true_iff]; exact hc)) (fun z => absurd z (by omega))
    | succ k ih =>
      intro n m hm hn hc
      obtain ⟨n, rfl⟩ : ∃ m, n = m + 1 := ⟨n - 1, by omega⟩
      have h64 := mr_kf_64 (op := a_op) (num := a_number) (sz := sz) hT m
      refine pk_le (mr_al a_op a_number sz).length m (fun z => absurd z (by omega)) (fun _ => ?_)
      refine mr_xkillOf hV hsz hT hto (by omega) ?_
      refine pk_eq (mr_kf a_op a_number sz a_trial tr m) 0 (fun c => ?_) (fun c => ?_)
      · refine nm_r (nI_1 m) ?_
        exact ih n (m + 1) (by omega) (by omega) (lt_s hc (fun z => absurd c z))
      · by_cases d : mr_kf a_op a_number sz a_trial tr m &&& s = 0
        · refine br_t ((mr_and0 h64).mpr d) (h0 ?_)
          unfold mr_D
          rw [decide_eq_true_iff]
          exact fun z => z m (by omega) c d
        · refine br_f (fun z => d ((mr_and0 h64).mp z)) (nm_r (nI_1 m) ?_)
          exact ih n (m + 1) (by omega) (by omega) (lt_s hc (fun _ => d))
  exact Exists.intro ((mr_al a_op a_number sz).length + 1) (key (mr_al a_op a_number sz).length ((mr_al a_op a_number sz).length + 1) 0 (by omega) (by omega) (fun j hj => absurd hj (by omega)))
theorem mr_xneed11 (hV : ∀ p, p < sz → mr_V (a_op p) (a_number p)) (hsz : sz ≤ 10) (hT : mr_T a_trial tr)
    (hto : ∀ (m : Nat) (e : Nat × Int32 × Int32), (mr_al a_op a_number sz)[m]? = some e → a_told m = nI (mr_bits (mr_K a_op a_number sz e) 16))
    (h : Q (nI (mr_nd (mr_D (mr_kf a_op a_number sz a_trial tr) (mr_al a_op a_number sz).length) tr (2 ^ tr))) (f_size, nI tr, f_ready, nI (mr_al a_op a_number sz).length, f_place, f_done, f_height, f_input, f_trapped, f_changed, f_changedOp, f_changedNumber, a_op, a_number, a_trial, a_at, a_newOp, a_newNumber, a_told, a_usual, a_pile, a_seen, a_seenDone, a_seenHeight, a_seenPile)) :
    ∀ (k n s : Nat), s + k = 2 ^ tr → k < n → wX_needed_11 Q f_size (nI tr) f_ready (nI (mr_al a_op a_number sz).length) f_place f_done f_height f_input f_trapped f_changed f_changedOp f_changedNumber a_op a_number a_trial a_at a_newOp a_newNumber a_told a_usual a_pile a_seen a_seenDone a_seenHeight a_seenPile n (nI (mr_nd (mr_D (mr_kf a_op a_number sz a_trial tr) (mr_al a_op a_number sz).length) tr s)) (nI s) := by
  have h6 := hT.1
  have h64 : 2 ^ tr ≤ 2 ^ 6 := Nat.pow_le_pow_right (by decide) h6
  have e64 : (2 : Nat) ^ 6 = 64 := by decide
  have e1 : (1 : Int32) <<< (nI tr &&& 31) = nI (2 ^ tr) := mr_one (by omega)
  intro k
  induction k with
  | zero =>
    intro n s hs hn
    obtain ⟨n, rfl⟩ : ∃ m, n = m + 1 := ⟨n - 1, by omega⟩
    obtain rfl : s = 2 ^ tr := by omega
    exact pk_le (2 ^ tr) (2 ^ tr) (fun _ => h) (fun z => absurd z (by omega)) e1
  | succ k ih =>
    intro n s hs hn
    obtain ⟨n, rfl⟩ : ∃ m, n = m + 1 := ⟨n - 1, by omega⟩
    have hp := mr_pop_le s 6
    have hb := mr_nd_le (D := mr_D (mr_kf a_op a_number sz a_trial tr) (mr_al a_op a_number sz).length) (b0 := tr) s
    have k1 := ih n (s + 1) (by omega) (by omega)
    refine pk_le (2 ^ tr) s (fun z => absurd z (by omega)) (fun _ => ?_) e1
    refine mr_xsize (by omega) ?_
    refine pk_le (mr_nd (mr_D (mr_kf a_op a_number sz a_trial tr) (mr_al a_op a_number sz).length) tr s) (mr_pop s 6) (fun c => ?_) (fun c => ?_)
    · refine nm_r (nI_1 s) ?_
      rw [mr_nd_f (fun z => by omega)] at k1
      exact k1
    · refine mr_xenough hV hsz hT hto (fun d => ?_) (fun d => ?_)
      · refine br_f (by decide) (nm_r (nI_1 s) ?_)
        rw [mr_nd_t c d] at k1
        exact k1
      · refine br_t rfl (nm_r (nI_1 s) ?_)
        rw [mr_nd_f (fun z => d z.2)] at k1
        exact k1
theorem mr_xlead {m : Nat} (hV : ∀ p, p < sz → mr_V (a_op p) (a_number p)) (hsz : sz ≤ 10) (hT : mr_T a_trial tr)
    (hto : ∀ (m : Nat) (e : Nat × Int32 × Int32), (mr_al a_op a_number sz)[m]? = some e → a_told m = nI (mr_bits (mr_K a_op a_number sz e) 16))
    (hm : m < (mr_al a_op a_number sz).length)
    (h1 : mr_ld (mr_kf a_op a_number sz a_trial tr) (mr_al a_op a_number sz).length m = true → R 1) (h0 : ¬ mr_ld (mr_kf a_op a_number sz a_trial tr) (mr_al a_op a_number sz).length m = true → R 0) :
    wpX_leads R (f_size, nI tr, f_ready, nI (mr_al a_op a_number sz).length, f_place, f_done, f_height, f_input, f_trapped, f_changed, f_changedOp, f_changedNumber, a_op, a_number, a_trial, a_at, a_newOp, a_newNumber, a_told, a_usual, a_pile, a_seen, a_seenDone, a_seenHeight, a_seenPile) (nI m) := by
  have hl := mr_al_len hV
  have hm64 := mr_kf_64 (op := a_op) (num := a_number) (sz := sz) hT m
  unfold wpX_leads
  refine mr_xkillOf hV hsz hT hto hm ?_
  refine pk_eq (mr_kf a_op a_number sz a_trial tr m) 0 (fun c => h0 (mr_ld_f0 c)) (fun c0 => ?_)
  have key : ∀ (k n l : Nat), l + k = (mr_al a_op a_number sz).length → k < n → (∀ j, j < l → ¬ mr_kf a_op a_number sz a_trial tr j = 0 → ¬ mr_kf a_op a_number sz a_trial tr j = mr_kf a_op a_number sz a_trial tr m → ¬ mr_kf a_op a_number sz a_trial tr j &&& mr_kf a_op a_number sz a_trial tr m = mr_kf a_op a_number sz a_trial tr j) →
      wX_leads_14 R (nI (mr_kf a_op a_number sz a_trial tr m)) f_size (nI tr) f_ready (nI (mr_al a_op a_number sz).length) f_place f_done f_height f_input f_trapped f_changed f_changedOp f_changedNumber a_op a_number a_trial a_at a_newOp a_newNumber a_told a_usual a_pile a_seen a_seenDone a_seenHeight a_seenPile n (nI l) := by
    intro k
    induction k with
    | zero =>
      intro n l hl' hn hc
      obtain ⟨n, rfl⟩ : ∃ m, n = m + 1 := ⟨n - 1, by omega⟩
      have hm' : l = (mr_al a_op a_number sz).length := by omega
      rw [hm'] at hc ⊢
      exact pk_le (mr_al a_op a_number sz).length (mr_al a_op a_number sz).length (fun _ => h1 (mr_ld_t c0 hc)) (fun z => absurd z (by omega))
    | succ k ih =>
      intro n l hl' hn hc
      obtain ⟨n, rfl⟩ : ∃ m, n = m + 1 := ⟨n - 1, by omega⟩
      have hl64 := mr_kf_64 (op := a_op) (num := a_number) (sz := sz) hT l
      refine pk_le (mr_al a_op a_number sz).length l (fun z => absurd z (by omega)) (fun _ => ?_)
      refine mr_xkillOf hV hsz hT hto (by omega) ?_
      refine pk_eq (mr_kf a_op a_number sz a_trial tr l) 0 (fun c => ?_) (fun c => ?_)
      · refine nm_r (nI_1 l) ?_
        exact ih n (l + 1) (by omega) (by omega) (lt_s hc (fun z => absurd c z))
      · refine pk_eq (mr_kf a_op a_number sz a_trial tr l) (mr_kf a_op a_number sz a_trial tr m) (fun d => ?_) (fun d => ?_)
        · refine nm_r (nI_1 l) ?_
          exact ih n (l + 1) (by omega) (by omega) (lt_s hc (fun _ z => absurd d z))
        · by_cases f : mr_kf a_op a_number sz a_trial tr l &&& mr_kf a_op a_number sz a_trial tr m = mr_kf a_op a_number sz a_trial tr l
          · exact br_t ((mr_nand _ hl64 _ hm64).mpr f) (h0 (mr_ld_f (by omega) c d f))
          · refine br_f (fun z => f ((mr_nand _ hl64 _ hm64).mp z)) (nm_r (nI_1 l) ?_)
            exact ih n (l + 1) (by omega) (by omega) (lt_s hc (fun _ _ => f))
  exact Exists.intro ((mr_al a_op a_number sz).length + 1) (key (mr_al a_op a_number sz).length ((mr_al a_op a_number sz).length + 1) 0 (by omega) (by omega) (fun j hj => absurd hj (by omega)))
theorem mr_xlead8 (hV : ∀ p, p < sz → mr_V (a_op p) (a_number p)) (hsz : sz ≤ 10) (hT : mr_T a_trial tr)
    (hto : ∀ (m : Nat) (e : Nat × Int32 × Int32), (mr_al a_op a_number sz)[m]? = some e → a_told m = nI (mr_bits (mr_K a_op a_number sz e) 16))
    (h : Q (nI (mr_cnt (mr_ld (mr_kf a_op a_number sz a_trial tr) (mr_al a_op a_number sz).length) (mr_al a_op a_number sz).length)) (f_size, nI tr, f_ready, nI (mr_al a_op a_number sz).length, f_place, f_done, f_height, f_input, f_trapped, f_changed, f_changedOp, f_changedNumber, a_op, a_number, a_trial, a_at, a_newOp, a_newNumber, a_told, a_usual, a_pile, a_seen, a_seenDone, a_seenHeight, a_seenPile)) :
    ∀ (k n m : Nat), m + k = (mr_al a_op a_number sz).length → k < n → wX_leading_8 Q f_size (nI tr) f_ready (nI (mr_al a_op a_number sz).length) f_place f_done f_height f_input f_trapped f_changed f_changedOp f_changedNumber a_op a_number a_trial a_at a_newOp a_newNumber a_told a_usual a_pile a_seen a_seenDone a_seenHeight a_seenPile n (nI (mr_cnt (mr_ld (mr_kf a_op a_number sz a_trial tr) (mr_al a_op a_number sz).length) m)) (nI m) := by
  have hl := mr_al_len hV
  intro k
  induction k with
  | zero =>
    intro n m hm hn
    obtain ⟨n, rfl⟩ : ∃ m, n = m + 1 := ⟨n - 1, by omega⟩
    have hm' : m = (mr_al a_op a_number sz).length := by omega
    rw [hm']
    exact pk_le (mr_al a_op a_number sz).length (mr_al a_op a_number sz).length (fun _ => h) (fun z => absurd z (by omega))
  | succ k ih =>
    intro n m hm hn
    obtain ⟨n, rfl⟩ : ∃ m, n = m + 1 := ⟨n - 1, by omega⟩
    have k1 := ih n (m + 1) (by omega) (by omega)
    refine pk_le (mr_al a_op a_number sz).length m (fun z => absurd z (by omega)) (fun _ => ?_)
    refine mr_xlead hV hsz hT hto (by omega) (fun d => ?_) (fun d => ?_)
    · refine br_f (by decide) (nm_r (nI_1 _) (nm_r (nI_1 m) ?_))
      rw [mr_cnt_t d] at k1
      exact k1
    · refine br_t rfl (nm_r (nI_1 m) ?_)
      rw [mr_cnt_f d] at k1
      exact k1
theorem mr_xnumbers8 {f_trials f_mutants : Int32} (hu : ∀ x, x < 16 → a_usual x = mr_O a_op a_number sz x)
    (h : Q (nI (mr_cnt (fun x => decide (¬ 1000 < mr_O a_op a_number sz x)) 16)) (f_size, f_trials, f_ready, f_mutants, f_place, f_done, f_height, f_input, f_trapped, f_changed, f_changedOp, f_changedNumber, a_op, a_number, a_trial, a_at, a_newOp, a_newNumber, a_told, a_usual, a_pile, a_seen, a_seenDone, a_seenHeight, a_seenPile)) :
    ∀ (k n x : Nat), x + k = 16 → k < n → wX_numbers_8 Q f_size f_trials f_ready f_mutants f_place f_done f_height f_input f_trapped f_changed f_changedOp f_changedNumber a_op a_number a_trial a_at a_newOp a_newNumber a_told a_usual a_pile a_seen a_seenDone a_seenHeight a_seenPile n (nI (mr_cnt (fun x => decide (¬ 1000 < mr_O a_op a_number sz x)) x)) (nI x) := by
  intro k
  induction k with
  | zero =>
    intro n x hx hn
    obtain ⟨n, rfl⟩ : ∃ m, n = m + 1 := ⟨n - 1, by omega⟩
    obtain rfl : x = 16 := by omega
    exact pk_le 16 16 (fun _ => h) (fun z => absurd z (by omega))
  | succ k ih =>
    intro n x hx hn
    obtain ⟨n, rfl⟩ : ∃ m, n = m + 1 := ⟨n - 1, by omega⟩
    have k1 := ih n (x + 1) (by omega) (by omega)
    have eu : a_usual (nI x).toNatClampNeg = mr_O a_op a_number sz x := by rw [nI_clamp (by omega)]; exact hu x (by omega)
    refine pk_le 16 x (fun z => absurd z (by omega)) (fun _ => ?_)
    refine And.intro (vp_in_nI (by omega) (by omega)) ?_
    rw [eu]
    by_cases c : 1000 < mr_O a_op a_number sz x
    · refine br_t c (nm_r (nI_1 x) ?_)
      rw [mr_cnt_f (by rw [decide_eq_true_iff]; exact fun z => z c)] at k1
      exact k1
    · refine br_f c (nm_r (nI_1 _) (nm_r (nI_1 x) ?_))
      rw [mr_cnt_t (by rw [decide_eq_true_iff]; exact c)] at k1
      exact k1
end
end
section
/-! append and trial on both sides; X's noMutant -/
def mr_bn (p q : Int32) : Prop := (p = 0 ∧ (q < -8 ∨ ¬ q ≤ 7)) ∨ (p = 8 ∧ (q < 0 ∨ ¬ q ≤ 3)) ∨ (p = 9 ∧ (q < 0 ∨ ¬ q ≤ 9))
def mr_bad (p q : Int32) : Prop := p < 0 ∨ 9 < p ∨ mr_bn p q
def mr_st (p q : Int32) : Int32 := if p = 0 then q else if p < 8 then 0 else q
theorem mr_V7 (n : Int32) : mr_V 7 n := Or.inr (Or.inr (Or.inr (Or.inr (Or.inl rfl))))
theorem mr_op {p : Int32} (h0 : ¬ p < 0) (h9 : ¬ 9 < p) : p = 0 ∨ (p = 1 ∨ p = 2 ∨ p = 3 ∨ p = 4 ∨ p = 5 ∨ p = 6 ∨ p = 7) ∨ p = 8 ∨ p = 9 := by
  obtain ⟨j, hj, rfl⟩ := nI_of2 (M := 9) (n := 9) (by decide) h0 (Int32.not_lt.mp h9)
  exact (by decide +kernel : ∀ j : Nat, j < 10 → (nI j = 0 ∨ (nI j = 1 ∨ nI j = 2 ∨ nI j = 3 ∨ nI j = 4 ∨ nI j = 5 ∨ nI j = 6 ∨ nI j = 7) ∨ nI j = 8 ∨ nI j = 9)) j (by omega)
theorem mr_mid {p : Int32} (h : p = 1 ∨ p = 2 ∨ p = 3 ∨ p = 4 ∨ p = 5 ∨ p = 6 ∨ p = 7) : ¬ p = 0 ∧ ¬ p = 8 ∧ ¬ p = 9 ∧ p ≤ 7 ∧ p < 8 := by
  rcases h with rfl | rfl | rfl | rfl | rfl | rfl | rfl <;> decide
theorem mr_mid_V {p : Int32} (h : p = 1 ∨ p = 2 ∨ p = 3 ∨ p = 4 ∨ p = 5 ∨ p = 6 ∨ p = 7) (n : Int32) : mr_V p n := by
  rcases h with rfl | rfl | rfl | rfl | rfl | rfl | rfl
  · exact mr_V1 n
  · exact mr_Va n (Or.inl rfl)
  · exact mr_Va n (Or.inr (Or.inl rfl))
  · exact mr_Va n (Or.inr (Or.inr (Or.inl rfl)))
  · exact mr_Va n (Or.inr (Or.inr (Or.inr rfl)))
  · exact mr_V6 n
  · exact mr_V7 n
theorem mr_st_V {p q : Int32} (h : ¬ mr_bad p q) : mr_V p (mr_st p q) := by
  have h0 : ¬ p < 0 := fun z => h (Or.inl z)
  have h9 : ¬ 9 < p := fun z => h (Or.inr (Or.inl z))
  have hb : ¬ mr_bn p q := fun z => h (Or.inr (Or.inr z))
  rcases mr_op h0 h9 with rfl | hm | rfl | rfl
  · exact mr_V0 _
  · exact mr_mid_V hm _
  · have e : mr_st 8 q = q := by unfold mr_st; rw [if_neg (by decide), if_neg (by decide)]
    rw [e]
    have q0 : ¬ q < 0 := fun z => hb (Or.inr (Or.inl ⟨rfl, Or.inl z⟩))
    have q3 : q ≤ 3 := Classical.byContradiction fun z => hb (Or.inr (Or.inl ⟨rfl, Or.inr z⟩))
    obtain ⟨j, hj, rfl⟩ := nI_of2 (M := 3) (n := 3) (by decide) q0 q3
    exact mr_V8 hj
  · have e : mr_st 9 q = q := by unfold mr_st; rw [if_neg (by decide), if_neg (by decide)]
    rw [e]
    have q0 : ¬ q < 0 := fun z => hb (Or.inr (Or.inr ⟨rfl, Or.inl z⟩))
    have q3 : q ≤ 9 := Classical.byContradiction fun z => hb (Or.inr (Or.inr ⟨rfl, Or.inr z⟩))
    obtain ⟨j, hj, rfl⟩ := nI_of2 (M := 9) (n := 9) (by decide) q0 q3
    exact mr_V9 hj
theorem mr_st_app {op num : Nat → Int32} {sz : Nat} {p q : Int32} (hV : ∀ i, i < sz → mr_V (op i) (num i)) (h : ¬ mr_bad p q) : ∀ i, i < sz + 1 → mr_V (upd op sz p i) (upd num sz (mr_st p q) i) := by
  intro i hi
  by_cases c : i = sz
  · subst c; rw [pk_us, pk_us]; exact mr_st_V h
  · rw [pk_un c, pk_un c]; exact hV i (by omega)
section
variable {f_ready f_mutants f_place f_done f_height f_input f_trapped f_changed f_changedOp f_changedNumber : Int32} {a_op a_number a_trial a_at a_newOp a_newNumber a_told a_usual a_pile a_seen a_seenDone a_seenHeight a_seenPile : Nat → Int32}
variable {Q : Int32 → SX → Prop} {R : Int32 → Prop} {sz tr : Nat}
theorem mr_xbn {f_size f_trials p q : Int32} (h1 : mr_bn p q → R 1) (h0 : ¬ mr_bn p q → R 0) : wpX_badNumber R (f_size, f_trials, f_ready, f_mutants, f_place, f_done, f_height, f_input, f_trapped, f_changed, f_changedOp, f_changedNumber, a_op, a_number, a_trial, a_at, a_newOp, a_newNumber, a_told, a_usual, a_pile, a_seen, a_seenDone, a_seenHeight, a_seenPile) p q := by
  by_cases c0 : p = 0
  · refine br_t c0 (br_c (fun z => h1 (Or.inl ⟨c0, Or.inl z⟩)) (fun z => br_c (fun y => h0 ?_) (fun y => h1 (Or.inl ⟨c0, Or.inr y⟩))))
    subst c0
    rintro (⟨-, b | b⟩ | ⟨b, -⟩ | ⟨b, -⟩)
    · exact z b
    · exact b y
    · exact absurd b (by decide)
    · exact absurd b (by decide)
  · refine br_f c0 ?_
    by_cases c8 : p = 8
    · refine br_t c8 (br_c (fun z => h1 (Or.inr (Or.inl ⟨c8, Or.inl z⟩))) (fun z => br_c (fun y => h0 ?_) (fun y => h1 (Or.inr (Or.inl ⟨c8, Or.inr y⟩)))))
      subst c8
      rintro (⟨b, -⟩ | ⟨-, b | b⟩ | ⟨b, -⟩)
      · exact absurd b (by decide)
      · exact z b
      · exact b y
      · exact absurd b (by decide)
    · refine br_f c8 ?_
      by_cases c9 : p = 9
      · refine br_t c9 (br_c (fun z => h1 (Or.inr (Or.inr ⟨c9, Or.inl z⟩))) (fun z => br_c (fun y => h0 ?_) (fun y => h1 (Or.inr (Or.inr ⟨c9, Or.inr y⟩)))))
        subst c9
        rintro (⟨b, -⟩ | ⟨b, -⟩ | ⟨-, b | b⟩)
        · exact absurd b (by decide)
        · exact absurd b (by decide)
        · exact z b
        · exact b y
      · refine br_f c9 (h0 ?_)
        rintro (⟨b, -⟩ | ⟨b, -⟩ | ⟨b, -⟩)
        · exact c0 b
        · exact c8 b
        · exact c9 b
theorem mr_xapp69 {f_trials f_ready v : Int32} (hs : sz < 10) (h : Q (nI sz) (nI (sz + 1), f_trials, 0, f_mutants, f_place, f_done, f_height, f_input, f_trapped, f_changed, f_changedOp, f_changedNumber, a_op, upd a_number sz v, a_trial, a_at, a_newOp, a_newNumber, a_told, a_usual, a_pile, a_seen, a_seenDone, a_seenHeight, a_seenPile)) : wX_append_69 Q v (nI sz) (nI sz) f_trials f_ready f_mutants f_place f_done f_height f_input f_trapped f_changed f_changedOp f_changedNumber a_op a_number a_trial a_at a_newOp a_newNumber a_told a_usual a_pile a_seen a_seenDone a_seenHeight a_seenPile := by
  refine And.intro (vp_in_nI hs (by omega)) (nm_r (e' := upd a_number sz v) (by rw [nI_clamp (by omega)]) ?_)
  refine nm_r (nI_1 sz) ?_
  rw [nI_pred]
  exact h
theorem mr_xapp {f_trials p q : Int32} (hsz : sz ≤ 10) (hb : mr_bad p q → Q (-10001) (nI sz, f_trials, f_ready, f_mutants, f_place, f_done, f_height, f_input, f_trapped, f_changed, f_changedOp, f_changedNumber, a_op, a_number, a_trial, a_at, a_newOp, a_newNumber, a_told, a_usual, a_pile, a_seen, a_seenDone, a_seenHeight, a_seenPile)) (hf : ¬ mr_bad p q → sz = 10 → Q (-10002) (nI sz, f_trials, f_ready, f_mutants, f_place, f_done, f_height, f_input, f_trapped, f_changed, f_changedOp, f_changedNumber, a_op, a_number, a_trial, a_at, a_newOp, a_newNumber, a_told, a_usual, a_pile, a_seen, a_seenDone, a_seenHeight, a_seenPile))
    (hs : ¬ mr_bad p q → sz < 10 → Q (nI sz) (nI (sz + 1), f_trials, 0, f_mutants, f_place, f_done, f_height, f_input, f_trapped, f_changed, f_changedOp, f_changedNumber, upd a_op sz p, upd a_number sz (mr_st p q), a_trial, a_at, a_newOp, a_newNumber, a_told, a_usual, a_pile, a_seen, a_seenDone, a_seenHeight, a_seenPile)) :
    wpX_append Q (nI sz, f_trials, f_ready, f_mutants, f_place, f_done, f_height, f_input, f_trapped, f_changed, f_changedOp, f_changedNumber, a_op, a_number, a_trial, a_at, a_newOp, a_newNumber, a_told, a_usual, a_pile, a_seen, a_seenDone, a_seenHeight, a_seenPile) p q := by
  refine br_c (fun c => hb (Or.inl c)) (fun c0 => br_c (fun c => hb (Or.inr (Or.inl c))) (fun c9 => ?_))
  refine mr_xbn (fun c => ?_) (fun c => ?_)
  · exact br_f (by decide) (hb (Or.inr (Or.inr c)))
  · have nb : ¬ mr_bad p q := by
      rintro (b | b | b)
      · exact c0 b
      · exact c9 b
      · exact c b
    refine br_t rfl ?_
    refine pk_eq sz 10 (fun e => hf nb e) (fun e => ?_)
    have hlt : sz < 10 := by omega
    have h := hs nb hlt
    unfold mr_st at h
    refine And.intro (vp_in_nI hlt (by omega)) (nm_r (e' := upd a_op sz p) (by rw [nI_clamp (by omega)]) ?_)
    by_cases d0 : p = 0
    · rw [if_pos d0] at h
      exact br_t d0 (mr_xapp69 hlt h)
    · rw [if_neg d0] at h
      refine br_f d0 ?_
      by_cases d8 : p < 8
      · rw [if_pos d8] at h
        exact br_t d8 (mr_xapp69 hlt h)
      · rw [if_neg d8] at h
        exact br_f d8 (mr_xapp69 hlt h)
theorem mr_xtrial14 {f_size v : Int32} (htr : tr ≤ 6) (h1 : (∃ i, i < tr ∧ a_trial i = v) → Q (-10004) (f_size, nI tr, f_ready, f_mutants, f_place, f_done, f_height, f_input, f_trapped, f_changed, f_changedOp, f_changedNumber, a_op, a_number, a_trial, a_at, a_newOp, a_newNumber, a_told, a_usual, a_pile, a_seen, a_seenDone, a_seenHeight, a_seenPile)) (h2 : (∀ i, i < tr → ¬ a_trial i = v) → tr = 6 → Q (-10002) (f_size, nI tr, f_ready, f_mutants, f_place, f_done, f_height, f_input, f_trapped, f_changed, f_changedOp, f_changedNumber, a_op, a_number, a_trial, a_at, a_newOp, a_newNumber, a_told, a_usual, a_pile, a_seen, a_seenDone, a_seenHeight, a_seenPile))
    (h3 : (∀ i, i < tr → ¬ a_trial i = v) → tr < 6 → Q (nI (tr + 1)) (f_size, nI (tr + 1), f_ready, f_mutants, f_place, f_done, f_height, f_input, f_trapped, f_changed, f_changedOp, f_changedNumber, a_op, a_number, upd a_trial tr v, a_at, a_newOp, a_newNumber, a_told, a_usual, a_pile, a_seen, a_seenDone, a_seenHeight, a_seenPile)) :
    ∀ (k n i : Nat), i + k = tr → k < n → (∀ j, j < i → ¬ a_trial j = v) → wX_trial_14 Q v f_size (nI tr) f_ready f_mutants f_place f_done f_height f_input f_trapped f_changed f_changedOp f_changedNumber a_op a_number a_trial a_at a_newOp a_newNumber a_told a_usual a_pile a_seen a_seenDone a_seenHeight a_seenPile n (nI i) := by
  intro k
  induction k with
  | zero =>
    intro n i hi hn hc
    obtain ⟨n, rfl⟩ : ∃ m, n = m + 1 := ⟨n - 1, by omega⟩
    obtain rfl : i = tr := by omega
    refine pk_le i i (fun _ => ?_) (fun z => absurd z (by omega))
    refine pk_eq i 6 (fun e => h2 hc e) (fun e => ?_)
    refine And.intro (vp_in_nI (by omega) (by omega)) (nm_r (e' := upd a_trial i v) (by rw [nI_clamp (by omega)]) (nm_r (nI_1 i) ?_))
    exact h3 hc (by omega)
  | succ k ih =>
    intro n i hi hn hc
    obtain ⟨n, rfl⟩ : ∃ m, n = m + 1 := ⟨n - 1, by omega⟩
    have e : (nI i).toNatClampNeg = i := nI_clamp (by omega)
    refine pk_le tr i (fun z => absurd z (by omega)) (fun _ => ?_)
    refine And.intro (vp_in_nI (by omega) (by omega)) ?_
    rw [e]
    refine br_c (fun c => h1 ⟨i, by omega, c⟩) (fun c => nm_r (nI_1 i) ?_)
    exact ih n (i + 1) (by omega) (by omega) (lt_s hc c)
theorem mr_xno_n {f_trials v : Int32} (hsz : sz ≤ 10) (hV : ∀ p, p < sz → mr_V (a_op p) (a_number p))
    (hR : ¬ f_ready = 0 → mr_Rd a_op a_number sz f_mutants a_at a_newOp a_newNumber a_told a_usual) (hv : v < 0 ∨ nI (mr_al a_op a_number sz).length ≤ v)
    (h : ∀ (f_ready' f_mutants' f_place' f_done' f_height' f_input' f_trapped' f_changed' f_changedOp' f_changedNumber' : Int32) (a_at' a_newOp' a_newNumber' a_told' a_usual' a_pile' a_seen' a_seenDone' a_seenHeight' a_seenPile' : Nat → Int32), ¬ f_ready' = 0 → mr_Rd a_op a_number sz f_mutants' a_at' a_newOp' a_newNumber' a_told' a_usual' → Q 1 (nI sz, f_trials, f_ready', f_mutants', f_place', f_done', f_height', f_input', f_trapped', f_changed', f_changedOp', f_changedNumber', a_op, a_number, a_trial, a_at', a_newOp', a_newNumber', a_told', a_usual', a_pile', a_seen', a_seenDone', a_seenHeight', a_seenPile')) :
    wpX_noMutant Q (nI sz, f_trials, f_ready, f_mutants, f_place, f_done, f_height, f_input, f_trapped, f_changed, f_changedOp, f_changedNumber, a_op, a_number, a_trial, a_at, a_newOp, a_newNumber, a_told, a_usual, a_pile, a_seen, a_seenDone, a_seenHeight, a_seenPile) v := by
  unfold wpX_noMutant
  refine mr_xprep hsz hV hR (fun a1 a2 a3 a4 a5 a6 a7 a8 a9 a10 a11 a12 a13 a14 a15 a16 a17 a18 a19 a20 hr hRd => ?_)
  have hq := h a1 a2 a3 a4 a5 a6 a7 a8 a9 a10 a11 a12 a13 a14 a15 a16 a17 a18 a19 a20 hr hRd
  refine br_c (fun _ => hq) (fun c => br_f ?_ hq)
  rw [hRd.1]
  exact Int32.not_lt.mpr (hv.resolve_left c)
theorem mr_xno_y {f_trials : Int32} {j : Nat} (hsz : sz ≤ 10) (hV : ∀ p, p < sz → mr_V (a_op p) (a_number p))
    (hR : ¬ f_ready = 0 → mr_Rd a_op a_number sz f_mutants a_at a_newOp a_newNumber a_told a_usual) (hj : j < (mr_al a_op a_number sz).length)
    (h : ∀ (f_ready' f_mutants' f_place' f_done' f_height' f_input' f_trapped' f_changed' f_changedOp' f_changedNumber' : Int32) (a_at' a_newOp' a_newNumber' a_told' a_usual' a_pile' a_seen' a_seenDone' a_seenHeight' a_seenPile' : Nat → Int32), ¬ f_ready' = 0 → mr_Rd a_op a_number sz f_mutants' a_at' a_newOp' a_newNumber' a_told' a_usual' → Q 0 (nI sz, f_trials, f_ready', f_mutants', f_place', f_done', f_height', f_input', f_trapped', f_changed', f_changedOp', f_changedNumber', a_op, a_number, a_trial, a_at', a_newOp', a_newNumber', a_told', a_usual', a_pile', a_seen', a_seenDone', a_seenHeight', a_seenPile')) :
    wpX_noMutant Q (nI sz, f_trials, f_ready, f_mutants, f_place, f_done, f_height, f_input, f_trapped, f_changed, f_changedOp, f_changedNumber, a_op, a_number, a_trial, a_at, a_newOp, a_newNumber, a_told, a_usual, a_pile, a_seen, a_seenDone, a_seenHeight, a_seenPile) (nI j) := by
  have hl := mr_al_len hV
  unfold wpX_noMutant
  refine mr_xprep hsz hV hR (fun a1 a2 a3 a4 a5 a6 a7 a8 a9 a10 a11 a12 a13 a14 a15 a16 a17 a18 a19 a20 hr hRd => ?_)
  have hq := h a1 a2 a3 a4 a5 a6 a7 a8 a9 a10 a11 a12 a13 a14 a15 a16 a17 a18 a19 a20 hr hRd
  refine br_f (nI_pos (by omega)) (br_t ?_ hq)
  rw [hRd.1]
  exact nI_lt hj (by omega)
end
section
variable {g_height g_trapped g_place g_placeOp g_placeNumber : Int32} {b_ops b_numbers b_trials b_pile b_kills : Nat → Int32}
variable {Q : Int32 → SY → Prop} {R : Int32 → Prop} {sz tr : Nat}
theorem mr_yapp102 {g_tried v : Int32} (hs : sz < 10) (h : Q (nI sz) (nI (sz + 1), g_tried, g_height, g_trapped, g_place, g_placeOp, g_placeNumber, b_ops, upd b_numbers sz v, b_trials, b_pile, b_kills)) : wY_append_102 Q v (nI sz) (nI sz) g_tried g_height g_trapped g_place g_placeOp g_placeNumber b_ops b_numbers b_trials b_pile b_kills := by
  refine And.intro (vp_in_nI hs (by omega)) (nm_r (e' := upd b_numbers sz v) (by rw [nI_clamp (by omega)]) ?_)
  refine nm_r (nI_1 sz) ?_
  rw [nI_pred]
  exact h
theorem mr_yapp56 {g_tried p q v : Int32} (hsz : sz ≤ 10) (hv : v = if p = 0 then q else if p ≤ 7 then 0 else q) (hf : sz = 10 → Q (-10002) (nI sz, g_tried, g_height, g_trapped, g_place, g_placeOp, g_placeNumber, b_ops, b_numbers, b_trials, b_pile, b_kills))
    (hs : sz < 10 → Q (nI sz) (nI (sz + 1), g_tried, g_height, g_trapped, g_place, g_placeOp, g_placeNumber, upd b_ops sz p, upd b_numbers sz v, b_trials, b_pile, b_kills)) : wY_append_56 Q p q (nI sz) g_tried g_height g_trapped g_place g_placeOp g_placeNumber b_ops b_numbers b_trials b_pile b_kills := by
  refine pk_eq sz 10 hf (fun e => ?_)
  have hlt : sz < 10 := by omega
  have h := hs hlt
  rw [hv] at h
  refine And.intro (vp_in_nI hlt (by omega)) (nm_r (e' := upd b_ops sz p) (by rw [nI_clamp (by omega)]) ?_)
  by_cases d0 : p = 0
  · rw [if_pos d0] at h
    exact br_t d0 (mr_yapp102 hlt h)
  · rw [if_neg d0] at h
    refine br_f d0 ?_
    by_cases d8 : p ≤ 7
    · rw [if_pos d8] at h
      exact br_t d8 (mr_yapp102 hlt h)
    · rw [if_neg d8] at h
      exact br_f d8 (mr_yapp102 hlt h)
theorem mr_yapp {g_tried p q : Int32} (hsz : sz ≤ 10) (hb : mr_bad p q → Q (-10001) (nI sz, g_tried, g_height, g_trapped, g_place, g_placeOp, g_placeNumber, b_ops, b_numbers, b_trials, b_pile, b_kills)) (hf : ¬ mr_bad p q → sz = 10 → Q (-10002) (nI sz, g_tried, g_height, g_trapped, g_place, g_placeOp, g_placeNumber, b_ops, b_numbers, b_trials, b_pile, b_kills))
    (hs : ¬ mr_bad p q → sz < 10 → Q (nI sz) (nI (sz + 1), g_tried, g_height, g_trapped, g_place, g_placeOp, g_placeNumber, upd b_ops sz p, upd b_numbers sz (mr_st p q), b_trials, b_pile, b_kills)) :
    wpY_append Q (nI sz, g_tried, g_height, g_trapped, g_place, g_placeOp, g_placeNumber, b_ops, b_numbers, b_trials, b_pile, b_kills) p q := by
  refine br_c (fun c => hb (Or.inl c)) (fun c0 => br_c (fun c => hb (Or.inr (Or.inl c))) (fun c9 => ?_))
  have nb : ¬ mr_bn p q → ¬ mr_bad p q := by
    rintro c (b | b | b)
    · exact c0 b
    · exact c9 b
    · exact c b
  rcases mr_op c0 c9 with rfl | hm | rfl | rfl
  · refine br_t rfl (br_c (fun z => hb (Or.inr (Or.inr (Or.inl ⟨rfl, Or.inl z⟩)))) (fun z => ?_))
    by_cases y : q ≤ 7
    · have c := nb (by
        rintro (⟨-, b | b⟩ | ⟨b, -⟩ | ⟨b, -⟩)
        · exact z b
        · exact b y
        · exact absurd b (by decide)
        · exact absurd b (by decide))
      exact br_f (Int32.not_lt.mpr y) (br_t (by decide) (mr_yapp56 hsz rfl (hf c) (hs c)))
    · exact br_t (Int32.not_le.mp y) (hb (Or.inr (Or.inr (Or.inl ⟨rfl, Or.inr y⟩))))
  · obtain ⟨d0, d8, d9, d7, dl⟩ := mr_mid hm
    have c := nb (by
      rintro (⟨b, -⟩ | ⟨b, -⟩ | ⟨b, -⟩)
      · exact d0 b
      · exact d8 b
      · exact d9 b)
    have ev : mr_st p q = if p = 0 then q else if p ≤ 7 then 0 else q := by
      unfold mr_st
      rw [if_neg d0, if_pos dl, if_neg d0, if_pos d7]
    exact br_f d0 (br_t d7 (mr_yapp56 hsz ev (hf c) (hs c)))
  · refine br_f (by decide) (br_f (by decide) (br_c (fun z => hb (Or.inr (Or.inr (Or.inr (Or.inl ⟨rfl, Or.inl z⟩))))) (fun z => br_t rfl ?_)))
    refine br_c (fun y => ?_) (fun y => hb (Or.inr (Or.inr (Or.inr (Or.inl ⟨rfl, Or.inr y⟩)))))
    have c := nb (by
      rintro (⟨b, -⟩ | ⟨-, b | b⟩ | ⟨b, -⟩)
      · exact absurd b (by decide)
      · exact z b
      · exact b y
      · exact absurd b (by decide))
    exact mr_yapp56 hsz rfl (hf c) (hs c)
  · refine br_f (by decide) (br_f (by decide) (br_c (fun z => hb (Or.inr (Or.inr (Or.inr (Or.inr ⟨rfl, Or.inl z⟩))))) (fun z => br_f (by decide) ?_)))
    refine br_c (fun y => ?_) (fun y => hb (Or.inr (Or.inr (Or.inr (Or.inr ⟨rfl, Or.inr y⟩)))))
    have c := nb (by
      rintro (⟨b, -⟩ | ⟨b, -⟩ | ⟨-, b | b⟩)
      · exact absurd b (by decide)
      · exact absurd b (by decide)
      · exact z b
      · exact b y)
    exact mr_yapp56 hsz rfl (hf c) (hs c)
theorem mr_ytrial14 {g_size v : Int32} (htr : tr ≤ 6) (h1 : (∃ i, i < tr ∧ b_trials i = v) → Q (-10004) (g_size, nI tr, g_height, g_trapped, g_place, g_placeOp, g_placeNumber, b_ops, b_numbers, b_trials, b_pile, b_kills)) (h2 : (∀ i, i < tr → ¬ b_trials i = v) → tr = 6 → Q (-10002) (g_size, nI tr, g_height, g_trapped, g_place, g_placeOp, g_placeNumber, b_ops, b_numbers, b_trials, b_pile, b_kills))
    (h3 : (∀ i, i < tr → ¬ b_trials i = v) → tr < 6 → Q (nI (tr + 1)) (g_size, nI (tr + 1), g_height, g_trapped, g_place, g_placeOp, g_placeNumber, b_ops, b_numbers, upd b_trials tr v, b_pile, b_kills)) :
    ∀ (k n i : Nat), i + k = tr → k < n → (∀ j, j < i → ¬ b_trials j = v) → wY_trial_14 Q v g_size (nI tr) g_height g_trapped g_place g_placeOp g_placeNumber b_ops b_numbers b_trials b_pile b_kills n (nI i) := by
  intro k
  induction k with
  | zero =>
    intro n i hi hn hc
    obtain ⟨n, rfl⟩ : ∃ m, n = m + 1 := ⟨n - 1, by omega⟩
    obtain rfl : i = tr := by omega
    refine pk_le i i (fun _ => ?_) (fun z => absurd z (by omega))
    refine pk_eq i 6 (fun e => h2 hc e) (fun e => ?_)
    refine And.intro (vp_in_nI (by omega) (by omega)) (nm_r (e' := upd b_trials i v) (by rw [nI_clamp (by omega)]) (nm_r (nI_1 i) ?_))
    exact h3 hc (by omega)
  | succ k ih =>
    intro n i hi hn hc
    obtain ⟨n, rfl⟩ : ∃ m, n = m + 1 := ⟨n - 1, by omega⟩
    have e : (nI i).toNatClampNeg = i := nI_clamp (by omega)
    refine pk_le tr i (fun z => absurd z (by omega)) (fun _ => ?_)
    refine And.intro (vp_in_nI (by omega) (by omega)) ?_
    rw [e]
    refine br_c (fun c => h1 ⟨i, by omega, c⟩) (fun c => nm_r (nI_1 i) ?_)
    exact ih n (i + 1) (by omega) (by omega) (lt_s hc c)
end
end
section
/-! the relation and what is owed -/
def mr_F (sz tr : Nat) (f_ready f_mutants : Int32) (a_op a_number a_trial a_at a_newOp a_newNumber a_told a_usual : Nat → Int32) : Prop :=
  sz ≤ 10 ∧ (∀ p, p < sz → mr_V (a_op p) (a_number p)) ∧ mr_T a_trial tr ∧ (¬ f_ready = 0 → mr_Rd a_op a_number sz f_mutants a_at a_newOp a_newNumber a_told a_usual)
def i_Rel (_ : Nat) (u : SX) (v : SY) : Prop := ∃ sz tr : Nat, match u with
  | (f_size, f_trials, f_ready, f_mutants, f_place, f_done, f_height, f_input, f_trapped, f_changed, f_changedOp, f_changedNumber, a_op, a_number, a_trial, a_at, a_newOp, a_newNumber, a_told, a_usual, a_pile, a_seen, a_seenDone, a_seenHeight, a_seenPile) => match v with
    | (g_size, g_tried, g_height, g_trapped, g_place, g_placeOp, g_placeNumber, b_ops, b_numbers, b_trials, b_pile, b_kills) => f_size = nI sz ∧ f_trials = nI tr ∧ g_size = nI sz ∧ g_tried = nI tr ∧ b_ops = a_op ∧ b_numbers = a_number ∧ b_trials = a_trial ∧ mr_F sz tr f_ready f_mutants a_op a_number a_trial a_at a_newOp a_newNumber a_told a_usual
theorem i_up {k : Nat} {u : SX} {v : SY} (h : i_Rel k u v) : i_Rel (k + 3) u v := h
theorem mr_el {P : SX → SY → Prop} {k : Nat} {u : SX} {v : SY} (I : i_Rel k u v)
    (h : ∀ (sz tr : Nat) (f_ready f_mutants f_place f_done f_height f_input f_trapped f_changed f_changedOp f_changedNumber g_height g_trapped g_place g_placeOp g_placeNumber : Int32) (a_op a_number a_trial a_at a_newOp a_newNumber a_told a_usual a_pile a_seen a_seenDone a_seenHeight a_seenPile b_pile b_kills : Nat → Int32),
      sz ≤ 10 → (∀ p, p < sz → mr_V (a_op p) (a_number p)) → mr_T a_trial tr → (¬ f_ready = 0 → mr_Rd a_op a_number sz f_mutants a_at a_newOp a_newNumber a_told a_usual) →
      P (nI sz, nI tr, f_ready, f_mutants, f_place, f_done, f_height, f_input, f_trapped, f_changed, f_changedOp, f_changedNumber, a_op, a_number, a_trial, a_at, a_newOp, a_newNumber, a_told, a_usual, a_pile, a_seen, a_seenDone, a_seenHeight, a_seenPile) (nI sz, nI tr, g_height, g_trapped, g_place, g_placeOp, g_placeNumber, a_op, a_number, a_trial, b_pile, b_kills)) : P u v := by
  obtain ⟨f_size, f_trials, f_ready, f_mutants, f_place, f_done, f_height, f_input, f_trapped, f_changed, f_changedOp, f_changedNumber, a_op, a_number, a_trial, a_at, a_newOp, a_newNumber, a_told, a_usual, a_pile, a_seen, a_seenDone, a_seenHeight, a_seenPile⟩ := u
  obtain ⟨g_size, g_tried, g_height, g_trapped, g_place, g_placeOp, g_placeNumber, b_ops, b_numbers, b_trials, b_pile, b_kills⟩ := v
  obtain ⟨sz, tr, e1, e2, e3, e4, e5, e6, e7, F1, F2, F3, F4⟩ := I
  rw [e1, e2, e3, e4, e5, e6, e7]
  exact h sz tr _ _ _ _ _ _ _ _ _ _ _ _ _ _ _ _ _ _ _ _ _ _ _ _ _ _ _ _ _ _ F1 F2 F3 F4
section
variable {f_ready f_mutants f_place f_done f_height f_input f_trapped f_changed f_changedOp f_changedNumber : Int32} {a_op a_number a_trial a_at a_newOp a_newNumber a_told a_usual a_pile a_seen a_seenDone a_seenHeight a_seenPile : Nat → Int32} {g_height g_trapped g_place g_placeOp g_placeNumber : Int32} {b_pile b_kills : Nat → Int32}
variable {sz tr k : Nat}
theorem mr_in (F1 : sz ≤ 10) (F2 : ∀ p, p < sz → mr_V (a_op p) (a_number p)) (F3 : mr_T a_trial tr) (F4 : ¬ f_ready = 0 → mr_Rd a_op a_number sz f_mutants a_at a_newOp a_newNumber a_told a_usual) :
    i_Rel k (nI sz, nI tr, f_ready, f_mutants, f_place, f_done, f_height, f_input, f_trapped, f_changed, f_changedOp, f_changedNumber, a_op, a_number, a_trial, a_at, a_newOp, a_newNumber, a_told, a_usual, a_pile, a_seen, a_seenDone, a_seenHeight, a_seenPile) (nI sz, nI tr, g_height, g_trapped, g_place, g_placeOp, g_placeNumber, a_op, a_number, a_trial, b_pile, b_kills) :=
  Exists.intro sz (Exists.intro tr (And.intro rfl (And.intro rfl (And.intro rfl (And.intro rfl (And.intro rfl (And.intro rfl (And.intro rfl ⟨F1, F2, F3, F4⟩))))))))
end
theorem mr_T0 (trial : Nat → Int32) : mr_T trial 0 := ⟨by omega, fun i hi => absurd hi (by omega)⟩
theorem i_vc0 : wpX_init (fun u => wpY_init (fun v => i_Rel 0 u v)) := by
  refine nm_e (nm_e ?_)
  refine mr_in (sz := 1) (tr := 0) (by omega) (fun p hp => ?_) (mr_T0 _) (fun z => absurd rfl z)
  obtain rfl : p = 0 := by omega
  exact mr_V1 _
theorem i_vc_begin {k : Nat} {u : SX} {v : SY} (I : i_Rel k u v) (hk : k + 3 ≤ 1536) : wpX_begin (fun u' => wpY_begin (fun v' => i_Rel (k + 3) u' v') v) u := by
  refine mr_el (P := fun u v => wpX_begin (fun u' => wpY_begin (fun v' => i_Rel (k + 3) u' v') v) u) I ?_
  intro sz tr f_ready f_mutants f_place f_done f_height f_input f_trapped f_changed f_changedOp f_changedNumber g_height g_trapped g_place g_placeOp g_placeNumber a_op a_number a_trial a_at a_newOp a_newNumber a_told a_usual a_pile a_seen a_seenDone a_seenHeight a_seenPile b_pile b_kills hsz hV hT hR
  unfold wpX_begin wpY_begin
  exact mr_in (sz := 0) (by omega) (fun p hp => absurd hp (by omega)) hT (fun z => absurd rfl z)
theorem i_vc_append {k : Nat} {u : SX} {v : SY} (I : i_Rel k u v) (hk : k + 3 ≤ 1536) (v1 : Int32) (v2 : Int32) : wpX_append (fun r u' => wpY_append (fun r' v' => r' = r ∧ i_Rel (k + 3) u' v') v v1 v2) u v1 v2 := by
  refine mr_el (P := fun u v => wpX_append (fun r u' => wpY_append (fun r' v' => r' = r ∧ i_Rel (k + 3) u' v') v v1 v2) u v1 v2) I ?_
  intro sz tr f_ready f_mutants f_place f_done f_height f_input f_trapped f_changed f_changedOp f_changedNumber g_height g_trapped g_place g_placeOp g_placeNumber a_op a_number a_trial a_at a_newOp a_newNumber a_told a_usual a_pile a_seen a_seenDone a_seenHeight a_seenPile b_pile b_kills hsz hV hT hR
  refine mr_xapp hsz (fun b => ?_) (fun b e => ?_) (fun b e => ?_)
  · exact mr_yapp hsz (fun _ => ⟨rfl, mr_in hsz hV hT hR⟩) (fun z => absurd b z) (fun z => absurd b z)
  · exact mr_yapp hsz (fun z => absurd z b) (fun _ _ => ⟨rfl, mr_in hsz hV hT hR⟩) (fun _ z => absurd z (by omega))
  · exact mr_yapp hsz (fun z => absurd z b) (fun _ z => absurd z (by omega)) (fun _ _ => ⟨rfl, mr_in (sz := sz + 1) (by omega) (mr_st_app hV b) hT (fun z => absurd rfl z)⟩)
theorem i_vc_size {k : Nat} {u : SX} {v : SY} (I : i_Rel k u v) (hk : k + 3 ≤ 1536) : wpX_size (fun r => wpY_size (fun r' => r' = r ∧ i_Rel (k + 3) u v) v) u := by
  refine mr_el (P := fun u v => wpX_size (fun r => wpY_size (fun r' => r' = r ∧ i_Rel (k + 3) u v) v) u) I ?_
  intro sz tr f_ready f_mutants f_place f_done f_height f_input f_trapped f_changed f_changedOp f_changedNumber g_height g_trapped g_place g_placeOp g_placeNumber a_op a_number a_trial a_at a_newOp a_newNumber a_told a_usual a_pile a_seen a_seenDone a_seenHeight a_seenPile b_pile b_kills hsz hV hT hR
  exact And.intro rfl (mr_in hsz hV hT hR)
theorem i_vc_outcome {k : Nat} {u : SX} {v : SY} (I : i_Rel k u v) (hk : k + 3 ≤ 1536) (v1 : Int32) : wpX_outcome (fun r u' => wpY_outcome (fun r' v' => r' = r ∧ i_Rel (k + 3) u' v') v v1) u v1 := by
  refine mr_el (P := fun u v => wpX_outcome (fun r u' => wpY_outcome (fun r' v' => r' = r ∧ i_Rel (k + 3) u' v') v v1) u v1) I ?_
  intro sz tr f_ready f_mutants f_place f_done f_height f_input f_trapped f_changed f_changedOp f_changedNumber g_height g_trapped g_place g_placeOp g_placeNumber a_op a_number a_trial a_at a_newOp a_newNumber a_told a_usual a_pile a_seen a_seenDone a_seenHeight a_seenPile b_pile b_kills hsz hV hT hR
  have bad : (v1 < -8 ∨ (¬ v1 < -8 ∧ ¬ v1 ≤ 7)) → wpX_outcome (fun r u' => wpY_outcome (fun r' v' => r' = r ∧ i_Rel (k + 3) u' v') (nI sz, nI tr, g_height, g_trapped, g_place, g_placeOp, g_placeNumber, a_op, a_number, a_trial, b_pile, b_kills) v1) (nI sz, nI tr, f_ready, f_mutants, f_place, f_done, f_height, f_input, f_trapped, f_changed, f_changedOp, f_changedNumber, a_op, a_number, a_trial, a_at, a_newOp, a_newNumber, a_told, a_usual, a_pile, a_seen, a_seenDone, a_seenHeight, a_seenPile) v1 := by
    intro b
    unfold wpX_outcome
    refine mr_xbad_n b (br_f (by decide) ?_)
    unfold wpY_outcome
    exact mr_yin_n b (br_t rfl ⟨rfl, mr_in hsz hV hT hR⟩)
  rcases mr_inp v1 with b | b | ⟨x, hx, rfl⟩
  · exact bad (Or.inl b)
  · exact bad (Or.inr b)
  · unfold wpX_outcome
    refine mr_xbad_y hx (br_t rfl ?_)
    refine mr_xprep hsz hV hR (fun a1 a2 a3 a4 a5 a6 a7 a8 a9 a10 a11 a12 a13 a14 a15 a16 a17 a18 a19 a20 hr hRd => ?_)
    have e8 := (mr_iv3 x hx).1
    refine And.intro (by rw [e8]; exact vp_in_nI (by omega) (by omega)) ?_
    rw [e8, nI_clamp (by omega), hRd.2.2.2 x hx]
    unfold wpY_outcome
    refine mr_yin_y hx (br_f (by decide) ?_)
    exact mr_yrunP hsz hV (fun c1 c2 c3 => ⟨rfl, mr_in hsz hV hT (fun _ => hRd)⟩)
theorem i_vc_trial {k : Nat} {u : SX} {v : SY} (I : i_Rel k u v) (hk : k + 3 ≤ 1536) (v1 : Int32) : wpX_trial (fun r u' => wpY_trial (fun r' v' => r' = r ∧ i_Rel (k + 3) u' v') v v1) u v1 := by
  refine mr_el (P := fun u v => wpX_trial (fun r u' => wpY_trial (fun r' v' => r' = r ∧ i_Rel (k + 3) u' v') v v1) u v1) I ?_
  intro sz tr f_ready f_mutants f_place f_done f_height f_input f_trapped f_changed f_changedOp f_changedNumber g_height g_trapped g_place g_placeOp g_placeNumber a_op a_number a_trial a_at a_newOp a_newNumber a_told a_usual a_pile a_seen a_seenDone a_seenHeight a_seenPile b_pile b_kills hsz hV hT hR
  have bad : (v1 < -8 ∨ (¬ v1 < -8 ∧ ¬ v1 ≤ 7)) → wpX_trial (fun r u' => wpY_trial (fun r' v' => r' = r ∧ i_Rel (k + 3) u' v') (nI sz, nI tr, g_height, g_trapped, g_place, g_placeOp, g_placeNumber, a_op, a_number, a_trial, b_pile, b_kills) v1) (nI sz, nI tr, f_ready, f_mutants, f_place, f_done, f_height, f_input, f_trapped, f_changed, f_changedOp, f_changedNumber, a_op, a_number, a_trial, a_at, a_newOp, a_newNumber, a_told, a_usual, a_pile, a_seen, a_seenDone, a_seenHeight, a_seenPile) v1 := by
    intro b
    unfold wpX_trial
    refine mr_xbad_n b (br_f (by decide) ?_)
    unfold wpY_trial
    exact mr_yin_n b (br_t rfl ⟨rfl, mr_in hsz hV hT hR⟩)
  rcases mr_inp v1 with b | b | ⟨x, hx, rfl⟩
  · exact bad (Or.inl b)
  · exact bad (Or.inr b)
  · unfold wpX_trial
    refine mr_xbad_y hx (br_t rfl (Exists.intro (tr + 1) ?_))
    have go : ∀ {r : Int32} {u' : SX}, ((∃ i, i < tr ∧ a_trial i = mr_iv x) → -10004 = r ∧ i_Rel (k + 3) u' (nI sz, nI tr, g_height, g_trapped, g_place, g_placeOp, g_placeNumber, a_op, a_number, a_trial, b_pile, b_kills)) →
        ((∀ i, i < tr → ¬ a_trial i = mr_iv x) → tr = 6 → -10002 = r ∧ i_Rel (k + 3) u' (nI sz, nI tr, g_height, g_trapped, g_place, g_placeOp, g_placeNumber, a_op, a_number, a_trial, b_pile, b_kills)) →
        ((∀ i, i < tr → ¬ a_trial i = mr_iv x) → tr < 6 → nI (tr + 1) = r ∧ i_Rel (k + 3) u' (nI sz, nI (tr + 1), g_height, g_trapped, g_place, g_placeOp, g_placeNumber, a_op, a_number, upd a_trial tr (mr_iv x), b_pile, b_kills)) →
        wpY_trial (fun r' v' => r' = r ∧ i_Rel (k + 3) u' v') (nI sz, nI tr, g_height, g_trapped, g_place, g_placeOp, g_placeNumber, a_op, a_number, a_trial, b_pile, b_kills) (mr_iv x) := by
      intro r u' h1 h2 h3
      unfold wpY_trial
      refine mr_yin_y hx (br_f (by decide) (Exists.intro (tr + 1) ?_))
      exact mr_ytrial14 hT.1 h1 h2 h3 tr (tr + 1) 0 (by omega) (by omega) (fun j hj => absurd hj (by omega))
    refine mr_xtrial14 hT.1 (fun z => ?_) (fun z e => ?_) (fun z e => ?_) tr (tr + 1) 0 (by omega) (by omega) (fun j hj => absurd hj (by omega))
    · obtain ⟨i, hi, ei⟩ := z
      exact go (fun _ => ⟨rfl, mr_in hsz hV hT hR⟩) (fun y => absurd ei (y i hi)) (fun y => absurd ei (y i hi))
    · exact go (fun y => Exists.elim y (fun i hi => absurd hi.2 (z i hi.1))) (fun _ _ => ⟨rfl, mr_in hsz hV hT hR⟩) (fun _ y => absurd y (by omega))
    · exact go (fun y => Exists.elim y (fun i hi => absurd hi.2 (z i hi.1))) (fun _ y => absurd y (by omega)) (fun _ _ => ⟨rfl, mr_in hsz hV (mr_T_app hT e hx) hR⟩)
theorem i_vc_clearTrials {k : Nat} {u : SX} {v : SY} (I : i_Rel k u v) (hk : k + 3 ≤ 1536) : wpX_clearTrials (fun u' => wpY_clearTrials (fun v' => i_Rel (k + 3) u' v') v) u := by
  refine mr_el (P := fun u v => wpX_clearTrials (fun u' => wpY_clearTrials (fun v' => i_Rel (k + 3) u' v') v) u) I ?_
  intro sz tr f_ready f_mutants f_place f_done f_height f_input f_trapped f_changed f_changedOp f_changedNumber g_height g_trapped g_place g_placeOp g_placeNumber a_op a_number a_trial a_at a_newOp a_newNumber a_told a_usual a_pile a_seen a_seenDone a_seenHeight a_seenPile b_pile b_kills hsz hV hT hR
  unfold wpX_clearTrials wpY_clearTrials
  exact mr_in (tr := 0) hsz hV (mr_T0 _) hR
theorem i_vc_mutants {k : Nat} {u : SX} {v : SY} (I : i_Rel k u v) (hk : k + 3 ≤ 1536) : wpX_mutants (fun r u' => wpY_mutants (fun r' => r' = r ∧ i_Rel (k + 3) u' v) v) u := by
  refine mr_el (P := fun u v => wpX_mutants (fun r u' => wpY_mutants (fun r' => r' = r ∧ i_Rel (k + 3) u' v) v) u) I ?_
  intro sz tr f_ready f_mutants f_place f_done f_height f_input f_trapped f_changed f_changedOp f_changedNumber g_height g_trapped g_place g_placeOp g_placeNumber a_op a_number a_trial a_at a_newOp a_newNumber a_told a_usual a_pile a_seen a_seenDone a_seenHeight a_seenPile b_pile b_kills hsz hV hT hR
  unfold wpX_mutants
  refine mr_xprep hsz hV hR (fun a1 a2 a3 a4 a5 a6 a7 a8 a9 a10 a11 a12 a13 a14 a15 a16 a17 a18 a19 a20 hr hRd => ?_)
  exact mr_ymuts hsz hV ⟨hRd.1.symm, mr_in hsz hV hT (fun _ => hRd)⟩
theorem i_vc_mutantAt {k : Nat} {u : SX} {v : SY} (I : i_Rel k u v) (hk : k + 3 ≤ 1536) (v1 : Int32) : wpX_mutantAt (fun r u' => wpY_mutantAt (fun r' v' => r' = r ∧ i_Rel (k + 3) u' v') v v1) u v1 := by
  refine mr_el (P := fun u v => wpX_mutantAt (fun r u' => wpY_mutantAt (fun r' v' => r' = r ∧ i_Rel (k + 3) u' v') v v1) u v1) I ?_
  intro sz tr f_ready f_mutants f_place f_done f_height f_input f_trapped f_changed f_changedOp f_changedNumber g_height g_trapped g_place g_placeOp g_placeNumber a_op a_number a_trial a_at a_newOp a_newNumber a_told a_usual a_pile a_seen a_seenDone a_seenHeight a_seenPile b_pile b_kills hsz hV hT hR
  have bad : (v1 < 0 ∨ nI (mr_al a_op a_number sz).length ≤ v1) → wpX_mutantAt (fun r u' => wpY_mutantAt (fun r' v' => r' = r ∧ i_Rel (k + 3) u' v') (nI sz, nI tr, g_height, g_trapped, g_place, g_placeOp, g_placeNumber, a_op, a_number, a_trial, b_pile, b_kills) v1) (nI sz, nI tr, f_ready, f_mutants, f_place, f_done, f_height, f_input, f_trapped, f_changed, f_changedOp, f_changedNumber, a_op, a_number, a_trial, a_at, a_newOp, a_newNumber, a_told, a_usual, a_pile, a_seen, a_seenDone, a_seenHeight, a_seenPile) v1 := by
    intro b
    unfold wpX_mutantAt
    refine mr_xno_n hsz hV hR b (fun a1 a2 a3 a4 a5 a6 a7 a8 a9 a10 a11 a12 a13 a14 a15 a16 a17 a18 a19 a20 hr hRd => ?_)
    refine br_f (by decide) ?_
    unfold wpY_mutantAt
    exact mr_yfind_n hsz hV b (br_t rfl ⟨rfl, mr_in hsz hV hT (fun _ => hRd)⟩)
  have hl := mr_al_len hV
  rcases pk_ix v1 (n := (mr_al a_op a_number sz).length) (by omega) with b | b | ⟨j, hj, rfl⟩
  · exact bad (Or.inl b)
  · exact bad (Or.inr b)
  · unfold wpX_mutantAt
    refine mr_xno_y hsz hV hR hj (fun a1 a2 a3 a4 a5 a6 a7 a8 a9 a10 a11 a12 a13 a14 a15 a16 a17 a18 a19 a20 hr hRd => ?_)
    have he := List.getElem?_eq_getElem hj
    obtain ⟨m1, m2, m3⟩ := hRd.2.1 j _ he
    refine br_t rfl (And.intro (vp_in_nI (by omega) (by omega)) ?_)
    rw [nI_clamp (by omega), m1]
    unfold wpY_mutantAt
    exact mr_yfind_y hsz hV he (br_f (by decide) ⟨rfl, mr_in hsz hV hT (fun _ => hRd)⟩)
theorem i_vc_mutantOp {k : Nat} {u : SX} {v : SY} (I : i_Rel k u v) (hk : k + 3 ≤ 1536) (v1 : Int32) : wpX_mutantOp (fun r u' => wpY_mutantOp (fun r' v' => r' = r ∧ i_Rel (k + 3) u' v') v v1) u v1 := by
  refine mr_el (P := fun u v => wpX_mutantOp (fun r u' => wpY_mutantOp (fun r' v' => r' = r ∧ i_Rel (k + 3) u' v') v v1) u v1) I ?_
  intro sz tr f_ready f_mutants f_place f_done f_height f_input f_trapped f_changed f_changedOp f_changedNumber g_height g_trapped g_place g_placeOp g_placeNumber a_op a_number a_trial a_at a_newOp a_newNumber a_told a_usual a_pile a_seen a_seenDone a_seenHeight a_seenPile b_pile b_kills hsz hV hT hR
  have bad : (v1 < 0 ∨ nI (mr_al a_op a_number sz).length ≤ v1) → wpX_mutantOp (fun r u' => wpY_mutantOp (fun r' v' => r' = r ∧ i_Rel (k + 3) u' v') (nI sz, nI tr, g_height, g_trapped, g_place, g_placeOp, g_placeNumber, a_op, a_number, a_trial, b_pile, b_kills) v1) (nI sz, nI tr, f_ready, f_mutants, f_place, f_done, f_height, f_input, f_trapped, f_changed, f_changedOp, f_changedNumber, a_op, a_number, a_trial, a_at, a_newOp, a_newNumber, a_told, a_usual, a_pile, a_seen, a_seenDone, a_seenHeight, a_seenPile) v1 := by
    intro b
    unfold wpX_mutantOp
    refine mr_xno_n hsz hV hR b (fun a1 a2 a3 a4 a5 a6 a7 a8 a9 a10 a11 a12 a13 a14 a15 a16 a17 a18 a19 a20 hr hRd => ?_)
    refine br_f (by decide) ?_
    unfold wpY_mutantOp
    exact mr_yfind_n hsz hV b (br_t rfl ⟨rfl, mr_in hsz hV hT (fun _ => hRd)⟩)
  have hl := mr_al_len hV
  rcases pk_ix v1 (n := (mr_al a_op a_number sz).length) (by omega) with b | b | ⟨j, hj, rfl⟩
  · exact bad (Or.inl b)
  · exact bad (Or.inr b)
  · unfold wpX_mutantOp
    refine mr_xno_y hsz hV hR hj (fun a1 a2 a3 a4 a5 a6 a7 a8 a9 a10 a11 a12 a13 a14 a15 a16 a17 a18 a19 a20 hr hRd => ?_)
    have he := List.getElem?_eq_getElem hj
    obtain ⟨m1, m2, m3⟩ := hRd.2.1 j _ he
    refine br_t rfl (And.intro (vp_in_nI (by omega) (by omega)) ?_)
    rw [nI_clamp (by omega), m2]
    unfold wpY_mutantOp
    exact mr_yfind_y hsz hV he (br_f (by decide) ⟨rfl, mr_in hsz hV hT (fun _ => hRd)⟩)
theorem i_vc_mutantNumber {k : Nat} {u : SX} {v : SY} (I : i_Rel k u v) (hk : k + 3 ≤ 1536) (v1 : Int32) : wpX_mutantNumber (fun r u' => wpY_mutantNumber (fun r' v' => r' = r ∧ i_Rel (k + 3) u' v') v v1) u v1 := by
  refine mr_el (P := fun u v => wpX_mutantNumber (fun r u' => wpY_mutantNumber (fun r' v' => r' = r ∧ i_Rel (k + 3) u' v') v v1) u v1) I ?_
  intro sz tr f_ready f_mutants f_place f_done f_height f_input f_trapped f_changed f_changedOp f_changedNumber g_height g_trapped g_place g_placeOp g_placeNumber a_op a_number a_trial a_at a_newOp a_newNumber a_told a_usual a_pile a_seen a_seenDone a_seenHeight a_seenPile b_pile b_kills hsz hV hT hR
  have bad : (v1 < 0 ∨ nI (mr_al a_op a_number sz).length ≤ v1) → wpX_mutantNumber (fun r u' => wpY_mutantNumber (fun r' v' => r' = r ∧ i_Rel (k + 3) u' v') (nI sz, nI tr, g_height, g_trapped, g_place, g_placeOp, g_placeNumber, a_op, a_number, a_trial, b_pile, b_kills) v1) (nI sz, nI tr, f_ready, f_mutants, f_place, f_done, f_height, f_input, f_trapped, f_changed, f_changedOp, f_changedNumber, a_op, a_number, a_trial, a_at, a_newOp, a_newNumber, a_told, a_usual, a_pile, a_seen, a_seenDone, a_seenHeight, a_seenPile) v1 := by
    intro b
    unfold wpX_mutantNumber
    refine mr_xno_n hsz hV hR b (fun a1 a2 a3 a4 a5 a6 a7 a8 a9 a10 a11 a12 a13 a14 a15 a16 a17 a18 a19 a20 hr hRd => ?_)
    refine br_f (by decide) ?_
    unfold wpY_mutantNumber
    exact mr_yfind_n hsz hV b (br_t rfl ⟨rfl, mr_in hsz hV hT (fun _ => hRd)⟩)
  have hl := mr_al_len hV
  rcases pk_ix v1 (n := (mr_al a_op a_number sz).length) (by omega) with b | b | ⟨j, hj, rfl⟩
  · exact bad (Or.inl b)
  · exact bad (Or.inr b)
  · unfold wpX_mutantNumber
    refine mr_xno_y hsz hV hR hj (fun a1 a2 a3 a4 a5 a6 a7 a8 a9 a10 a11 a12 a13 a14 a15 a16 a17 a18 a19 a20 hr hRd => ?_)
    have he := List.getElem?_eq_getElem hj
    obtain ⟨m1, m2, m3⟩ := hRd.2.1 j _ he
    refine br_t rfl (And.intro (vp_in_nI (by omega) (by omega)) ?_)
    rw [nI_clamp (by omega), m3]
    unfold wpY_mutantNumber
    exact mr_yfind_y hsz hV he (br_f (by decide) ⟨rfl, mr_in hsz hV hT (fun _ => hRd)⟩)
theorem i_vc_outcomeOf {k : Nat} {u : SX} {v : SY} (I : i_Rel k u v) (hk : k + 3 ≤ 1536) (v1 : Int32) (v2 : Int32) : wpX_outcomeOf (fun r u' => wpY_outcomeOf (fun r' v' => r' = r ∧ i_Rel (k + 3) u' v') v v1 v2) u v1 v2 := by
  refine mr_el (P := fun u v => wpX_outcomeOf (fun r u' => wpY_outcomeOf (fun r' v' => r' = r ∧ i_Rel (k + 3) u' v') v v1 v2) u v1 v2) I ?_
  intro sz tr f_ready f_mutants f_place f_done f_height f_input f_trapped f_changed f_changedOp f_changedNumber g_height g_trapped g_place g_placeOp g_placeNumber a_op a_number a_trial a_at a_newOp a_newNumber a_told a_usual a_pile a_seen a_seenDone a_seenHeight a_seenPile b_pile b_kills hsz hV hT hR
  have bad : (v2 < -8 ∨ (¬ v2 < -8 ∧ ¬ v2 ≤ 7)) → wpX_outcomeOf (fun r u' => wpY_outcomeOf (fun r' v' => r' = r ∧ i_Rel (k + 3) u' v') (nI sz, nI tr, g_height, g_trapped, g_place, g_placeOp, g_placeNumber, a_op, a_number, a_trial, b_pile, b_kills) v1 v2) (nI sz, nI tr, f_ready, f_mutants, f_place, f_done, f_height, f_input, f_trapped, f_changed, f_changedOp, f_changedNumber, a_op, a_number, a_trial, a_at, a_newOp, a_newNumber, a_told, a_usual, a_pile, a_seen, a_seenDone, a_seenHeight, a_seenPile) v1 v2 := by
    intro b
    unfold wpX_outcomeOf
    refine mr_xbad_n b (br_f (by decide) ?_)
    unfold wpY_outcomeOf
    exact mr_yin_n b (br_t rfl ⟨rfl, mr_in hsz hV hT hR⟩)
  rcases mr_inp v2 with b | b | ⟨x, hx, rfl⟩
  · exact bad (Or.inl b)
  · exact bad (Or.inr b)
  · have bad2 : (v1 < 0 ∨ nI (mr_al a_op a_number sz).length ≤ v1) → wpX_outcomeOf (fun r u' => wpY_outcomeOf (fun r' v' => r' = r ∧ i_Rel (k + 3) u' v') (nI sz, nI tr, g_height, g_trapped, g_place, g_placeOp, g_placeNumber, a_op, a_number, a_trial, b_pile, b_kills) v1 (mr_iv x)) (nI sz, nI tr, f_ready, f_mutants, f_place, f_done, f_height, f_input, f_trapped, f_changed, f_changedOp, f_changedNumber, a_op, a_number, a_trial, a_at, a_newOp, a_newNumber, a_told, a_usual, a_pile, a_seen, a_seenDone, a_seenHeight, a_seenPile) v1 (mr_iv x) := by
      intro b
      unfold wpX_outcomeOf
      refine mr_xbad_y hx (br_t rfl ?_)
      refine mr_xno_n hsz hV hR b (fun a1 a2 a3 a4 a5 a6 a7 a8 a9 a10 a11 a12 a13 a14 a15 a16 a17 a18 a19 a20 hr hRd => ?_)
      refine br_f (by decide) ?_
      exact mr_youtOf_n hsz hV hx b ⟨rfl, mr_in hsz hV hT (fun _ => hRd)⟩
    have hl := mr_al_len hV
    rcases pk_ix v1 (n := (mr_al a_op a_number sz).length) (by omega) with b | b | ⟨j, hj, rfl⟩
    · exact bad2 (Or.inl b)
    · exact bad2 (Or.inr b)
    · unfold wpX_outcomeOf
      refine mr_xbad_y hx (br_t rfl ?_)
      refine mr_xno_y hsz hV hR hj (fun a1 a2 a3 a4 a5 a6 a7 a8 a9 a10 a11 a12 a13 a14 a15 a16 a17 a18 a19 a20 hr hRd => ?_)
      have he := List.getElem?_eq_getElem hj
      generalize (mr_al a_op a_number sz)[j] = e at he
      obtain ⟨m1, m2, m3⟩ := hRd.2.1 j e he
      obtain ⟨h1, h2⟩ := mr_al_ok hV he
      have hVe : ∀ p, p < sz → mr_V (upd a_op e.1 (a12 j) p) (upd a_number e.1 (a13 j) p) := by rw [m2, m3]; exact mr_V_upd hV h2
      refine br_t rfl ?_
      refine mr_xwhole hsz hV (fun b1 b2 b3 b4 b5 b6 b7 b8 b9 hS => ?_)
      refine mr_xfrom hsz h1 (by omega) m1 hVe hS (fun c1 c2 c3 c4 c5 c6 c7 c8 => ?_)
      refine mr_youtOf_y hsz hV hx he (fun d1 d2 d3 => ⟨?_, mr_in hsz hV hT (fun _ => hRd)⟩)
      rw [m2, m3]; rfl
theorem i_vc_killers {k : Nat} {u : SX} {v : SY} (I : i_Rel k u v) (hk : k + 3 ≤ 1536) (v1 : Int32) : wpX_killers (fun r u' => wpY_killers (fun r' v' => r' = r ∧ i_Rel (k + 3) u' v') v v1) u v1 := by
  refine mr_el (P := fun u v => wpX_killers (fun r u' => wpY_killers (fun r' v' => r' = r ∧ i_Rel (k + 3) u' v') v v1) u v1) I ?_
  intro sz tr f_ready f_mutants f_place f_done f_height f_input f_trapped f_changed f_changedOp f_changedNumber g_height g_trapped g_place g_placeOp g_placeNumber a_op a_number a_trial a_at a_newOp a_newNumber a_told a_usual a_pile a_seen a_seenDone a_seenHeight a_seenPile b_pile b_kills hsz hV hT hR
  have bad : (v1 < 0 ∨ nI (mr_al a_op a_number sz).length ≤ v1) → wpX_killers (fun r u' => wpY_killers (fun r' v' => r' = r ∧ i_Rel (k + 3) u' v') (nI sz, nI tr, g_height, g_trapped, g_place, g_placeOp, g_placeNumber, a_op, a_number, a_trial, b_pile, b_kills) v1) (nI sz, nI tr, f_ready, f_mutants, f_place, f_done, f_height, f_input, f_trapped, f_changed, f_changedOp, f_changedNumber, a_op, a_number, a_trial, a_at, a_newOp, a_newNumber, a_told, a_usual, a_pile, a_seen, a_seenDone, a_seenHeight, a_seenPile) v1 := by
    intro b
    unfold wpX_killers
    refine mr_xno_n hsz hV hR b (fun a1 a2 a3 a4 a5 a6 a7 a8 a9 a10 a11 a12 a13 a14 a15 a16 a17 a18 a19 a20 hr hRd => ?_)
    refine br_f (by decide) ?_
    exact mr_ykill_n hsz hV b ⟨rfl, mr_in hsz hV hT (fun _ => hRd)⟩
  have hl := mr_al_len hV
  rcases pk_ix v1 (n := (mr_al a_op a_number sz).length) (by omega) with b | b | ⟨j, hj, rfl⟩
  · exact bad (Or.inl b)
  · exact bad (Or.inr b)
  · unfold wpX_killers
    refine mr_xno_y hsz hV hR hj (fun a1 a2 a3 a4 a5 a6 a7 a8 a9 a10 a11 a12 a13 a14 a15 a16 a17 a18 a19 a20 hr hRd => ?_)
    have he := List.getElem?_eq_getElem hj
    generalize (mr_al a_op a_number sz)[j] = e at he
    refine br_t rfl ?_
    refine mr_xkillOf hV hsz hT hRd.2.2.1 hj ?_
    exact mr_ykill_y hsz hV hT he (fun d1 d2 d3 d4 d5 d6 => ⟨rfl, mr_in hsz hV hT (fun _ => hRd)⟩)
theorem i_vc_killer {k : Nat} {u : SX} {v : SY} (I : i_Rel k u v) (hk : k + 3 ≤ 1536) (v1 : Int32) : wpX_killer (fun r u' => wpY_killer (fun r' v' => r' = r ∧ i_Rel (k + 3) u' v') v v1) u v1 := by
  refine mr_el (P := fun u v => wpX_killer (fun r u' => wpY_killer (fun r' v' => r' = r ∧ i_Rel (k + 3) u' v') v v1) u v1) I ?_
  intro sz tr f_ready f_mutants f_place f_done f_height f_input f_trapped f_changed f_changedOp f_changedNumber g_height g_trapped g_place g_placeOp g_placeNumber a_op a_number a_trial a_at a_newOp a_newNumber a_told a_usual a_pile a_seen a_seenDone a_seenHeight a_seenPile b_pile b_kills hsz hV hT hR
  have bad : (v1 < 0 ∨ nI (mr_al a_op a_number sz).length ≤ v1) → wpX_killer (fun r u' => wpY_killer (fun r' v' => r' = r ∧ i_Rel (k + 3) u' v') (nI sz, nI tr, g_height, g_trapped, g_place, g_placeOp, g_placeNumber, a_op, a_number, a_trial, b_pile, b_kills) v1) (nI sz, nI tr, f_ready, f_mutants, f_place, f_done, f_height, f_input, f_trapped, f_changed, f_changedOp, f_changedNumber, a_op, a_number, a_trial, a_at, a_newOp, a_newNumber, a_told, a_usual, a_pile, a_seen, a_seenDone, a_seenHeight, a_seenPile) v1 := by
    intro b
    unfold wpX_killer
    refine mr_xno_n hsz hV hR b (fun a1 a2 a3 a4 a5 a6 a7 a8 a9 a10 a11 a12 a13 a14 a15 a16 a17 a18 a19 a20 hr hRd => ?_)
    refine br_f (by decide) ?_
    exact mr_ykiller_n hsz hV b ⟨rfl, mr_in hsz hV hT (fun _ => hRd)⟩
  have hl := mr_al_len hV
  rcases pk_ix v1 (n := (mr_al a_op a_number sz).length) (by omega) with b | b | ⟨j, hj, rfl⟩
  · exact bad (Or.inl b)
  · exact bad (Or.inr b)
  · unfold wpX_killer
    refine mr_xno_y hsz hV hR hj (fun a1 a2 a3 a4 a5 a6 a7 a8 a9 a10 a11 a12 a13 a14 a15 a16 a17 a18 a19 a20 hr hRd => ?_)
    have he := List.getElem?_eq_getElem hj
    generalize (mr_al a_op a_number sz)[j] = e at he
    refine br_t rfl ?_
    refine Exists.intro 17 ?_
    refine mr_xkiller14 (sz := sz) (e := e) (by omega) (hRd.2.2.1 j e he) 16 17 (by omega) (by omega) ?_
    exact mr_ykiller_y hsz hV he (fun d1 d2 d3 d4 d5 d6 => ⟨rfl, mr_in hsz hV hT (fun _ => hRd)⟩)
theorem i_vc_killed {k : Nat} {u : SX} {v : SY} (I : i_Rel k u v) (hk : k + 3 ≤ 1536) : wpX_killed (fun r u' => wpY_killed (fun r' v' => r' = r ∧ i_Rel (k + 3) u' v') v) u := by
  refine mr_el (P := fun u v => wpX_killed (fun r u' => wpY_killed (fun r' v' => r' = r ∧ i_Rel (k + 3) u' v') v) u) I ?_
  intro sz tr f_ready f_mutants f_place f_done f_height f_input f_trapped f_changed f_changedOp f_changedNumber g_height g_trapped g_place g_placeOp g_placeNumber a_op a_number a_trial a_at a_newOp a_newNumber a_told a_usual a_pile a_seen a_seenDone a_seenHeight a_seenPile b_pile b_kills hsz hV hT hR
  unfold wpX_killed
  refine mr_xprep hsz hV hR (fun a1 a2 a3 a4 a5 a6 a7 a8 a9 a10 a11 a12 a13 a14 a15 a16 a17 a18 a19 a20 hr hRd => ?_)
  obtain ⟨rfl, -, hto, hu⟩ := id hRd
  have hl := mr_al_len hV
  refine Exists.intro ((mr_al a_op a_number sz).length + 1) (mr_xkilled8 hV hsz hT hto ?_ (mr_al a_op a_number sz).length ((mr_al a_op a_number sz).length + 1) 0 (by omega) (by omega))
  refine mr_ykilled hsz hV hT (fun d1 d2 d3 d4 d5 d6 => ⟨?_, mr_in hsz hV hT (fun _ => hRd)⟩)
  exact congrArg nI (mr_cnt_ext (fun m hm => by rw [decide_eq_true_iff]; exact fun z => z (mr_kf_n hm)) (by omega))
theorem i_vc_equalOnes {k : Nat} {u : SX} {v : SY} (I : i_Rel k u v) (hk : k + 3 ≤ 1536) : wpX_equalOnes (fun r u' => wpY_equalOnes (fun r' v' => r' = r ∧ i_Rel (k + 3) u' v') v) u := by
  refine mr_el (P := fun u v => wpX_equalOnes (fun r u' => wpY_equalOnes (fun r' v' => r' = r ∧ i_Rel (k + 3) u' v') v) u) I ?_
  intro sz tr f_ready f_mutants f_place f_done f_height f_input f_trapped f_changed f_changedOp f_changedNumber g_height g_trapped g_place g_placeOp g_placeNumber a_op a_number a_trial a_at a_newOp a_newNumber a_told a_usual a_pile a_seen a_seenDone a_seenHeight a_seenPile b_pile b_kills hsz hV hT hR
  unfold wpX_equalOnes
  refine mr_xprep hsz hV hR (fun a1 a2 a3 a4 a5 a6 a7 a8 a9 a10 a11 a12 a13 a14 a15 a16 a17 a18 a19 a20 hr hRd => ?_)
  obtain ⟨rfl, -, hto, hu⟩ := id hRd
  have hl := mr_al_len hV
  refine Exists.intro ((mr_al a_op a_number sz).length + 1) (mr_xequal8 hV hsz hto ?_ (mr_al a_op a_number sz).length ((mr_al a_op a_number sz).length + 1) 0 (by omega) (by omega))
  exact mr_yequal hsz hV (fun d1 d2 d3 d4 d5 d6 => ⟨rfl, mr_in hsz hV hT (fun _ => hRd)⟩)
theorem i_vc_needed {k : Nat} {u : SX} {v : SY} (I : i_Rel k u v) (hk : k + 3 ≤ 1536) : wpX_needed (fun r u' => wpY_needed (fun r' v' => r' = r ∧ i_Rel (k + 3) u' v') v) u := by
  refine mr_el (P := fun u v => wpX_needed (fun r u' => wpY_needed (fun r' v' => r' = r ∧ i_Rel (k + 3) u' v') v) u) I ?_
  intro sz tr f_ready f_mutants f_place f_done f_height f_input f_trapped f_changed f_changedOp f_changedNumber g_height g_trapped g_place g_placeOp g_placeNumber a_op a_number a_trial a_at a_newOp a_newNumber a_told a_usual a_pile a_seen a_seenDone a_seenHeight a_seenPile b_pile b_kills hsz hV hT hR
  unfold wpX_needed
  refine mr_xprep hsz hV hR (fun a1 a2 a3 a4 a5 a6 a7 a8 a9 a10 a11 a12 a13 a14 a15 a16 a17 a18 a19 a20 hr hRd => ?_)
  obtain ⟨rfl, -, hto, hu⟩ := id hRd
  have hl := mr_al_len hV
  refine Exists.intro (2 ^ tr + 1) (mr_xneed11 hV hsz hT hto ?_ (2 ^ tr) (2 ^ tr + 1) 0 (by omega) (by omega))
  refine mr_yneed hsz hV hT (fun d1 d2 d3 d4 d5 d6 d7 => ⟨?_, mr_in hsz hV hT (fun _ => hRd)⟩)
  refine congrArg nI ?_
  have eD : mr_D (mr_kf a_op a_number sz a_trial tr) 30 = mr_D (mr_kf a_op a_number sz a_trial tr) (mr_al a_op a_number sz).length := funext (fun s => mr_D_ext (fun m hm => mr_kf_n hm) (by omega) s)
  rw [eD]
  exact mr_nd_eq hT.1 mr_kf_lt
theorem i_vc_leading {k : Nat} {u : SX} {v : SY} (I : i_Rel k u v) (hk : k + 3 ≤ 1536) : wpX_leading (fun r u' => wpY_leading (fun r' v' => r' = r ∧ i_Rel (k + 3) u' v') v) u := by
  refine mr_el (P := fun u v => wpX_leading (fun r u' => wpY_leading (fun r' v' => r' = r ∧ i_Rel (k + 3) u' v') v) u) I ?_
  intro sz tr f_ready f_mutants f_place f_done f_height f_input f_trapped f_changed f_changedOp f_changedNumber g_height g_trapped g_place g_placeOp g_placeNumber a_op a_number a_trial a_at a_newOp a_newNumber a_told a_usual a_pile a_seen a_seenDone a_seenHeight a_seenPile b_pile b_kills hsz hV hT hR
  unfold wpX_leading
  refine mr_xprep hsz hV hR (fun a1 a2 a3 a4 a5 a6 a7 a8 a9 a10 a11 a12 a13 a14 a15 a16 a17 a18 a19 a20 hr hRd => ?_)
  obtain ⟨rfl, -, hto, hu⟩ := id hRd
  have hl := mr_al_len hV
  refine Exists.intro ((mr_al a_op a_number sz).length + 1) (mr_xlead8 hV hsz hT hto ?_ (mr_al a_op a_number sz).length ((mr_al a_op a_number sz).length + 1) 0 (by omega) (by omega))
  refine mr_yleading hsz hV hT (fun d1 d2 d3 d4 d5 d6 d7 => ⟨?_, mr_in hsz hV hT (fun _ => hRd)⟩)
  refine congrArg nI ?_
  have eD : mr_ld (mr_kf a_op a_number sz a_trial tr) 30 = mr_ld (mr_kf a_op a_number sz a_trial tr) (mr_al a_op a_number sz).length := funext (fun m => mr_ld_ext (fun m hm => mr_kf_n hm) (by omega) m)
  rw [eD]
  exact mr_cnt_ext (fun m hm => mr_ld_f0 (mr_kf_n hm)) (by omega)
theorem i_vc_numbers {k : Nat} {u : SX} {v : SY} (I : i_Rel k u v) (hk : k + 3 ≤ 1536) : wpX_numbers (fun r u' => wpY_numbers (fun r' v' => r' = r ∧ i_Rel (k + 3) u' v') v) u := by
  refine mr_el (P := fun u v => wpX_numbers (fun r u' => wpY_numbers (fun r' v' => r' = r ∧ i_Rel (k + 3) u' v') v) u) I ?_
  intro sz tr f_ready f_mutants f_place f_done f_height f_input f_trapped f_changed f_changedOp f_changedNumber g_height g_trapped g_place g_placeOp g_placeNumber a_op a_number a_trial a_at a_newOp a_newNumber a_told a_usual a_pile a_seen a_seenDone a_seenHeight a_seenPile b_pile b_kills hsz hV hT hR
  unfold wpX_numbers
  refine mr_xprep hsz hV hR (fun a1 a2 a3 a4 a5 a6 a7 a8 a9 a10 a11 a12 a13 a14 a15 a16 a17 a18 a19 a20 hr hRd => ?_)
  obtain ⟨rfl, -, hto, hu⟩ := id hRd
  have hl := mr_al_len hV
  refine Exists.intro 17 (mr_xnumbers8 hu ?_ 16 17 0 (by omega) (by omega))
  exact mr_ynumbers hsz hV (fun d1 d2 d3 d4 d5 d6 => ⟨rfl, mr_in hsz hV hT (fun _ => hRd)⟩)
end
