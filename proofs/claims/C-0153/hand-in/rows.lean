section
/-! pure rows to paste: stores, nI and lN arithmetic, masks, shifts, narrowing, branches by naturals (pk_le, pk_lt, pk_eq), loops (lp1 .. lp16: the measure of the state; rp1 ..: recursion), negatives. Take what you need -/
theorem pk_us {f : Nat → Int32} {k : Nat} {x : Int32} : upd f k x k = x := if_pos rfl
theorem pk_un {f : Nat → Int32} {k j : Nat} {x : Int32} (h : j ≠ k) : upd f k x j = f j := if_neg h
theorem pk_uLs {f : Nat → Int64} {k : Nat} {x : Int64} : vp_updL f k x k = x := if_pos rfl
theorem pk_uLn {f : Nat → Int64} {k j : Nat} {x : Int64} (h : j ≠ k) : vp_updL f k x j = f j := if_neg h
theorem pk_sub {a b : Nat} (h : b ≤ a) : nI a - nI b = nI (a - b) := by
  obtain ⟨c, rfl⟩ : ∃ c, a = c + b := ⟨a - b, by omega⟩
  rw [← nI_add, Int32.add_sub_cancel, Nat.add_sub_cancel]
theorem pk_m1 (n : Nat) : nI (n + 1) + (-1) = nI n := by
  rw [← nI_1, Int32.add_assoc, show (1 : Int32) + (-1) = 0 from rfl, Int32.add_zero]
theorem pk_mul (a b : Nat) : nI a * nI b = nI (a * b) := (Int32.ofNat_mul a b).symm
theorem pk_div {a d : Nat} (ha : a < 2 ^ 31) (h0 : 0 < d) (hd : d < 2 ^ 31) : nI a / nI d = nI (a / d) := by
  apply Int32.toInt_inj.mp
  rw [lg_idiv_nonneg (by rw [nI_toInt ha]; omega) (by rw [nI_toInt hd]; omega), nI_toInt ha, nI_toInt hd, nI_toInt (Nat.lt_of_le_of_lt (Nat.div_le_self a d) ha)]
  first | rfl | exact (Int.natCast_ediv _ _).symm
theorem pk_rem {a d : Nat} (ha : a < 2 ^ 31) (h0 : 0 < d) (hd : d < 2 ^ 31) : nI a - nI a / nI d * nI d = nI (a % d) := by
  rw [pk_div ha h0 hd, pk_mul, pk_sub (Nat.div_mul_le_self a d)]
  exact congrArg nI (by have := Nat.div_add_mod' a d; omega)
theorem pk_sub_toInt {a b : Nat} (ha : a < 2 ^ 30) (hb : b < 2 ^ 30) : (nI a - nI b).toInt = (a : Int) - b := by
  rw [Int32.toInt_sub, nI_toInt (by omega), nI_toInt (by omega)]
  exact Int.bmod_eq_of_le (by omega) (by omega)
theorem pk_sneg {a b : Nat} (hb : b < 2 ^ 30) (h : a < b) : nI a - nI b < 0 := by
  rw [Int32.lt_iff_toInt_lt, pk_sub_toInt (by omega) hb, show (0 : Int32).toInt = 0 from by decide]
  omega
theorem pk_ix (x : Int32) {n : Nat} (hn : n < 2 ^ 31) : x < 0 ∨ nI n ≤ x ∨ ∃ j : Nat, j < n ∧ x = nI j := by
  by_cases h : x < 0
  · exact Or.inl h
  · obtain ⟨j, hj, rfl⟩ := nI_of h
    by_cases h2 : j < n
    · exact Or.inr (Or.inr ⟨j, h2, rfl⟩)
    · exact Or.inr (Or.inl (nI_le (by omega) hj))
theorem pk_le {x y : Int32} {A B : Prop} (a b : Nat) (f : a ≤ b → A) (g : b < a → B) (hx : x = nI a := by rfl) (hy : y = nI b := by rfl) (ha : a < 2 ^ 31 := by omega) (hb : b < 2 ^ 31 := by omega) : (x ≤ y → A) ∧ (¬ x ≤ y → B) := by
  subst hx hy
  rw [nI_leI ha hb]
  exact ⟨f, fun z => g (by omega)⟩
theorem pk_lt {x y : Int32} {A B : Prop} (a b : Nat) (f : a < b → A) (g : b ≤ a → B) (hx : x = nI a := by rfl) (hy : y = nI b := by rfl) (ha : a < 2 ^ 31 := by omega) (hb : b < 2 ^ 31 := by omega) : (x < y → A) ∧ (¬ x < y → B) := by
  subst hx hy
  rw [nI_ltI ha hb]
  exact ⟨f, fun z => g (by omega)⟩
theorem pk_eq {x y : Int32} {A B : Prop} (a b : Nat) (f : a = b → A) (g : a ≠ b → B) (hx : x = nI a := by rfl) (hy : y = nI b := by rfl) (ha : a < 2 ^ 31 := by omega) (hb : b < 2 ^ 31 := by omega) : (x = y → A) ∧ (¬ x = y → B) := by
  subst hx hy
  rw [nI_eq ha hb]
  exact ⟨f, g⟩
theorem pk_in {x : Int32} (n N : Nat) (h : n < N) (hx : x = nI n := by rfl) (hN : N < 2 ^ 31 := by omega) : vp_in x N := by
  subst hx
  exact vp_in_nI h hN
theorem pk_cl {x : Int32} (n : Nat) (hx : x = nI n := by rfl) (h : n < 2 ^ 31 := by omega) : x.toNatClampNeg = n := by
  subst hx
  exact nI_clamp h
theorem pk_tn {n : Nat} (h : n < 2 ^ 32) : (nI n).toBitVec.toNat = n := Nat.mod_eq_of_lt h
theorem pk_and (x : Int32) {m : Int32} (k : Nat) (hm : m.toBitVec.toNat = 2 ^ k - 1) : x &&& m = nI (x.toBitVec.toNat % 2 ^ k) := by
  apply Int32.toBitVec_inj.mp
  apply BitVec.eq_of_toNat_eq
  rw [Int32.toBitVec_and, BitVec.toNat_and, hm, Nat.and_two_pow_sub_one_eq_mod]
  show _ = (BitVec.ofNat 32 _).toNat
  rw [BitVec.toNat_ofNat]
  exact (Nat.mod_eq_of_lt (Nat.lt_of_le_of_lt (Nat.mod_le _ _) x.toBitVec.isLt)).symm
theorem pk_andN {n : Nat} (h : n < 2 ^ 32) {m : Int32} (k : Nat) (hm : m.toBitVec.toNat = 2 ^ k - 1) : nI n &&& m = nI (n % 2 ^ k) := by
  rw [pk_and _ k hm, pk_tn h]
theorem pk_andE (x : Int32) {m : Int32} (k : Nat) (hm : m.toBitVec.toNat = 2 ^ k - 1) : ∃ j : Nat, j < 2 ^ k ∧ x &&& m = nI j := ⟨_, Nat.mod_lt _ (Nat.two_pow_pos k), pk_and x k hm⟩
theorem pk_andIn (x : Int32) {m : Int32} (k : Nat) (hm : m.toBitVec.toNat = 2 ^ k - 1) (hk : k ≤ 30) : vp_in (x &&& m) (2 ^ k) := by
  obtain ⟨j, hj, e⟩ := pk_andE x k hm
  rw [e]
  exact vp_in_nI hj (Nat.lt_of_le_of_lt (Nat.pow_le_pow_right (by decide) hk) (by decide))
theorem pk_shl (a s : Int32) (k : Nat) (hs : (s.toBitVec.smod 32).toNat = k) : (a <<< s).toBitVec.toNat = a.toBitVec.toNat * 2 ^ k % 2 ^ 32 := by
  show (a.toBitVec <<< (s.toBitVec.smod 32).toNat).toNat = _
  rw [hs, BitVec.toNat_shiftLeft, Nat.shiftLeft_eq]
theorem pk_shlN {n : Nat} (s : Int32) (k : Nat) (hs : (s.toBitVec.smod 32).toNat = k) (h : n * 2 ^ k < 2 ^ 32) : nI n <<< s = nI (n * 2 ^ k) := by
  apply Int32.toBitVec_inj.mp
  apply BitVec.eq_of_toNat_eq
  have hn : n < 2 ^ 32 := Nat.lt_of_le_of_lt (Nat.le_mul_of_pos_right n (Nat.two_pow_pos k)) h
  rw [pk_shl _ _ k hs, pk_tn hn, pk_tn h, Nat.mod_eq_of_lt h]
theorem pk_shr (a s : Int32) (k : Nat) (hs : (s.toBitVec.smod 32).toNat = k) : (a >>> s).toInt = a.toInt >>> k := by
  show (a.toBitVec.sshiftRight (s.toBitVec.smod 32).toNat).toInt = _
  rw [hs, BitVec.toInt_sshiftRight]
  rfl
theorem pk_shrN {n : Nat} (h : n < 2 ^ 31) (s : Int32) (k : Nat) (hs : (s.toBitVec.smod 32).toNat = k) : nI n >>> s = nI (n / 2 ^ k) := by
  apply Int32.toInt_inj.mp
  have h2 : n / 2 ^ k ≤ n := Nat.div_le_self _ _
  rw [pk_shr _ _ k hs, nI_toInt h, nI_toInt (by omega), Int.shiftRight_eq_div_pow]
  rfl
theorem pk_ushr (x s : Int32) (k : Nat) (hs : ((s.toUInt32 &&& Int32.toUInt32 31).toBitVec % 32).toNat = k) : (x.toUInt32 >>> (s.toUInt32 &&& Int32.toUInt32 31)).toInt32.toBitVec.toNat = x.toBitVec.toNat / 2 ^ k := by
  have e : (x.toUInt32 >>> (s.toUInt32 &&& Int32.toUInt32 31)).toInt32.toBitVec = x.toBitVec >>> k := by
    rw [← hs]
    exact UInt32.toBitVec_shiftRight _ _
  rw [e, BitVec.toNat_ushiftRight, Nat.shiftRight_eq_div_pow]
theorem pk_ushrN {n : Nat} (hn : n < 2 ^ 32) (s : Int32) (k : Nat) (hs : ((s.toUInt32 &&& Int32.toUInt32 31).toBitVec % 32).toNat = k) : ((nI n).toUInt32 >>> (s.toUInt32 &&& Int32.toUInt32 31)).toInt32 = nI (n / 2 ^ k) := by
  apply Int32.toBitVec_inj.mp
  apply BitVec.eq_of_toNat_eq
  rw [pk_ushr _ s k hs, pk_tn hn, pk_tn (Nat.lt_of_le_of_lt (Nat.div_le_self _ _) hn)]
theorem pk_nb (z : Int32) : narrow .byte (.int z.toInt8.toInt32) = .int z.toInt8.toInt32 := congrArg Value.int (by simp)
theorem pk_ns (z : Int32) : narrow .short (.int z.toInt16.toInt32) = .int z.toInt16.toInt32 := congrArg Value.int (by simp)
theorem pk_fb (r : Int32) : fits .byte (.int r.toInt8.toInt32) = true := by
  have ⟨a, b⟩ := lg_i2b_range r
  have h1 : (-128 : Int32).toInt = -128 := by decide
  have h2 : (127 : Int32).toInt = 127 := by decide
  simp only [fits, Bool.and_eq_true, decide_eq_true_eq, Int32.le_iff_toInt_le, h1, h2]
  omega
theorem pk_fs (r : Int32) : fits .short (.int r.toInt16.toInt32) = true := by
  have ⟨a, b⟩ := lg_i2s_range r
  have h1 : (-32768 : Int32).toInt = -32768 := by decide
  have h2 : (32767 : Int32).toInt = 32767 := by decide
  simp only [fits, Bool.and_eq_true, decide_eq_true_eq, Int32.le_iff_toInt_le, h1, h2]
  omega
theorem pk_charN {q : Nat} (hq : q < 65536) : narrow .char (.int (nI q)) = .int (nI q) ∧ fits .char (.int (nI q)) = true := by
  constructor
  · have e : (nI q).toUInt32.toUInt16.toUInt32.toInt32 = nI q := by
      apply Int32.toBitVec_inj.mp
      apply BitVec.eq_of_toNat_eq
      show (nI q).toUInt32.toUInt16.toUInt32.toNat = q % 2 ^ 32
      rw [UInt16.toNat_toUInt32, UInt32.toNat_toUInt16, show (nI q).toUInt32.toNat = q % 2 ^ 32 from rfl]
      omega
    exact congrArg Value.int e
  · have a : (0 : Int32) ≤ nI q := nI_pos' (by omega)
    have b : nI q ≤ 65535 := nI_le (b := 65535) (by omega) (by decide)
    show (decide ((0 : Int32) ≤ nI q) && decide (nI q ≤ 65535)) = true
    rw [decide_eq_true a, decide_eq_true b]
    rfl
theorem pk_char (x : Int32) : (x.toUInt32 % 65536).toInt32 = nI (x.toBitVec.toNat % 65536) := by
  apply Int32.toBitVec_inj.mp
  apply BitVec.eq_of_toNat_eq
  rw [pk_tn (by omega)]
  show (x.toUInt32 % 65536).toNat = _
  rw [UInt32.toNat_mod]
  rfl
theorem pk_nc (x : Int32) : narrow .char (.int (x.toUInt32 % 65536).toInt32) = .int (x.toUInt32 % 65536).toInt32 := by
  rw [pk_char]
  exact (pk_charN (Nat.mod_lt _ (by decide))).1
theorem pk_fc (x : Int32) : fits .char (.int (x.toUInt32 % 65536).toInt32) = true := by
  rw [pk_char]
  exact (pk_charN (Nat.mod_lt _ (by decide))).2
theorem pk_vb (z : Int32) : vp_nar .byte z.toInt8.toInt32 = z.toInt8.toInt32 := by rw [vp_nar_byte]; simp
theorem pk_vs (z : Int32) : vp_nar .short z.toInt16.toInt32 = z.toInt16.toInt32 := by rw [vp_nar_short]; simp
theorem pk_vc (z : Int32) : vp_nar .char (z.toUInt32 % 65536).toInt32 = (z.toUInt32 % 65536).toInt32 := Value.int.inj (pk_nc z)
theorem pk_lT {n : Nat} (h : n < 2 ^ 63) : (lN n).toInt = (n : Int) := lg_ofNat_toInt h
theorem pk_lLT {a b : Nat} (ha : a < 2 ^ 63) (hb : b < 2 ^ 63) : lN a < lN b ↔ a < b := by
  rw [Int64.lt_iff_toInt_lt, pk_lT ha, pk_lT hb]; omega
theorem pk_lLE {a b : Nat} (ha : a < 2 ^ 63) (hb : b < 2 ^ 63) : lN a ≤ lN b ↔ a ≤ b := by
  rw [Int64.le_iff_toInt_le, pk_lT ha, pk_lT hb]; omega
theorem pk_lEQ {a b : Nat} (ha : a < 2 ^ 63) (hb : b < 2 ^ 63) : lN a = lN b ↔ a = b := by
  rw [← Int64.toInt_inj, pk_lT ha, pk_lT hb]; omega
theorem pk_lOf {x : Int64} (h : ¬ x < 0) : ∃ k : Nat, k < 2 ^ 63 ∧ x = lN k := by
  rw [Int64.lt_iff_toInt_lt] at h
  have h0 : (0 : Int64).toInt = 0 := by decide
  have hx := Int64.toInt_lt x
  refine ⟨x.toInt.toNat, by omega, Int64.toInt_inj.mp ?_⟩
  rw [pk_lT (by omega)]
  omega
theorem pk_lDiv {a b : Nat} (ha : a < 2 ^ 63) (h0 : 0 < b) (hb : b < 2 ^ 63) : lN a / lN b = lN (a / b) := by
  apply Int64.toInt_inj.mp
  rw [lg_ldiv_nonneg (by rw [pk_lT ha]; omega) (by rw [pk_lT hb]; omega), pk_lT ha, pk_lT hb, pk_lT (Nat.lt_of_le_of_lt (Nat.div_le_self a b) ha)]
  rfl
theorem pk_lRem {a b : Nat} (ha : a < 2 ^ 63) (h0 : 0 < b) (hb : b < 2 ^ 63) : lN a - lN a / lN b * lN b = lN (a % b) := by
  rw [pk_lDiv ha h0 hb, lN_mul, lN_sub (Nat.div_mul_le_self a b)]
  exact congrArg lN (by have := Nat.div_add_mod' a b; omega)
theorem pk_loop {σ : Type} (W : Nat → Nat → σ → Prop) (I : Nat → σ → Prop) (e i0 : Nat) (s : σ) (hi : i0 ≤ e) (h0 : I i0 s) (hx : ∀ n s, I e s → W (n + 1) e s)
    (hs : ∀ n i s, i < e → I i s → (∀ s', I (i + 1) s' → W n (i + 1) s') → W (n + 1) i s) : ∃ n, W n i0 s :=
  ⟨e + 1, loop_i W I e hx hs (e + 1) i0 s hi (by omega) h0⟩
theorem pk_loopD {σ : Type} (W : Nat → Nat → σ → Prop) (I : Nat → σ → Prop) (hx : ∀ n s, I 0 s → W (n + 1) 0 s)
    (hs : ∀ n i s, I (i + 1) s → (∀ s', I i s' → W n i s') → W (n + 1) (i + 1) s) : ∀ (e : Nat) (s : σ), I e s → W (e + 1) e s := by
  intro e
  induction e with
  | zero => exact fun s h => hx 0 s h
  | succ e ih => exact fun s h => hs (e + 1) e s h (fun s' h' => ih s' h')
theorem lp1 {A1 : Type} (W : Nat → A1 → Prop) (I : A1 → Prop) (μ : A1 → Nat) (hs : ∀ (n : Nat) (a1 : A1), I a1 → (∀ (b1 : A1), I b1 → μ b1 < μ a1 → W n b1) → W (n + 1) a1) (a1 : A1) (h : I a1) : ∃ n, W n a1 :=
  loop_m (σ := A1) (fun n s => W n s) (fun s => I s) (fun s => μ s) (fun n s hI hk => hs n s hI (fun b1 h9 hm => hk b1 h9 hm)) a1 h
theorem lp2 {A1 A2 : Type} (W : Nat → A1 → A2 → Prop) (I : A1 → A2 → Prop) (μ : A1 → A2 → Nat) (hs : ∀ (n : Nat) (a1 : A1) (a2 : A2), I a1 a2 → (∀ (b1 : A1) (b2 : A2), I b1 b2 → μ b1 b2 < μ a1 a2 → W n b1 b2) → W (n + 1) a1 a2) (a1 : A1) (a2 : A2) (h : I a1 a2) : ∃ n, W n a1 a2 :=
  loop_m (σ := A1 × A2) (fun n s => W n s.1 s.2) (fun s => I s.1 s.2) (fun s => μ s.1 s.2) (fun n s hI hk => hs n s.1 s.2 hI (fun b1 b2 h9 hm => hk (b1, b2) h9 hm)) (a1, a2) h
theorem lp3 {A1 A2 A3 : Type} (W : Nat → A1 → A2 → A3 → Prop) (I : A1 → A2 → A3 → Prop) (μ : A1 → A2 → A3 → Nat) (hs : ∀ (n : Nat) (a1 : A1) (a2 : A2) (a3 : A3), I a1 a2 a3 → (∀ (b1 : A1) (b2 : A2) (b3 : A3), I b1 b2 b3 → μ b1 b2 b3 < μ a1 a2 a3 → W n b1 b2 b3) → W (n + 1) a1 a2 a3) (a1 : A1) (a2 : A2) (a3 : A3) (h : I a1 a2 a3) : ∃ n, W n a1 a2 a3 :=
  loop_m (σ := A1 × A2 × A3) (fun n s => W n s.1 s.2.1 s.2.2) (fun s => I s.1 s.2.1 s.2.2) (fun s => μ s.1 s.2.1 s.2.2) (fun n s hI hk => hs n s.1 s.2.1 s.2.2 hI (fun b1 b2 b3 h9 hm => hk (b1, b2, b3) h9 hm)) (a1, a2, a3) h
theorem lp4 {A1 A2 A3 A4 : Type} (W : Nat → A1 → A2 → A3 → A4 → Prop) (I : A1 → A2 → A3 → A4 → Prop) (μ : A1 → A2 → A3 → A4 → Nat) (hs : ∀ (n : Nat) (a1 : A1) (a2 : A2) (a3 : A3) (a4 : A4), I a1 a2 a3 a4 → (∀ (b1 : A1) (b2 : A2) (b3 : A3) (b4 : A4), I b1 b2 b3 b4 → μ b1 b2 b3 b4 < μ a1 a2 a3 a4 → W n b1 b2 b3 b4) → W (n + 1) a1 a2 a3 a4) (a1 : A1) (a2 : A2) (a3 : A3) (a4 : A4) (h : I a1 a2 a3 a4) : ∃ n, W n a1 a2 a3 a4 :=
  loop_m (σ := A1 × A2 × A3 × A4) (fun n s => W n s.1 s.2.1 s.2.2.1 s.2.2.2) (fun s => I s.1 s.2.1 s.2.2.1 s.2.2.2) (fun s => μ s.1 s.2.1 s.2.2.1 s.2.2.2) (fun n s hI hk => hs n s.1 s.2.1 s.2.2.1 s.2.2.2 hI (fun b1 b2 b3 b4 h9 hm => hk (b1, b2, b3, b4) h9 hm)) (a1, a2, a3, a4) h
theorem lp5 {A1 A2 A3 A4 A5 : Type} (W : Nat → A1 → A2 → A3 → A4 → A5 → Prop) (I : A1 → A2 → A3 → A4 → A5 → Prop) (μ : A1 → A2 → A3 → A4 → A5 → Nat) (hs : ∀ (n : Nat) (a1 : A1) (a2 : A2) (a3 : A3) (a4 : A4) (a5 : A5), I a1 a2 a3 a4 a5 → (∀ (b1 : A1) (b2 : A2) (b3 : A3) (b4 : A4) (b5 : A5), I b1 b2 b3 b4 b5 → μ b1 b2 b3 b4 b5 < μ a1 a2 a3 a4 a5 → W n b1 b2 b3 b4 b5) → W (n + 1) a1 a2 a3 a4 a5) (a1 : A1) (a2 : A2) (a3 : A3) (a4 : A4) (a5 : A5) (h : I a1 a2 a3 a4 a5) : ∃ n, W n a1 a2 a3 a4 a5 :=
  loop_m (σ := A1 × A2 × A3 × A4 × A5) (fun n s => W n s.1 s.2.1 s.2.2.1 s.2.2.2.1 s.2.2.2.2) (fun s => I s.1 s.2.1 s.2.2.1 s.2.2.2.1 s.2.2.2.2) (fun s => μ s.1 s.2.1 s.2.2.1 s.2.2.2.1 s.2.2.2.2) (fun n s hI hk => hs n s.1 s.2.1 s.2.2.1 s.2.2.2.1 s.2.2.2.2 hI (fun b1 b2 b3 b4 b5 h9 hm => hk (b1, b2, b3, b4, b5) h9 hm)) (a1, a2, a3, a4, a5) h
theorem lp6 {A1 A2 A3 A4 A5 A6 : Type} (W : Nat → A1 → A2 → A3 → A4 → A5 → A6 → Prop) (I : A1 → A2 → A3 → A4 → A5 → A6 → Prop) (μ : A1 → A2 → A3 → A4 → A5 → A6 → Nat) (hs : ∀ (n : Nat) (a1 : A1) (a2 : A2) (a3 : A3) (a4 : A4) (a5 : A5) (a6 : A6), I a1 a2 a3 a4 a5 a6 → (∀ (b1 : A1) (b2 : A2) (b3 : A3) (b4 : A4) (b5 : A5) (b6 : A6), I b1 b2 b3 b4 b5 b6 → μ b1 b2 b3 b4 b5 b6 < μ a1 a2 a3 a4 a5 a6 → W n b1 b2 b3 b4 b5 b6) → W (n + 1) a1 a2 a3 a4 a5 a6) (a1 : A1) (a2 : A2) (a3 : A3) (a4 : A4) (a5 : A5) (a6 : A6) (h : I a1 a2 a3 a4 a5 a6) : ∃ n, W n a1 a2 a3 a4 a5 a6 :=
  loop_m (σ := A1 × A2 × A3 × A4 × A5 × A6) (fun n s => W n s.1 s.2.1 s.2.2.1 s.2.2.2.1 s.2.2.2.2.1 s.2.2.2.2.2) (fun s => I s.1 s.2.1 s.2.2.1 s.2.2.2.1 s.2.2.2.2.1 s.2.2.2.2.2) (fun s => μ s.1 s.2.1 s.2.2.1 s.2.2.2.1 s.2.2.2.2.1 s.2.2.2.2.2) (fun n s hI hk => hs n s.1 s.2.1 s.2.2.1 s.2.2.2.1 s.2.2.2.2.1 s.2.2.2.2.2 hI (fun b1 b2 b3 b4 b5 b6 h9 hm => hk (b1, b2, b3, b4, b5, b6) h9 hm)) (a1, a2, a3, a4, a5, a6) h
theorem lp7 {A1 A2 A3 A4 A5 A6 A7 : Type} (W : Nat → A1 → A2 → A3 → A4 → A5 → A6 → A7 → Prop) (I : A1 → A2 → A3 → A4 → A5 → A6 → A7 → Prop) (μ : A1 → A2 → A3 → A4 → A5 → A6 → A7 → Nat) (hs : ∀ (n : Nat) (a1 : A1) (a2 : A2) (a3 : A3) (a4 : A4) (a5 : A5) (a6 : A6) (a7 : A7), I a1 a2 a3 a4 a5 a6 a7 → (∀ (b1 : A1) (b2 : A2) (b3 : A3) (b4 : A4) (b5 : A5) (b6 : A6) (b7 : A7), I b1 b2 b3 b4 b5 b6 b7 → μ b1 b2 b3 b4 b5 b6 b7 < μ a1 a2 a3 a4 a5 a6 a7 → W n b1 b2 b3 b4 b5 b6 b7) → W (n + 1) a1 a2 a3 a4 a5 a6 a7) (a1 : A1) (a2 : A2) (a3 : A3) (a4 : A4) (a5 : A5) (a6 : A6) (a7 : A7) (h : I a1 a2 a3 a4 a5 a6 a7) : ∃ n, W n a1 a2 a3 a4 a5 a6 a7 :=
  loop_m (σ := A1 × A2 × A3 × A4 × A5 × A6 × A7) (fun n s => W n s.1 s.2.1 s.2.2.1 s.2.2.2.1 s.2.2.2.2.1 s.2.2.2.2.2.1 s.2.2.2.2.2.2) (fun s => I s.1 s.2.1 s.2.2.1 s.2.2.2.1 s.2.2.2.2.1 s.2.2.2.2.2.1 s.2.2.2.2.2.2) (fun s => μ s.1 s.2.1 s.2.2.1 s.2.2.2.1 s.2.2.2.2.1 s.2.2.2.2.2.1 s.2.2.2.2.2.2) (fun n s hI hk => hs n s.1 s.2.1 s.2.2.1 s.2.2.2.1 s.2.2.2.2.1 s.2.2.2.2.2.1 s.2.2.2.2.2.2 hI (fun b1 b2 b3 b4 b5 b6 b7 h9 hm => hk (b1, b2, b3, b4, b5, b6, b7) h9 hm)) (a1, a2, a3, a4, a5, a6, a7) h
theorem lp8 {A1 A2 A3 A4 A5 A6 A7 A8 : Type} (W : Nat → A1 → A2 → A3 → A4 → A5 → A6 → A7 → A8 → Prop) (I : A1 → A2 → A3 → A4 → A5 → A6 → A7 → A8 → Prop) (μ : A1 → A2 → A3 → A4 → A5 → A6 → A7 → A8 → Nat) (hs : ∀ (n : Nat) (a1 : A1) (a2 : A2) (a3 : A3) (a4 : A4) (a5 : A5) (a6 : A6) (a7 : A7) (a8 : A8), I a1 a2 a3 a4 a5 a6 a7 a8 → (∀ (b1 : A1) (b2 : A2) (b3 : A3) (b4 : A4) (b5 : A5) (b6 : A6) (b7 : A7) (b8 : A8), I b1 b2 b3 b4 b5 b6 b7 b8 → μ b1 b2 b3 b4 b5 b6 b7 b8 < μ a1 a2 a3 a4 a5 a6 a7 a8 → W n b1 b2 b3 b4 b5 b6 b7 b8) → W (n + 1) a1 a2 a3 a4 a5 a6 a7 a8) (a1 : A1) (a2 : A2) (a3 : A3) (a4 : A4) (a5 : A5) (a6 : A6) (a7 : A7) (a8 : A8) (h : I a1 a2 a3 a4 a5 a6 a7 a8) : ∃ n, W n a1 a2 a3 a4 a5 a6 a7 a8 :=
  loop_m (σ := A1 × A2 × A3 × A4 × A5 × A6 × A7 × A8) (fun n s => W n s.1 s.2.1 s.2.2.1 s.2.2.2.1 s.2.2.2.2.1 s.2.2.2.2.2.1 s.2.2.2.2.2.2.1 s.2.2.2.2.2.2.2) (fun s => I s.1 s.2.1 s.2.2.1 s.2.2.2.1 s.2.2.2.2.1 s.2.2.2.2.2.1 s.2.2.2.2.2.2.1 s.2.2.2.2.2.2.2) (fun s => μ s.1 s.2.1 s.2.2.1 s.2.2.2.1 s.2.2.2.2.1 s.2.2.2.2.2.1 s.2.2.2.2.2.2.1 s.2.2.2.2.2.2.2) (fun n s hI hk => hs n s.1 s.2.1 s.2.2.1 s.2.2.2.1 s.2.2.2.2.1 s.2.2.2.2.2.1 s.2.2.2.2.2.2.1 s.2.2.2.2.2.2.2 hI (fun b1 b2 b3 b4 b5 b6 b7 b8 h9 hm => hk (b1, b2, b3, b4, b5, b6, b7, b8) h9 hm)) (a1, a2, a3, a4, a5, a6, a7, a8) h
theorem lp9 {A1 A2 A3 A4 A5 A6 A7 A8 A9 : Type} (W : Nat → A1 → A2 → A3 → A4 → A5 → A6 → A7 → A8 → A9 → Prop) (I : A1 → A2 → A3 → A4 → A5 → A6 → A7 → A8 → A9 → Prop) (μ : A1 → A2 → A3 → A4 → A5 → A6 → A7 → A8 → A9 → Nat) (hs : ∀ (n : Nat) (a1 : A1) (a2 : A2) (a3 : A3) (a4 : A4) (a5 : A5) (a6 : A6) (a7 : A7) (a8 : A8) (a9 : A9), I a1 a2 a3 a4 a5 a6 a7 a8 a9 → (∀ (b1 : A1) (b2 : A2) (b3 : A3) (b4 : A4) (b5 : A5) (b6 : A6) (b7 : A7) (b8 : A8) (b9 : A9), I b1 b2 b3 b4 b5 b6 b7 b8 b9 → μ b1 b2 b3 b4 b5 b6 b7 b8 b9 < μ a1 a2 a3 a4 a5 a6 a7 a8 a9 → W n b1 b2 b3 b4 b5 b6 b7 b8 b9) → W (n + 1) a1 a2 a3 a4 a5 a6 a7 a8 a9) (a1 : A1) (a2 : A2) (a3 : A3) (a4 : A4) (a5 : A5) (a6 : A6) (a7 : A7) (a8 : A8) (a9 : A9) (h : I a1 a2 a3 a4 a5 a6 a7 a8 a9) : ∃ n, W n a1 a2 a3 a4 a5 a6 a7 a8 a9 :=
  loop_m (σ := A1 × A2 × A3 × A4 × A5 × A6 × A7 × A8 × A9) (fun n s => W n s.1 s.2.1 s.2.2.1 s.2.2.2.1 s.2.2.2.2.1 s.2.2.2.2.2.1 s.2.2.2.2.2.2.1 s.2.2.2.2.2.2.2.1 s.2.2.2.2.2.2.2.2) (fun s => I s.1 s.2.1 s.2.2.1 s.2.2.2.1 s.2.2.2.2.1 s.2.2.2.2.2.1 s.2.2.2.2.2.2.1 s.2.2.2.2.2.2.2.1 s.2.2.2.2.2.2.2.2) (fun s => μ s.1 s.2.1 s.2.2.1 s.2.2.2.1 s.2.2.2.2.1 s.2.2.2.2.2.1 s.2.2.2.2.2.2.1 s.2.2.2.2.2.2.2.1 s.2.2.2.2.2.2.2.2) (fun n s hI hk => hs n s.1 s.2.1 s.2.2.1 s.2.2.2.1 s.2.2.2.2.1 s.2.2.2.2.2.1 s.2.2.2.2.2.2.1 s.2.2.2.2.2.2.2.1 s.2.2.2.2.2.2.2.2 hI (fun b1 b2 b3 b4 b5 b6 b7 b8 b9 h9 hm => hk (b1, b2, b3, b4, b5, b6, b7, b8, b9) h9 hm)) (a1, a2, a3, a4, a5, a6, a7, a8, a9) h
theorem lp10 {A1 A2 A3 A4 A5 A6 A7 A8 A9 A10 : Type} (W : Nat → A1 → A2 → A3 → A4 → A5 → A6 → A7 → A8 → A9 → A10 → Prop) (I : A1 → A2 → A3 → A4 → A5 → A6 → A7 → A8 → A9 → A10 → Prop) (μ : A1 → A2 → A3 → A4 → A5 → A6 → A7 → A8 → A9 → A10 → Nat) (hs : ∀ (n : Nat) (a1 : A1) (a2 : A2) (a3 : A3) (a4 : A4) (a5 : A5) (a6 : A6) (a7 : A7) (a8 : A8) (a9 : A9) (a10 : A10), I a1 a2 a3 a4 a5 a6 a7 a8 a9 a10 → (∀ (b1 : A1) (b2 : A2) (b3 : A3) (b4 : A4) (b5 : A5) (b6 : A6) (b7 : A7) (b8 : A8) (b9 : A9) (b10 : A10), I b1 b2 b3 b4 b5 b6 b7 b8 b9 b10 → μ b1 b2 b3 b4 b5 b6 b7 b8 b9 b10 < μ a1 a2 a3 a4 a5 a6 a7 a8 a9 a10 → W n b1 b2 b3 b4 b5 b6 b7 b8 b9 b10) → W (n + 1) a1 a2 a3 a4 a5 a6 a7 a8 a9 a10) (a1 : A1) (a2 : A2) (a3 : A3) (a4 : A4) (a5 : A5) (a6 : A6) (a7 : A7) (a8 : A8) (a9 : A9) (a10 : A10) (h : I a1 a2 a3 a4 a5 a6 a7 a8 a9 a10) : ∃ n, W n a1 a2 a3 a4 a5 a6 a7 a8 a9 a10 :=
  loop_m (σ := A1 × A2 × A3 × A4 × A5 × A6 × A7 × A8 × A9 × A10) (fun n s => W n s.1 s.2.1 s.2.2.1 s.2.2.2.1 s.2.2.2.2.1 s.2.2.2.2.2.1 s.2.2.2.2.2.2.1 s.2.2.2.2.2.2.2.1 s.2.2.2.2.2.2.2.2.1 s.2.2.2.2.2.2.2.2.2) (fun s => I s.1 s.2.1 s.2.2.1 s.2.2.2.1 s.2.2.2.2.1 s.2.2.2.2.2.1 s.2.2.2.2.2.2.1 s.2.2.2.2.2.2.2.1 s.2.2.2.2.2.2.2.2.1 s.2.2.2.2.2.2.2.2.2) (fun s => μ s.1 s.2.1 s.2.2.1 s.2.2.2.1 s.2.2.2.2.1 s.2.2.2.2.2.1 s.2.2.2.2.2.2.1 s.2.2.2.2.2.2.2.1 s.2.2.2.2.2.2.2.2.1 s.2.2.2.2.2.2.2.2.2) (fun n s hI hk => hs n s.1 s.2.1 s.2.2.1 s.2.2.2.1 s.2.2.2.2.1 s.2.2.2.2.2.1 s.2.2.2.2.2.2.1 s.2.2.2.2.2.2.2.1 s.2.2.2.2.2.2.2.2.1 s.2.2.2.2.2.2.2.2.2 hI (fun b1 b2 b3 b4 b5 b6 b7 b8 b9 b10 h9 hm => hk (b1, b2, b3, b4, b5, b6, b7, b8, b9, b10) h9 hm)) (a1, a2, a3, a4, a5, a6, a7, a8, a9, a10) h
theorem lp11 {A1 A2 A3 A4 A5 A6 A7 A8 A9 A10 A11 : Type} (W : Nat → A1 → A2 → A3 → A4 → A5 → A6 → A7 → A8 → A9 → A10 → A11 → Prop) (I : A1 → A2 → A3 → A4 → A5 → A6 → A7 → A8 → A9 → A10 → A11 → Prop) (μ : A1 → A2 → A3 → A4 → A5 → A6 → A7 → A8 → A9 → A10 → A11 → Nat) (hs : ∀ (n : Nat) (a1 : A1) (a2 : A2) (a3 : A3) (a4 : A4) (a5 : A5) (a6 : A6) (a7 : A7) (a8 : A8) (a9 : A9) (a10 : A10) (a11 : A11), I a1 a2 a3 a4 a5 a6 a7 a8 a9 a10 a11 → (∀ (b1 : A1) (b2 : A2) (b3 : A3) (b4 : A4) (b5 : A5) (b6 : A6) (b7 : A7) (b8 : A8) (b9 : A9) (b10 : A10) (b11 : A11), I b1 b2 b3 b4 b5 b6 b7 b8 b9 b10 b11 → μ b1 b2 b3 b4 b5 b6 b7 b8 b9 b10 b11 < μ a1 a2 a3 a4 a5 a6 a7 a8 a9 a10 a11 → W n b1 b2 b3 b4 b5 b6 b7 b8 b9 b10 b11) → W (n + 1) a1 a2 a3 a4 a5 a6 a7 a8 a9 a10 a11) (a1 : A1) (a2 : A2) (a3 : A3) (a4 : A4) (a5 : A5) (a6 : A6) (a7 : A7) (a8 : A8) (a9 : A9) (a10 : A10) (a11 : A11) (h : I a1 a2 a3 a4 a5 a6 a7 a8 a9 a10 a11) : ∃ n, W n a1 a2 a3 a4 a5 a6 a7 a8 a9 a10 a11 :=
  loop_m (σ := A1 × A2 × A3 × A4 × A5 × A6 × A7 × A8 × A9 × A10 × A11) (fun n s => W n s.1 s.2.1 s.2.2.1 s.2.2.2.1 s.2.2.2.2.1 s.2.2.2.2.2.1 s.2.2.2.2.2.2.1 s.2.2.2.2.2.2.2.1 s.2.2.2.2.2.2.2.2.1 s.2.2.2.2.2.2.2.2.2.1 s.2.2.2.2.2.2.2.2.2.2) (fun s => I s.1 s.2.1 s.2.2.1 s.2.2.2.1 s.2.2.2.2.1 s.2.2.2.2.2.1 s.2.2.2.2.2.2.1 s.2.2.2.2.2.2.2.1 s.2.2.2.2.2.2.2.2.1 s.2.2.2.2.2.2.2.2.2.1 s.2.2.2.2.2.2.2.2.2.2) (fun s => μ s.1 s.2.1 s.2.2.1 s.2.2.2.1 s.2.2.2.2.1 s.2.2.2.2.2.1 s.2.2.2.2.2.2.1 s.2.2.2.2.2.2.2.1 s.2.2.2.2.2.2.2.2.1 s.2.2.2.2.2.2.2.2.2.1 s.2.2.2.2.2.2.2.2.2.2) (fun n s hI hk => hs n s.1 s.2.1 s.2.2.1 s.2.2.2.1 s.2.2.2.2.1 s.2.2.2.2.2.1 s.2.2.2.2.2.2.1 s.2.2.2.2.2.2.2.1 s.2.2.2.2.2.2.2.2.1 s.2.2.2.2.2.2.2.2.2.1 s.2.2.2.2.2.2.2.2.2.2 hI (fun b1 b2 b3 b4 b5 b6 b7 b8 b9 b10 b11 h9 hm => hk (b1, b2, b3, b4, b5, b6, b7, b8, b9, b10, b11) h9 hm)) (a1, a2, a3, a4, a5, a6, a7, a8, a9, a10, a11) h
theorem lp12 {A1 A2 A3 A4 A5 A6 A7 A8 A9 A10 A11 A12 : Type} (W : Nat → A1 → A2 → A3 → A4 → A5 → A6 → A7 → A8 → A9 → A10 → A11 → A12 → Prop) (I : A1 → A2 → A3 → A4 → A5 → A6 → A7 → A8 → A9 → A10 → A11 → A12 → Prop) (μ : A1 → A2 → A3 → A4 → A5 → A6 → A7 → A8 → A9 → A10 → A11 → A12 → Nat) (hs : ∀ (n : Nat) (a1 : A1) (a2 : A2) (a3 : A3) (a4 : A4) (a5 : A5) (a6 : A6) (a7 : A7) (a8 : A8) (a9 : A9) (a10 : A10) (a11 : A11) (a12 : A12), I a1 a2 a3 a4 a5 a6 a7 a8 a9 a10 a11 a12 → (∀ (b1 : A1) (b2 : A2) (b3 : A3) (b4 : A4) (b5 : A5) (b6 : A6) (b7 : A7) (b8 : A8) (b9 : A9) (b10 : A10) (b11 : A11) (b12 : A12), I b1 b2 b3 b4 b5 b6 b7 b8 b9 b10 b11 b12 → μ b1 b2 b3 b4 b5 b6 b7 b8 b9 b10 b11 b12 < μ a1 a2 a3 a4 a5 a6 a7 a8 a9 a10 a11 a12 → W n b1 b2 b3 b4 b5 b6 b7 b8 b9 b10 b11 b12) → W (n + 1) a1 a2 a3 a4 a5 a6 a7 a8 a9 a10 a11 a12) (a1 : A1) (a2 : A2) (a3 : A3) (a4 : A4) (a5 : A5) (a6 : A6) (a7 : A7) (a8 : A8) (a9 : A9) (a10 : A10) (a11 : A11) (a12 : A12) (h : I a1 a2 a3 a4 a5 a6 a7 a8 a9 a10 a11 a12) : ∃ n, W n a1 a2 a3 a4 a5 a6 a7 a8 a9 a10 a11 a12 :=
  loop_m (σ := A1 × A2 × A3 × A4 × A5 × A6 × A7 × A8 × A9 × A10 × A11 × A12) (fun n s => W n s.1 s.2.1 s.2.2.1 s.2.2.2.1 s.2.2.2.2.1 s.2.2.2.2.2.1 s.2.2.2.2.2.2.1 s.2.2.2.2.2.2.2.1 s.2.2.2.2.2.2.2.2.1 s.2.2.2.2.2.2.2.2.2.1 s.2.2.2.2.2.2.2.2.2.2.1 s.2.2.2.2.2.2.2.2.2.2.2) (fun s => I s.1 s.2.1 s.2.2.1 s.2.2.2.1 s.2.2.2.2.1 s.2.2.2.2.2.1 s.2.2.2.2.2.2.1 s.2.2.2.2.2.2.2.1 s.2.2.2.2.2.2.2.2.1 s.2.2.2.2.2.2.2.2.2.1 s.2.2.2.2.2.2.2.2.2.2.1 s.2.2.2.2.2.2.2.2.2.2.2) (fun s => μ s.1 s.2.1 s.2.2.1 s.2.2.2.1 s.2.2.2.2.1 s.2.2.2.2.2.1 s.2.2.2.2.2.2.1 s.2.2.2.2.2.2.2.1 s.2.2.2.2.2.2.2.2.1 s.2.2.2.2.2.2.2.2.2.1 s.2.2.2.2.2.2.2.2.2.2.1 s.2.2.2.2.2.2.2.2.2.2.2) (fun n s hI hk => hs n s.1 s.2.1 s.2.2.1 s.2.2.2.1 s.2.2.2.2.1 s.2.2.2.2.2.1 s.2.2.2.2.2.2.1 s.2.2.2.2.2.2.2.1 s.2.2.2.2.2.2.2.2.1 s.2.2.2.2.2.2.2.2.2.1 s.2.2.2.2.2.2.2.2.2.2.1 s.2.2.2.2.2.2.2.2.2.2.2 hI (fun b1 b2 b3 b4 b5 b6 b7 b8 b9 b10 b11 b12 h9 hm => hk (b1, b2, b3, b4, b5, b6, b7, b8, b9, b10, b11, b12) h9 hm)) (a1, a2, a3, a4, a5, a6, a7, a8, a9, a10, a11, a12) h
theorem lp13 {A1 A2 A3 A4 A5 A6 A7 A8 A9 A10 A11 A12 A13 : Type} (W : Nat → A1 → A2 → A3 → A4 → A5 → A6 → A7 → A8 → A9 → A10 → A11 → A12 → A13 → Prop) (I : A1 → A2 → A3 → A4 → A5 → A6 → A7 → A8 → A9 → A10 → A11 → A12 → A13 → Prop) (μ : A1 → A2 → A3 → A4 → A5 → A6 → A7 → A8 → A9 → A10 → A11 → A12 → A13 → Nat) (hs : ∀ (n : Nat) (a1 : A1) (a2 : A2) (a3 : A3) (a4 : A4) (a5 : A5) (a6 : A6) (a7 : A7) (a8 : A8) (a9 : A9) (a10 : A10) (a11 : A11) (a12 : A12) (a13 : A13), I a1 a2 a3 a4 a5 a6 a7 a8 a9 a10 a11 a12 a13 → (∀ (b1 : A1) (b2 : A2) (b3 : A3) (b4 : A4) (b5 : A5) (b6 : A6) (b7 : A7) (b8 : A8) (b9 : A9) (b10 : A10) (b11 : A11) (b12 : A12) (b13 : A13), I b1 b2 b3 b4 b5 b6 b7 b8 b9 b10 b11 b12 b13 → μ b1 b2 b3 b4 b5 b6 b7 b8 b9 b10 b11 b12 b13 < μ a1 a2 a3 a4 a5 a6 a7 a8 a9 a10 a11 a12 a13 → W n b1 b2 b3 b4 b5 b6 b7 b8 b9 b10 b11 b12 b13) → W (n + 1) a1 a2 a3 a4 a5 a6 a7 a8 a9 a10 a11 a12 a13) (a1 : A1) (a2 : A2) (a3 : A3) (a4 : A4) (a5 : A5) (a6 : A6) (a7 : A7) (a8 : A8) (a9 : A9) (a10 : A10) (a11 : A11) (a12 : A12) (a13 : A13) (h : I a1 a2 a3 a4 a5 a6 a7 a8 a9 a10 a11 a12 a13) : ∃ n, W n a1 a2 a3 a4 a5 a6 a7 a8 a9 a10 a11 a12 a13 :=
  loop_m (σ := A1 × A2 × A3 × A4 × A5 × A6 × A7 × A8 × A9 × A10 × A11 × A12 × A13) (fun n s => W n s.1 s.2.1 s.2.2.1 s.2.2.2.1 s.2.2.2.2.1 s.2.2.2.2.2.1 s.2.2.2.2.2.2.1 s.2.2.2.2.2.2.2.1 s.2.2.2.2.2.2.2.2.1 s.2.2.2.2.2.2.2.2.2.1 s.2.2.2.2.2.2.2.2.2.2.1 s.2.2.2.2.2.2.2.2.2.2.2.1 s.2.2.2.2.2.2.2.2.2.2.2.2) (fun s => I s.1 s.2.1 s.2.2.1 s.2.2.2.1 s.2.2.2.2.1 s.2.2.2.2.2.1 s.2.2.2.2.2.2.1 s.2.2.2.2.2.2.2.1 s.2.2.2.2.2.2.2.2.1 s.2.2.2.2.2.2.2.2.2.1 s.2.2.2.2.2.2.2.2.2.2.1 s.2.2.2.2.2.2.2.2.2.2.2.1 s.2.2.2.2.2.2.2.2.2.2.2.2) (fun s => μ s.1 s.2.1 s.2.2.1 s.2.2.2.1 s.2.2.2.2.1 s.2.2.2.2.2.1 s.2.2.2.2.2.2.1 s.2.2.2.2.2.2.2.1 s.2.2.2.2.2.2.2.2.1 s.2.2.2.2.2.2.2.2.2.1 s.2.2.2.2.2.2.2.2.2.2.1 s.2.2.2.2.2.2.2.2.2.2.2.1 s.2.2.2.2.2.2.2.2.2.2.2.2) (fun n s hI hk => hs n s.1 s.2.1 s.2.2.1 s.2.2.2.1 s.2.2.2.2.1 s.2.2.2.2.2.1 s.2.2.2.2.2.2.1 s.2.2.2.2.2.2.2.1 s.2.2.2.2.2.2.2.2.1 s.2.2.2.2.2.2.2.2.2.1 s.2.2.2.2.2.2.2.2.2.2.1 s.2.2.2.2.2.2.2.2.2.2.2.1 s.2.2.2.2.2.2.2.2.2.2.2.2 hI (fun b1 b2 b3 b4 b5 b6 b7 b8 b9 b10 b11 b12 b13 h9 hm => hk (b1, b2, b3, b4, b5, b6, b7, b8, b9, b10, b11, b12, b13) h9 hm)) (a1, a2, a3, a4, a5, a6, a7, a8, a9, a10, a11, a12, a13) h
theorem lp14 {A1 A2 A3 A4 A5 A6 A7 A8 A9 A10 A11 A12 A13 A14 : Type} (W : Nat → A1 → A2 → A3 → A4 → A5 → A6 → A7 → A8 → A9 → A10 → A11 → A12 → A13 → A14 → Prop) (I : A1 → A2 → A3 → A4 → A5 → A6 → A7 → A8 → A9 → A10 → A11 → A12 → A13 → A14 → Prop) (μ : A1 → A2 → A3 → A4 → A5 → A6 → A7 → A8 → A9 → A10 → A11 → A12 → A13 → A14 → Nat) (hs : ∀ (n : Nat) (a1 : A1) (a2 : A2) (a3 : A3) (a4 : A4) (a5 : A5) (a6 : A6) (a7 : A7) (a8 : A8) (a9 : A9) (a10 : A10) (a11 : A11) (a12 : A12) (a13 : A13) (a14 : A14), I a1 a2 a3 a4 a5 a6 a7 a8 a9 a10 a11 a12 a13 a14 → (∀ (b1 : A1) (b2 : A2) (b3 : A3) (b4 : A4) (b5 : A5) (b6 : A6) (b7 : A7) (b8 : A8) (b9 : A9) (b10 : A10) (b11 : A11) (b12 : A12) (b13 : A13) (b14 : A14), I b1 b2 b3 b4 b5 b6 b7 b8 b9 b10 b11 b12 b13 b14 → μ b1 b2 b3 b4 b5 b6 b7 b8 b9 b10 b11 b12 b13 b14 < μ a1 a2 a3 a4 a5 a6 a7 a8 a9 a10 a11 a12 a13 a14 → W n b1 b2 b3 b4 b5 b6 b7 b8 b9 b10 b11 b12 b13 b14) → W (n + 1) a1 a2 a3 a4 a5 a6 a7 a8 a9 a10 a11 a12 a13 a14) (a1 : A1) (a2 : A2) (a3 : A3) (a4 : A4) (a5 : A5) (a6 : A6) (a7 : A7) (a8 : A8) (a9 : A9) (a10 : A10) (a11 : A11) (a12 : A12) (a13 : A13) (a14 : A14) (h : I a1 a2 a3 a4 a5 a6 a7 a8 a9 a10 a11 a12 a13 a14) : ∃ n, W n a1 a2 a3 a4 a5 a6 a7 a8 a9 a10 a11 a12 a13 a14 :=
  loop_m (σ := A1 × A2 × A3 × A4 × A5 × A6 × A7 × A8 × A9 × A10 × A11 × A12 × A13 × A14) (fun n s => W n s.1 s.2.1 s.2.2.1 s.2.2.2.1 s.2.2.2.2.1 s.2.2.2.2.2.1 s.2.2.2.2.2.2.1 s.2.2.2.2.2.2.2.1 s.2.2.2.2.2.2.2.2.1 s.2.2.2.2.2.2.2.2.2.1 s.2.2.2.2.2.2.2.2.2.2.1 s.2.2.2.2.2.2.2.2.2.2.2.1 s.2.2.2.2.2.2.2.2.2.2.2.2.1 s.2.2.2.2.2.2.2.2.2.2.2.2.2) (fun s => I s.1 s.2.1 s.2.2.1 s.2.2.2.1 s.2.2.2.2.1 s.2.2.2.2.2.1 s.2.2.2.2.2.2.1 s.2.2.2.2.2.2.2.1 s.2.2.2.2.2.2.2.2.1 s.2.2.2.2.2.2.2.2.2.1 s.2.2.2.2.2.2.2.2.2.2.1 s.2.2.2.2.2.2.2.2.2.2.2.1 s.2.2.2.2.2.2.2.2.2.2.2.2.1 s.2.2.2.2.2.2.2.2.2.2.2.2.2) (fun s => μ s.1 s.2.1 s.2.2.1 s.2.2.2.1 s.2.2.2.2.1 s.2.2.2.2.2.1 s.2.2.2.2.2.2.1 s.2.2.2.2.2.2.2.1 s.2.2.2.2.2.2.2.2.1 s.2.2.2.2.2.2.2.2.2.1 s.2.2.2.2.2.2.2.2.2.2.1 s.2.2.2.2.2.2.2.2.2.2.2.1 s.2.2.2.2.2.2.2.2.2.2.2.2.1 s.2.2.2.2.2.2.2.2.2.2.2.2.2) (fun n s hI hk => hs n s.1 s.2.1 s.2.2.1 s.2.2.2.1 s.2.2.2.2.1 s.2.2.2.2.2.1 s.2.2.2.2.2.2.1 s.2.2.2.2.2.2.2.1 s.2.2.2.2.2.2.2.2.1 s.2.2.2.2.2.2.2.2.2.1 s.2.2.2.2.2.2.2.2.2.2.1 s.2.2.2.2.2.2.2.2.2.2.2.1 s.2.2.2.2.2.2.2.2.2.2.2.2.1 s.2.2.2.2.2.2.2.2.2.2.2.2.2 hI (fun b1 b2 b3 b4 b5 b6 b7 b8 b9 b10 b11 b12 b13 b14 h9 hm => hk (b1, b2, b3, b4, b5, b6, b7, b8, b9, b10, b11, b12, b13, b14) h9 hm)) (a1, a2, a3, a4, a5, a6, a7, a8, a9, a10, a11, a12, a13, a14) h
theorem lp15 {A1 A2 A3 A4 A5 A6 A7 A8 A9 A10 A11 A12 A13 A14 A15 : Type} (W : Nat → A1 → A2 → A3 → A4 → A5 → A6 → A7 → A8 → A9 → A10 → A11 → A12 → A13 → A14 → A15 → Prop) (I : A1 → A2 → A3 → A4 → A5 → A6 → A7 → A8 → A9 → A10 → A11 → A12 → A13 → A14 → A15 → Prop) (μ : A1 → A2 → A3 → A4 → A5 → A6 → A7 → A8 → A9 → A10 → A11 → A12 → A13 → A14 → A15 → Nat) (hs : ∀ (n : Nat) (a1 : A1) (a2 : A2) (a3 : A3) (a4 : A4) (a5 : A5) (a6 : A6) (a7 : A7) (a8 : A8) (a9 : A9) (a10 : A10) (a11 : A11) (a12 : A12) (a13 : A13) (a14 : A14) (a15 : A15), I a1 a2 a3 a4 a5 a6 a7 a8 a9 a10 a11 a12 a13 a14 a15 → (∀ (b1 : A1) (b2 : A2) (b3 : A3) (b4 : A4) (b5 : A5) (b6 : A6) (b7 : A7) (b8 : A8) (b9 : A9) (b10 : A10) (b11 : A11) (b12 : A12) (b13 : A13) (b14 : A14) (b15 : A15), I b1 b2 b3 b4 b5 b6 b7 b8 b9 b10 b11 b12 b13 b14 b15 → μ b1 b2 b3 b4 b5 b6 b7 b8 b9 b10 b11 b12 b13 b14 b15 < μ a1 a2 a3 a4 a5 a6 a7 a8 a9 a10 a11 a12 a13 a14 a15 → W n b1 b2 b3 b4 b5 b6 b7 b8 b9 b10 b11 b12 b13 b14 b15) → W (n + 1) a1 a2 a3 a4 a5 a6 a7 a8 a9 a10 a11 a12 a13 a14 a15) (a1 : A1) (a2 : A2) (a3 : A3) (a4 : A4) (a5 : A5) (a6 : A6) (a7 : A7) (a8 : A8) (a9 : A9) (a10 : A10) (a11 : A11) (a12 : A12) (a13 : A13) (a14 : A14) (a15 : A15) (h : I a1 a2 a3 a4 a5 a6 a7 a8 a9 a10 a11 a12 a13 a14 a15) : ∃ n, W n a1 a2 a3 a4 a5 a6 a7 a8 a9 a10 a11 a12 a13 a14 a15 :=
  loop_m (σ := A1 × A2 × A3 × A4 × A5 × A6 × A7 × A8 × A9 × A10 × A11 × A12 × A13 × A14 × A15) (fun n s => W n s.1 s.2.1 s.2.2.1 s.2.2.2.1 s.2.2.2.2.1 s.2.2.2.2.2.1 s.2.2.2.2.2.2.1 s.2.2.2.2.2.2.2.1 s.2.2.2.2.2.2.2.2.1 s.2.2.2.2.2.2.2.2.2.1 s.2.2.2.2.2.2.2.2.2.2.1 s.2.2.2.2.2.2.2.2.2.2.2.1 s.2.2.2.2.2.2.2.2.2.2.2.2.1 s.2.2.2.2.2.2.2.2.2.2.2.2.2.1 s.2.2.2.2.2.2.2.2.2.2.2.2.2.2) (fun s => I s.1 s.2.1 s.2.2.1 s.2.2.2.1 s.2.2.2.2.1 s.2.2.2.2.2.1 s.2.2.2.2.2.2.1 s.2.2.2.2.2.2.2.1 s.2.2.2.2.2.2.2.2.1 s.2.2.2.2.2.2.2.2.2.1 s.2.2.2.2.2.2.2.2.2.2.1 s.2.2.2.2.2.2.2.2.2.2.2.1 s.2.2.2.2.2.2.2.2.2.2.2.2.1 s.2.2.2.2.2.2.2.2.2.2.2.2.2.1 s.2.2.2.2.2.2.2.2.2.2.2.2.2.2) (fun s => μ s.1 s.2.1 s.2.2.1 s.2.2.2.1 s.2.2.2.2.1 s.2.2.2.2.2.1 s.2.2.2.2.2.2.1 s.2.2.2.2.2.2.2.1 s.2.2.2.2.2.2.2.2.1 s.2.2.2.2.2.2.2.2.2.1 s.2.2.2.2.2.2.2.2.2.2.1 s.2.2.2.2.2.2.2.2.2.2.2.1 s.2.2.2.2.2.2.2.2.2.2.2.2.1 s.2.2.2.2.2.2.2.2.2.2.2.2.2.1 s.2.2.2.2.2.2.2.2.2.2.2.2.2.2) (fun n s hI hk => hs n s.1 s.2.1 s.2.2.1 s.2.2.2.1 s.2.2.2.2.1 s.2.2.2.2.2.1 s.2.2.2.2.2.2.1 s.2.2.2.2.2.2.2.1 s.2.2.2.2.2.2.2.2.1 s.2.2.2.2.2.2.2.2.2.1 s.2.2.2.2.2.2.2.2.2.2.1 s.2.2.2.2.2.2.2.2.2.2.2.1 s.2.2.2.2.2.2.2.2.2.2.2.2.1 s.2.2.2.2.2.2.2.2.2.2.2.2.2.1 s.2.2.2.2.2.2.2.2.2.2.2.2.2.2 hI (fun b1 b2 b3 b4 b5 b6 b7 b8 b9 b10 b11 b12 b13 b14 b15 h9 hm => hk (b1, b2, b3, b4, b5, b6, b7, b8, b9, b10, b11, b12, b13, b14, b15) h9 hm)) (a1, a2, a3, a4, a5, a6, a7, a8, a9, a10, a11, a12, a13, a14, a15) h
theorem lp16 {A1 A2 A3 A4 A5 A6 A7 A8 A9 A10 A11 A12 A13 A14 A15 A16 : Type} (W : Nat → A1 → A2 → A3 → A4 → A5 → A6 → A7 → A8 → A9 → A10 → A11 → A12 → A13 → A14 → A15 → A16 → Prop) (I : A1 → A2 → A3 → A4 → A5 → A6 → A7 → A8 → A9 → A10 → A11 → A12 → A13 → A14 → A15 → A16 → Prop) (μ : A1 → A2 → A3 → A4 → A5 → A6 → A7 → A8 → A9 → A10 → A11 → A12 → A13 → A14 → A15 → A16 → Nat) (hs : ∀ (n : Nat) (a1 : A1) (a2 : A2) (a3 : A3) (a4 : A4) (a5 : A5) (a6 : A6) (a7 : A7) (a8 : A8) (a9 : A9) (a10 : A10) (a11 : A11) (a12 : A12) (a13 : A13) (a14 : A14) (a15 : A15) (a16 : A16), I a1 a2 a3 a4 a5 a6 a7 a8 a9 a10 a11 a12 a13 a14 a15 a16 → (∀ (b1 : A1) (b2 : A2) (b3 : A3) (b4 : A4) (b5 : A5) (b6 : A6) (b7 : A7) (b8 : A8) (b9 : A9) (b10 : A10) (b11 : A11) (b12 : A12) (b13 : A13) (b14 : A14) (b15 : A15) (b16 : A16), I b1 b2 b3 b4 b5 b6 b7 b8 b9 b10 b11 b12 b13 b14 b15 b16 → μ b1 b2 b3 b4 b5 b6 b7 b8 b9 b10 b11 b12 b13 b14 b15 b16 < μ a1 a2 a3 a4 a5 a6 a7 a8 a9 a10 a11 a12 a13 a14 a15 a16 → W n b1 b2 b3 b4 b5 b6 b7 b8 b9 b10 b11 b12 b13 b14 b15 b16) → W (n + 1) a1 a2 a3 a4 a5 a6 a7 a8 a9 a10 a11 a12 a13 a14 a15 a16) (a1 : A1) (a2 : A2) (a3 : A3) (a4 : A4) (a5 : A5) (a6 : A6) (a7 : A7) (a8 : A8) (a9 : A9) (a10 : A10) (a11 : A11) (a12 : A12) (a13 : A13) (a14 : A14) (a15 : A15) (a16 : A16) (h : I a1 a2 a3 a4 a5 a6 a7 a8 a9 a10 a11 a12 a13 a14 a15 a16) : ∃ n, W n a1 a2 a3 a4 a5 a6 a7 a8 a9 a10 a11 a12 a13 a14 a15 a16 :=
  loop_m (σ := A1 × A2 × A3 × A4 × A5 × A6 × A7 × A8 × A9 × A10 × A11 × A12 × A13 × A14 × A15 × A16) (fun n s => W n s.1 s.2.1 s.2.2.1 s.2.2.2.1 s.2.2.2.2.1 s.2.2.2.2.2.1 s.2.2.2.2.2.2.1 s.2.2.2.2.2.2.2.1 s.2.2.2.2.2.2.2.2.1 s.2.2.2.2.2.2.2.2.2.1 s.2.2.2.2.2.2.2.2.2.2.1 s.2.2.2.2.2.2.2.2.2.2.2.1 s.2.2.2.2.2.2.2.2.2.2.2.2.1 s.2.2.2.2.2.2.2.2.2.2.2.2.2.1 s.2.2.2.2.2.2.2.2.2.2.2.2.2.2.1 s.2.2.2.2.2.2.2.2.2.2.2.2.2.2.2) (fun s => I s.1 s.2.1 s.2.2.1 s.2.2.2.1 s.2.2.2.2.1 s.2.2.2.2.2.1 s.2.2.2.2.2.2.1 s.2.2.2.2.2.2.2.1 s.2.2.2.2.2.2.2.2.1 s.2.2.2.2.2.2.2.2.2.1 s.2.2.2.2.2.2.2.2.2.2.1 s.2.2.2.2.2.2.2.2.2.2.2.1 s.2.2.2.2.2.2.2.2.2.2.2.2.1 s.2.2.2.2.2.2.2.2.2.2.2.2.2.1 s.2.2.2.2.2.2.2.2.2.2.2.2.2.2.1 s.2.2.2.2.2.2.2.2.2.2.2.2.2.2.2) (fun s => μ s.1 s.2.1 s.2.2.1 s.2.2.2.1 s.2.2.2.2.1 s.2.2.2.2.2.1 s.2.2.2.2.2.2.1 s.2.2.2.2.2.2.2.1 s.2.2.2.2.2.2.2.2.1 s.2.2.2.2.2.2.2.2.2.1 s.2.2.2.2.2.2.2.2.2.2.1 s.2.2.2.2.2.2.2.2.2.2.2.1 s.2.2.2.2.2.2.2.2.2.2.2.2.1 s.2.2.2.2.2.2.2.2.2.2.2.2.2.1 s.2.2.2.2.2.2.2.2.2.2.2.2.2.2.1 s.2.2.2.2.2.2.2.2.2.2.2.2.2.2.2) (fun n s hI hk => hs n s.1 s.2.1 s.2.2.1 s.2.2.2.1 s.2.2.2.2.1 s.2.2.2.2.2.1 s.2.2.2.2.2.2.1 s.2.2.2.2.2.2.2.1 s.2.2.2.2.2.2.2.2.1 s.2.2.2.2.2.2.2.2.2.1 s.2.2.2.2.2.2.2.2.2.2.1 s.2.2.2.2.2.2.2.2.2.2.2.1 s.2.2.2.2.2.2.2.2.2.2.2.2.1 s.2.2.2.2.2.2.2.2.2.2.2.2.2.1 s.2.2.2.2.2.2.2.2.2.2.2.2.2.2.1 s.2.2.2.2.2.2.2.2.2.2.2.2.2.2.2 hI (fun b1 b2 b3 b4 b5 b6 b7 b8 b9 b10 b11 b12 b13 b14 b15 b16 h9 hm => hk (b1, b2, b3, b4, b5, b6, b7, b8, b9, b10, b11, b12, b13, b14, b15, b16) h9 hm)) (a1, a2, a3, a4, a5, a6, a7, a8, a9, a10, a11, a12, a13, a14, a15, a16) h
theorem pk_least (P : Nat → Prop) (h : ∃ k, P k) : ∃ k, P k ∧ ∀ j, j < k → ¬ P j := by
  obtain ⟨k, hk⟩ := h
  induction k using Nat.strongRecOn with
  | ind k ih =>
    by_cases e : ∃ j, j < k ∧ P j
    · obtain ⟨j, hj, pj⟩ := e
      exact ih j hj pj
    · exact ⟨k, hk, fun j hj pj => e ⟨j, hj, pj⟩⟩
theorem rp1 {ρ A1 : Type} (W : Nat → (ρ → Prop) → A1 → Prop) (ok : A1 → Prop) (μ : A1 → Nat) (val : A1 → ρ)
    (hs : ∀ (d : Nat) (post : ρ → Prop) (a1 : A1), ok a1 → post (val a1) → (∀ (post' : ρ → Prop) (b1 : A1), ok b1 → μ b1 < μ a1 → post' (val b1) → W d post' b1) → W (d + 1) post a1) :
    ∀ (d : Nat) (post : ρ → Prop) (a1 : A1), ok a1 → μ a1 < d → post (val a1) → W d post a1 := by
  intro d
  induction d with
  | zero => intro post a1 _ h; omega
  | succ d ih =>
    intro post a1 ho hm hp
    exact hs d post a1 ho hp (fun post' b1 ho' hm' hp' => ih post' b1 ho' (by omega) hp')
theorem rp2 {ρ A1 A2 : Type} (W : Nat → (ρ → Prop) → A1 → A2 → Prop) (ok : A1 → A2 → Prop) (μ : A1 → A2 → Nat) (val : A1 → A2 → ρ)
    (hs : ∀ (d : Nat) (post : ρ → Prop) (a1 : A1) (a2 : A2), ok a1 a2 → post (val a1 a2) → (∀ (post' : ρ → Prop) (b1 : A1) (b2 : A2), ok b1 b2 → μ b1 b2 < μ a1 a2 → post' (val b1 b2) → W d post' b1 b2) → W (d + 1) post a1 a2) :
    ∀ (d : Nat) (post : ρ → Prop) (a1 : A1) (a2 : A2), ok a1 a2 → μ a1 a2 < d → post (val a1 a2) → W d post a1 a2 := by
  intro d
  induction d with
  | zero => intro post a1 a2 _ h; omega
  | succ d ih =>
    intro post a1 a2 ho hm hp
    exact hs d post a1 a2 ho hp (fun post' b1 b2 ho' hm' hp' => ih post' b1 b2 ho' (by omega) hp')
theorem rp3 {ρ A1 A2 A3 : Type} (W : Nat → (ρ → Prop) → A1 → A2 → A3 → Prop) (ok : A1 → A2 → A3 → Prop) (μ : A1 → A2 → A3 → Nat) (val : A1 → A2 → A3 → ρ)
    (hs : ∀ (d : Nat) (post : ρ → Prop) (a1 : A1) (a2 : A2) (a3 : A3), ok a1 a2 a3 → post (val a1 a2 a3) → (∀ (post' : ρ → Prop) (b1 : A1) (b2 : A2) (b3 : A3), ok b1 b2 b3 → μ b1 b2 b3 < μ a1 a2 a3 → post' (val b1 b2 b3) → W d post' b1 b2 b3) → W (d + 1) post a1 a2 a3) :
    ∀ (d : Nat) (post : ρ → Prop) (a1 : A1) (a2 : A2) (a3 : A3), ok a1 a2 a3 → μ a1 a2 a3 < d → post (val a1 a2 a3) → W d post a1 a2 a3 := by
  intro d
  induction d with
  | zero => intro post a1 a2 a3 _ h; omega
  | succ d ih =>
    intro post a1 a2 a3 ho hm hp
    exact hs d post a1 a2 a3 ho hp (fun post' b1 b2 b3 ho' hm' hp' => ih post' b1 b2 b3 ho' (by omega) hp')
theorem rp4 {ρ A1 A2 A3 A4 : Type} (W : Nat → (ρ → Prop) → A1 → A2 → A3 → A4 → Prop) (ok : A1 → A2 → A3 → A4 → Prop) (μ : A1 → A2 → A3 → A4 → Nat) (val : A1 → A2 → A3 → A4 → ρ)
    (hs : ∀ (d : Nat) (post : ρ → Prop) (a1 : A1) (a2 : A2) (a3 : A3) (a4 : A4), ok a1 a2 a3 a4 → post (val a1 a2 a3 a4) → (∀ (post' : ρ → Prop) (b1 : A1) (b2 : A2) (b3 : A3) (b4 : A4), ok b1 b2 b3 b4 → μ b1 b2 b3 b4 < μ a1 a2 a3 a4 → post' (val b1 b2 b3 b4) → W d post' b1 b2 b3 b4) → W (d + 1) post a1 a2 a3 a4) :
    ∀ (d : Nat) (post : ρ → Prop) (a1 : A1) (a2 : A2) (a3 : A3) (a4 : A4), ok a1 a2 a3 a4 → μ a1 a2 a3 a4 < d → post (val a1 a2 a3 a4) → W d post a1 a2 a3 a4 := by
  intro d
  induction d with
  | zero => intro post a1 a2 a3 a4 _ h; omega
  | succ d ih =>
    intro post a1 a2 a3 a4 ho hm hp
    exact hs d post a1 a2 a3 a4 ho hp (fun post' b1 b2 b3 b4 ho' hm' hp' => ih post' b1 b2 b3 b4 ho' (by omega) hp')
theorem rp5 {ρ A1 A2 A3 A4 A5 : Type} (W : Nat → (ρ → Prop) → A1 → A2 → A3 → A4 → A5 → Prop) (ok : A1 → A2 → A3 → A4 → A5 → Prop) (μ : A1 → A2 → A3 → A4 → A5 → Nat) (val : A1 → A2 → A3 → A4 → A5 → ρ)
    (hs : ∀ (d : Nat) (post : ρ → Prop) (a1 : A1) (a2 : A2) (a3 : A3) (a4 : A4) (a5 : A5), ok a1 a2 a3 a4 a5 → post (val a1 a2 a3 a4 a5) → (∀ (post' : ρ → Prop) (b1 : A1) (b2 : A2) (b3 : A3) (b4 : A4) (b5 : A5), ok b1 b2 b3 b4 b5 → μ b1 b2 b3 b4 b5 < μ a1 a2 a3 a4 a5 → post' (val b1 b2 b3 b4 b5) → W d post' b1 b2 b3 b4 b5) → W (d + 1) post a1 a2 a3 a4 a5) :
    ∀ (d : Nat) (post : ρ → Prop) (a1 : A1) (a2 : A2) (a3 : A3) (a4 : A4) (a5 : A5), ok a1 a2 a3 a4 a5 → μ a1 a2 a3 a4 a5 < d → post (val a1 a2 a3 a4 a5) → W d post a1 a2 a3 a4 a5 := by
  intro d
  induction d with
  | zero => intro post a1 a2 a3 a4 a5 _ h; omega
  | succ d ih =>
    intro post a1 a2 a3 a4 a5 ho hm hp
    exact hs d post a1 a2 a3 a4 a5 ho hp (fun post' b1 b2 b3 b4 b5 ho' hm' hp' => ih post' b1 b2 b3 b4 b5 ho' (by omega) hp')
theorem rp6 {ρ A1 A2 A3 A4 A5 A6 : Type} (W : Nat → (ρ → Prop) → A1 → A2 → A3 → A4 → A5 → A6 → Prop) (ok : A1 → A2 → A3 → A4 → A5 → A6 → Prop) (μ : A1 → A2 → A3 → A4 → A5 → A6 → Nat) (val : A1 → A2 → A3 → A4 → A5 → A6 → ρ)
    (hs : ∀ (d : Nat) (post : ρ → Prop) (a1 : A1) (a2 : A2) (a3 : A3) (a4 : A4) (a5 : A5) (a6 : A6), ok a1 a2 a3 a4 a5 a6 → post (val a1 a2 a3 a4 a5 a6) → (∀ (post' : ρ → Prop) (b1 : A1) (b2 : A2) (b3 : A3) (b4 : A4) (b5 : A5) (b6 : A6), ok b1 b2 b3 b4 b5 b6 → μ b1 b2 b3 b4 b5 b6 < μ a1 a2 a3 a4 a5 a6 → post' (val b1 b2 b3 b4 b5 b6) → W d post' b1 b2 b3 b4 b5 b6) → W (d + 1) post a1 a2 a3 a4 a5 a6) :
    ∀ (d : Nat) (post : ρ → Prop) (a1 : A1) (a2 : A2) (a3 : A3) (a4 : A4) (a5 : A5) (a6 : A6), ok a1 a2 a3 a4 a5 a6 → μ a1 a2 a3 a4 a5 a6 < d → post (val a1 a2 a3 a4 a5 a6) → W d post a1 a2 a3 a4 a5 a6 := by
  intro d
  induction d with
  | zero => intro post a1 a2 a3 a4 a5 a6 _ h; omega
  | succ d ih =>
    intro post a1 a2 a3 a4 a5 a6 ho hm hp
    exact hs d post a1 a2 a3 a4 a5 a6 ho hp (fun post' b1 b2 b3 b4 b5 b6 ho' hm' hp' => ih post' b1 b2 b3 b4 b5 b6 ho' (by omega) hp')
theorem rec_p {σ ρ : Type} (W : Nat → (ρ → Prop) → σ → Prop) (ok : σ → Prop) (μ : σ → Nat) (val : σ → ρ)
    (hs : ∀ d s post, ok s → post (val s) → (∀ s' post', ok s' → μ s' < μ s → post' (val s') → W d post' s') → W (d + 1) post s) :
    ∀ d s post, ok s → μ s < d → post (val s) → W d post s := by
  intro d
  induction d with
  | zero => intro s post _ h; omega
  | succ d ih =>
    intro s post ho hm hp
    exact hs d s post ho hp (fun s' post' ho' hm' hp' => ih s' post' ho' (by omega) hp')
theorem rec_q {σ ρ : Type} (W : Nat → (ρ → Prop) → σ → Prop) (ok : σ → Prop) (μ : σ → Nat) (Q : σ → ρ → Prop)
    (hs : ∀ d s post, ok s → (∀ r, Q s r → post r) → (∀ s' post', ok s' → μ s' < μ s → (∀ r, Q s' r → post' r) → W d post' s') → W (d + 1) post s) :
    ∀ d s post, ok s → μ s < d → (∀ r, Q s r → post r) → W d post s := by
  intro d
  induction d with
  | zero => intro s post _ h; omega
  | succ d ih =>
    intro s post ho hm hp
    exact hs d s post ho hp (fun s' post' ho' hm' hp' => ih s' post' ho' (by omega) hp')
def bx_sum (f : Nat → Int32) : Nat → Int32
  | 0 => 0
  | n + 1 => bx_sum f n + f n
theorem ek_u {A : Prop} {B : Nat → Prop} {k N : Nat} (hk : k < N) (h : B k) : (some k = none → A) ∧ (∀ y : Nat, some k = some y → (y < N ∧ B y)) :=
  ⟨fun z => absurd z (Option.some_ne_none k), fun _ e => (by cases e; exact ⟨hk, h⟩)⟩
theorem ek_nu {A : Prop} {B : Nat → Prop} (h : A) : ((none : Option Nat) = none → A) ∧ (∀ y : Nat, (none : Option Nat) = some y → B y) :=
  ⟨fun _ => h, fun _ e => (by cases e)⟩
theorem ek_if {c d A B : Prop} (e : c ↔ d) (f : d → A) (g : ¬ d → B) : (c → A) ∧ (¬ c → B) :=
  ⟨fun z => f (e.mp z), fun z => g (fun y => z (e.mpr y))⟩
theorem ek_v {α : Sort _} {P : α → Prop} {a b : α} (e : a = b) (h : P b) : P a := e ▸ h
theorem co_some {x : Option Nat} {A : Prop} {B : Nat → Prop} (i : Nat) (h : B i) (hx : x = some i := by rfl) : (x = none → A) ∧ (∀ y : Nat, x = some y → B y) := by
  subst hx
  exact ⟨fun e => (nomatch e), fun y e => Option.some.inj e ▸ h⟩
theorem co_none {x : Option Nat} {A : Prop} {B : Nat → Prop} (h : A) (hx : x = none := by rfl) : (x = none → A) ∧ (∀ y : Nat, x = some y → B y) := by
  subst hx
  exact ⟨fun _ => h, fun y e => (nomatch e)⟩
theorem co_any {x : Option Nat} {A : Prop} {B : Nat → Prop} (hn : x = none → A) (hs : ∀ i : Nat, x = some i → B i) : (x = none → A) ∧ (∀ y : Nat, x = some y → B y) := ⟨hn, hs⟩
theorem co_2 {P : Nat → Prop} (h0 : P 0) (h1 : P 1) {i : Nat} (hi : i < 2) : P i :=
  match i, hi with
  | 0, _ => h0
  | 1, _ => h1
theorem co_3 {P : Nat → Prop} (h0 : P 0) (h1 : P 1) (h2 : P 2) {i : Nat} (hi : i < 3) : P i :=
  match i, hi with
  | 0, _ => h0
  | 1, _ => h1
  | 2, _ => h2
theorem co_4 {P : Nat → Prop} (h0 : P 0) (h1 : P 1) (h2 : P 2) (h3 : P 3) {i : Nat} (hi : i < 4) : P i :=
  match i, hi with
  | 0, _ => h0
  | 1, _ => h1
  | 2, _ => h2
  | 3, _ => h3
theorem co_dec {N : Nat} {P : Nat → Prop} [DecidablePred P] (h : (List.range N).all (fun i => decide (P i)) = true) {i : Nat} (hi : i < N) : P i := by
  have := List.all_eq_true.mp h i (List.mem_range.mpr hi)
  exact of_decide_eq_true this
theorem co_tab {α : Type} {l : List α} {d : α} {P : α → Prop} (h : ∀ a, a ∈ l → P a) {i : Nat} (hi : i < l.length) : P (l.getD i d) := by
  rw [List.getD_eq_getElem?_getD, List.getElem?_eq_getElem hi]
  exact h _ (List.getElem_mem hi)
theorem pk_mu {x : Int32} {L : Nat} (h0 : ¬ x < 0) (h : ¬ nI L ≤ x) (hL : L < 2 ^ 31) : ∃ j : Nat, j < L ∧ x = nI j ∧ x + 1 = nI (j + 1) ∧ x.toNatClampNeg = j ∧ L - (x + 1).toNatClampNeg < L - x.toNatClampNeg := by
  obtain ⟨j, hj, rfl⟩ := nI_of h0
  have hl : j < L := Nat.not_le.mp fun q => h (nI_le q hj)
  refine ⟨j, hl, rfl, nI_1 j, nI_clamp hj, ?_⟩
  rw [nI_1, nI_clamp (by omega), nI_clamp hj]
  omega
theorem op_s {α : Type} {r : Option α} {A : Prop} {B : α → Prop} {y : α} (h : r = some y) (b : B y) : (r = none → A) ∧ ∀ z, r = some z → B z :=
  ⟨fun e => (by rw [h] at e; cases e), fun z e => (by rw [h] at e; cases e; exact b)⟩
def l_holds {α : Type} (a : Nat → Option Nat) (LP : List Nat) (p : Nat → α) (c : Nat) (b : Nat → α) : Prop :=
  ∀ j, j < c → ∃ y, a j = some y ∧ y ∈ LP ∧ p y = b j
theorem l_holds_0 {α : Type} {a : Nat → Option Nat} {LP : List Nat} {p b : Nat → α} : l_holds a LP p 0 b := fun j h => absurd h (Nat.not_lt_zero j)
theorem l_in_new (LP : List Nat) (q : Nat) : q ∈ LP ++ [q] := List.mem_append.mpr (Or.inr (List.mem_singleton.mpr rfl))
def l_sum (b : Nat → Int32) : Nat → Int32
  | 0 => 0
  | k + 1 => l_sum b k + b k
theorem sb_shr0 (x : Int32) : x >>> ((0 : Int32) &&& 31) = x := by
  rw [show ((0 : Int32) &&& 31) = 0 by decide]
  simp
theorem sb_shl0 (x : Int32) : x <<< ((0 : Int32) &&& 31) = x := by
  rw [show ((0 : Int32) &&& 31) = 0 by decide]
  simp
theorem sb_cl0 : (0 : Int32).toNatClampNeg = 0 := by decide
theorem sb_m1 {p : Nat} (h : 0 < p) : nI p + (-1) = nI (p - 1) := by
  obtain ⟨q, rfl⟩ : ∃ q, p = q + 1 := ⟨p - 1, by omega⟩
  exact pk_m1 q
def sb_b (c : Nat) : Int32 := (nI c).toInt8.toInt32
theorem sb_byte : ∀ c, c < 256 → sb_b c &&& 255 = nI c ∧ ((nI c).toUInt32 % 65536).toInt32 = nI c ∧ nI c ≤ 255 := by decide +kernel
def sb_Fit (a : Nat → Int32) : Prop := ∀ j, fits .byte (.int (a j)) = true
def sb_Lat (t : Nat → Nat) (n : Nat) (a : Nat → Int32) : Prop := ∀ j, j < n → t j < 256 ∧ a j = sb_b (t j)
theorem sb_fitB (c : Nat) : fits .byte (.int (sb_b c)) = true := pk_fb _
theorem sb_fit0 : sb_Fit (fun _ => 0) := fun _ => by
  show fits .byte (.int 0) = true
  decide
theorem sb_fitU {a : Nat → Int32} {k : Nat} {x : Int32} (h : sb_Fit a) (hx : fits .byte (.int x) = true) : sb_Fit (upd a k x) := by
  intro j
  by_cases e : j = k
  · subst e
    rw [pk_us]
    exact hx
  · rw [pk_un e]
    exact h j
def sb_cat (t : Nat → Nat) (n : Nat) (s : Nat → Nat) : Nat → Nat := fun j => if j < n then t j else s (j - n)
theorem sb_cat_lo {t s : Nat → Nat} {n j : Nat} (h : j < n) : sb_cat t n s j = t j := if_pos h
theorem sb_cat_hi {t s : Nat → Nat} {n j : Nat} : sb_cat t n s (n + j) = s j := by
  show (if n + j < n then t (n + j) else s (n + j - n)) = s j
  rw [if_neg (by omega), Nat.add_sub_cancel_left]
theorem sb_latPut {t s : Nat → Nat} {n w : Nat} {a a' : Nat → Int32} (h : sb_Lat t n a) (hk : ∀ j, j < n → a' j = a j) (hs : ∀ i, i < w → s i < 256 ∧ a' (n + i) = sb_b (s i)) : sb_Lat (sb_cat t n s) (n + w) a' := by
  intro j hj
  by_cases e : j < n
  · rw [sb_cat_lo e, hk j e]
    exact h j e
  · obtain ⟨i, rfl⟩ : ∃ i, j = n + i := ⟨j - n, by omega⟩
    rw [sb_cat_hi]
    exact hs i (by omega)
theorem sb_latKeep {t : Nat → Nat} {n : Nat} {a a' : Nat → Int32} (h : sb_Lat t n a) (hk : ∀ j, j < n → a' j = a j) : sb_Lat t n a' := fun j hj => by
  rw [hk j hj]
  exact h j hj
def sb_cap (q m : Nat) : Nat := if q ≤ m then m else if 2 * m + 2 < q then q else 2 * m + 2
def sb_Room (q m mc ms : Nat) : Prop := q ≤ m ∨ (1 ≤ mc ∧ sb_cap q m ≤ ms ∧ sb_cap q m ≤ 65536)
theorem sb_cap_ge (q m : Nat) : q ≤ sb_cap q m := by
  unfold sb_cap
  split
  · omega
  · split <;> omega
theorem sb_cap_gem (q m : Nat) : m ≤ sb_cap q m := by
  unfold sb_cap
  split
  · omega
  · split <;> omega
theorem sb_cap_le {q m mc ms : Nat} (hm : m ≤ 65536) (hr : sb_Room q m mc ms) : sb_cap q m ≤ 65536 := by
  rcases hr with h | h
  · rw [sb_cap, if_pos h]
    exact hm
  · exact h.2.2
theorem sb_at {P : Int32 → Prop} {x y : Int32} (e : x = y) (h : P y) : P x := e ▸ h
def sb_dg (w : Nat) : Nat := if w < 10 then 1 else if w < 100 then 2 else if w < 1000 then 3 else if w < 10000 then 4 else if w < 100000 then 5 else if w < 1000000 then 6 else if w < 10000000 then 7 else if w < 100000000 then 8 else if w < 1000000000 then 9 else 10
def sb_dec (v : Nat) : Nat → Nat := fun i => 48 + v / 10 ^ (sb_dg v - 1 - i) % 10
theorem sb_dg_in (w : Nat) : 1 ≤ sb_dg w ∧ sb_dg w ≤ 10 := by
  unfold sb_dg
  constructor <;> (repeat' split) <;> omega
theorem sb_dg100 {w : Nat} (h : 100 ≤ w) (hw : w < 2 ^ 31) : sb_dg w = sb_dg (w / 100) + 2 := by
  rw [sb_dg, sb_dg, if_neg (show ¬ w < 10 by omega), if_neg (show ¬ w < 100 by omega)]
  by_cases h3 : w < 1000
  · rw [if_pos h3, if_pos (show w / 100 < 10 by omega)]
  rw [if_neg h3, if_neg (show ¬ w / 100 < 10 by omega)]
  by_cases h4 : w < 10000
  · rw [if_pos h4, if_pos (show w / 100 < 100 by omega)]
  rw [if_neg h4, if_neg (show ¬ w / 100 < 100 by omega)]
  by_cases h5 : w < 100000
  · rw [if_pos h5, if_pos (show w / 100 < 1000 by omega)]
  rw [if_neg h5, if_neg (show ¬ w / 100 < 1000 by omega)]
  by_cases h6 : w < 1000000
  · rw [if_pos h6, if_pos (show w / 100 < 10000 by omega)]
  rw [if_neg h6, if_neg (show ¬ w / 100 < 10000 by omega)]
  by_cases h7 : w < 10000000
  · rw [if_pos h7, if_pos (show w / 100 < 100000 by omega)]
  rw [if_neg h7, if_neg (show ¬ w / 100 < 100000 by omega)]
  by_cases h8 : w < 100000000
  · rw [if_pos h8, if_pos (show w / 100 < 1000000 by omega)]
  rw [if_neg h8, if_neg (show ¬ w / 100 < 1000000 by omega)]
  by_cases h9 : w < 1000000000
  · rw [if_pos h9, if_pos (show w / 100 < 10000000 by omega)]
  rw [if_neg h9, if_neg (show ¬ w / 100 < 10000000 by omega)]
  rw [if_pos (show w / 100 < 100000000 by omega)]
theorem sb_negT {w : Nat} (h : w < 2 ^ 31) : (-nI w).toInt = -(w : Int) := by
  rw [Int32.toInt_neg, nI_toInt h]
  exact Int.bmod_eq_of_le (by omega) (by omega)
theorem sb_nle {a b : Nat} (ha : a < 2 ^ 31) (hb : b < 2 ^ 31) : -nI a ≤ -nI b ↔ b ≤ a := by
  rw [Int32.le_iff_toInt_le, sb_negT ha, sb_negT hb]
  omega
theorem sb_nlt {a b : Nat} (ha : a < 2 ^ 31) (hb : b < 2 ^ 31) : -nI a < -nI b ↔ b < a := by
  rw [Int32.lt_iff_toInt_lt, sb_negT ha, sb_negT hb]
  omega
theorem sb_cmp {A B : Prop} {x : Int32} (v c : Nat) (f : c ≤ v → A) (g : v < c → B) (hv : v < 2 ^ 31) (hx : x = -nI c := by rfl) (hc : c < 2 ^ 31 := by omega) : (-nI v ≤ x → A) ∧ (¬ -nI v ≤ x → B) := by
  subst hx
  rw [sb_nle hv hc]
  exact ⟨f, fun z => g (by omega)⟩
theorem sb_ndiv {w : Nat} (hw : w < 2 ^ 31) : (-nI w) / 100 = -nI (w / 100) := by
  apply Int32.toInt_inj.mp
  have h100 : (100 : Int32).toInt = 100 := by decide
  rw [Int32.toInt_div, sb_negT hw, h100, sb_negT (by omega), Int.neg_tdiv, Int.tdiv_eq_ediv_of_nonneg (by omega), Int.bmod_eq_of_le (by omega) (by omega)]
  omega
theorem sb_nrem {w : Nat} (hw : w < 2 ^ 31) : (-nI (w / 100)) * 100 - (-nI w) = nI (w % 100) := by
  have h := pk_rem (a := w) (d := 100) hw (by decide) (by decide)
  rw [pk_div hw (by decide) (by decide)] at h
  rw [← h]
  show (-nI (w / 100)) * nI 100 - (-nI w) = nI w - nI (w / 100) * nI 100
  rw [Int32.neg_mul, Int32.sub_neg, Int32.add_comm, ← Int32.sub_eq_add_neg]
end
section
/-! sets of columns as numbers below 64, and the ints that hold them -/
theorem dk_and (a b : Nat) : nI a &&& nI b = nI (a &&& b) := by
  apply Int32.toBitVec_inj.1
  show BitVec.ofNat 32 a &&& BitVec.ofNat 32 b = BitVec.ofNat 32 (a &&& b)
  apply BitVec.eq_of_getLsbD_eq
  intro i hi
  simp [hi]
theorem dk_or (a b : Nat) : nI a ||| nI b = nI (a ||| b) := by
  apply Int32.toBitVec_inj.1
  show BitVec.ofNat 32 a ||| BitVec.ofNat 32 b = BitVec.ofNat 32 (a ||| b)
  apply BitVec.eq_of_getLsbD_eq
  intro i hi
  simp [hi]
theorem dk_xor (a b : Nat) : nI a ^^^ nI b = nI (a ^^^ b) := by
  apply Int32.toBitVec_inj.1
  show BitVec.ofNat 32 a ^^^ BitVec.ofNat 32 b = BitVec.ofNat 32 (a ^^^ b)
  apply BitVec.eq_of_getLsbD_eq
  intro i hi
  simp [hi]
/-- a without b -/
def dk_sd (a b : Nat) : Nat := a &&& (a ^^^ b)
theorem dk_m1 : (-1 : Int32).toBitVec = BitVec.allOnes 32 := by decide
theorem dk_not (a b : Nat) : nI a &&& (nI b ^^^ (-1)) = nI (dk_sd a b) := by
  apply Int32.toBitVec_inj.1
  rw [Int32.toBitVec_and, Int32.toBitVec_xor, dk_m1]
  show BitVec.ofNat 32 a &&& (BitVec.ofNat 32 b ^^^ BitVec.allOnes 32) = BitVec.ofNat 32 (a &&& (a ^^^ b))
  apply BitVec.eq_of_getLsbD_eq
  intro i hi
  simp only [BitVec.getLsbD_and, BitVec.getLsbD_xor, BitVec.getLsbD_ofNat, BitVec.getLsbD_allOnes, hi, Nat.testBit_and, Nat.testBit_xor, decide_true, Bool.true_and]
  cases a.testBit i <;> cases b.testBit i <;> rfl
theorem dk_tsd (a b i : Nat) : (dk_sd a b).testBit i = (a.testBit i && !b.testBit i) := by
  unfold dk_sd
  rw [Nat.testBit_and, Nat.testBit_xor]
  cases a.testBit i <;> cases b.testBit i <;> rfl
theorem dk_63 (i : Nat) : (63 : Nat).testBit i = decide (i < 6) := Nat.testBit_two_pow_sub_one 6 i
theorem dk_hi {a i : Nat} (h : a < 64) (hi : 6 ≤ i) : a.testBit i = false :=
  Nat.testBit_lt_two_pow (Nat.lt_of_lt_of_le h (Nat.pow_le_pow_right (n := 2) (by omega) hi : 2 ^ 6 ≤ 2 ^ i))
theorem dk_lo {a i : Nat} (h : a < 64) (hi : a.testBit i = true) : i < 6 := by
  rcases Nat.lt_or_ge i 6 with z | z
  · exact z
  · rw [dk_hi h z] at hi; cases hi
theorem dk_lt {a : Nat} (h : ∀ i, a.testBit i = true → i < 6) : a < 64 := by
  apply Nat.lt_pow_two_of_testBit (n := 6)
  intro i hi
  cases e : a.testBit i
  · rfl
  · have := h i e; omega
/-- a is a part of b -/
def dk_su (a b : Nat) : Prop := ∀ i, a.testBit i = true → b.testBit i = true
theorem dk_sd0 {a b : Nat} : dk_sd a b = 0 ↔ dk_su a b := by
  constructor
  · intro h i ha
    have t : (dk_sd a b).testBit i = false := by rw [h, Nat.zero_testBit]
    rw [dk_tsd, ha] at t
    cases e : b.testBit i
    · rw [e] at t; cases t
    · rfl
  · intro h
    apply Nat.eq_of_testBit_eq
    intro i
    rw [dk_tsd, Nat.zero_testBit]
    cases e : a.testBit i
    · rfl
    · rw [h i e]; rfl
theorem dk_and0 {a b : Nat} : a &&& b = 0 ↔ ∀ i, a.testBit i = true → b.testBit i = false := by
  constructor
  · intro h i ha
    have t : (a &&& b).testBit i = false := by rw [h, Nat.zero_testBit]
    rw [Nat.testBit_and, ha] at t
    simpa using t
  · intro h
    apply Nat.eq_of_testBit_eq
    intro i
    rw [Nat.testBit_and, Nat.zero_testBit]
    cases e : a.testBit i
    · rfl
    · rw [h i e]; rfl
theorem dk_andE {a b : Nat} : a &&& b = a ↔ dk_su a b := by
  constructor
  · intro h i ha
    have t : (a &&& b).testBit i = a.testBit i := by rw [h]
    rw [Nat.testBit_and, ha] at t
    simpa using t
  · intro h
    apply Nat.eq_of_testBit_eq
    intro i
    rw [Nat.testBit_and]
    cases e : a.testBit i
    · rfl
    · rw [h i e]; rfl
theorem dk_orE {a b : Nat} : a ||| b = b ↔ dk_su a b := by
  constructor
  · intro h i ha
    have t : (a ||| b).testBit i = b.testBit i := by rw [h]
    rw [Nat.testBit_or, ha] at t
    simpa using t.symm
  · intro h
    apply Nat.eq_of_testBit_eq
    intro i
    rw [Nat.testBit_or]
    cases e : a.testBit i
    · rfl
    · rw [h i e]; rfl
theorem dk_su_rfl (a : Nat) : dk_su a a := fun _ h => h
theorem dk_su_tr {a b c : Nat} (h : dk_su a b) (g : dk_su b c) : dk_su a c := fun i z => g i (h i z)
theorem dk_su_eq {a b : Nat} (h : dk_su a b) (g : dk_su b a) : a = b := by
  apply Nat.eq_of_testBit_eq
  intro i
  cases e : a.testBit i
  · cases f : b.testBit i
    · rfl
    · rw [g i f] at e; cases e
  · rw [h i e]
theorem dk_su63 {a : Nat} (h : a < 64) : dk_su a 63 := fun i z => by rw [dk_63, decide_eq_true (dk_lo h z)]
theorem dk_su0 (a : Nat) : dk_su 0 a := fun i z => by rw [Nat.zero_testBit] at z; cases z
theorem dk_and_lt {a b : Nat} (h : a < 64) : a &&& b < 64 := Nat.lt_of_le_of_lt Nat.and_le_left h
theorem dk_and_lt' {a b : Nat} (h : b < 64) : a &&& b < 64 := Nat.lt_of_le_of_lt Nat.and_le_right h
theorem dk_sd_lt {a b : Nat} (h : a < 64) : dk_sd a b < 64 := Nat.lt_of_le_of_lt Nat.and_le_left h
theorem dk_sd_le (a b : Nat) : dk_sd a b ≤ a := Nat.and_le_left
theorem dk_or_lt {a b : Nat} (h : a < 64) (g : b < 64) : a ||| b < 64 := Nat.or_lt_two_pow (n := 6) h g
theorem dk_xor_lt {a b : Nat} (h : a < 64) (g : b < 64) : a ^^^ b < 64 := Nat.xor_lt_two_pow (n := 6) h g
theorem dk_pw {c : Nat} (h : c < 6) : 2 ^ c < 64 := Nat.pow_lt_pow_right (by decide : 1 < 2) h
theorem dk_tp (c i : Nat) : (2 ^ c).testBit i = decide (c = i) := Nat.testBit_two_pow
theorem dk_pwi {a b : Nat} (h : 2 ^ a = 2 ^ b) : a = b := by
  have t : (2 ^ b).testBit a = true := by rw [← h]; exact Nat.testBit_two_pow_self
  rw [dk_tp] at t; exact (of_decide_eq_true t).symm
theorem dk_ne {a : Nat} (h : a ≠ 0) : ∃ i, a.testBit i = true := by
  rcases Classical.em (∃ i, a.testBit i = true) with z | z
  · exact z
  · exfalso; apply h
    apply Nat.eq_of_testBit_eq
    intro i
    rw [Nat.zero_testBit]
    cases e : a.testBit i
    · rfl
    · exact absurd ⟨i, e⟩ z
theorem dk_nsu {a b : Nat} (h : ¬ dk_su a b) : ∃ i, a.testBit i = true ∧ b.testBit i = false := by
  rcases Classical.em (∃ i, a.testBit i = true ∧ b.testBit i = false) with z | z
  · exact z
  · exfalso; apply h
    intro i ha
    cases e : b.testBit i
    · exact absurd ⟨i, ha, e⟩ z
    · rfl
/-! bits of ints -/
theorem dk_31 : ∀ n, n < 32 → ((nI n &&& 31).toBitVec.smod 32).toNat = n := by decide +kernel
theorem dk_bit {a c : Nat} (ha : a < 2 ^ 31) (hc : c < 32) : (nI a >>> (nI c &&& 31)) &&& 1 = nI (a / 2 ^ c % 2) := by
  rw [pk_shrN ha _ c (dk_31 c hc)]
  exact pk_andN (Nat.lt_of_le_of_lt (Nat.div_le_self _ _) (by omega)) 1 (by decide)
theorem dk_b1 {a c : Nat} (ha : a < 2 ^ 31) (hc : c < 32) : (nI a >>> (nI c &&& 31)) &&& 1 = 1 ↔ a.testBit c = true := by
  rw [dk_bit ha hc, Nat.testBit_eq_decide_div_mod_eq, decide_eq_true_iff]
  exact nI_eq (b := 1) (by omega) (by decide)
theorem dk_b0 {a c : Nat} (ha : a < 2 ^ 31) (hc : c < 32) : (nI a >>> (nI c &&& 31)) &&& 1 = 0 ↔ a.testBit c = false := by
  rw [dk_bit ha hc, Nat.testBit_eq_decide_div_mod_eq, decide_eq_false_iff_not]
  refine (nI_eq (b := 0) (by omega) (by decide)).trans ?_
  omega
theorem dk_sh : ∀ c, c < 31 → (1 : Int32) <<< (nI c &&& 31) = nI (2 ^ c) := by decide +kernel
theorem dk_n63 : (63 : Int32) = nI 63 := rfl
/-! longs as sets of rows -/
def dk_hb (w : Int64) (j : Nat) : Bool := w.toBitVec.getLsbD j
theorem dk_cu : ∀ k, k < 64 → ((nI k).toInt64.toUInt64 &&& Int64.toUInt64 63).toNat = k := by decide +kernel
theorem dk_s1 : ∀ k, k < 64 → ((1 : Int64) <<< ((nI k).toInt64 &&& 63)).toBitVec = BitVec.twoPow 64 k := by decide +kernel
theorem dk_hb1 {w : Int64} {j : Nat} (hj : j < 64) : ((w.toUInt64 >>> ((nI j).toInt64.toUInt64 &&& Int64.toUInt64 63)).toInt64 &&& 1) = 1 ↔ dk_hb w j = true := by
  have e : (w.toUInt64 >>> ((nI j).toInt64.toUInt64 &&& Int64.toUInt64 63)).toInt64.toBitVec = w.toBitVec >>> j := by
    apply BitVec.eq_of_toNat_eq
    show (w.toUInt64 >>> ((nI j).toInt64.toUInt64 &&& Int64.toUInt64 63)).toNat = _
    rw [UInt64.toNat_shiftRight, dk_cu j hj, Nat.mod_eq_of_lt hj, BitVec.toNat_ushiftRight]
    rfl
  rw [← Int64.toBitVec_inj, Int64.toBitVec_and, e]
  show w.toBitVec >>> j &&& 1#64 = 1#64 ↔ _
  unfold dk_hb
  constructor
  · intro h
    have t := congrArg (fun x => x.getLsbD 0) h
    simpa [BitVec.getLsbD_and, BitVec.getLsbD_ushiftRight] using t
  · intro h
    apply BitVec.eq_of_getLsbD_eq
    intro i hi
    rw [BitVec.getLsbD_and, BitVec.getLsbD_ushiftRight, BitVec.getLsbD_one]
    rcases Nat.eq_zero_or_pos i with z | z
    · subst z; rw [Nat.add_zero, h]; rfl
    · have : decide (0 = i) = false := decide_eq_false (by omega)
      simp [this]; omega
theorem dk_hbo {w : Int64} {k j : Nat} (hk : k < 64) : dk_hb (w ||| ((1 : Int64) <<< ((nI k).toInt64 &&& 63))) j = (dk_hb w j || decide (j = k)) := by
  unfold dk_hb
  rw [Int64.toBitVec_or, dk_s1 k hk, BitVec.getLsbD_or, BitVec.getLsbD_twoPow]
  rw [decide_eq_true hk, Bool.true_and]
  congr 1
  exact decide_eq_decide.mpr ⟨Eq.symm, Eq.symm⟩
theorem dk_hbx {w w' : Int64} (h : ∀ j, j < 64 → dk_hb w j = dk_hb w' j) : w = w' :=
  Int64.toBitVec_inj.mp (BitVec.eq_of_getLsbD_eq (fun i hi => h i hi))
theorem dk_hb0 (j : Nat) : dk_hb 0 j = false := BitVec.getLsbD_zero
theorem dk_hb1' (j : Nat) : dk_hb 1 j = decide (j = 0) := by
  show (1#64).getLsbD j = _
  rw [BitVec.getLsbD_one]
  rcases Nat.eq_zero_or_pos j with z | z
  · subst z; rfl
  · rw [decide_eq_false (by omega : ¬ j = 0)]; simp
/-! booleans -/
def dk_bI (b : Bool) : Int32 := if b then 1 else 0
theorem dk_bI0 {b : Bool} : dk_bI b = 0 ↔ b = false := by cases b <;> simp [dk_bI]
theorem dk_bIn (b : Bool) : narrow .boolean (.int (dk_bI b)) = .int (dk_bI b) := by cases b <;> rfl
theorem dk_nb0 : vp_nar .boolean 0 = 0 := rfl
theorem dk_nb1 : vp_nar .boolean 1 = 1 := rfl
theorem dk_if {c d A B : Prop} (e : c ↔ d) (f : d → A) (g : ¬ d → B) : (c → A) ∧ (¬ c → B) := ⟨fun h => f (e.mp h), fun h => g (fun z => h (e.mpr z))⟩
end
section
/-! the dependencies' meaning: tables of rows over two base rows; the least one; blocks -/
def dk_mix (v w r s : Nat) : Nat := (r &&& (v ||| w)) ||| dk_sd s (v ||| w)
/-- a table M over the columns outside of S that holds the base rows and keeps every dependency in A -/
def dk_Mod (A : Nat → Prop) (L R : Nat → Nat) (B : Nat → Bool) (S : Nat) (M : Nat → Prop) : Prop :=
  (∀ r, M r → r < 64 ∧ r &&& S = 0) ∧ M 0 ∧ M (dk_sd 63 S) ∧
  (∀ k, A k → ∀ r s, M r → M s → (r ^^^ s) &&& L k = 0 → (B k = true → M (dk_mix (L k) (R k) r s)) ∧ (B k = false → (r ^^^ s) &&& R k = 0))
def dk_IsC (A : Nat → Prop) (L R : Nat → Nat) (B : Nat → Bool) (x C : Nat) : Prop :=
  C < 64 ∧ dk_su x C ∧ (∃ M, dk_Mod A L R B C M) ∧ ∀ S M, dk_Mod A L R B S M → dk_su x S → dk_su C S
def dk_InT (A : Nat → Prop) (L R : Nat → Nat) (B : Nat → Bool) (C r : Nat) : Prop := ∀ M, dk_Mod A L R B C M → M r
noncomputable def dk_cf (A : Nat → Prop) (L R : Nat → Nat) (B : Nat → Bool) (x : Nat) : Nat :=
  @dite Nat (∃ C, dk_IsC A L R B x C) (Classical.propDecidable _) (fun h => h.choose) (fun _ => 0)
section
variable {A : Nat → Prop} {L R : Nat → Nat} {B : Nat → Bool}
theorem dk_IsC_u {x C C' : Nat} (h : dk_IsC A L R B x C) (g : dk_IsC A L R B x C') : C = C' := by
  obtain ⟨_, h2, ⟨M, hM⟩, h4⟩ := h
  obtain ⟨_, g2, ⟨N, hN⟩, g4⟩ := g
  exact dk_su_eq (h4 C' N hN g2) (g4 C M hM h2)
theorem dk_cf_e {x C : Nat} (h : dk_IsC A L R B x C) : dk_cf A L R B x = C := by
  have z : ∃ C, dk_IsC A L R B x C := ⟨C, h⟩
  have e : dk_cf A L R B x = z.choose := by unfold dk_cf; exact dif_pos z
  rw [e]
  exact dk_IsC_u z.choose_spec h
/-- swap sets: a table may take a block's columns from another row -/
def dk_SW (A : Nat → Prop) (L R : Nat → Nat) (B : Nat → Bool) (x b : Nat) : Prop :=
  ∀ S M, dk_Mod A L R B S M → dk_su x S → ∀ r s, M r → M s → M (dk_sd r b ||| (s &&& b))
theorem dk_SW0 (x : Nat) : dk_SW A L R B x (dk_sd 63 x) := by
  intro S M hM hx r s hr hs
  have e : dk_sd r (dk_sd 63 x) ||| (s &&& dk_sd 63 x) = s := by
    apply Nat.eq_of_testBit_eq
    intro i
    obtain ⟨r1, r2⟩ := hM.1 r hr
    obtain ⟨s1, s2⟩ := hM.1 s hs
    have a1 := dk_and0.mp r2 i
    have a2 := dk_and0.mp s2 i
    have a3 := hx i
    simp only [Nat.testBit_or, Nat.testBit_and, dk_tsd, dk_63]
    rcases Nat.lt_or_ge i 6 with z | z
    · rw [decide_eq_true z]
      cases e1 : r.testBit i <;> cases e2 : s.testBit i <;> cases e3 : x.testBit i <;> cases e4 : S.testBit i <;> simp_all
    · rw [dk_hi r1 z, dk_hi s1 z]; simp
  rw [e]; exact hs
theorem dk_SWb {x b k : Nat} (hk : A k) (hB : B k = true) (hb : b &&& L k = 0) (h : dk_SW A L R B x b) :
    dk_SW A L R B x (b &&& R k) ∧ dk_SW A L R B x (dk_sd b (R k)) := by
  have key : ∀ S M, dk_Mod A L R B S M → dk_su x S → ∀ r s, M r → M s → M (dk_sd r (b &&& R k) ||| (s &&& (b &&& R k))) ∧ M (dk_sd r (dk_sd b (R k)) ||| (s &&& dk_sd b (R k))) := by
    intro S M hM hx r s hr hs
    have hu := h S M hM hx r s hr hs
    have ag : ((dk_sd r b ||| (s &&& b)) ^^^ r) &&& L k = 0 := by
      apply Nat.eq_of_testBit_eq
      intro i
      have a1 := dk_and0.mp hb i
      simp only [Nat.testBit_or, Nat.testBit_and, Nat.testBit_xor, dk_tsd, Nat.zero_testBit]
      cases e1 : r.testBit i <;> cases e2 : s.testBit i <;> cases e3 : b.testBit i <;> cases e4 : (L k).testBit i <;> simp_all
    have ag' : (r ^^^ (dk_sd r b ||| (s &&& b))) &&& L k = 0 := by rw [Nat.xor_comm]; exact ag
    have m1 := (hM.2.2.2 k hk _ _ hu hr ag).1 hB
    have m2 := (hM.2.2.2 k hk _ _ hr hu ag').1 hB
    have e1 : dk_mix (L k) (R k) (dk_sd r b ||| (s &&& b)) r = dk_sd r (b &&& R k) ||| (s &&& (b &&& R k)) := by
      apply Nat.eq_of_testBit_eq
      intro i
      have a1 := dk_and0.mp hb i
      simp only [dk_mix, Nat.testBit_or, Nat.testBit_and, dk_tsd]
      cases e1 : r.testBit i <;> cases e2 : s.testBit i <;> cases e3 : b.testBit i <;> cases e4 : (L k).testBit i <;> cases e5 : (R k).testBit i <;> simp_all
    have e2 : dk_mix (L k) (R k) r (dk_sd r b ||| (s &&& b)) = dk_sd r (dk_sd b (R k)) ||| (s &&& dk_sd b (R k)) := by
      apply Nat.eq_of_testBit_eq
      intro i
      have a1 := dk_and0.mp hb i
      simp only [dk_mix, Nat.testBit_or, Nat.testBit_and, dk_tsd]
      cases e1 : r.testBit i <;> cases e2 : s.testBit i <;> cases e3 : b.testBit i <;> cases e4 : (L k).testBit i <;> cases e5 : (R k).testBit i <;> simp_all
    rw [e1] at m1; rw [e2] at m2
    exact ⟨m1, m2⟩
  exact ⟨fun S M hM hx r s hr hs => (key S M hM hx r s hr hs).1, fun S M hM hx r s hr hs => (key S M hM hx r s hr hs).2⟩
theorem dk_SWs {x b k c : Nat} (hk : A k) (hB : B k = false) (hc : (R k).testBit c = true) (hb : b &&& L k = 0) (h : dk_SW A L R B x b) :
    dk_SW A L R B x (b &&& 2 ^ c) ∧ dk_SW A L R B x (dk_sd b (2 ^ c)) := by
  have key : ∀ S M, dk_Mod A L R B S M → dk_su x S → ∀ r s, M r → M s → M (dk_sd r (b &&& 2 ^ c) ||| (s &&& (b &&& 2 ^ c))) ∧ M (dk_sd r (dk_sd b (2 ^ c)) ||| (s &&& dk_sd b (2 ^ c))) := by
    intro S M hM hx r s hr hs
    have hu := h S M hM hx r s hr hs
    have ag : ((dk_sd r b ||| (s &&& b)) ^^^ r) &&& L k = 0 := by
      apply Nat.eq_of_testBit_eq
      intro i
      have a1 := dk_and0.mp hb i
      simp only [Nat.testBit_or, Nat.testBit_and, Nat.testBit_xor, dk_tsd, Nat.zero_testBit]
      cases e1 : r.testBit i <;> cases e2 : s.testBit i <;> cases e3 : b.testBit i <;> cases e4 : (L k).testBit i <;> simp_all
    have m1 := (hM.2.2.2 k hk _ _ hu hr ag).2 hB
    have q := dk_and0.mp m1 c
    simp only [Nat.testBit_or, Nat.testBit_and, Nat.testBit_xor, dk_tsd] at q
    have e1 : dk_sd r (b &&& 2 ^ c) ||| (s &&& (b &&& 2 ^ c)) = r := by
      apply Nat.eq_of_testBit_eq
      intro i
      simp only [Nat.testBit_or, Nat.testBit_and, dk_tsd, dk_tp]
      rcases Nat.decEq c i with z | z
      · rw [decide_eq_false z]; simp
      · subst z
        rw [decide_eq_true rfl]
        cases e1 : r.testBit c <;> cases e2 : s.testBit c <;> cases e3 : b.testBit c <;> simp_all
    have e2 : dk_sd r (dk_sd b (2 ^ c)) ||| (s &&& dk_sd b (2 ^ c)) = dk_sd r b ||| (s &&& b) := by
      apply Nat.eq_of_testBit_eq
      intro i
      simp only [Nat.testBit_or, Nat.testBit_and, dk_tsd, dk_tp]
      rcases Nat.decEq c i with z | z
      · rw [decide_eq_false z]; simp
      · subst z
        rw [decide_eq_true rfl]
        cases e1 : r.testBit c <;> cases e2 : s.testBit c <;> cases e3 : b.testBit c <;> simp_all
    rw [e1, e2]
    exact ⟨hr, hu⟩
  exact ⟨fun S M hM hx r s hr hs => (key S M hM hx r s hr hs).1, fun S M hM hx r s hr hs => (key S M hM hx r s hr hs).2⟩
end
/-! sizes -/
def dk_t (b : Bool) : Nat := if b then 1 else 0
def dk_pc (a : Nat) : Nat := dk_t (a.testBit 0) + dk_t (a.testBit 1) + dk_t (a.testBit 2) + dk_t (a.testBit 3) + dk_t (a.testBit 4) + dk_t (a.testBit 5)
theorem dk_t2 (a b : Bool) : dk_t (a && b) + dk_t (a && !b) = dk_t a := by cases a <;> cases b <;> rfl
theorem dk_pc2 (a y : Nat) : dk_pc (a &&& y) + dk_pc (dk_sd a y) = dk_pc a := by
  unfold dk_pc
  simp only [Nat.testBit_and, dk_tsd]
  have h0 := dk_t2 (a.testBit 0) (y.testBit 0)
  have h1 := dk_t2 (a.testBit 1) (y.testBit 1)
  have h2 := dk_t2 (a.testBit 2) (y.testBit 2)
  have h3 := dk_t2 (a.testBit 3) (y.testBit 3)
  have h4 := dk_t2 (a.testBit 4) (y.testBit 4)
  have h5 := dk_t2 (a.testBit 5) (y.testBit 5)
  omega
theorem dk_pc1 : ∀ a, a < 64 → a ≠ 0 → 1 ≤ dk_pc a := by decide +kernel
theorem dk_pc6 : ∀ a, a < 64 → dk_pc a ≤ 6 := by decide +kernel
theorem dk_pcl' : ∀ a, a < 64 → ∀ b, b < 64 → a &&& b = a → a ≠ b → dk_pc a < dk_pc b := by decide +kernel
theorem dk_pcl {a b : Nat} (ha : a < 64) (hb : b < 64) (h : dk_su a b) (hn : a ≠ b) : dk_pc a < dk_pc b := dk_pcl' a ha b hb (dk_andE.mpr h) hn
theorem dk_pcle {a b : Nat} (ha : a < 64) (hb : b < 64) (h : dk_su a b) : dk_pc a ≤ dk_pc b := by
  rcases Nat.decEq a b with z | z
  · exact Nat.le_of_lt (dk_pcl ha hb h z)
  · rw [z]; exact Nat.le_refl _
def dk_sm (f : Nat → Nat) : Nat → Nat
  | 0 => 0
  | n + 1 => dk_sm f n + f n
theorem dk_sm_c {f g : Nat → Nat} : ∀ n, (∀ k, k < n → f k = g k) → dk_sm f n = dk_sm g n
  | 0, _ => rfl
  | n + 1, h => by simp only [dk_sm]; rw [dk_sm_c n (fun k hk => h k (by omega)), h n (by omega)]
theorem dk_sm_u {f g : Nat → Nat} {k : Nat} : ∀ n, k < n → (∀ j, j < n → j ≠ k → g j = f j) → dk_sm g n + f k = dk_sm f n + g k
  | 0, h, _ => by omega
  | n + 1, h, e => by
    simp only [dk_sm]
    rcases Nat.lt_or_ge k n with z | z
    · have a := dk_sm_u n z (fun j hj hn => e j (by omega) hn)
      have b := e n (by omega) (by omega)
      omega
    · have : k = n := by omega
      subst this
      have b := dk_sm_c (f := g) (g := f) k (fun j hj => e j (by omega) (by omega))
      omega
theorem dk_sm_ge {f : Nat → Nat} : ∀ n, (∀ k, k < n → 1 ≤ f k) → n ≤ dk_sm f n
  | 0, _ => Nat.le_refl _
  | n + 1, h => by
    have a := dk_sm_ge (f := f) n (fun k hk => h k (by omega))
    have b := h n (by omega)
    simp only [dk_sm]; omega
end
section
/-! blocks of the columns outside of x -/
def dk_BI (A : Nat → Prop) (L R : Nat → Nat) (B : Nat → Bool) (x nb : Nat) (bl : Nat → Nat) : Prop :=
  (∀ k, k < nb → bl k < 64 ∧ bl k ≠ 0 ∧ bl k &&& x = 0 ∧ dk_SW A L R B x (bl k)) ∧
  (∀ j k, j < nb → k < nb → j ≠ k → bl j &&& bl k = 0) ∧
  (∀ i, i < 6 → x.testBit i = false → ∃ k, k < nb ∧ (bl k).testBit i = true) ∧
  dk_sm (fun k => dk_pc (bl k)) nb ≤ 6
def dk_St1 (v w nb : Nat) (bl : Nat → Nat) : Prop := ∀ j, j < nb → bl j &&& v = 0 → bl j &&& w = 0 ∨ bl j &&& w = bl j
def dk_Stb (L R : Nat → Nat) (B : Nat → Bool) (d nb : Nat) (bl : Nat → Nat) : Prop :=
  (B d = true → dk_St1 (L d) (R d) nb bl) ∧ (B d = false → ∀ c, c < 6 → (R d).testBit c = true → dk_St1 (L d) (2 ^ c) nb bl)
def dk_det (A : Nat → Prop) (L R : Nat → Nat) (B : Nat → Bool) (c : Nat) : Prop := ∃ d, A d ∧ B d = false ∧ (R d).testBit c = true ∧ (L d).testBit c = false
def dk_spl (bl : Nat → Nat) (nb k y : Nat) : Nat → Nat := fun j => if j = k then bl k &&& y else if j = nb then dk_sd (bl k) (bl k &&& y) else bl j
section
variable {A : Nat → Prop} {L R : Nat → Nat} {B : Nat → Bool}
theorem dk_BI6 {x nb : Nat} {bl : Nat → Nat} (h : dk_BI A L R B x nb bl) : nb ≤ 6 :=
  Nat.le_trans (dk_sm_ge nb (fun k hk => dk_pc1 _ (h.1 k hk).1 (h.1 k hk).2.1)) h.2.2.2
theorem dk_BI_0 : dk_BI A L R B 63 0 (fun _ => 0) := by
  refine ⟨fun k hk => by omega, fun j k hj => by omega, fun i hi z => ?_, by decide⟩
  rw [dk_63, decide_eq_true hi] at z; cases z
theorem dk_BI_1 {x : Nat} {bl : Nat → Nat} (hx : x < 64) (hn : x ≠ 63) (hb : bl 0 = dk_sd 63 x) : dk_BI A L R B x 1 bl := by
  have n0 : dk_sd 63 x ≠ 0 := by
    intro z
    exact hn (dk_su_eq (dk_su63 hx) (dk_sd0.mp z))
  have z : ∀ k, k < 1 → bl k = dk_sd 63 x := fun k hk => by rw [show k = 0 by omega]; exact hb
  refine ⟨fun k hk => ?_, fun j k hj hk hn => by omega, fun i hi z => ⟨0, by omega, ?_⟩, ?_⟩
  · rw [z k hk]
    refine ⟨dk_sd_lt (by decide), n0, ?_, dk_SW0 x⟩
    apply dk_and0.mpr
    intro i h
    rw [dk_tsd] at h
    cases e : x.testBit i <;> simp_all
  · rw [hb, dk_tsd, dk_63, z, decide_eq_true hi]; rfl
  · show 0 + dk_pc (bl 0) ≤ 6
    rw [hb, Nat.zero_add]; exact dk_pc6 _ (dk_sd_lt (by decide))
theorem dk_split {x nb : Nat} {bl : Nat → Nat} {k y : Nat} (h : dk_BI A L R B x nb bl) (hk : k < nb) (h0 : bl k &&& y ≠ 0) (h1 : bl k &&& y ≠ bl k)
    (s1 : dk_SW A L R B x (bl k &&& y)) (s2 : dk_SW A L R B x (dk_sd (bl k) y)) : nb < 6 ∧ dk_BI A L R B x (nb + 1) (dk_spl bl nb k y) := by
  obtain ⟨g1, g2, g3, g4⟩ := h
  obtain ⟨k1, k2, k3, k4⟩ := g1 k hk
  have ey : dk_sd (bl k) (bl k &&& y) = dk_sd (bl k) y := by
    apply Nat.eq_of_testBit_eq
    intro i
    simp only [dk_tsd, Nat.testBit_and]
    cases (bl k).testBit i <;> cases y.testBit i <;> rfl
  have vk : dk_spl bl nb k y k = bl k &&& y := if_pos rfl
  have vn : dk_spl bl nb k y nb = dk_sd (bl k) y := by
    unfold dk_spl
    rw [if_neg (by omega), if_pos rfl, ey]
  have vo : ∀ j, j < nb → j ≠ k → dk_spl bl nb k y j = bl j := fun j hj hn => by unfold dk_spl; rw [if_neg hn, if_neg (by omega)]
  have d0 : dk_sd (bl k) y ≠ 0 := by
    intro z
    exact h1 (dk_andE.mpr (dk_sd0.mp z))
  have p1 := dk_pc1 _ (dk_and_lt (b := y) k1) h0
  have p2 := dk_pc1 _ (dk_sd_lt (b := y) k1) d0
  have p3 := dk_pc2 (bl k) y
  have u1 : dk_sm (fun j => dk_pc (dk_spl bl nb k y j)) nb + dk_pc (bl k) = dk_sm (fun j => dk_pc (bl j)) nb + dk_pc (dk_spl bl nb k y k) :=
    dk_sm_u (f := fun j => dk_pc (bl j)) (g := fun j => dk_pc (dk_spl bl nb k y j)) nb hk (fun j hj hn => by show dk_pc (dk_spl bl nb k y j) = dk_pc (bl j); rw [vo j hj hn])
  rw [vk] at u1
  have u2 : dk_sm (fun j => dk_pc (dk_spl bl nb k y j)) (nb + 1) ≤ 6 := by
    show dk_sm (fun j => dk_pc (dk_spl bl nb k y j)) nb + dk_pc (dk_spl bl nb k y nb) ≤ 6
    rw [vn]; omega
  have sub1 : ∀ i, (bl k &&& y).testBit i = true → (bl k).testBit i = true := fun i z => by rw [Nat.testBit_and] at z; cases e : (bl k).testBit i <;> simp_all
  have sub2 : ∀ i, (dk_sd (bl k) y).testBit i = true → (bl k).testBit i = true := fun i z => by rw [dk_tsd] at z; cases e : (bl k).testBit i <;> simp_all
  have all : ∀ j, j < nb + 1 → dk_spl bl nb k y j < 64 ∧ dk_spl bl nb k y j ≠ 0 ∧ dk_spl bl nb k y j &&& x = 0 ∧ dk_SW A L R B x (dk_spl bl nb k y j) := by
    intro j hj
    rcases Nat.decEq j k with z | z
    · rcases Nat.lt_or_ge j nb with w | w
      · rw [vo j w z]; exact g1 j w
      · have : j = nb := by omega
        subst this
        rw [vn]
        exact ⟨dk_sd_lt k1, d0, dk_and0.mpr (fun i hi => dk_and0.mp k3 i (sub2 i hi)), s2⟩
    · subst z
      rw [vk]
      exact ⟨dk_and_lt k1, h0, dk_and0.mpr (fun i hi => dk_and0.mp k3 i (sub1 i hi)), s1⟩
  refine ⟨?_, all, ?_, ?_, u2⟩
  · have := dk_sm_ge (f := fun j => dk_pc (dk_spl bl nb k y j)) (nb + 1) (fun j hj => dk_pc1 _ (all j hj).1 (all j hj).2.1)
    omega
  · have up : ∀ j, j < nb + 1 → ∃ o, o < nb ∧ (∀ i, (dk_spl bl nb k y j).testBit i = true → (bl o).testBit i = true) ∧ ((o = j ∧ j < nb) ∨ (j = nb ∧ o = k)) := by
      intro j hj
      rcases Nat.decEq j k with z | z
      · rcases Nat.lt_or_ge j nb with w | w
        · exact ⟨j, w, fun i hi => by rw [vo j w z] at hi; exact hi, Or.inl ⟨rfl, w⟩⟩
        · have : j = nb := by omega
          subst this
          exact ⟨k, hk, fun i hi => by rw [vn] at hi; exact sub2 i hi, Or.inr ⟨rfl, rfl⟩⟩
      · subst z
        exact ⟨j, hk, fun i hi => by rw [vk] at hi; exact sub1 i hi, Or.inl ⟨rfl, hk⟩⟩
    have kn : (bl k &&& y) &&& dk_sd (bl k) y = 0 := by
      apply dk_and0.mpr
      intro i hi
      rw [Nat.testBit_and] at hi
      rw [dk_tsd]
      cases e : y.testBit i <;> simp_all
    intro i j hi hj hn
    obtain ⟨o, o1, o2, o3⟩ := up i hi
    obtain ⟨q, q1, q2, q3⟩ := up j hj
    rcases Nat.decEq o q with z | z
    · exact dk_and0.mpr (fun t ht => by
        cases e : (dk_spl bl nb k y j).testBit t
        · rfl
        · have a := dk_and0.mp (g2 o q o1 q1 z) t (o2 t ht)
          rw [q2 t e] at a; cases a)
    · subst z
      rcases o3 with ⟨a, a'⟩ | ⟨a, a'⟩ <;> rcases q3 with ⟨b, b'⟩ | ⟨b, b'⟩
      · omega
      · subst b'; subst a; subst b; rw [vk, vn]; exact kn
      · subst a'; subst b; subst a; rw [vk, vn, Nat.and_comm]; exact kn
      · omega
  · intro i hi hx
    obtain ⟨o, o1, o2⟩ := g3 i hi hx
    rcases Nat.decEq o k with z | z
    · exact ⟨o, by omega, by rw [vo o o1 z]; exact o2⟩
    · subst z
      cases e : y.testBit i
      · exact ⟨nb, by omega, by rw [vn, dk_tsd, o2, e]; rfl⟩
      · exact ⟨o, by omega, by rw [vk, Nat.testBit_and, o2, e]; rfl⟩
/-- when nothing parts a block any more: the closure, and its table -/
def dk_T (C nb : Nat) (bl : Nat → Nat) (r : Nat) : Prop := r < 64 ∧ r &&& C = 0 ∧ ∀ k, k < nb → bl k &&& r = 0 ∨ bl k &&& r = bl k
def dk_isC (A : Nat → Prop) (L R : Nat → Nat) (B : Nat → Bool) (x nb : Nat) (bl : Nat → Nat) (C : Nat) : Prop :=
  C < 64 ∧ ∀ i, C.testBit i = true ↔ (x.testBit i = true ∨ ∃ k, k < nb ∧ bl k = 2 ^ i ∧ dk_det A L R B i)
theorem dk_blC {x nb : Nat} {bl : Nat → Nat} {C k : Nat} (h : dk_BI A L R B x nb bl) (hC : dk_isC A L R B x nb bl C) (hk : k < nb) :
    (∃ i, bl k = 2 ^ i ∧ C.testBit i = true) ∨ bl k &&& C = 0 := by
  rcases Classical.em (∃ i, (bl k).testBit i = true ∧ C.testBit i = true) with z | z
  · obtain ⟨i, z1, z2⟩ := z
    rcases (hC.2 i).mp z2 with w | ⟨j, j1, j2, _⟩
    · have := dk_and0.mp (h.1 k hk).2.2.1 i z1
      rw [w] at this; cases this
    · rcases Nat.decEq k j with v | v
      · have := dk_and0.mp (h.2.1 k j hk j1 v) i z1
        rw [j2, Nat.testBit_two_pow_self] at this; cases this
      · subst v; exact Or.inl ⟨i, j2, z2⟩
  · exact Or.inr (dk_and0.mpr (fun i hi => by cases e : C.testBit i; rfl; exact absurd ⟨i, hi, e⟩ z))
theorem dk_T_diff {x nb : Nat} {bl : Nat → Nat} {C k r s i : Nat} (hr : dk_T C nb bl r) (hs : dk_T C nb bl s) (hk : k < nb) (hi : (bl k).testBit i = true) (hd : (r ^^^ s).testBit i = true) :
    ∀ j, (bl k).testBit j = true → (r ^^^ s).testBit j = true := by
  intro j hj
  rw [Nat.testBit_xor] at hd ⊢
  rcases hr.2.2 k hk with a | a <;> rcases hs.2.2 k hk with b | b
  · rw [dk_and0.mp a i hi, dk_and0.mp b i hi] at hd; cases hd
  · rw [dk_and0.mp a j hj, dk_andE.mp b j hj]; rfl
  · rw [dk_andE.mp a j hj, dk_and0.mp b j hj]; rfl
  · rw [dk_andE.mp a i hi, dk_andE.mp b i hi] at hd; cases hd
theorem dk_T_mod {x nb : Nat} {bl : Nat → Nat} {C : Nat} (h : dk_BI A L R B x nb bl) (hs : ∀ d, A d → dk_Stb L R B d nb bl) (hC : dk_isC A L R B x nb bl C) : dk_Mod A L R B C (dk_T C nb bl) := by
  refine ⟨fun r hr => ⟨hr.1, hr.2.1⟩, ⟨by decide, Nat.zero_and _, fun k hk => Or.inl (Nat.and_zero _)⟩, ⟨dk_sd_lt (by decide), ?_, fun k hk => ?_⟩, ?_⟩
  · apply dk_and0.mpr
    intro i hi
    rw [dk_tsd] at hi
    cases e : C.testBit i <;> simp_all
  · rcases dk_blC h hC hk with ⟨i, i1, i2⟩ | z
    · left
      apply dk_and0.mpr
      intro j hj
      rw [i1, dk_tp] at hj
      have : i = j := of_decide_eq_true hj
      subst this
      rw [dk_tsd, i2]; simp
    · right
      apply dk_andE.mpr
      intro j hj
      rw [dk_tsd, dk_63, dk_and0.mp z j hj, decide_eq_true (dk_lo (h.1 k hk).1 hj)]; rfl
  · intro d hd r s hr hs' ag
    have dif : ∀ i k, k < nb → (bl k).testBit i = true → (r ^^^ s).testBit i = true → bl k &&& L d = 0 := by
      intro i k hk hi hd
      apply dk_and0.mpr
      intro j hj
      have := dk_T_diff (x := x) hr hs' hk hi hd j hj
      have w := dk_and0.mp ag j this
      exact w
    constructor
    · intro hB
      have mb : ∀ i, (dk_mix (L d) (R d) r s).testBit i = if (L d).testBit i || (R d).testBit i then r.testBit i else s.testBit i := by
        intro i
        simp only [dk_mix, Nat.testBit_or, Nat.testBit_and, dk_tsd]
        cases (L d).testBit i <;> cases (R d).testBit i <;> cases r.testBit i <;> cases s.testBit i <;> rfl
      refine ⟨?_, ?_, fun k hk => ?_⟩
      · apply dk_lt
        intro i hi
        rw [mb] at hi
        split at hi
        · exact dk_lo hr.1 hi
        · exact dk_lo hs'.1 hi
      · apply dk_and0.mpr
        intro i hi
        rw [mb] at hi
        split at hi
        · exact dk_and0.mp hr.2.1 i hi
        · exact dk_and0.mp hs'.2.1 i hi
      · rcases Classical.em (∃ i, (bl k).testBit i = true ∧ (r ^^^ s).testBit i = true) with ⟨i, z1, z2⟩ | z
        · have lk := dif i k hk z1 z2
          rcases (hs d hd).1 hB k hk lk with w | w
          · rcases hs'.2.2 k hk with v | v
            · left
              apply dk_and0.mpr
              intro j hj
              rw [mb, dk_and0.mp lk j hj, dk_and0.mp w j hj]
              exact dk_and0.mp v j hj
            · right
              apply dk_andE.mpr
              intro j hj
              rw [mb, dk_and0.mp lk j hj, dk_and0.mp w j hj]
              exact dk_andE.mp v j hj
          · rcases hr.2.2 k hk with v | v
            · left
              apply dk_and0.mpr
              intro j hj
              rw [mb, dk_andE.mp w j hj]
              simpa using dk_and0.mp v j hj
            · right
              apply dk_andE.mpr
              intro j hj
              rw [mb, dk_andE.mp w j hj]
              simpa using dk_andE.mp v j hj
        · have eq : ∀ j, (bl k).testBit j = true → r.testBit j = s.testBit j := by
            intro j hj
            cases e : (r ^^^ s).testBit j
            · rw [Nat.testBit_xor] at e
              cases a : r.testBit j <;> cases b : s.testBit j <;> simp_all
            · exact absurd ⟨j, hj, e⟩ z
          have mr : ∀ j, (bl k).testBit j = true → (dk_mix (L d) (R d) r s).testBit j = r.testBit j := by
            intro j hj
            rw [mb, ← eq j hj]; split <;> rfl
          rcases hr.2.2 k hk with v | v
          · exact Or.inl (dk_and0.mpr (fun j hj => by rw [mr j hj]; exact dk_and0.mp v j hj))
          · exact Or.inr (dk_andE.mpr (fun j hj => by rw [mr j hj]; exact dk_andE.mp v j hj))
    · intro hB
      apply dk_and0.mpr
      intro c hc
      cases e : (R d).testBit c
      · rfl
      · exfalso
        have c6 : c < 6 := dk_lo (dk_xor_lt hr.1 hs'.1) hc
        have cC : C.testBit c = false := by
          cases f : C.testBit c
          · rfl
          · exfalso
            rw [Nat.testBit_xor] at hc
            have a1 := dk_and0.mp hr.2.1 c
            have a2 := dk_and0.mp hs'.2.1 c
            cases a : r.testBit c <;> cases b : s.testBit c <;> simp_all
        have cx : x.testBit c = false := by
          cases f : x.testBit c
          · rfl
          · rw [(hC.2 c).mpr (Or.inl f)] at cC; cases cC
        obtain ⟨k, k1, k2⟩ := h.2.2.1 c c6 cx
        have lk := dif c k k1 k2 hc
        rcases (hs d hd).2 hB c c6 e k k1 lk with w | w
        · have := dk_and0.mp w c k2
          rw [Nat.testBit_two_pow_self] at this; cases this
        · have bk : bl k = 2 ^ c := by
            apply dk_su_eq (dk_andE.mp w)
            intro j hj
            rw [dk_tp] at hj
            have : c = j := of_decide_eq_true hj
            subst this; exact k2
          have : C.testBit c = true := (hC.2 c).mpr (Or.inr ⟨k, k1, bk, d, hd, hB, e, dk_and0.mp lk c k2⟩)
          rw [this] at cC; cases cC
theorem dk_T_in {x nb : Nat} {bl : Nat → Nat} {C r : Nat} (h : dk_BI A L R B x nb bl) (hC : dk_isC A L R B x nb bl C) (hr : dk_T C nb bl r) : dk_InT A L R B C r := by
  intro M hM
  have hx : dk_su x C := fun i hi => (hC.2 i).mpr (Or.inl hi)
  have step : ∀ n, n ≤ nb → ∃ g, M g ∧ ∀ i, g.testBit i = true ↔ (r.testBit i = true ∧ ∃ k, k < n ∧ (bl k).testBit i = true) := by
    intro n
    induction n with
    | zero => intro _; exact ⟨0, hM.2.1, fun i => by simp⟩
    | succ n ih =>
      intro hn
      obtain ⟨g, g1, g2⟩ := ih (by omega)
      rcases hr.2.2 n (by omega) with z | z
      · refine ⟨g, g1, fun i => ?_⟩
        rw [g2]
        constructor
        · rintro ⟨a, k, k1, k2⟩; exact ⟨a, k, by omega, k2⟩
        · rintro ⟨a, k, k1, k2⟩
          refine ⟨a, k, ?_, k2⟩
          rcases Nat.lt_or_ge k n with w | w
          · exact w
          · have : k = n := by omega
            subst this
            rw [dk_and0.mp z i k2] at a; cases a
      · have sw := (h.1 n (by omega)).2.2.2 C M hM hx g (dk_sd 63 C) g1 hM.2.2.1
        refine ⟨_, sw, fun i => ?_⟩
        simp only [Nat.testBit_or, Nat.testBit_and, dk_tsd, dk_63]
        have q := g2 i
        cases e : (bl n).testBit i
        · have : (∃ k, k < n + 1 ∧ (bl k).testBit i = true) ↔ (∃ k, k < n ∧ (bl k).testBit i = true) := by
            constructor
            · rintro ⟨k, k1, k2⟩
              refine ⟨k, ?_, k2⟩
              rcases Nat.lt_or_ge k n with w | w
              · exact w
              · have : k = n := by omega
                subst this; rw [e] at k2; cases k2
            · rintro ⟨k, k1, k2⟩; exact ⟨k, by omega, k2⟩
          rw [this, ← q]; simp
        · have a1 := dk_andE.mp z i e
          have a2 := dk_and0.mp hr.2.1 i a1
          have a3 := dk_lo hr.1 a1
          constructor
          · intro _; exact ⟨a1, n, by omega, e⟩
          · intro _; simp [a2, a3]
  obtain ⟨g, g1, g2⟩ := step nb (Nat.le_refl _)
  have : g = r := by
    apply dk_su_eq
    · intro i hi; exact ((g2 i).mp hi).1
    · intro i hi
      have a2 : C.testBit i = false := dk_and0.mp hr.2.1 i hi
      have a3 : x.testBit i = false := by
        cases f : x.testBit i
        · rfl
        · rw [hx i f] at a2; cases a2
      obtain ⟨k, k1, k2⟩ := h.2.2.1 i (dk_lo hr.1 hi) a3
      exact (g2 i).mpr ⟨hi, k, k1, k2⟩
  rw [← this]; exact g1
theorem dk_C_least {x nb : Nat} {bl : Nat → Nat} {C S : Nat} {M : Nat → Prop} (h : dk_BI A L R B x nb bl) (hC : dk_isC A L R B x nb bl C) (hM : dk_Mod A L R B S M) (hx : dk_su x S) : dk_su C S := by
  intro i hi
  rcases (hC.2 i).mp hi with z | ⟨k, k1, k2, d, d1, d2, d3, d4⟩
  · exact hx i z
  · cases e : S.testBit i
    · exfalso
      have sw := (h.1 k k1).2.2.2 S M hM hx 0 (dk_sd 63 S) hM.2.1 hM.2.2.1
      have i6 : i < 6 := dk_lo hC.1 hi
      have e1 : dk_sd 0 (bl k) ||| (dk_sd 63 S &&& bl k) = 2 ^ i := by
        rw [k2]
        apply Nat.eq_of_testBit_eq
        intro j
        simp only [Nat.testBit_or, Nat.testBit_and, dk_tsd, dk_63, dk_tp, Nat.zero_testBit]
        rcases Nat.decEq i j with z | z
        · rw [decide_eq_false z]; simp
        · subst z; rw [e, decide_eq_true i6]; simp
      rw [e1] at sw
      have ag : (0 ^^^ 2 ^ i) &&& L d = 0 := by
        rw [Nat.zero_xor]
        apply dk_and0.mpr
        intro j hj
        rw [dk_tp] at hj
        have : i = j := of_decide_eq_true hj
        subst this; exact d4
      have := (hM.2.2.2 d d1 0 _ hM.2.1 sw ag).2 d2
      rw [Nat.zero_xor] at this
      have w := dk_and0.mp this i Nat.testBit_two_pow_self
      rw [d3] at w; cases w
    · rfl
theorem dk_blk_C {x nb : Nat} {bl : Nat → Nat} {C : Nat} (h : dk_BI A L R B x nb bl) (hs : ∀ d, A d → dk_Stb L R B d nb bl) (hC : dk_isC A L R B x nb bl C) : dk_IsC A L R B x C :=
  ⟨hC.1, fun i hi => (hC.2 i).mpr (Or.inl hi), ⟨_, dk_T_mod h hs hC⟩, fun _ _ hM hx => dk_C_least h hC hM hx⟩
theorem dk_blk_T {x nb : Nat} {bl : Nat → Nat} {C r : Nat} (h : dk_BI A L R B x nb bl) (hs : ∀ d, A d → dk_Stb L R B d nb bl) (hC : dk_isC A L R B x nb bl C) : dk_InT A L R B C r ↔ dk_T C nb bl r :=
  ⟨fun z => z _ (dk_T_mod h hs hC), fun z => dk_T_in h hC z⟩
theorem dk_isC_ex {x nb : Nat} {bl : Nat → Nat} (hx : x < 64) (h : dk_BI A L R B x nb bl) : ∃ C, dk_isC A L R B x nb bl C := by
  have step : ∀ n, n ≤ nb → ∃ C, C < 64 ∧ ∀ i, C.testBit i = true ↔ (x.testBit i = true ∨ ∃ k, k < n ∧ bl k = 2 ^ i ∧ dk_det A L R B i) := by
    intro n
    induction n with
    | zero => intro _; exact ⟨x, hx, fun i => by simp⟩
    | succ n ih =>
      intro hn
      obtain ⟨C, c1, c2⟩ := ih (by omega)
      rcases Classical.em (∃ c, bl n = 2 ^ c ∧ dk_det A L R B c) with ⟨c, z1, z2⟩ | z
      · refine ⟨C ||| bl n, dk_or_lt c1 (h.1 n (by omega)).1, fun i => ?_⟩
        rw [Nat.testBit_or, Bool.or_eq_true, c2, z1, dk_tp, decide_eq_true_iff]
        constructor
        · rintro ((a | ⟨k, k1, k2⟩) | a)
          · exact Or.inl a
          · exact Or.inr ⟨k, by omega, k2⟩
          · subst a; exact Or.inr ⟨n, by omega, z1, z2⟩
        · rintro (a | ⟨k, k1, k2, k3⟩)
          · exact Or.inl (Or.inl a)
          · rcases Nat.lt_or_ge k n with w | w
            · exact Or.inl (Or.inr ⟨k, w, k2, k3⟩)
            · have : k = n := by omega
              subst this
              rw [z1] at k2
              exact Or.inr (dk_pwi k2)
      · refine ⟨C, c1, fun i => ?_⟩
        rw [c2]
        constructor
        · rintro (a | ⟨k, k1, k2⟩)
          · exact Or.inl a
          · exact Or.inr ⟨k, by omega, k2⟩
        · rintro (a | ⟨k, k1, k2, k3⟩)
          · exact Or.inl a
          · rcases Nat.lt_or_ge k n with w | w
            · exact Or.inr ⟨k, w, k2, k3⟩
            · have : k = n := by omega
              subst this
              exact absurd ⟨i, k2, k3⟩ z
  exact step nb (Nat.le_refl _)
end
end
section
/-! bundles, the fourth form, and the closure as an operator -/
section
variable {A : Nat → Prop} {L R : Nat → Nat} {B : Nat → Bool}
theorem dk_bund {x nb : Nat} {bl : Nat → Nat} {C y : Nat} (h : dk_BI A L R B x nb bl) (hs : ∀ d, A d → dk_Stb L R B d nb bl) (hC : dk_isC A L R B x nb bl C) :
    dk_InT A L R B C (dk_sd (dk_sd 63 (x ||| y)) C) ↔ ∀ k, k < nb → bl k &&& y = 0 ∨ bl k &&& y = bl k := by
  rw [dk_blk_T h hs hC]
  have rb : ∀ k, k < nb → bl k &&& C = 0 → ∀ i, (bl k).testBit i = true → (dk_sd (dk_sd 63 (x ||| y)) C).testBit i = !y.testBit i := by
    intro k hk z i hi
    have a1 := dk_lo (h.1 k hk).1 hi
    have a2 := dk_and0.mp z i hi
    have a3 := dk_and0.mp (h.1 k hk).2.2.1 i hi
    simp only [dk_tsd, dk_63, Nat.testBit_or, a2, a3, decide_eq_true a1]
    simp
  constructor
  · intro t k hk
    rcases dk_blC h hC hk with ⟨i, i1, i2⟩ | z
    · cases e : y.testBit i
      · left
        apply dk_and0.mpr
        intro j hj
        rw [i1, dk_tp] at hj
        have : i = j := of_decide_eq_true hj
        subst this; exact e
      · right
        apply dk_andE.mpr
        intro j hj
        rw [i1, dk_tp] at hj
        have : i = j := of_decide_eq_true hj
        subst this; exact e
    · rcases t.2.2 k hk with w | w
      · right
        apply dk_andE.mpr
        intro j hj
        have a := dk_and0.mp w j hj
        rw [rb k hk z j hj] at a
        simpa using a
      · left
        apply dk_and0.mpr
        intro j hj
        have a := dk_andE.mp w j hj
        rw [rb k hk z j hj] at a
        simpa using a
  · intro t
    refine ⟨dk_sd_lt (dk_sd_lt (by decide)), ?_, fun k hk => ?_⟩
    · apply dk_and0.mpr
      intro i hi
      rw [dk_tsd] at hi
      cases e : C.testBit i <;> simp_all
    · rcases dk_blC h hC hk with ⟨i, i1, i2⟩ | z
      · left
        apply dk_and0.mpr
        intro j hj
        rw [i1, dk_tp] at hj
        have : i = j := of_decide_eq_true hj
        subst this
        rw [dk_tsd, i2]; simp
      · rcases t k hk with w | w
        · right
          apply dk_andE.mpr
          intro j hj
          rw [rb k hk z j hj, dk_and0.mp w j hj]; rfl
        · left
          apply dk_and0.mpr
          intro j hj
          rw [rb k hk z j hj, dk_andE.mp w j hj]; rfl
theorem dk_four {x nb : Nat} {bl : Nat → Nat} {C : Nat} (h : dk_BI A L R B x nb bl) (hs : ∀ d, A d → dk_Stb L R B d nb bl) (hC : dk_isC A L R B x nb bl C) :
    nb ≤ 1 ↔ ∀ y, y < 64 → ¬ dk_su y x → x ||| y ≠ 63 → ¬ dk_InT A L R B C (dk_sd (dk_sd 63 (x ||| y)) C) := by
  constructor
  · intro hn y hy h1 h2 t
    rw [dk_bund h hs hC] at t
    obtain ⟨i, i1, i2⟩ := dk_nsu h1
    obtain ⟨k, k1, k2⟩ := h.2.2.1 i (dk_lo hy i1) i2
    have k0 : k = 0 := by omega
    subst k0
    apply h2
    rcases t 0 k1 with w | w
    · rw [dk_and0.mp w i k2] at i1; cases i1
    · apply Nat.eq_of_testBit_eq
      intro j
      rw [dk_63, Nat.testBit_or]
      rcases Nat.lt_or_ge j 6 with z | z
      · rw [decide_eq_true z]
        cases e : x.testBit j
        · obtain ⟨q, q1, q2⟩ := h.2.2.1 j z e
          have q0 : q = 0 := by omega
          subst q0
          rw [dk_andE.mp w j q2]; rfl
        · rfl
      · rw [decide_eq_false (by omega), dk_hi hy z]
        cases e : x.testBit j
        · rfl
        · exfalso
          have := hC.1
          have g := dk_hi hC.1 z
          rw [(hC.2 j).mpr (Or.inl e)] at g; cases g
  · intro t
    rcases Nat.lt_or_ge 1 nb with z | z
    · exfalso
      obtain ⟨i, i1⟩ := dk_ne (h.1 0 (by omega)).2.1
      obtain ⟨j, j1⟩ := dk_ne (h.1 1 z).2.1
      refine t (bl 0) (h.1 0 (by omega)).1 ?_ ?_ ?_
      · intro w
        have a := dk_and0.mp (h.1 0 (by omega)).2.2.1 i i1
        rw [w i i1] at a; cases a
      · intro w
        have a : (x ||| bl 0).testBit j = true := by rw [w, dk_63, decide_eq_true (dk_lo (h.1 1 z).1 j1)]
        rw [Nat.testBit_or, dk_and0.mp (h.1 1 z).2.2.1 j j1, dk_and0.mp (h.2.1 1 0 z (by omega) (by omega)) j j1] at a
        cases a
      · rw [dk_bund h hs hC]
        intro k hk
        rcases Nat.eq_zero_or_pos k with w | w
        · subst w; exact Or.inr (Nat.and_self _)
        · exact Or.inl (h.2.1 k 0 hk (by omega) (by omega))
    · exact z
/-- a closure operator on the sets below 64 -/
def dk_CO (c : Nat → Nat) : Prop := ∀ x, x < 64 → c x < 64 ∧ dk_su x (c x) ∧ c (c x) = c x ∧ ∀ y, y < 64 → dk_su x y → dk_su (c x) (c y)
theorem dk_CO_cf (h : ∀ x, x < 64 → ∃ C, dk_IsC A L R B x C) : dk_CO (dk_cf A L R B) := by
  intro x hx
  obtain ⟨C, hC⟩ := h x hx
  rw [dk_cf_e hC]
  refine ⟨hC.1, hC.2.1, ?_, fun y hy hxy => ?_⟩
  · exact dk_cf_e ⟨hC.1, dk_su_rfl _, hC.2.2.1, fun S M hM z => z⟩
  · obtain ⟨D, hD⟩ := h y hy
    rw [dk_cf_e hD]
    obtain ⟨M, hM⟩ := hD.2.2.1
    exact hC.2.2.2 D M hM (dk_su_tr hxy hD.2.1)
theorem dk_cf_mono {A' : Nat → Prop} {x C C' : Nat} (hA : ∀ k, A' k → A k) (h : dk_IsC A L R B x C) (h' : dk_IsC A' L R B x C') : dk_su C' C := by
  obtain ⟨M, hM⟩ := h.2.2.1
  exact h'.2.2.2 C M ⟨hM.1, hM.2.1, hM.2.2.1, fun k hk => hM.2.2.2 k (hA k hk)⟩ h.2.1
end
end
section
/-! counts (turned from the example large-2) -/
noncomputable def dk_b (P : Prop) : Nat := @ite Nat P (Classical.propDecidable P) 1 0
theorem dk_bt {P : Prop} (h : P) : dk_b P = 1 := by unfold dk_b; rw [if_pos h]
theorem dk_bf {P : Prop} (h : ¬ P) : dk_b P = 0 := by unfold dk_b; rw [if_neg h]
theorem dk_ble (P : Prop) : dk_b P ≤ 1 := by
  rcases Classical.em P with h | h
  · rw [dk_bt h]; omega
  · rw [dk_bf h]; omega
theorem dk_bmono {P Q : Prop} (h : P → Q) : dk_b P ≤ dk_b Q := by
  rcases Classical.em P with hp | hp
  · rw [dk_bt hp, dk_bt (h hp)]; omega
  · rw [dk_bf hp]; omega
noncomputable def dk_cn (P : Nat → Prop) : Nat → Nat
  | 0 => 0
  | k + 1 => dk_cn P k + dk_b (P k)
theorem dk_cn_t {P : Nat → Prop} {n : Nat} (h : P n) : dk_cn P (n + 1) = dk_cn P n + 1 := by simp only [dk_cn]; rw [dk_bt h]
theorem dk_cn_f {P : Nat → Prop} {n : Nat} (h : ¬ P n) : dk_cn P (n + 1) = dk_cn P n := by simp only [dk_cn]; rw [dk_bf h]; rfl
theorem dk_cn_mono {P Q : Nat → Prop} : ∀ {N : Nat}, (∀ k, k < N → P k → Q k) → dk_cn P N ≤ dk_cn Q N
  | 0, _ => Nat.le_refl _
  | N + 1, h => by
    have a := dk_cn_mono (P := P) (Q := Q) (N := N) (fun k hk => h k (by omega))
    have b := dk_bmono (h N (by omega))
    simp only [dk_cn]; omega
theorem dk_cn_lt {P Q : Nat → Prop} {a : Nat} (hp : ¬ P a) (hq : Q a) : ∀ {N : Nat}, (∀ k, k < N → P k → Q k) → a < N → dk_cn P N < dk_cn Q N
  | 0, _, h => by omega
  | N + 1, h, ha => by
    simp only [dk_cn]
    rcases Nat.lt_or_ge a N with z | z
    · have x := dk_cn_lt hp hq (N := N) (fun k hk => h k (by omega)) z
      have b := dk_bmono (h N (by omega))
      omega
    · have e : a = N := by omega
      subst e
      have x := dk_cn_mono (P := P) (Q := Q) (N := a) (fun k hk => h k (by omega))
      rw [dk_bt hq, dk_bf hp]; omega
theorem dk_cn_le (P : Nat → Prop) : ∀ N, dk_cn P N ≤ N
  | 0 => Nat.le_refl _
  | N + 1 => by have := dk_cn_le P N; have := dk_ble (P N); simp only [dk_cn]; omega
theorem dk_cn_eq {P Q : Nat → Prop} {N : Nat} (h : ∀ k, k < N → (P k ↔ Q k)) : dk_cn P N = dk_cn Q N :=
  Nat.le_antisymm (dk_cn_mono fun k hk => (h k hk).mp) (dk_cn_mono fun k hk => (h k hk).mpr)
theorem dk_cn_add {P : Nat → Prop} {a : Nat} (hp : ¬ P a) : ∀ {N : Nat}, a < N → dk_cn (fun k => P k ∨ k = a) N = dk_cn P N + 1
  | 0, h => by omega
  | N + 1, h => by
    simp only [dk_cn]
    rcases Nat.lt_or_ge a N with z | z
    · rw [dk_cn_add hp z]
      have : dk_b (P N ∨ N = a) = dk_b (P N) := Nat.le_antisymm (dk_bmono fun q => q.elim id (fun e => by omega)) (dk_bmono Or.inl)
      omega
    · have e : a = N := by omega
      subst e
      have : dk_cn (fun k => P k ∨ k = a) a = dk_cn P a := dk_cn_eq fun k hk => ⟨fun q => q.elim id (fun e => by omega), Or.inl⟩
      rw [this, dk_bt (Or.inr rfl), dk_bf hp]
theorem dk_cn_lt' {P : Nat → Prop} {a N : Nat} (hp : ¬ P a) (ha : a < N) : dk_cn P N < N := by
  have := dk_cn_add hp ha
  have := dk_cn_le (fun k => P k ∨ k = a) N
  omega
theorem dk_cn_m {P : Nat → Prop} {a b : Nat} (h : a ≤ b) : dk_cn P a ≤ dk_cn P b := by
  induction b with
  | zero => rw [Nat.le_zero.mp h]; exact Nat.le_refl _
  | succ b ih =>
    rcases Nat.lt_or_ge a (b + 1) with z | z
    · have := ih (by omega); simp only [dk_cn]; omega
    · rw [show a = b + 1 by omega]; exact Nat.le_refl _
/-- the place of an ascending row's members among the numbers with p -/
theorem dk_rank {p : Nat → Prop} {kc : Nat} {ks : Nat → Nat} (hs : ∀ j k, j < k → k < kc → ks j < ks k) (N : Nat) (hp : ∀ x, x < N → (p x ↔ ∃ k, k < kc ∧ ks k = x)) :
    ∀ n, n ≤ N → ∀ j, j ≤ kc → (∀ k, k < j → ks k < n) → (∀ k, j ≤ k → k < kc → n ≤ ks k) → dk_cn p n = j := by
  intro n
  induction n with
  | zero =>
    intro _ j hj h1 h2
    rcases Nat.eq_zero_or_pos j with z | z
    · subst z; rfl
    · have := h1 0 z; omega
  | succ n ih =>
    intro hn j hj h1 h2
    rcases Classical.em (p n) with z | z
    · rw [dk_cn_t z]
      obtain ⟨k, k1, k2⟩ := (hp n (by omega)).mp z
      have kj : k < j := by
        rcases Nat.lt_or_ge k j with w | w
        · exact w
        · have := h2 k w k1; omega
      have ej : j = k + 1 := by
        rcases Nat.lt_or_ge (k + 1) j with w | w
        · have a := h1 (k + 1) w
          have b := hs k (k + 1) (by omega) (by omega)
          omega
        · omega
      have := ih (by omega) k (by omega) (fun q hq => by have := hs q k hq k1; omega) (fun q q1 q2 => by
        rcases Nat.lt_or_ge k q with w | w
        · have := hs k q w q2; omega
        · rw [show q = k by omega]; omega)
      omega
    · rw [dk_cn_f z]
      exact ih (by omega) j hj (fun k hk => by
        have a := h1 k hk
        rcases Nat.lt_or_ge (ks k) n with w | w
        · exact w
        · exact absurd ((hp n (by omega)).mpr ⟨k, by omega, by omega⟩) z) (fun k k1 k2 => by have := h2 k k1 k2; omega)
theorem dk_rank_k {p : Nat → Prop} {kc : Nat} {ks : Nat → Nat} (hs : ∀ j k, j < k → k < kc → ks j < ks k) {N : Nat} (hp : ∀ x, x < N → (p x ↔ ∃ k, k < kc ∧ ks k = x)) {k : Nat} (hk : k < kc) (hN : ks k ≤ N) : dk_cn p (ks k) = k :=
  dk_rank hs N hp (ks k) hN k (by omega) (fun q hq => hs q k hq hk) (fun q q1 q2 => by
    rcases Nat.lt_or_ge k q with w | w
    · exact Nat.le_of_lt (hs k q w q2)
    · rw [show q = k by omega]; exact Nat.le_refl _)
theorem dk_rank_all {p : Nat → Prop} {kc : Nat} {ks : Nat → Nat} (hs : ∀ j k, j < k → k < kc → ks j < ks k) {N : Nat} (hp : ∀ x, x < N → (p x ↔ ∃ k, k < kc ∧ ks k = x)) (hN : ∀ k, k < kc → ks k < N) : dk_cn p N = kc :=
  dk_rank hs N hp N (Nat.le_refl _) kc (Nat.le_refl _) hN (fun k k1 k2 => by omega)
/-- different numbers below N are at most N -/
theorem dk_pig : ∀ (N n : Nat) (f : Nat → Nat), (∀ k, k < n → f k < N) → (∀ j k, j < n → k < n → f j = f k → j = k) → n ≤ N := by
  intro N
  induction N with
  | zero =>
    intro n f h _
    rcases Nat.eq_zero_or_pos n with z | z
    · omega
    · have := h 0 z; omega
  | succ N ih =>
    intro n f h g
    rcases Classical.em (∃ k, k < n ∧ f k = N) with ⟨k, k1, k2⟩ | z
    · have := ih (n - 1) (fun j => if j = k then f (n - 1) else f j) (fun j hj => by
        split
        · have a := h (n - 1) (by omega)
          rcases Nat.lt_or_ge (f (n - 1)) N with w | w
          · exact w
          · have := g (n - 1) k (by omega) k1 (by omega); omega
        · rename_i q
          have a := h j (by omega)
          rcases Nat.lt_or_ge (f j) N with w | w
          · exact w
          · exact absurd (g j k (by omega) k1 (by omega)) q) (fun i j hi hj e => by
        split at e <;> split at e
        · omega
        · rename_i a b
          have := g (n - 1) j (by omega) (by omega) e; omega
        · rename_i a b
          have := g i (n - 1) (by omega) (by omega) e; omega
        · exact g i j (by omega) (by omega) e)
      omega
    · have := ih n f (fun j hj => by
        have a := h j hj
        rcases Nat.lt_or_ge (f j) N with w | w
        · exact w
        · exact absurd ⟨j, hj, by omega⟩ z) g
      omega
/-! keys -/
def dk_kyo (c : Nat → Nat) (x s : Nat) : Prop := dk_su x s ∧ dk_su s (c x) ∧ ∀ i, i < 6 → x.testBit i = true → ¬ dk_su s (c (dk_sd x (2 ^ i)))
def dk_chT : List Nat := [0, 0, 1, 0, 2, 2, 1, 0, 3, 3, 4, 3, 5, 2, 1, 0, 6, 6, 7, 6, 8, 8, 7, 6, 9, 9, 4, 3, 5, 2, 1, 0, 10, 10, 11, 10, 12, 12, 11, 10, 13, 13, 14, 13, 15, 12, 11, 10, 16, 16, 17, 16, 18, 8, 7, 6, 19, 9, 4, 3, 5, 2, 1, 0]
def dk_ch (x : Nat) : Nat := dk_chT.getD x 0
theorem dk_ch20 : ∀ x, x < 64 → dk_ch x < 20 := by decide +kernel
theorem dk_chc : ∀ x, x < 64 → ∀ y, y < 64 → dk_ch x = dk_ch y → dk_sd x y = 0 ∨ dk_sd y x = 0 := by decide +kernel
section
variable {c : Nat → Nat}
theorem dk_su63e {a : Nat} (h : a < 64) : dk_su 63 a ↔ a = 63 := ⟨fun z => dk_su_eq (dk_su63 h) z, fun z => by rw [z]; exact dk_su_rfl _⟩
theorem dk_ky_anti {a b : Nat} (hc : dk_CO c) (ha : a < 64) (hb : b < 64) (h : dk_kyo c a 63) (g : dk_kyo c b 63) (hs : dk_su a b) : a = b := by
  rcases Classical.em (dk_su b a) with z | z
  · exact dk_su_eq hs z
  · exfalso
    obtain ⟨i, i1, i2⟩ := dk_nsu z
    have s1 : dk_su a (dk_sd b (2 ^ i)) := by
      intro j hj
      rw [dk_tsd, hs j hj, dk_tp]
      rcases Nat.decEq i j with w | w
      · rw [decide_eq_false w]; rfl
      · subst w; rw [i2] at hj; cases hj
    exact g.2.2 i (dk_lo hb i1) i1 (dk_su_tr h.2.1 ((hc a ha).2.2.2 _ (dk_sd_lt hb) s1))
def dk_KS (c : Nat → Nat) (kc : Nat) (ks : Nat → Nat) : Prop := (∀ k, k < kc → ks k < 64 ∧ dk_kyo c (ks k) 63) ∧ (∀ j k, j < k → k < kc → ks j < ks k)
theorem dk_KS20 {kc : Nat} {ks : Nat → Nat} {x : Nat} (hc : dk_CO c) (h : dk_KS c kc ks) (hx : x < 64) (kx : dk_kyo c x 63) (hn : ∀ k, k < kc → ks k ≠ x) : kc < 20 := by
  have inj : ∀ a b, a < 64 → b < 64 → dk_kyo c a 63 → dk_kyo c b 63 → dk_ch a = dk_ch b → a = b := by
    intro a b ha hb h1 h2 e
    rcases dk_chc a ha b hb e with z | z
    · exact dk_ky_anti hc ha hb h1 h2 (dk_sd0.mp z)
    · exact (dk_ky_anti hc hb ha h2 h1 (dk_sd0.mp z)).symm
  have lt : ∀ j k, j < kc → k < kc → ks j = ks k → j = k := by
    intro j k hj hk e
    rcases Nat.lt_trichotomy j k with z | z | z
    · have := h.2 j k z hk; omega
    · exact z
    · have := h.2 k j z hj; omega
  have := dk_pig 20 (kc + 1) (fun k => if k < kc then dk_ch (ks k) else dk_ch x) (fun k hk => by
    split
    · rename_i z; exact dk_ch20 _ (h.1 k z).1
    · exact dk_ch20 _ hx) (fun j k hj hk e => by
    split at e <;> split at e
    · rename_i a b; exact lt j k a b (inj _ _ (h.1 j a).1 (h.1 k b).1 (h.1 j a).2 (h.1 k b).2 e)
    · rename_i a b; exact absurd (inj _ _ (h.1 j a).1 hx (h.1 j a).2 kx e) (hn j a)
    · rename_i a b; exact absurd (inj _ _ (h.1 k b).1 hx (h.1 k b).2 kx e.symm) (hn k b)
    · omega)
  omega
def dk_ins (ks : Nat → Nat) (i x : Nat) : Nat → Nat := fun j => if j < i then ks j else if j = i then x else ks (j - 1)
theorem dk_KS_ins {kc : Nat} {ks : Nat → Nat} {x i : Nat} (h : dk_KS c kc ks) (hx : x < 64) (kx : dk_kyo c x 63) (hi : i ≤ kc) (h1 : ∀ j, j < i → ks j < x) (h2 : ∀ j, i ≤ j → j < kc → x < ks j) :
    dk_KS c (kc + 1) (dk_ins ks i x) ∧ ∀ y, (∃ k, k < kc + 1 ∧ dk_ins ks i x k = y) ↔ (y = x ∨ ∃ k, k < kc ∧ ks k = y) := by
  have v1 : ∀ j, j < i → dk_ins ks i x j = ks j := fun j hj => if_pos hj
  have v2 : dk_ins ks i x i = x := by unfold dk_ins; rw [if_neg (by omega), if_pos rfl]
  have v3 : ∀ j, i < j → dk_ins ks i x j = ks (j - 1) := fun j hj => by unfold dk_ins; rw [if_neg (by omega), if_neg (by omega)]
  refine ⟨⟨fun k hk => ?_, fun j k hj hk => ?_⟩, fun y => ⟨?_, ?_⟩⟩
  · rcases Nat.lt_trichotomy k i with z | z | z
    · rw [v1 k z]; exact h.1 k (by omega)
    · subst z; rw [v2]; exact ⟨hx, kx⟩
    · rw [v3 k z]; exact h.1 _ (by omega)
  · rcases Nat.lt_trichotomy j i with z | z | z <;> rcases Nat.lt_trichotomy k i with w | w | w
    · rw [v1 j z, v1 k w]; exact h.2 j k hj (by omega)
    · subst w; rw [v1 j z, v2]; exact h1 j z
    · rw [v1 j z, v3 k w]; have := h1 j z; have := h2 (k - 1) (by omega) (by omega); omega
    · omega
    · omega
    · subst z; rw [v2, v3 k w]; exact h2 _ (by omega) (by omega)
    · omega
    · omega
    · rw [v3 j z, v3 k w]; exact h.2 _ _ (by omega) (by omega)
  · rintro ⟨k, k1, k2⟩
    rcases Nat.lt_trichotomy k i with z | z | z
    · rw [v1 k z] at k2; exact Or.inr ⟨k, by omega, k2⟩
    · subst z; rw [v2] at k2; exact Or.inl k2.symm
    · rw [v3 k z] at k2; exact Or.inr ⟨k - 1, by omega, k2⟩
  · rintro (z | ⟨k, k1, k2⟩)
    · exact ⟨i, by omega, by rw [v2, z]⟩
    · rcases Nat.lt_or_ge k i with w | w
      · exact ⟨k, by omega, by rw [v1 k w]; exact k2⟩
      · exact ⟨k + 1, by omega, by rw [v3 _ (by omega)]; exact k2⟩
end
end
section
/-! stems, in the order in which higher columns count less -/
def dk_st (c : Nat → Nat) (p : Nat) : Prop := c p ≠ p ∧ ∀ q, q < p → dk_st c q → dk_su q p → dk_su (c q) p
termination_by p
theorem dk_st_e (c : Nat → Nat) (p : Nat) : dk_st c p ↔ (c p ≠ p ∧ ∀ q, q < p → dk_st c q → dk_su q p → dk_su (c q) p) := by
  rw [dk_st]
def dk_rv (x : Nat) : Nat := 32 * dk_t (x.testBit 0) + 16 * dk_t (x.testBit 1) + 8 * dk_t (x.testBit 2) + 4 * dk_t (x.testBit 3) + 2 * dk_t (x.testBit 4) + dk_t (x.testBit 5)
theorem dk_rv64 : ∀ x, x < 64 → dk_rv x < 64 := by decide +kernel
theorem dk_rv_i : ∀ x, x < 64 → ∀ y, y < 64 → dk_rv x = dk_rv y → x = y := by decide +kernel
theorem dk_rv_s' : ∀ x, x < 64 → ∀ y, y < 64 → x &&& y = x → x ≠ y → dk_rv x < dk_rv y := by decide +kernel
theorem dk_rv_d : ∀ x, x < 64 → ∀ y, y < 64 → dk_rv x < dk_rv y → ∃ i, i < 6 ∧ x.testBit i = false ∧ y.testBit i = true ∧ x &&& (2 ^ i - 1) = y &&& (2 ^ i - 1) := by decide +kernel
theorem dk_rv_c' : ∀ x, x < 64 → ∀ y, y < 64 → ∀ i, i < 6 → (x.testBit i = false ∧ y.testBit i = true ∧ x &&& (2 ^ i - 1) = y &&& (2 ^ i - 1)) → dk_rv x < dk_rv y := by decide +kernel
theorem dk_rv_c (x : Nat) (hx : x < 64) (y : Nat) (hy : y < 64) (i : Nat) (hi : i < 6) (h1 : x.testBit i = false) (h2 : y.testBit i = true) (h3 : x &&& (2 ^ i - 1) = y &&& (2 ^ i - 1)) : dk_rv x < dk_rv y := dk_rv_c' x hx y hy i hi ⟨h1, h2, h3⟩
theorem dk_rv_s {x y : Nat} (hx : x < 64) (hy : y < 64) (h : dk_su x y) (hn : x ≠ y) : dk_rv x < dk_rv y := dk_rv_s' x hx y hy (dk_andE.mpr h) hn
theorem dk_rv_le {x y : Nat} (hx : x < 64) (hy : y < 64) (h : dk_su x y) : dk_rv x ≤ dk_rv y := by
  rcases Nat.decEq x y with z | z
  · exact Nat.le_of_lt (dk_rv_s hx hy h z)
  · rw [z]; exact Nat.le_refl _
theorem dk_rv63 {x : Nat} (hx : x < 64) (h : x ≠ 63) : dk_rv x < dk_rv 63 := dk_rv_s hx (by decide) (dk_su63 hx) h
theorem dk_low (i j : Nat) : (2 ^ i - 1).testBit j = decide (j < i) := Nat.testBit_two_pow_sub_one i j
/-- closed by the stems with F -/
def dk_Lc (c : Nat → Nat) (F : Nat → Prop) (z : Nat) : Prop := ∀ p, p < 64 → F p → dk_su p z → p ≠ z → dk_su (c p) z
def dk_Lop (c : Nat → Nat) (F : Nat → Prop) (a out : Nat) : Prop := out < 64 ∧ dk_su a out ∧ dk_Lc c F out ∧ ∀ z, z < 64 → dk_su a z → dk_Lc c F z → dk_su out z
section
variable {c : Nat → Nat}
theorem dk_Lc63 {F : Nat → Prop} (hc : dk_CO c) : dk_Lc c F 63 := fun p hp _ _ _ => dk_su63 (hc p hp).1
theorem dk_Qc_st {z : Nat} (hz : z < 64) (h : dk_Lc c (dk_st c) z) (hn : c z ≠ z) : dk_st c z := by
  rw [dk_st_e]
  exact ⟨hn, fun q hq hs hu => h q (by omega) hs hu (by omega)⟩
theorem dk_lt_of {p z : Nat} (hp : p < 64) (hz : z < 64) (h : dk_su p z) (hn : p ≠ z) : p < z := by
  have a : p &&& z = p := dk_andE.mpr h
  have b : p &&& z ≤ z := Nat.and_le_right
  omega
theorem dk_st_Qc {z : Nat} (hz : z < 64) (h : dk_st c z) : dk_Lc c (dk_st c) z := by
  rw [dk_st_e] at h
  exact fun p hp hs hu hn => h.2 p (dk_lt_of hp hz hu hn) hs hu
theorem dk_next_ex {x : Nat} (hc : dk_CO c) (hx : x < 64) (hn : x ≠ 63) : ∃ y, y < 64 ∧ dk_Lc c (dk_st c) y ∧ dk_rv x < dk_rv y ∧ ∀ z, z < 64 → dk_Lc c (dk_st c) z → dk_rv x < dk_rv z → dk_rv y ≤ dk_rv z := by
  obtain ⟨n, ⟨y, y1, y2, y3, y4⟩, hl⟩ := pk_least (fun n => ∃ y, y < 64 ∧ dk_Lc c (dk_st c) y ∧ dk_rv x < dk_rv y ∧ dk_rv y = n) ⟨_, 63, by decide, dk_Lc63 hc, dk_rv63 hx hn, rfl⟩
  refine ⟨y, y1, y2, y3, fun z z1 z2 z3 => ?_⟩
  rcases Nat.lt_or_ge (dk_rv z) (dk_rv y) with w | w
  · exact absurd ⟨z, z1, z2, z3, rfl⟩ (hl (dk_rv z) (by omega))
  · exact w
/-- the set that comes next behind x -/
def dk_Nx (c : Nat → Nat) (x y : Nat) : Prop := y < 64 ∧ dk_Lc c (dk_st c) y ∧ dk_rv x < dk_rv y ∧ ∀ z, z < 64 → dk_Lc c (dk_st c) z → dk_rv x < dk_rv z → dk_rv y ≤ dk_rv z
def dk_F (c : Nat → Nat) (x : Nat) (p : Nat) : Prop := dk_st c p ∧ dk_rv p ≤ dk_rv x
theorem dk_low_su {x out i : Nat} (h : dk_su (x &&& (2 ^ i - 1) ||| 2 ^ i) out) : dk_su (x &&& (2 ^ i - 1)) (out &&& (2 ^ i - 1)) := by
  intro j hj
  have a := h j (by rw [Nat.testBit_or, hj]; rfl)
  rw [Nat.testBit_and] at hj ⊢
  rw [a]
  cases e : (2 ^ i - 1).testBit j <;> simp_all
/-- whatever is closed by the stems so far, and comes before every later one, is closed by all -/
theorem dk_Lall {x y out : Nat} (hy : dk_Nx c x y) (ho : out < 64) (hl : dk_Lc c (dk_F c x) out) (hv : dk_rv out ≤ dk_rv y) : dk_Lc c (dk_st c) out := by
  intro p hp hs hu hn
  refine hl p hp ⟨hs, ?_⟩ hu hn
  rcases Nat.lt_or_ge (dk_rv x) (dk_rv p) with w | w
  · have a := hy.2.2.2 p hp (dk_st_Qc hp hs) w
    have b := dk_rv_s hp ho hu hn
    omega
  · exact w
theorem dk_N2 {x y i out : Nat} (hx : x < 64) (hy : dk_Nx c x y) (hi : i < 6) (h1 : x.testBit i = false) (h2 : y.testBit i = true) (h3 : x &&& (2 ^ i - 1) = y &&& (2 ^ i - 1))
    (ho : dk_Lop c (dk_F c x) (x &&& (2 ^ i - 1) ||| 2 ^ i) out) : out &&& (2 ^ i - 1) = x &&& (2 ^ i - 1) ∧ out = y := by
  have su : dk_su out y := by
    apply ho.2.2.2 y hy.1
    · intro j hj
      rw [Nat.testBit_or, Bool.or_eq_true] at hj
      rcases hj with z | z
      · rw [h3, Nat.testBit_and] at z
        cases e : y.testBit j <;> simp_all
      · rw [dk_tp] at z
        have : i = j := of_decide_eq_true z
        subst this; exact h2
    · exact fun p hp hf hu hn => hy.2.1 p hp hf.1 hu hn
  have lo : out &&& (2 ^ i - 1) = x &&& (2 ^ i - 1) := by
    apply dk_su_eq
    · rw [h3]
      intro j hj
      rw [Nat.testBit_and] at hj ⊢
      cases e : out.testBit j
      · rw [e] at hj; cases hj
      · rw [su j e]; rw [e] at hj; exact hj
    · exact dk_low_su ho.2.1
  refine ⟨lo, ?_⟩
  have q := dk_Lall hy ho.1 ho.2.2.1 (dk_rv_le ho.1 hy.1 su)
  have oi : out.testBit i = true := ho.2.1 i (by rw [Nat.testBit_or, Nat.testBit_two_pow_self, Bool.or_true])
  have r := hy.2.2.2 out ho.1 q (dk_rv_c x hx out ho.1 i hi h1 oi lo.symm)
  exact dk_rv_i out ho.1 y hy.1 (Nat.le_antisymm (dk_rv_le ho.1 hy.1 su) r)
theorem dk_N3 {x y i k out : Nat} (hx : x < 64) (hy : dk_Nx c x y) (hi : i < 6) (h2 : y.testBit i = true) (h1 : x.testBit i = false) (h3 : x &&& (2 ^ i - 1) = y &&& (2 ^ i - 1))
    (hk : k < 6) (hik : i < k) (k1 : x.testBit k = false)
    (ho : dk_Lop c (dk_F c x) (x &&& (2 ^ k - 1) ||| 2 ^ k) out) (lo : out &&& (2 ^ k - 1) = x &&& (2 ^ k - 1)) : False := by
  have low : ∀ j, j < k → out.testBit j = x.testBit j := by
    intro j hj
    have a : (out &&& (2 ^ k - 1)).testBit j = (x &&& (2 ^ k - 1)).testBit j := by rw [lo]
    rw [Nat.testBit_and, Nat.testBit_and, dk_low, decide_eq_true hj, Bool.and_true, Bool.and_true] at a
    exact a
  have oy : dk_rv out < dk_rv y := by
    apply dk_rv_c out ho.1 y hy.1 i hi
    · rw [low i hik]; exact h1
    · exact h2
    · rw [← h3]
      apply Nat.eq_of_testBit_eq
      intro j
      rw [Nat.testBit_and, Nat.testBit_and, dk_low]
      rcases Nat.lt_or_ge j i with z | z
      · rw [low j (by omega)]
      · rw [decide_eq_false (by omega)]; simp
  have q := dk_Lall hy ho.1 ho.2.2.1 (Nat.le_of_lt oy)
  have ok : out.testBit k = true := ho.2.1 k (by rw [Nat.testBit_or, Nat.testBit_two_pow_self, Bool.or_true])
  have r := hy.2.2.2 out ho.1 q (dk_rv_c x hx out ho.1 k hk k1 ok lo.symm)
  omega
end
end
section
/-! the desk: its basis of a set -/
theorem dk_z {a : Nat} (h : a < 64) : nI a = 0 ↔ a = 0 := nI_eq (b := 0) (by omega) (by decide)
theorem dk_e {a b : Nat} (ha : a < 64) (hb : b < 64) : nI a = nI b ↔ a = b := nI_eq (by omega) (by omega)
theorem dk_cl {a : Nat} (h : a < 1000) : (nI a).toNatClampNeg = a := nI_clamp (by omega)
def dk_DP (m : Nat) (L R : Nat → Nat) (B : Nat → Bool) (al ar ab : Nat → Int32) : Prop := m ≤ 10 ∧ ∀ j, j < m → al j = nI (L j) ∧ L j < 64 ∧ ar j = nI (R j) ∧ R j < 64 ∧ ab j = dk_bI (B j)
def dk_A (m cm : Nat) : Nat → Prop := fun k => k < m ∧ cm.testBit k = true
def dk_RB (nb : Nat) (bl : Nat → Nat) (ab : Nat → Int32) : Prop := ∀ j, j < nb → ab j = nI (bl j)
section
variable {f_count f_counting f_blocks f_isStudied f_stemCount f_keyCount f_partCount f_rows : Int32} {a_leftSide a_rightSide a_isBundled a_block a_closureOf a_stemSet a_isStem a_keySet a_partSet a_symbol a_cells a_classOf a_classes a_agreement : Nat → Int32}
variable {A : Nat → Prop} {L R : Nat → Nat} {B : Nat → Bool}
theorem dk_xsplitBlock {post : Int32 → SX → Prop} {x nb : Nat} {bl : Nat → Nat} {k y : Nat}
    (hB : dk_BI A L R B x nb bl) (hr : dk_RB nb bl a_block) (hk : k < nb) (hy : y < 64)
    (sw : dk_SW A L R B x (bl k &&& y) ∧ dk_SW A L R B x (dk_sd (bl k) y))
    (p0 : (bl k &&& y = 0 ∨ bl k &&& y = bl k) → post 0 (f_count, f_counting, nI nb, f_isStudied, f_stemCount, f_keyCount, f_partCount, f_rows, a_leftSide, a_rightSide, a_isBundled, a_block, a_closureOf, a_stemSet, a_isStem, a_keySet, a_partSet, a_symbol, a_cells, a_classOf, a_classes, a_agreement))
    (p1 : ∀ bl' ab, dk_BI A L R B x (nb + 1) bl' → dk_RB (nb + 1) bl' ab → post 1 (f_count, f_counting, nI (nb + 1), f_isStudied, f_stemCount, f_keyCount, f_partCount, f_rows, a_leftSide, a_rightSide, a_isBundled, ab, a_closureOf, a_stemSet, a_isStem, a_keySet, a_partSet, a_symbol, a_cells, a_classOf, a_classes, a_agreement)) :
    wpX_splitBlock post (f_count, f_counting, nI nb, f_isStudied, f_stemCount, f_keyCount, f_partCount, f_rows, a_leftSide, a_rightSide, a_isBundled, a_block, a_closureOf, a_stemSet, a_isStem, a_keySet, a_partSet, a_symbol, a_cells, a_classOf, a_classes, a_agreement) (nI k) (nI y) := by
  have hn := dk_BI6 hB
  have ek : (nI k).toNatClampNeg = k := nI_clamp (by omega)
  have en : (nI nb).toNatClampNeg = nb := nI_clamp (by omega)
  have hin : vp_in (nI k) 6 := vp_in_nI (by omega) (by decide)
  have b64 := (hB.1 k hk).1
  refine ⟨hin, fun x3 ex => ?_⟩
  rw [ek, hr k hk, dk_and] at ex
  subst ex
  refine dk_if (dk_z (dk_and_lt b64)) (fun z => p0 (Or.inl z)) (fun z => ⟨hin, ?_⟩)
  rw [ek, hr k hk]
  refine dk_if (dk_e (dk_and_lt b64) b64) (fun w => p0 (Or.inr w)) (fun w => ?_)
  obtain ⟨n6, hB'⟩ := dk_split hB hk z w sw.1 sw.2
  refine ⟨hin, vp_in_nI n6 (by decide), fun a8 e8 => ⟨hin, fun a10 e10 => fun f11 e11 => ?_⟩⟩
  rw [nI_1] at e11
  subst e11
  refine p1 _ a10 hB' (fun j hj => ?_)
  rw [e10, e8, dk_not, en]
  unfold upd dk_spl
  by_cases c1 : j = k
  · rw [if_pos c1, if_pos c1]
  · rw [if_neg c1, if_neg c1]
    by_cases c2 : j = nb
    · rw [if_pos c2, if_pos c2]
    · rw [if_neg c2, if_neg c2]; exact hr j (by omega)
theorem dk_xsplitBy {post : Int32 → SX → Prop} {x v w nb0 : Nat} {bl0 : Nat → Nat} (hv : v < 64) (hw : w < 64)
    (dw : ∀ b, b &&& v = 0 → dk_SW A L R B x b → dk_SW A L R B x (b &&& w) ∧ dk_SW A L R B x (dk_sd b w))
    (hB0 : dk_BI A L R B x nb0 bl0) (hr0 : dk_RB nb0 bl0 a_block)
    (p0 : dk_St1 v w nb0 bl0 → post 0 (f_count, f_counting, nI nb0, f_isStudied, f_stemCount, f_keyCount, f_partCount, f_rows, a_leftSide, a_rightSide, a_isBundled, a_block, a_closureOf, a_stemSet, a_isStem, a_keySet, a_partSet, a_symbol, a_cells, a_classOf, a_classes, a_agreement))
    (p1 : ∀ nb bl ab, nb0 < nb → dk_BI A L R B x nb bl → dk_RB nb bl ab → post 1 (f_count, f_counting, nI nb, f_isStudied, f_stemCount, f_keyCount, f_partCount, f_rows, a_leftSide, a_rightSide, a_isBundled, ab, a_closureOf, a_stemSet, a_isStem, a_keySet, a_partSet, a_symbol, a_cells, a_classOf, a_classes, a_agreement)) :
    wpX_splitBy post (f_count, f_counting, nI nb0, f_isStudied, f_stemCount, f_keyCount, f_partCount, f_rows, a_leftSide, a_rightSide, a_isBundled, a_block, a_closureOf, a_stemSet, a_isStem, a_keySet, a_partSet, a_symbol, a_cells, a_classOf, a_classes, a_agreement) (nI v) (nI w) := by
  have m6 := dk_BI6 hB0
  have lp : ∀ d k nb bl ab x3, k + d = nb0 → dk_BI A L R B x nb bl → dk_RB nb bl ab →
      ((x3 = 0 ∧ nb = nb0 ∧ bl = bl0 ∧ ab = a_block ∧ ∀ j, j < k → bl0 j &&& v = 0 → bl0 j &&& w = 0 ∨ bl0 j &&& w = bl0 j) ∨ (x3 = 1 ∧ nb0 < nb)) →
      wX_splitBy_11 post (nI v) (nI w) (nI nb0) (d + 1) x3 (nI k) f_count f_counting (nI nb) f_isStudied f_stemCount f_keyCount f_partCount f_rows a_leftSide a_rightSide a_isBundled ab a_closureOf a_stemSet a_isStem a_keySet a_partSet a_symbol a_cells a_classOf a_classes a_agreement := by
    intro d
    induction d with
    | zero =>
      intro k nb bl ab x3 hk hB hr h
      have e : k = nb0 := by omega
      subst e
      refine br_t (nI_le (Nat.le_refl _) (by omega)) ?_
      rcases h with ⟨rfl, rfl, rfl, rfl, h⟩ | ⟨rfl, h⟩
      · exact ⟨rfl, p0 h⟩
      · exact ⟨rfl, p1 nb bl ab h hB hr⟩
    | succ d ih =>
      intro k nb bl ab x3 hk hB hr h
      have kn : k < nb := by rcases h with ⟨_, rfl, _⟩ | ⟨_, h⟩ <;> omega
      have n6 := dk_BI6 hB
      refine br_f (nI_ge (by omega) (by omega)) ⟨vp_in_nI (by omega) (by decide), ?_⟩
      rw [dk_cl (by omega : k < 1000), hr k kn, dk_and]
      refine dk_if (dk_z (dk_and_lt (hB.1 k kn).1)) (fun z => ?_) (fun z => nm_r (nI_1 k) (ih (k + 1) nb bl ab x3 (by omega) hB hr ?_))
      · refine dk_xsplitBlock hB hr kn hw (dw _ z (hB.1 k kn).2.2.2) (fun q => ?_) (fun bl' ab' hB' hr' => ?_)
        · rcases h with ⟨rfl, rfl, rfl, rfl, h⟩ | ⟨rfl, h⟩
          · exact br_t rfl (br_t rfl (nm_r (nI_1 k) (ih (k + 1) nb bl ab 0 (by omega) hB hr (Or.inl ⟨rfl, rfl, rfl, rfl, lt_s h (fun _ => q)⟩))))
          · exact br_f (by decide) (nm_r (nI_1 k) (ih (k + 1) nb bl ab 1 (by omega) hB hr (Or.inr ⟨rfl, h⟩)))
        · have g : nb0 < nb + 1 := by rcases h with ⟨_, rfl, _⟩ | ⟨_, h⟩ <;> omega
          rcases h with ⟨rfl, h⟩ | ⟨rfl, h⟩
          · exact br_t rfl (br_f (by decide) (nm_r (nI_1 k) (ih (k + 1) (nb + 1) bl' ab' 1 (by omega) hB' hr' (Or.inr ⟨rfl, g⟩))))
          · exact br_f (by decide) (nm_r (nI_1 k) (ih (k + 1) (nb + 1) bl' ab' 1 (by omega) hB' hr' (Or.inr ⟨rfl, g⟩)))
      · rcases h with ⟨rfl, rfl, rfl, rfl, h⟩ | h
        · exact Or.inl ⟨rfl, rfl, rfl, rfl, lt_s h (fun q => absurd q z)⟩
        · exact Or.inr h
  exact ⟨_, lp nb0 0 nb0 bl0 a_block 0 (by omega) hB0 hr0 (Or.inl ⟨rfl, rfl, rfl, rfl, lt_0⟩)⟩
theorem dk_xsplitByGiven {post : Int32 → SX → Prop} {x m d nb0 : Nat} {bl0 : Nat → Nat} (hD : dk_DP m L R B a_leftSide a_rightSide a_isBundled) (hd : d < m) (hA : A d)
    (hB0 : dk_BI A L R B x nb0 bl0) (hr0 : dk_RB nb0 bl0 a_block)
    (p0 : dk_Stb L R B d nb0 bl0 → post 0 (f_count, f_counting, nI nb0, f_isStudied, f_stemCount, f_keyCount, f_partCount, f_rows, a_leftSide, a_rightSide, a_isBundled, a_block, a_closureOf, a_stemSet, a_isStem, a_keySet, a_partSet, a_symbol, a_cells, a_classOf, a_classes, a_agreement))
    (p1 : ∀ nb bl ab, nb0 < nb → dk_BI A L R B x nb bl → dk_RB nb bl ab → post 1 (f_count, f_counting, nI nb, f_isStudied, f_stemCount, f_keyCount, f_partCount, f_rows, a_leftSide, a_rightSide, a_isBundled, ab, a_closureOf, a_stemSet, a_isStem, a_keySet, a_partSet, a_symbol, a_cells, a_classOf, a_classes, a_agreement)) :
    wpX_splitByGiven post (f_count, f_counting, nI nb0, f_isStudied, f_stemCount, f_keyCount, f_partCount, f_rows, a_leftSide, a_rightSide, a_isBundled, a_block, a_closureOf, a_stemSet, a_isStem, a_keySet, a_partSet, a_symbol, a_cells, a_classOf, a_classes, a_agreement) (nI d) := by
  obtain ⟨m10, hD⟩ := hD
  obtain ⟨e1, l1, e2, l2, e3⟩ := hD d hd
  have ed : (nI d).toNatClampNeg = d := nI_clamp (by omega)
  have din : vp_in (nI d) 10 := vp_in_nI (by omega) (by decide)
  refine ⟨din, ?_⟩
  rw [ed, e3]
  refine dk_if dk_bI0 (fun hb => ?_) (fun hb => ⟨din, din, ?_⟩)
  · have lp : ∀ e c nb bl ab x2, c + e = 6 → dk_BI A L R B x nb bl → dk_RB nb bl ab →
        ((x2 = 0 ∧ nb = nb0 ∧ bl = bl0 ∧ ab = a_block ∧ ∀ i, i < c → (R d).testBit i = true → dk_St1 (L d) (2 ^ i) nb0 bl0) ∨ (x2 = 1 ∧ nb0 < nb)) →
        wX_splitByGiven_30 post (nI d) (e + 1) x2 (nI c) f_count f_counting (nI nb) f_isStudied f_stemCount f_keyCount f_partCount f_rows a_leftSide a_rightSide a_isBundled ab a_closureOf a_stemSet a_isStem a_keySet a_partSet a_symbol a_cells a_classOf a_classes a_agreement := by
      intro e
      induction e with
      | zero =>
        intro c nb bl ab x2 hc hB hr h
        have ec : c = 6 := by omega
        subst ec
        refine br_t (by decide) ?_
        rcases h with ⟨rfl, rfl, rfl, rfl, h⟩ | ⟨rfl, h⟩
        · exact ⟨rfl, p0 ⟨fun q => absurd (hb.symm.trans q) (by decide), fun _ => h⟩⟩
        · exact ⟨rfl, p1 nb bl ab h hB hr⟩
      | succ e ih =>
        intro c nb bl ab x2 hc hB hr h
        refine br_f (nI_ge (b := 6) (by omega) (by decide)) ⟨din, ?_⟩
        rw [ed, e2, e1]
        refine dk_if (dk_b1 (by omega) (by omega)) (fun z => ⟨din, ?_⟩) (fun z => nm_r (nI_1 c) (ih (c + 1) nb bl ab x2 (by omega) hB hr ?_))
        · rw [dk_sh c (by omega)]
          refine dk_xsplitBy (L := L) (R := R) (B := B) (A := A) (x := x) l1 (dk_pw (by omega)) (fun b h1 h2 => dk_SWs hA hb z h1 h2) hB hr (fun q => ?_) (fun nb' bl' ab' g' hB' hr' => ?_)
          · rcases h with ⟨rfl, rfl, rfl, rfl, h⟩ | ⟨rfl, h⟩
            · exact br_t rfl (br_t rfl (nm_r (nI_1 c) (ih (c + 1) nb bl ab 0 (by omega) hB hr (Or.inl ⟨rfl, rfl, rfl, rfl, lt_s h (fun _ => q)⟩))))
            · exact br_f (by decide) (nm_r (nI_1 c) (ih (c + 1) nb bl ab 1 (by omega) hB hr (Or.inr ⟨rfl, h⟩)))
          · have g : nb0 < nb' := by rcases h with ⟨_, rfl, _⟩ | ⟨_, h⟩ <;> omega
            rcases h with ⟨rfl, h⟩ | ⟨rfl, h⟩
            · exact br_t rfl (br_f (by decide) (nm_r (nI_1 c) (ih (c + 1) nb' bl' ab' 1 (by omega) hB' hr' (Or.inr ⟨rfl, g⟩))))
            · exact br_f (by decide) (nm_r (nI_1 c) (ih (c + 1) nb' bl' ab' 1 (by omega) hB' hr' (Or.inr ⟨rfl, g⟩)))
        · rcases h with ⟨rfl, rfl, rfl, rfl, h⟩ | h
          · exact Or.inl ⟨rfl, rfl, rfl, rfl, lt_s h (fun q => absurd q z)⟩
          · exact Or.inr h
    exact ⟨_, lp 6 0 nb0 bl0 a_block 0 (by omega) hB0 hr0 (Or.inl ⟨rfl, rfl, rfl, rfl, lt_0⟩)⟩
  · have hb' : B d = true := by cases q : B d; exact absurd q hb; rfl
    rw [e1, e2]
    exact dk_xsplitBy l1 l2 (fun b h1 h2 => dk_SWb hA hb' h1 h2) hB0 hr0
      (fun q => ⟨rfl, p0 ⟨fun _ => q, fun f => absurd f hb⟩⟩) (fun nb bl ab g hB hr => ⟨rfl, p1 nb bl ab g hB hr⟩)
end
end
section
/-! the desk: the basis found, and the closure of a set -/
section
variable {f_count f_counting f_blocks f_isStudied f_stemCount f_keyCount f_partCount f_rows : Int32} {a_leftSide a_rightSide a_isBundled a_block a_closureOf a_stemSet a_isStem a_keySet a_partSet a_symbol a_cells a_classOf a_classes a_agreement : Nat → Int32}
variable {L R : Nat → Nat} {B : Nat → Bool}
theorem dk_xfindBasis {post : SX → Prop} {x m cm : Nat} (hx : x < 64) (hcm : cm < 1024) (hD : dk_DP m L R B a_leftSide a_rightSide a_isBundled)
    (p : ∀ nb bl ab, dk_BI (dk_A m cm) L R B x nb bl → dk_RB nb bl ab → (∀ d, dk_A m cm d → dk_Stb L R B d nb bl) → post (nI m, nI cm, nI nb, f_isStudied, f_stemCount, f_keyCount, f_partCount, f_rows, a_leftSide, a_rightSide, a_isBundled, ab, a_closureOf, a_stemSet, a_isStem, a_keySet, a_partSet, a_symbol, a_cells, a_classOf, a_classes, a_agreement)) :
    wpX_findBasis post (nI m, nI cm, f_blocks, f_isStudied, f_stemCount, f_keyCount, f_partCount, f_rows, a_leftSide, a_rightSide, a_isBundled, a_block, a_closureOf, a_stemSet, a_isStem, a_keySet, a_partSet, a_symbol, a_cells, a_classOf, a_classes, a_agreement) (nI x) := by
  have m10 := hD.1
  have lp47 : ∀ (J : Int32 → Int32 → Int32 → Int32 → Int32 → Int32 → Int32 → Int32 → Int32 → Int32 → (Nat → Int32) → (Nat → Int32) → (Nat → Int32) → (Nat → Int32) → (Nat → Int32) → (Nat → Int32) → (Nat → Int32) → (Nat → Int32) → (Nat → Int32) → (Nat → Int32) → (Nat → Int32) → (Nat → Int32) → (Nat → Int32) → (Nat → Int32) → Prop) (t nb0 : Nat) (bl0 : Nat → Nat) (ab0 : Nat → Int32)
      (j0 : (∀ d, dk_A m cm d → dk_Stb L R B d nb0 bl0) → J 0 (nI (t + 1)) (nI m) (nI cm) (nI nb0) f_isStudied f_stemCount f_keyCount f_partCount f_rows a_leftSide a_rightSide a_isBundled ab0 a_closureOf a_stemSet a_isStem a_keySet a_partSet a_symbol a_cells a_classOf a_classes a_agreement)
      (j1 : ∀ nb bl ab, nb0 < nb → dk_BI (dk_A m cm) L R B x nb bl → dk_RB nb bl ab → J 1 (nI (t + 1)) (nI m) (nI cm) (nI nb) f_isStudied f_stemCount f_keyCount f_partCount f_rows a_leftSide a_rightSide a_isBundled ab a_closureOf a_stemSet a_isStem a_keySet a_partSet a_symbol a_cells a_classOf a_classes a_agreement),
      ∀ e d nb bl ab x2, d + e = m → dk_BI (dk_A m cm) L R B x nb bl → dk_RB nb bl ab →
        ((x2 = 0 ∧ nb = nb0 ∧ bl = bl0 ∧ ab = ab0 ∧ ∀ i, i < d → cm.testBit i = true → dk_Stb L R B i nb0 bl0) ∨ (x2 = 1 ∧ nb0 < nb)) →
        wX_findBasis_47 post J (nI t) (e + 1) x2 (nI d) (nI m) (nI cm) (nI nb) f_isStudied f_stemCount f_keyCount f_partCount f_rows a_leftSide a_rightSide a_isBundled ab a_closureOf a_stemSet a_isStem a_keySet a_partSet a_symbol a_cells a_classOf a_classes a_agreement := by
    intro J t nb0 bl0 ab0 j0 j1 e
    induction e with
    | zero =>
      intro d nb bl ab x2 hd hB hr h
      have ed : d = m := by omega
      subst ed
      refine br_t (nI_le (Nat.le_refl _) (by omega)) (nm_r (nI_1 t) ?_)
      rcases h with ⟨rfl, rfl, rfl, rfl, h⟩ | ⟨rfl, h⟩
      · exact j0 (fun i hi => h i hi.1 hi.2)
      · exact j1 nb bl ab h hB hr
    | succ e ih =>
      intro d nb bl ab x2 hd hB hr h
      refine br_f (nI_ge (by omega) (by omega)) ?_
      refine dk_if (dk_b1 (by omega) (by omega)) (fun z => ?_) (fun z => nm_r (nI_1 d) (ih (d + 1) nb bl ab x2 (by omega) hB hr ?_))
      · refine dk_xsplitByGiven (A := dk_A m cm) (L := L) (R := R) (B := B) (x := x) hD (by omega) ⟨by omega, z⟩ hB hr (fun q => ?_) (fun nb' bl' ab' g' hB' hr' => ?_)
        · rcases h with ⟨rfl, rfl, rfl, rfl, h⟩ | ⟨rfl, h⟩
          · exact br_t rfl (br_t rfl (nm_r (nI_1 d) (ih (d + 1) nb bl ab 0 (by omega) hB hr (Or.inl ⟨rfl, rfl, rfl, rfl, lt_s h (fun _ => q)⟩))))
          · exact br_f (by decide) (nm_r (nI_1 d) (ih (d + 1) nb bl ab 1 (by omega) hB hr (Or.inr ⟨rfl, h⟩)))
        · have g : nb0 < nb' := by rcases h with ⟨_, rfl, _⟩ | ⟨_, h⟩ <;> omega
          rcases h with ⟨rfl, h⟩ | ⟨rfl, h⟩
          · exact br_t rfl (br_f (by decide) (nm_r (nI_1 d) (ih (d + 1) nb' bl' ab' 1 (by omega) hB' hr' (Or.inr ⟨rfl, g⟩))))
          · exact br_f (by decide) (nm_r (nI_1 d) (ih (d + 1) nb' bl' ab' 1 (by omega) hB' hr' (Or.inr ⟨rfl, g⟩)))
      · rcases h with ⟨rfl, rfl, rfl, rfl, h⟩ | h
        · exact Or.inl ⟨rfl, rfl, rfl, rfl, lt_s h (fun q => absurd q z)⟩
        · exact Or.inr h
  have b63 : ∀ {nb : Nat} {bl : Nat → Nat}, dk_BI (dk_A m cm) L R B x nb bl → 0 < nb → x ≠ 63 := by
    intro nb bl hB hn e
    subst e
    obtain ⟨h1, h2, h3, _⟩ := hB.1 0 hn
    obtain ⟨i, hi⟩ := dk_ne h2
    have := dk_and0.mp h3 i hi
    rw [dk_63, decide_eq_true (dk_lo h1 hi)] at this; cases this
  have lp32 : ∀ e t nb bl ab x2, t + e = 6 → dk_BI (dk_A m cm) L R B x nb bl → dk_RB nb bl ab →
      ((x2 = 0 ∧ ∀ d, dk_A m cm d → dk_Stb L R B d nb bl) ∨ (x2 = 1 ∧ ((t = 0 ∧ (x ≠ 63 → 1 ≤ nb)) ∨ t + 1 ≤ nb))) →
      wX_findBasis_32 post (e + 1) x2 (nI t) (nI m) (nI cm) (nI nb) f_isStudied f_stemCount f_keyCount f_partCount f_rows a_leftSide a_rightSide a_isBundled ab a_closureOf a_stemSet a_isStem a_keySet a_partSet a_symbol a_cells a_classOf a_classes a_agreement := by
    intro e
    induction e with
    | zero =>
      intro t nb bl ab x2 ht hB hr h
      have et : t = 6 := by omega
      subst et
      refine br_t (by decide) ?_
      rcases h with ⟨rfl, h⟩ | ⟨rfl, h⟩
      · exact p nb bl ab hB hr h
      · have := dk_BI6 hB
        rcases h with ⟨h, _⟩ | h <;> omega
    | succ e ih =>
      intro t nb bl ab x2 ht hB hr h
      refine br_f (nI_ge (b := 6) (by omega) (by decide)) ?_
      rcases h with ⟨rfl, h⟩ | ⟨rfl, h⟩
      · exact br_t rfl (p nb bl ab hB hr h)
      · refine br_f (by decide) ⟨_, lp47 (wX_findBasis_32 post (e + 1)) t nb bl ab (fun q => ih (t + 1) nb bl ab 0 (by omega) hB hr (Or.inl ⟨rfl, q⟩)) (fun nb' bl' ab' g hB' hr' => ih (t + 1) nb' bl' ab' 1 (by omega) hB' hr' (Or.inr ⟨rfl, Or.inr ?_⟩)) m 0 nb bl ab 0 (by omega) hB hr (Or.inl ⟨rfl, rfl, rfl, rfl, lt_0⟩)⟩
        rcases h with ⟨h1, h2⟩ | h
        · have := h2 (b63 hB' (by omega)); omega
        · omega
  refine dk_if (dk_e (b := 63) hx (by decide)) (fun z => ?_) (fun z => nm_r (by rw [dk_n63, dk_not]) ?_)
  · subst z
    exact ⟨_, lp32 6 0 0 (fun _ => 0) a_block 1 (by omega) dk_BI_0 (fun j hj => by omega) (Or.inr ⟨rfl, Or.inl ⟨rfl, fun q => absurd rfl q⟩⟩)⟩
  · exact ⟨_, lp32 6 0 1 (fun _ => dk_sd 63 x) _ 1 (by omega) (dk_BI_1 hx z rfl) (fun j hj => by rw [show j = 0 by omega]; exact pk_us) (Or.inr ⟨rfl, Or.inl ⟨rfl, fun _ => Nat.le_refl _⟩⟩)⟩
theorem dk_s31 : ∀ a, a < 64 → ∀ c, c < 6 → ((nI a >>> (nI c &&& 31)) <<< ((31 : Int32) &&& 31) = 0 ↔ a.testBit c = false) := by decide +kernel
theorem dk_xisDetermined {post : Int32 → Prop} {m cm c : Nat} (hc : c < 6) (hcm : cm < 1024) (hD : dk_DP m L R B a_leftSide a_rightSide a_isBundled)
    (p1 : dk_det (dk_A m cm) L R B c → post 1) (p0 : ¬ dk_det (dk_A m cm) L R B c → post 0) :
    wpX_isDetermined post (nI m, nI cm, f_blocks, f_isStudied, f_stemCount, f_keyCount, f_partCount, f_rows, a_leftSide, a_rightSide, a_isBundled, a_block, a_closureOf, a_stemSet, a_isStem, a_keySet, a_partSet, a_symbol, a_cells, a_classOf, a_classes, a_agreement) (nI c) := by
  have m10 := hD.1
  have lp : ∀ e d x2, d + e = m → ((x2 = 0 ∧ ∀ j, j < d → ¬ (cm.testBit j = true ∧ B j = false ∧ (R j).testBit c = true ∧ (L j).testBit c = false)) ∨ (x2 = 1 ∧ dk_det (dk_A m cm) L R B c)) →
      wX_isDetermined_4 post (nI c) (nI m) (nI cm) f_blocks f_isStudied f_stemCount f_keyCount f_partCount f_rows a_leftSide a_rightSide a_isBundled a_block a_closureOf a_stemSet a_isStem a_keySet a_partSet a_symbol a_cells a_classOf a_classes a_agreement (e + 1) x2 (nI d) := by
    intro e
    induction e with
    | zero =>
      intro d x2 hd h
      have ed : d = m := by omega
      subst ed
      refine br_t (nI_le (Nat.le_refl _) (by omega)) ?_
      rcases h with ⟨rfl, h⟩ | ⟨rfl, h⟩
      · exact ⟨rfl, p0 (fun ⟨j, q1, q2⟩ => h j q1.1 ⟨q1.2, q2⟩)⟩
      · exact ⟨rfl, p1 h⟩
    | succ e ih =>
      intro d x2 hd h
      obtain ⟨e1, l1, e2, l2, e3⟩ := hD.2 d (by omega)
      have din : vp_in (nI d) 10 := vp_in_nI (by omega) (by decide)
      refine br_f (nI_ge (by omega) (by omega)) ⟨din, din, ?_⟩
      rw [dk_cl (by omega : d < 1000), e1, e2, dk_not]
      refine dk_if (dk_s31 _ (dk_sd_lt l2) c hc) (fun z => ?_) (fun z => ?_)
      · rw [dk_tsd] at z
        rcases h with ⟨rfl, h⟩ | ⟨rfl, h⟩
        · have nx : ∀ j, j < d + 1 → ¬ (cm.testBit j = true ∧ B j = false ∧ (R j).testBit c = true ∧ (L j).testBit c = false) := lt_s h (fun q => by rw [q.2.2.1, q.2.2.2] at z; cases z)
          refine br_t rfl (dk_if (dk_b1 (by omega) (by omega)) (fun w => ⟨din, ?_⟩) (fun w => nm_r (nI_1 d) (ih (d + 1) 0 (by omega) (Or.inl ⟨rfl, nx⟩))))
          exact br_c (fun _ => br_t rfl (nm_r (nI_1 d) (ih (d + 1) 0 (by omega) (Or.inl ⟨rfl, nx⟩)))) (fun _ => nm_r (nI_1 d) (ih (d + 1) 0 (by omega) (Or.inl ⟨rfl, nx⟩)))
        · exact br_f (by decide) (nm_r (nI_1 d) (ih (d + 1) 1 (by omega) (Or.inr ⟨rfl, h⟩)))
      · rw [dk_tsd] at z
        have zz : (R d).testBit c = true ∧ (L d).testBit c = false := by
          cases q1 : (R d).testBit c <;> cases q2 : (L d).testBit c <;> simp_all
        rcases h with ⟨rfl, h⟩ | ⟨rfl, h⟩
        · refine br_t rfl (dk_if (dk_b1 (by omega) (by omega)) (fun w => ⟨din, ?_⟩) (fun w => nm_r (nI_1 d) (ih (d + 1) 0 (by omega) (Or.inl ⟨rfl, lt_s h (fun q => w q.1)⟩))))
          rw [dk_cl (by omega : d < 1000), e3]
          exact dk_if dk_bI0 (fun v => br_f (by decide) (nm_r (nI_1 d) (ih (d + 1) 1 (by omega) (Or.inr ⟨rfl, d, ⟨by omega, w⟩, v, zz⟩)))) (fun v => nm_r (nI_1 d) (ih (d + 1) 0 (by omega) (Or.inl ⟨rfl, lt_s h (fun q => v q.2.1)⟩)))
        · exact br_f (by decide) (nm_r (nI_1 d) (ih (d + 1) 1 (by omega) (Or.inr ⟨rfl, h⟩)))
  exact ⟨_, lp m 0 0 (by omega) (Or.inl ⟨rfl, lt_0⟩)⟩
theorem dk_m5 : (5 : Int32) = nI 6 + (-1) := by decide
theorem dk_xlowestOf {post : Int32 → Prop} {i : Nat} (hi : i < 6) (p : post (nI i)) : wpX_lowestOf post (f_count, f_counting, f_blocks, f_isStudied, f_stemCount, f_keyCount, f_partCount, f_rows, a_leftSide, a_rightSide, a_isBundled, a_block, a_closureOf, a_stemSet, a_isStem, a_keySet, a_partSet, a_symbol, a_cells, a_classOf, a_classes, a_agreement) (nI (2 ^ i)) := by
  have lt := dk_pw hi
  have lp : ∀ c x2, c ≤ 6 → x2 = nI (if c ≤ i then i else 0) → wX_lowestOf_4 post (nI (2 ^ i)) f_count f_counting f_blocks f_isStudied f_stemCount f_keyCount f_partCount f_rows a_leftSide a_rightSide a_isBundled a_block a_closureOf a_stemSet a_isStem a_keySet a_partSet a_symbol a_cells a_classOf a_classes a_agreement (c + 1) x2 (nI c + (-1)) := by
    intro c
    induction c with
    | zero =>
      intro x2 _ h
      refine br_t (by decide) ?_
      rw [h, if_pos (Nat.zero_le _)]; exact p
    | succ c ih =>
      intro x2 hc h
      rw [pk_m1]
      refine br_f (nI_pos (by omega)) (dk_if (dk_b1 (by omega) (by omega)) (fun z => nm_e (ih _ (by omega) ?_)) (fun z => nm_e (ih _ (by omega) ?_)))
      · rw [dk_tp] at z
        have : i = c := of_decide_eq_true z
        subst this
        rw [if_pos (Nat.le_refl _)]
      · rw [dk_tp] at z
        have : i ≠ c := fun w => z (decide_eq_true w)
        rw [h]
        rcases Nat.lt_or_ge c i with w | w
        · rw [if_pos (by omega), if_pos (by omega)]
        · rw [if_neg (by omega), if_neg (by omega)]
  refine ⟨7, ?_⟩
  rw [dk_m5]
  exact lp 6 0 (Nat.le_refl _) (by rw [if_neg (by omega)]; rfl)
theorem dk_alone : ∀ b, b < 64 → b ≠ 0 → (nI b &&& (nI b - 1) = 0 ↔ ∃ i, i < 6 ∧ b = 2 ^ i) := by decide +kernel
theorem dk_xcloseSet {post : Int32 → SX → Prop} {x m cm : Nat} (hx : x < 64) (hcm : cm < 1024) (hD : dk_DP m L R B a_leftSide a_rightSide a_isBundled)
    (p : ∀ nb ab, dk_IsC (dk_A m cm) L R B x (dk_cf (dk_A m cm) L R B x) → post (nI (dk_cf (dk_A m cm) L R B x)) (nI m, nI cm, nI nb, f_isStudied, f_stemCount, f_keyCount, f_partCount, f_rows, a_leftSide, a_rightSide, a_isBundled, ab, a_closureOf, a_stemSet, a_isStem, a_keySet, a_partSet, a_symbol, a_cells, a_classOf, a_classes, a_agreement)) :
    wpX_closeSet post (nI m, nI cm, f_blocks, f_isStudied, f_stemCount, f_keyCount, f_partCount, f_rows, a_leftSide, a_rightSide, a_isBundled, a_block, a_closureOf, a_stemSet, a_isStem, a_keySet, a_partSet, a_symbol, a_cells, a_classOf, a_classes, a_agreement) (nI x) := by
  unfold wpX_closeSet
  refine dk_xfindBasis hx hcm hD (fun nb bl ab hB hr hs => ?_)
  have n6 := dk_BI6 hB
  have lp : ∀ e k out, k + e = nb → out < 64 → (∀ i, out.testBit i = true ↔ (x.testBit i = true ∨ ∃ j, j < k ∧ bl j = 2 ^ i ∧ dk_det (dk_A m cm) L R B i)) →
      wX_closeSet_9 post (nI m) (nI cm) (nI nb) f_isStudied f_stemCount f_keyCount f_partCount f_rows a_leftSide a_rightSide a_isBundled ab a_closureOf a_stemSet a_isStem a_keySet a_partSet a_symbol a_cells a_classOf a_classes a_agreement (e + 1) (nI out) (nI k) := by
    intro e
    induction e with
    | zero =>
      intro k out hk ho h
      have ek : k = nb := by omega
      subst ek
      refine br_t (nI_le (Nat.le_refl _) (by omega)) ?_
      have c := dk_blk_C hB hs ⟨ho, h⟩
      have ce := dk_cf_e c
      rw [← ce] at c
      rw [← ce]
      exact p k ab c
    | succ e ih =>
      intro k out hk ho h
      have kn : k < nb := by omega
      have kin : vp_in (nI k) 6 := vp_in_nI (by omega) (by decide)
      obtain ⟨b1, b2, b3, b4⟩ := hB.1 k kn
      refine br_f (nI_ge (by omega) (by omega)) ⟨kin, kin, ?_⟩
      rw [dk_cl (by omega : k < 1000), hr k kn]
      have no : (¬ ∃ i, bl k = 2 ^ i ∧ dk_det (dk_A m cm) L R B i) → ∀ i, out.testBit i = true ↔ (x.testBit i = true ∨ ∃ j, j < k + 1 ∧ bl j = 2 ^ i ∧ dk_det (dk_A m cm) L R B i) := by
        intro q i
        rw [h]
        constructor
        · rintro (a | ⟨j, j1, j2⟩)
          · exact Or.inl a
          · exact Or.inr ⟨j, by omega, j2⟩
        · rintro (a | ⟨j, j1, j2, j3⟩)
          · exact Or.inl a
          · rcases Nat.lt_or_ge j k with w | w
            · exact Or.inr ⟨j, w, j2, j3⟩
            · have : j = k := by omega
              subst this
              exact absurd ⟨i, j2, j3⟩ q
      refine dk_if (dk_alone _ b1 b2) (fun ⟨i, i1, i2⟩ => br_f (by decide) ⟨kin, ?_⟩) (fun z => br_t rfl (nm_r (nI_1 k) (ih (k + 1) out (by omega) ho (no ?_))))
      · rw [dk_cl (by omega : k < 1000), hr k kn, i2]
        refine dk_xlowestOf i1 (dk_xisDetermined i1 hcm hD (fun q => br_f (by decide) ⟨kin, nm_r (dk_or _ _) (nm_r (nI_1 k) (ih (k + 1) _ (by omega) (dk_or_lt ho (dk_pw i1)) ?_))⟩) (fun q => br_t rfl (nm_r (nI_1 k) (ih (k + 1) out (by omega) ho (no ?_)))))
        · intro j
          rw [Nat.testBit_or, Bool.or_eq_true, h, dk_tp, decide_eq_true_iff]
          constructor
          · rintro ((a | ⟨t, t1, t2⟩) | a)
            · exact Or.inl a
            · exact Or.inr ⟨t, by omega, t2⟩
            · subst a; exact Or.inr ⟨k, by omega, i2, q⟩
          · rintro (a | ⟨t, t1, t2, t3⟩)
            · exact Or.inl (Or.inl a)
            · rcases Nat.lt_or_ge t k with w | w
              · exact Or.inl (Or.inr ⟨t, w, t2, t3⟩)
              · have : t = k := by omega
                subst this
                rw [i2] at t2
                exact Or.inr (dk_pwi t2)
        · rintro ⟨j, j1, j2⟩
          rw [i2] at j1
          have : i = j := dk_pwi j1
          subst this; exact q j2
      · rintro ⟨j, j1, j2⟩
        have j6 : j < 6 := by
          have a : (bl k).testBit j = true := by rw [j1]; exact Nat.testBit_two_pow_self
          exact dk_lo b1 a
        exact z ⟨j, j6, j1⟩
  exact ⟨_, lp nb 0 x (by omega) hx (fun i => by simp)⟩
end
end
section
/-! a stable partition always exists; so every set has its closure -/
section
variable {A : Nat → Prop} {L R : Nat → Nat} {B : Nat → Bool}
theorem dk_nSt1 {v w nb : Nat} {bl : Nat → Nat} (h : ¬ dk_St1 v w nb bl) : ∃ j, j < nb ∧ bl j &&& v = 0 ∧ bl j &&& w ≠ 0 ∧ bl j &&& w ≠ bl j := by
  rcases Classical.em (∃ j, j < nb ∧ bl j &&& v = 0 ∧ bl j &&& w ≠ 0 ∧ bl j &&& w ≠ bl j) with z | z
  · exact z
  · exfalso; apply h
    intro j hj h0
    rcases Classical.em (bl j &&& w = 0) with q | q
    · exact Or.inl q
    · rcases Classical.em (bl j &&& w = bl j) with q' | q'
      · exact Or.inr q'
      · exact absurd ⟨j, hj, h0, q, q'⟩ z
theorem dk_stable_ex {x : Nat} (hx : x < 64) : ∃ nb bl, dk_BI A L R B x nb bl ∧ ∀ d, A d → dk_Stb L R B d nb bl := by
  have step : ∀ e nb bl, nb + e = 6 → dk_BI A L R B x nb bl → ∃ nb bl, dk_BI A L R B x nb bl ∧ ∀ d, A d → dk_Stb L R B d nb bl := by
    intro e
    induction e with
    | zero =>
      intro nb bl hn hB
      refine ⟨nb, bl, hB, fun d hd => ⟨fun hb => ?_, fun hb c hc hr => ?_⟩⟩
      · rcases Classical.em (dk_St1 (L d) (R d) nb bl) with z | z
        · exact z
        · obtain ⟨j, j1, j2, j3, j4⟩ := dk_nSt1 z
          have q := dk_SWb hd hb j2 (hB.1 j j1).2.2.2
          have := (dk_split hB j1 j3 j4 q.1 q.2).1; omega
      · rcases Classical.em (dk_St1 (L d) (2 ^ c) nb bl) with z | z
        · exact z
        · obtain ⟨j, j1, j2, j3, j4⟩ := dk_nSt1 z
          have q := dk_SWs hd hb hr j2 (hB.1 j j1).2.2.2
          have := (dk_split hB j1 j3 j4 q.1 q.2).1; omega
    | succ e ih =>
      intro nb bl hn hB
      rcases Classical.em (∀ d, A d → dk_Stb L R B d nb bl) with z | z
      · exact ⟨nb, bl, hB, z⟩
      · have : ∃ bl', dk_BI A L R B x (nb + 1) bl' := by
          rcases Classical.em (∃ bl', dk_BI A L R B x (nb + 1) bl') with y | y
          · exact y
          · exfalso; apply z
            intro d hd
            refine ⟨fun hb => ?_, fun hb c hc hr => ?_⟩
            · rcases Classical.em (dk_St1 (L d) (R d) nb bl) with z | z
              · exact z
              · obtain ⟨j, j1, j2, j3, j4⟩ := dk_nSt1 z
                have q := dk_SWb hd hb j2 (hB.1 j j1).2.2.2
                exact absurd ⟨_, (dk_split hB j1 j3 j4 q.1 q.2).2⟩ y
            · rcases Classical.em (dk_St1 (L d) (2 ^ c) nb bl) with z | z
              · exact z
              · obtain ⟨j, j1, j2, j3, j4⟩ := dk_nSt1 z
                have q := dk_SWs hd hb hr j2 (hB.1 j j1).2.2.2
                exact absurd ⟨_, (dk_split hB j1 j3 j4 q.1 q.2).2⟩ y
        obtain ⟨bl', h'⟩ := this
        exact ih (nb + 1) bl' (by omega) h'
  rcases Nat.decEq x 63 with z | z
  · exact step 5 1 (fun _ => dk_sd 63 x) (by omega) (dk_BI_1 hx z rfl)
  · subst z; exact step 6 0 (fun _ => 0) (by omega) dk_BI_0
theorem dk_cfC {x : Nat} (hx : x < 64) : dk_IsC A L R B x (dk_cf A L R B x) := by
  obtain ⟨nb, bl, hB, hs⟩ := dk_stable_ex (A := A) (L := L) (R := R) (B := B) hx
  obtain ⟨C, hC⟩ := dk_isC_ex hx hB
  have c := dk_blk_C hB hs hC
  rw [dk_cf_e c]; exact c
theorem dk_cfO : dk_CO (dk_cf A L R B) := dk_CO_cf (fun x hx => ⟨_, dk_cfC hx⟩)
theorem dk_cf64 {x : Nat} (hx : x < 64) : dk_cf A L R B x < 64 := (dk_cfC hx).1
end
def dk_Al (m : Nat) : Nat → Prop := fun k => k < m
theorem dk_A1 {m : Nat} (h : m ≤ 10) : dk_A m 1023 = dk_Al m := by
  funext k
  apply propext
  refine ⟨fun z => z.1, fun z => ⟨z, ?_⟩⟩
  have : k < m := z
  have e : (1023 : Nat).testBit k = decide (k < 10) := Nat.testBit_two_pow_sub_one 10 k
  rw [e, decide_eq_true (by omega)]
theorem dk_A2 (m : Nat) : dk_A m (2 ^ m - 1) = dk_Al m := by
  funext k
  apply propext
  refine ⟨fun z => z.1, fun z => ⟨z, ?_⟩⟩
  have z' : k < m := z
  rw [Nat.testBit_two_pow_sub_one, decide_eq_true z']
end
section
/-! the desk: stems -/
def dk_FS (Q : Nat → Prop) (sc : Nat) (ass aim : Nat → Int32) : Prop :=
  (∃ ss : Nat → Nat, (∀ k, k < sc → ass k = nI (ss k) ∧ ss k < 64) ∧ ∀ p, p < 64 → (Q p ↔ ∃ k, k < sc ∧ ss k = p)) ∧ sc = dk_cn Q 64 ∧ (∀ p, p < 64 → (aim p = 1 ∧ Q p) ∨ (aim p = 0 ∧ ¬ Q p))
def dk_un (f : Nat → Nat) (k x : Nat) : Nat → Nat := fun j => if j = k then x else f j
theorem dk_us {f : Nat → Nat} {k x : Nat} : dk_un f k x k = x := if_pos rfl
theorem dk_uo {f : Nat → Nat} {k x j : Nat} (h : j ≠ k) : dk_un f k x j = f j := if_neg h
theorem dk_FS_c {Q Q' : Nat → Prop} {sc : Nat} {ass aim : Nat → Int32} (h : dk_FS Q sc ass aim) (e : ∀ p, p < 64 → (Q p ↔ Q' p)) : dk_FS Q' sc ass aim := by
  obtain ⟨⟨ss, h1, h2⟩, h3, h4⟩ := h
  refine ⟨⟨ss, h1, fun p hp => (e p hp).symm.trans (h2 p hp)⟩, h3.trans (dk_cn_eq e), fun p hp => ?_⟩
  rcases h4 p hp with ⟨a, b⟩ | ⟨a, b⟩
  · exact Or.inl ⟨a, (e p hp).mp b⟩
  · exact Or.inr ⟨a, fun q => b ((e p hp).mpr q)⟩
theorem dk_FS_a {Q : Nat → Prop} {sc x : Nat} {ass aim : Nat → Int32} (h : dk_FS Q sc ass aim) (hx : x < 64) (hn : ¬ Q x) :
    sc < 64 ∧ dk_FS (fun p => Q p ∨ p = x) (sc + 1) (upd ass sc (nI x)) (upd aim x 1) := by
  obtain ⟨⟨ss, h1, h2⟩, h3, h4⟩ := h
  refine ⟨by rw [h3]; exact dk_cn_lt' hn hx, ⟨dk_un ss sc x, fun k hk => ?_, fun p hp => ⟨?_, ?_⟩⟩, by rw [dk_cn_add hn hx, ← h3], fun p hp => ?_⟩
  · by_cases z : k = sc
    · rw [z, dk_us]; exact ⟨pk_us, hx⟩
    · rw [dk_uo z, pk_un z]; exact h1 k (by omega)
  · rintro (z | z)
    · obtain ⟨k, k1, k2⟩ := (h2 p hp).mp z
      exact ⟨k, by omega, by rw [dk_uo (by omega)]; exact k2⟩
    · exact ⟨sc, by omega, by rw [dk_us, z]⟩
  · rintro ⟨k, k1, k2⟩
    by_cases z : k = sc
    · rw [z, dk_us] at k2; exact Or.inr k2.symm
    · rw [dk_uo z] at k2; exact Or.inl ((h2 p hp).mpr ⟨k, by omega, k2⟩)
  · by_cases z : p = x
    · subst z; exact Or.inl ⟨pk_us, Or.inr rfl⟩
    · rw [pk_un z]
      rcases h4 p hp with ⟨a, b⟩ | ⟨a, b⟩
      · exact Or.inl ⟨a, Or.inl b⟩
      · exact Or.inr ⟨a, fun q => q.elim b z⟩
section
variable {f_count f_counting f_blocks f_isStudied f_stemCount f_keyCount f_partCount f_rows : Int32} {a_leftSide a_rightSide a_isBundled a_block a_closureOf a_stemSet a_isStem a_keySet a_partSet a_symbol a_cells a_classOf a_classes a_agreement : Nat → Int32}
variable {c : Nat → Nat}
theorem dk_xbad {post : Int32 → Prop} {x : Nat} (hx : x < 64) (p : post 0) : wpX_badSet post (f_count, f_counting, f_blocks, f_isStudied, f_stemCount, f_keyCount, f_partCount, f_rows, a_leftSide, a_rightSide, a_isBundled, a_block, a_closureOf, a_stemSet, a_isStem, a_keySet, a_partSet, a_symbol, a_cells, a_classOf, a_classes, a_agreement) (nI x) :=
  br_f (nI_pos (by omega)) (br_t (nI_le (b := 63) (by omega) (by decide)) p)
theorem dk_xbad1 {post : Int32 → Prop} {v : Int32} (h : v < 0 ∨ (¬ v < 0 ∧ ¬ v ≤ 63)) (p : post 1) : wpX_badSet post (f_count, f_counting, f_blocks, f_isStudied, f_stemCount, f_keyCount, f_partCount, f_rows, a_leftSide, a_rightSide, a_isBundled, a_block, a_closureOf, a_stemSet, a_isStem, a_keySet, a_partSet, a_symbol, a_cells, a_classOf, a_classes, a_agreement) v := by
  rcases h with h | ⟨h, g⟩
  · exact br_t h p
  · exact br_f h (br_f g p)
theorem dk_xwithin {post : Int32 → Prop} {a b : Nat} (ha : a < 64) (p1 : dk_su a b → post 1) (p0 : ¬ dk_su a b → post 0) : wpX_within post (f_count, f_counting, f_blocks, f_isStudied, f_stemCount, f_keyCount, f_partCount, f_rows, a_leftSide, a_rightSide, a_isBundled, a_block, a_closureOf, a_stemSet, a_isStem, a_keySet, a_partSet, a_symbol, a_cells, a_classOf, a_classes, a_agreement) (nI a) (nI b) := by
  refine dk_if (d := dk_su a b) ?_ p1 p0
  rw [dk_not, dk_z (dk_sd_lt ha), dk_sd0]
theorem dk_xclosedByStems {post : Int32 → Prop} {a sc : Nat} {F : Nat → Prop} {ss : Nat → Nat} (hc : dk_CO c) (ha : a < 64) (s64 : sc ≤ 64)
    (hcl : ∀ x, x < 64 → a_closureOf x = nI (c x)) (hss : ∀ k, k < sc → a_stemSet k = nI (ss k) ∧ ss k < 64) (hF : ∀ p, p < 64 → (F p ↔ ∃ k, k < sc ∧ ss k = p))
    (p : ∀ out, dk_Lop c F a out → post (nI out)) : wpX_closedByStems post (f_count, f_counting, f_blocks, f_isStudied, nI sc, f_keyCount, f_partCount, f_rows, a_leftSide, a_rightSide, a_isBundled, a_block, a_closureOf, a_stemSet, a_isStem, a_keySet, a_partSet, a_symbol, a_cells, a_classOf, a_classes, a_agreement) (nI a) := by
  have lp24 : ∀ (J : Int32 → Int32 → Int32 → Prop) (t out0 : Nat), out0 < 64 → dk_su a out0 → (∀ z, z < 64 → dk_su a z → dk_Lc c F z → dk_su out0 z) →
      (dk_Lc c F out0 → J (nI out0) 0 (nI (t + 1))) →
      (∀ out, out < 64 → dk_su out0 out → out ≠ out0 → (∀ z, z < 64 → dk_su a z → dk_Lc c F z → dk_su out z) → J (nI out) 1 (nI (t + 1))) →
      ∀ e k out, k + e = sc → out < 64 → dk_su out0 out → (∀ z, z < 64 → dk_su a z → dk_Lc c F z → dk_su out z) →
        (out = out0 → ∀ j, j < k → dk_su (ss j) out0 → ss j ≠ out0 → dk_su (c (ss j)) out0) →
        wX_closedByStems_24 post J (nI t) (nI out0) f_count f_counting f_blocks f_isStudied (nI sc) f_keyCount f_partCount f_rows a_leftSide a_rightSide a_isBundled a_block a_closureOf a_stemSet a_isStem a_keySet a_partSet a_symbol a_cells a_classOf a_classes a_agreement (e + 1) (nI out) (nI k) := by
    intro J t out0 h0 ha0 hl0 j0 j1 e
    induction e with
    | zero =>
      intro k out hk ho hs hl h
      have ek : k = sc := by omega
      subst ek
      refine br_t (nI_le (Nat.le_refl _) (by omega)) (dk_if (dk_e ho h0) (fun z => nm_r (nI_1 t) ?_) (fun z => nm_r (nI_1 t) (j1 out ho hs z hl)))
      subst z
      refine j0 (fun q hq hf hu hn => ?_)
      obtain ⟨j, j1', j2⟩ := (hF q hq).mp hf
      subst j2
      exact h rfl j j1' hu hn
    | succ e ih =>
      intro k out hk ho hs hl h
      have kin : vp_in (nI k) 64 := vp_in_nI (by omega) (by decide)
      obtain ⟨s1, s2⟩ := hss k (by omega)
      refine br_f (nI_ge (by omega) (by omega)) ⟨kin, ?_⟩
      rw [dk_cl (by omega : k < 1000), s1]
      have keep : (¬ (dk_su (ss k) out ∧ ss k ≠ out)) → wX_closedByStems_24 post J (nI t) (nI out0) f_count f_counting f_blocks f_isStudied (nI sc) f_keyCount f_partCount f_rows a_leftSide a_rightSide a_isBundled a_block a_closureOf a_stemSet a_isStem a_keySet a_partSet a_symbol a_cells a_classOf a_classes a_agreement (e + 1) (nI out) (nI (k + 1)) := fun q =>
        ih (k + 1) out (by omega) ho hs hl (fun z => lt_s (h z) (fun u v => by subst z; exact absurd ⟨u, v⟩ q))
      refine dk_xwithin s2 (fun u => br_f (by decide) ⟨kin, ?_⟩) (fun u => br_t rfl (br_t rfl (nm_r (nI_1 k) (keep (fun q => u q.1)))))
      refine dk_if (dk_e s2 ho) (fun v => br_t rfl (nm_r (nI_1 k) (keep (fun q => q.2 v)))) (fun v => br_f (by decide) ⟨kin, ?_⟩)
      rw [dk_cl (by omega : k < 1000), s1, dk_cl (by omega : ss k < 1000), hcl _ s2]
      have c64 := (hc _ s2).1
      have up : dk_su out (out ||| c (ss k)) := fun i hi => by rw [Nat.testBit_or, hi]; rfl
      refine ⟨vp_in_nI s2 (by decide), nm_r (dk_or _ _) (nm_r (nI_1 k) (ih (k + 1) _ (by omega) (dk_or_lt ho c64) (dk_su_tr hs up) (fun z hz az lz i hi => ?_) (fun z => ?_)))⟩
      · rw [Nat.testBit_or, Bool.or_eq_true] at hi
        rcases hi with q | q
        · exact hl z hz az lz i q
        · refine lz (ss k) s2 ((hF _ s2).mpr ⟨k, by omega, rfl⟩) (dk_su_tr u (hl z hz az lz)) (fun w => ?_) i q
          exact v (dk_su_eq u (by rw [w]; exact hl z hz az lz))
      · have eo : out = out0 := dk_su_eq (by rw [← z]; exact up) hs
        exact lt_s (h eo) (fun _ _ i hi => by rw [← z, Nat.testBit_or, hi, Bool.or_true])
  have lp7 : ∀ e t out x3, t + e = 7 → out < 64 → dk_su a out → (∀ z, z < 64 → dk_su a z → dk_Lc c F z → dk_su out z) → ((x3 = 0 ∧ dk_Lc c F out) ∨ (x3 = 1 ∧ t ≤ dk_pc out)) →
      wX_closedByStems_7 post f_count f_counting f_blocks f_isStudied (nI sc) f_keyCount f_partCount f_rows a_leftSide a_rightSide a_isBundled a_block a_closureOf a_stemSet a_isStem a_keySet a_partSet a_symbol a_cells a_classOf a_classes a_agreement (e + 1) (nI out) x3 (nI t) := by
    intro e
    induction e with
    | zero =>
      intro t out x3 ht ho hs hl h
      have et : t = 7 := by omega
      subst et
      refine br_t (by decide) ?_
      rcases h with ⟨rfl, h⟩ | ⟨rfl, h⟩
      · exact p out ⟨ho, hs, h, hl⟩
      · have := dk_pc6 _ ho; omega
    | succ e ih =>
      intro t out x3 ht ho hs hl h
      refine br_f (nI_ge (b := 7) (by omega) (by decide)) ?_
      rcases h with ⟨rfl, h⟩ | ⟨rfl, h⟩
      · exact br_t rfl (p out ⟨ho, hs, h, hl⟩)
      · refine br_f (by decide) ⟨_, lp24 _ t out ho hs hl (fun q => ih (t + 1) out 0 (by omega) ho hs hl (Or.inl ⟨rfl, q⟩)) (fun out' ho' hs' hn' hl' => ih (t + 1) out' 1 (by omega) ho' (dk_su_tr hs hs') hl' (Or.inr ⟨rfl, ?_⟩)) sc 0 out (by omega) ho (dk_su_rfl _) hl (fun _ => lt_0)⟩
        have := dk_pcl ho ho' hs' (fun q => hn' q.symm); omega
  exact ⟨_, lp7 7 0 a 1 (by omega) ha (dk_su_rfl _) (fun z _ hz _ => hz) (Or.inr ⟨rfl, Nat.zero_le _⟩)⟩
theorem dk_xnextSet {post : Int32 → Prop} {x y sc : Nat} {ss : Nat → Nat} (hc : dk_CO c) (hx : x < 64) (s64 : sc ≤ 64) (hy : dk_Nx c x y)
    (hcl : ∀ x, x < 64 → a_closureOf x = nI (c x)) (hss : ∀ k, k < sc → a_stemSet k = nI (ss k) ∧ ss k < 64) (hF : ∀ p, p < 64 → (dk_F c x p ↔ ∃ k, k < sc ∧ ss k = p))
    (p : post (nI y)) : wpX_nextSet post (f_count, f_counting, f_blocks, f_isStudied, nI sc, f_keyCount, f_partCount, f_rows, a_leftSide, a_rightSide, a_isBundled, a_block, a_closureOf, a_stemSet, a_isStem, a_keySet, a_partSet, a_symbol, a_cells, a_classOf, a_classes, a_agreement) (nI x) := by
  obtain ⟨i, i6, i1, i2, i3⟩ := dk_rv_d x hx y hy.1 hy.2.2.1
  have lp : ∀ k, i < k → k ≤ 6 → wX_nextSet_2 post (nI x) f_count f_counting f_blocks f_isStudied (nI sc) f_keyCount f_partCount f_rows a_leftSide a_rightSide a_isBundled a_block a_closureOf a_stemSet a_isStem a_keySet a_partSet a_symbol a_cells a_classOf a_classes a_agreement (k + 1) (nI k + (-1)) := by
    intro k
    induction k with
    | zero => intro h; omega
    | succ k ih =>
      intro hik hk
      rw [pk_m1]
      have nx : i ≠ k → wX_nextSet_2 post (nI x) f_count f_counting f_blocks f_isStudied (nI sc) f_keyCount f_partCount f_rows a_leftSide a_rightSide a_isBundled a_block a_closureOf a_stemSet a_isStem a_keySet a_partSet a_symbol a_cells a_classOf a_classes a_agreement (k + 1) (nI k + (-1)) := fun q => ih (by omega) (by omega)
      refine br_f (nI_pos (by omega)) (dk_if (dk_b0 (by omega) (by omega)) (fun z => ?_) (fun z => nm_e (nx (fun q => by subst q; exact z i1))))
      have p64 := dk_pw (c := k) (by omega)
      have pos : 0 < 2 ^ k := Nat.pos_of_ne_zero (by intro q; simp at q)
      have el : nI (2 ^ k) - 1 = nI (2 ^ k - 1) := by
        have := nI_pred (2 ^ k - 1)
        rw [show 2 ^ k - 1 + 1 = 2 ^ k by omega] at this; exact this
      rw [dk_sh k (by omega)]
      refine nm_r el ?_
      rw [dk_and, dk_or]
      refine dk_xclosedByStems hc (dk_or_lt (dk_and_lt hx) p64) s64 hcl hss hF (fun out ho => ?_)
      rw [dk_and]
      refine dk_if (dk_e (dk_and_lt ho.1) (dk_and_lt hx)) (fun w => ?_) (fun w => nm_e (nx (fun q => ?_)))
      · rcases Nat.decEq i k with q | q
        · exact (dk_N3 hx hy i6 i2 i1 i3 (by omega) (by omega) z ho w).elim
        · subst q
          rw [(dk_N2 hx hy i6 i1 i2 i3 ho).2]; exact p
      · subst q
        exact w (dk_N2 hx hy i6 i1 i2 i3 ho).1
  refine ⟨7, ?_⟩
  rw [dk_m5]
  exact lp 6 i6 (Nat.le_refl _)
theorem dk_xfindStems {post : SX → Prop} (hc : dk_CO c) (hcl : ∀ x, x < 64 → a_closureOf x = nI (c x))
    (p : ∀ ss ism, (∀ q, q < 64 → (ism q = 1 ∧ dk_st c q) ∨ (ism q = 0 ∧ ¬ dk_st c q)) → post (f_count, f_counting, f_blocks, f_isStudied, nI (dk_cn (dk_st c) 64), f_keyCount, f_partCount, f_rows, a_leftSide, a_rightSide, a_isBundled, a_block, a_closureOf, ss, ism, a_keySet, a_partSet, a_symbol, a_cells, a_classOf, a_classes, a_agreement)) :
    wpX_findStems post (f_count, f_counting, f_blocks, f_isStudied, f_stemCount, f_keyCount, f_partCount, f_rows, a_leftSide, a_rightSide, a_isBundled, a_block, a_closureOf, a_stemSet, a_isStem, a_keySet, a_partSet, a_symbol, a_cells, a_classOf, a_classes, a_agreement) := by
  have lp34 : ∀ e x i sc ass aim, x < 64 → 63 - dk_rv x ≤ e → i ≤ dk_rv x → dk_Lc c (dk_st c) x → dk_FS (fun q => dk_st c q ∧ dk_rv q < dk_rv x) sc ass aim →
      wX_findStems_34 post f_count f_counting f_blocks f_isStudied f_keyCount f_partCount f_rows (e + 2) (nI x) (nI i) (nI sc) a_leftSide a_rightSide a_isBundled a_block a_closureOf ass aim a_keySet a_partSet a_symbol a_cells a_classOf a_classes a_agreement := by
    intro e
    induction e with
    | zero =>
      intro x i sc ass aim hx he hi hq hf
      have r64 := dk_rv64 x hx
      have ex : x = 63 := dk_rv_i x hx 63 (by decide) (by rw [show dk_rv 63 = 63 by decide]; omega)
      subst ex
      refine br_f (nI_ge (b := 64) (by omega) (by decide)) (br_f (by decide) ⟨by rw [vp_in_iff]; decide, ?_⟩)
      rw [show (nI 63).toNatClampNeg = 63 by decide, hcl 63 (by decide)]
      have e63 : c 63 = 63 := dk_su_eq (dk_su63 (hc 63 (by decide)).1) (hc 63 (by decide)).2.1
      rw [e63]
      refine br_t rfl (br_t rfl (nm_r (nI_1 i) ?_))
      have f2 : dk_FS (dk_st c) sc ass aim := by
        refine dk_FS_c hf (fun q hq' => ⟨fun z => z.1, fun z => ⟨z, ?_⟩⟩)
        rcases Nat.decEq q 63 with w | w
        · exact dk_rv63 hq' w
        · subst w
          rw [dk_st_e] at z; exact absurd e63 z.1
      have fin : post (f_count, f_counting, f_blocks, f_isStudied, nI sc, f_keyCount, f_partCount, f_rows, a_leftSide, a_rightSide, a_isBundled, a_block, a_closureOf, ass, aim, a_keySet, a_partSet, a_symbol, a_cells, a_classOf, a_classes, a_agreement) := by
        rw [f2.2.1]; exact p ass aim f2.2.2
      exact br_c (fun _ => fin) (fun _ => br_t rfl fin)
    | succ e ih =>
      intro x i sc ass aim hx he hi hq hf
      have r64 := dk_rv64 x hx
      have xin : vp_in (nI x) 64 := vp_in_nI hx (by decide)
      have xm : ¬ nI x = -1 := fun z => by
        have := nI_pos (n := x) (by omega)
        rw [z] at this; exact this (by decide)
      have nn : ¬ (dk_st c x ∧ dk_rv x < dk_rv x) := fun z => Nat.lt_irrefl _ z.2
      have go : ∀ sc' ass' aim', sc' ≤ 64 → dk_FS (dk_F c x) sc' ass' aim' → wX_findStems_82 post (wX_findStems_34 post f_count f_counting f_blocks f_isStudied f_keyCount f_partCount f_rows (e + 2)) (nI x) (nI i) f_count f_counting f_blocks f_isStudied (nI sc') f_keyCount f_partCount f_rows a_leftSide a_rightSide a_isBundled a_block a_closureOf ass' aim' a_keySet a_partSet a_symbol a_cells a_classOf a_classes a_agreement := by
        intro sc' ass' aim' h64 hf'
        refine dk_if (dk_e (b := 63) hx (by decide)) (fun z => nm_r (nI_1 i) ?_) (fun z => ?_)
        · subst z
          have f2 : dk_FS (dk_st c) sc' ass' aim' := dk_FS_c hf' (fun q hq' => ⟨fun z => z.1, fun z => ⟨z, dk_rv_le hq' (by decide) (dk_su63 hq')⟩⟩)
          have fin : post (f_count, f_counting, f_blocks, f_isStudied, nI sc', f_keyCount, f_partCount, f_rows, a_leftSide, a_rightSide, a_isBundled, a_block, a_closureOf, ass', aim', a_keySet, a_partSet, a_symbol, a_cells, a_classOf, a_classes, a_agreement) := by
            rw [f2.2.1]; exact p ass' aim' f2.2.2
          exact br_c (fun _ => fin) (fun _ => br_t rfl fin)
        · obtain ⟨y, hy⟩ := dk_next_ex hc hx z
          have hy' : dk_Nx c x y := hy
          obtain ⟨⟨ss, s1, s2⟩, s3, s4⟩ := hf'
          refine dk_xnextSet hc hx h64 hy' hcl s1 s2 (nm_r (nI_1 i) (ih y (i + 1) sc' ass' aim' hy.1 ?_ ?_ hy.2.1 (dk_FS_c ⟨⟨ss, s1, s2⟩, s3, s4⟩ (fun q hq' => ⟨fun w => ⟨w.1, ?_⟩, fun w => ⟨w.1, ?_⟩⟩))))
          · have := hy.2.2.1; omega
          · have := hy.2.2.1; omega
          · have := hy.2.2.1; have := w.2; omega
          · rcases Nat.lt_or_ge (dk_rv x) (dk_rv q) with v | v
            · have := hy.2.2.2 q hq' (dk_st_Qc hq' w.1) v
              have := w.2; omega
            · exact v
      refine br_f (nI_ge (b := 64) (by omega) (by decide)) (br_f xm ⟨xin, ?_⟩)
      rw [dk_cl (by omega : x < 1000), hcl x hx]
      refine dk_if (dk_e (hc x hx).1 hx) (fun z => ?_) (fun z => ⟨xin, fun a1 e1 => ?_⟩)
      · refine go sc ass aim (by rw [hf.2.1]; exact dk_cn_le _ _) (dk_FS_c hf (fun q hq' => ⟨fun w => ⟨w.1, Nat.le_of_lt w.2⟩, fun w => ⟨w.1, ?_⟩⟩))
        rcases Nat.lt_or_ge (dk_rv q) (dk_rv x) with v | v
        · exact v
        · have := dk_rv_i q hq' x hx (Nat.le_antisymm w.2 v)
          subst this
          have w1 := w.1
          rw [dk_st_e] at w1; exact absurd z w1.1
      · obtain ⟨s64, hf'⟩ := dk_FS_a hf hx nn
        refine ⟨vp_in_nI s64 (by decide), fun a2 e2 => ?_⟩
        rw [dk_nb1] at e1
        rw [dk_cl (by omega : sc < 1000)] at e2
        subst e1 e2
        refine nm_r (nI_1 sc) (go (sc + 1) _ _ (by omega) (dk_FS_c hf' (fun q hq' => ⟨?_, fun w => ?_⟩)))
        · rintro (w | w)
          · exact ⟨w.1, Nat.le_of_lt w.2⟩
          · subst w; exact ⟨dk_Qc_st hx hq z, Nat.le_refl _⟩
        · rcases Nat.lt_or_ge (dk_rv q) (dk_rv x) with v | v
          · exact Or.inl ⟨w.1, v⟩
          · exact Or.inr (dk_rv_i q hq' x hx (Nat.le_antisymm w.2 v))
  have lp7 : ∀ e i aim, i + e = 64 → (∀ q, q < i → aim q = 0) → wX_findStems_7 post f_count f_counting f_blocks f_isStudied 0 f_keyCount f_partCount f_rows (e + 1) (nI i) a_leftSide a_rightSide a_isBundled a_block a_closureOf a_stemSet aim a_keySet a_partSet a_symbol a_cells a_classOf a_classes a_agreement := by
    intro e
    induction e with
    | zero =>
      intro i aim hi h
      have ei : i = 64 := by omega
      subst ei
      refine br_t (by decide) ?_
      refine dk_xclosedByStems (a := 0) (sc := 0) (F := fun _ => False) (ss := fun _ => 0) hc (by decide) (by decide) hcl (fun k hk => by omega) (fun q hq => ⟨False.elim, fun ⟨k, hk, _⟩ => by omega⟩) (fun out ho => ?_)
      have o0 : out = 0 := dk_su_eq (ho.2.2.2 0 (by decide) (dk_su_rfl _) (fun q _ f => f.elim)) (dk_su0 _)
      subst o0
      have r0 : dk_rv 0 = 0 := by decide
      refine ⟨_, lp34 63 0 0 0 a_stemSet aim (by decide) (by omega) (by omega) (fun q hq hs hu hn => absurd (dk_su_eq hu (dk_su0 _)) hn) ⟨⟨fun _ => 0, fun k hk => by omega, fun q hq => ⟨fun z => by omega, fun ⟨k, hk, _⟩ => by omega⟩⟩, ?_, fun q hq => Or.inr ⟨h q hq, fun z => by omega⟩⟩⟩
      have : ∀ N, dk_cn (fun q => dk_st c q ∧ dk_rv q < dk_rv 0) N = 0 := by
        intro N
        induction N with
        | zero => rfl
        | succ N ih => rw [dk_cn_f (fun z => by omega), ih]
      exact (this 64).symm
    | succ e ih =>
      intro i aim hi h
      refine br_f (nI_ge (b := 64) (by omega) (by decide)) ⟨vp_in_nI (by omega) (by decide), fun a1 e1 => nm_r (nI_1 i) (ih (i + 1) a1 (by omega) ?_)⟩
      rw [dk_cl (by omega : i < 1000), dk_nb0] at e1
      subst e1
      exact lt_s (fun q hq => by rw [pk_un (by omega)]; exact h q hq) pk_us
  exact ⟨_, lp7 64 0 a_isStem (by omega) lt_0⟩
end
end
section
/-! the desk: keys, and study -/
theorem dk_KSle {c : Nat → Nat} {kc : Nat} {ks : Nat → Nat} (hc : dk_CO c) (h : dk_KS c kc ks) : kc ≤ 20 := by
  rcases Nat.eq_zero_or_pos kc with z | z
  · omega
  · have a := h.1 (kc - 1) (by omega)
    have := dk_KS20 (kc := kc - 1) (ks := ks) hc ⟨fun k hk => h.1 k (by omega), fun j k hj hk => h.2 j k hj (by omega)⟩ a.1 a.2 (fun k hk e => by
      have := h.2 k (kc - 1) hk (by omega); omega)
    omega
def dk_ST (m : Nat) (L R : Nat → Nat) (B : Nat → Bool) (sc kc : Int32) (clo ism ks : Nat → Int32) : Prop :=
  (∀ x, x < 64 → clo x = nI (dk_cf (dk_Al m) L R B x)) ∧ sc = nI (dk_cn (dk_st (dk_cf (dk_Al m) L R B)) 64) ∧
  (∀ q, q < 64 → (ism q = 1 ∧ dk_st (dk_cf (dk_Al m) L R B) q) ∨ (ism q = 0 ∧ ¬ dk_st (dk_cf (dk_Al m) L R B) q)) ∧
  ∃ kn ksn, kc = nI kn ∧ dk_KS (dk_cf (dk_Al m) L R B) kn ksn ∧ (∀ k, k < kn → ks k = nI (ksn k)) ∧ ∀ y, y < 64 → dk_kyo (dk_cf (dk_Al m) L R B) y 63 → ∃ k, k < kn ∧ ksn k = y
section
variable {f_count f_counting f_blocks f_isStudied f_stemCount f_keyCount f_partCount f_rows : Int32} {a_leftSide a_rightSide a_isBundled a_block a_closureOf a_stemSet a_isStem a_keySet a_partSet a_symbol a_cells a_classOf a_classes a_agreement : Nat → Int32}
variable {c : Nat → Nat}
theorem dk_xreduced {post : Int32 → Prop} {x : Nat} (hc : dk_CO c) (hx : x < 64) (h63 : c x = 63) (hcl : ∀ x, x < 64 → a_closureOf x = nI (c x))
    (p : ∀ r, r < 64 → dk_su r x → dk_kyo c r 63 → post (nI r)) : wpX_reduced post (f_count, f_counting, f_blocks, f_isStudied, f_stemCount, f_keyCount, f_partCount, f_rows, a_leftSide, a_rightSide, a_isBundled, a_block, a_closureOf, a_stemSet, a_isStem, a_keySet, a_partSet, a_symbol, a_cells, a_classOf, a_classes, a_agreement) (nI x) := by
  have lp : ∀ k out, k ≤ 6 → out < 64 → dk_su out x → c out = 63 → (∀ i, k ≤ i → i < 6 → out.testBit i = true → ¬ dk_su 63 (c (dk_sd out (2 ^ i)))) →
      wX_reduced_4 post f_count f_counting f_blocks f_isStudied f_stemCount f_keyCount f_partCount f_rows a_leftSide a_rightSide a_isBundled a_block a_closureOf a_stemSet a_isStem a_keySet a_partSet a_symbol a_cells a_classOf a_classes a_agreement (k + 1) (nI out) (nI k + (-1)) := by
    intro k
    induction k with
    | zero =>
      intro out _ ho hs h1 h2
      exact br_t (by decide) (p out ho hs ⟨dk_su63 ho, by rw [h1]; exact dk_su_rfl _, fun i hi => h2 i (Nat.zero_le _) hi⟩)
    | succ k ih =>
      intro out hk ho hs h1 h2
      rw [pk_m1]
      have l64 : dk_sd out (2 ^ k) < 64 := dk_sd_lt ho
      refine br_f (nI_pos (by omega)) (nm_r (e' := nI (dk_sd out (2 ^ k))) (by rw [dk_sh k (by omega), dk_not]) ⟨vp_in_nI l64 (by decide), ?_⟩)
      rw [dk_cl (by omega : dk_sd out (2 ^ k) < 1000), hcl _ l64]
      refine dk_if (dk_e (b := 63) (hc _ l64).1 (by decide)) (fun z => nm_e (ih _ (by omega) l64 (fun i hi => ?_) z (fun i i1 i2 i3 => ?_))) (fun z => nm_e (ih _ (by omega) ho hs h1 (fun i i1 i2 i3 => ?_)))
      · rw [dk_tsd, Bool.and_eq_true] at hi; exact hs i hi.1
      · rw [dk_tsd, Bool.and_eq_true, dk_tp] at i3
        have ne : k ≠ i := fun q => by subst q; simp at i3
        intro q
        refine h2 i (by omega) i2 i3.1 (dk_su_tr q ((hc _ (dk_sd_lt l64)).2.2.2 _ (dk_sd_lt ho) (fun j hj => ?_)))
        simp only [dk_tsd, Bool.and_eq_true] at hj ⊢
        exact ⟨hj.1.1, hj.2⟩
      · rcases Nat.decEq i k with q | q
        · exact h2 i (by omega) i2 i3
        · subst q
          intro w; exact z ((dk_su63e (hc _ l64).1).mp w)
  refine ⟨7, ?_⟩
  rw [dk_m5]
  exact lp 6 x (Nat.le_refl _) hx (dk_su_rfl _) h63 (fun i i1 i2 => by omega)
theorem dk_xhasKeyWithin {post : Int32 → Prop} {x kc : Nat} {ks : Nat → Nat} (k20 : kc ≤ 20) (hr : ∀ k, k < kc → a_keySet k = nI (ks k) ∧ ks k < 64)
    (p1 : (∃ k, k < kc ∧ dk_su (ks k) x) → post 1) (p0 : (∀ k, k < kc → ¬ dk_su (ks k) x) → post 0) : wpX_hasKeyWithin post (f_count, f_counting, f_blocks, f_isStudied, f_stemCount, nI kc, f_partCount, f_rows, a_leftSide, a_rightSide, a_isBundled, a_block, a_closureOf, a_stemSet, a_isStem, a_keySet, a_partSet, a_symbol, a_cells, a_classOf, a_classes, a_agreement) (nI x) := by
  have lp : ∀ e k x2, k + e = kc → ((x2 = 0 ∧ ∀ j, j < k → ¬ dk_su (ks j) x) ∨ (x2 = 1 ∧ ∃ k, k < kc ∧ dk_su (ks k) x)) →
      wX_hasKeyWithin_4 post (nI x) f_count f_counting f_blocks f_isStudied f_stemCount (nI kc) f_partCount f_rows a_leftSide a_rightSide a_isBundled a_block a_closureOf a_stemSet a_isStem a_keySet a_partSet a_symbol a_cells a_classOf a_classes a_agreement (e + 1) x2 (nI k) := by
    intro e
    induction e with
    | zero =>
      intro k x2 hk h
      have ek : k = kc := by omega
      subst ek
      refine br_t (nI_le (Nat.le_refl _) (by omega)) ?_
      rcases h with ⟨rfl, h⟩ | ⟨rfl, h⟩
      · exact ⟨rfl, p0 h⟩
      · exact ⟨rfl, p1 h⟩
    | succ e ih =>
      intro k x2 hk h
      refine br_f (nI_ge (by omega) (by omega)) ?_
      rcases h with ⟨rfl, h⟩ | ⟨rfl, h⟩
      · obtain ⟨r1, r2⟩ := hr k (by omega)
        refine br_t rfl ⟨vp_in_nI (by omega) (by decide), ?_⟩
        rw [dk_cl (by omega : k < 1000), r1]
        exact dk_xwithin r2 (fun z => br_f (by decide) (nm_r (nI_1 k) (ih (k + 1) 1 (by omega) (Or.inr ⟨rfl, k, by omega, z⟩)))) (fun z => br_t rfl (nm_r (nI_1 k) (ih (k + 1) 0 (by omega) (Or.inl ⟨rfl, lt_s h z⟩))))
      · exact br_f (by decide) (nm_r (nI_1 k) (ih (k + 1) 1 (by omega) (Or.inr ⟨rfl, h⟩)))
  exact ⟨_, lp kc 0 0 (by omega) (Or.inl ⟨rfl, lt_0⟩)⟩
theorem dk_xaddKey {post : SX → Prop} {x kc : Nat} {ks : Nat → Nat} (k20 : kc < 20) (hK : dk_KS c kc ks) (hx : x < 64) (kx : dk_kyo c x 63) (hn : ∀ k, k < kc → ks k ≠ x) (hr : ∀ k, k < kc → a_keySet k = nI (ks k))
    (p : ∀ ks' aks, dk_KS c (kc + 1) ks' → (∀ k, k < kc + 1 → aks k = nI (ks' k)) → (∀ y, (∃ k, k < kc + 1 ∧ ks' k = y) ↔ (y = x ∨ ∃ k, k < kc ∧ ks k = y)) → post (f_count, f_counting, f_blocks, f_isStudied, f_stemCount, nI (kc + 1), f_partCount, f_rows, a_leftSide, a_rightSide, a_isBundled, a_block, a_closureOf, a_stemSet, a_isStem, aks, a_partSet, a_symbol, a_cells, a_classOf, a_classes, a_agreement)) :
    wpX_addKey post (f_count, f_counting, f_blocks, f_isStudied, f_stemCount, nI kc, f_partCount, f_rows, a_leftSide, a_rightSide, a_isBundled, a_block, a_closureOf, a_stemSet, a_isStem, a_keySet, a_partSet, a_symbol, a_cells, a_classOf, a_classes, a_agreement) (nI x) := by
  have fin : ∀ i aks, i ≤ kc → (∀ j, j < i → aks j = nI (ks j)) → (∀ j, i < j → j ≤ kc → aks j = nI (ks (j - 1))) → (∀ j, i ≤ j → j < kc → x < ks j) → (∀ j, j < i → ks j < x) →
      wX_addKey_50 post (nI x) (nI i) f_count f_counting f_blocks f_isStudied f_stemCount (nI kc) f_partCount f_rows a_leftSide a_rightSide a_isBundled a_block a_closureOf a_stemSet a_isStem aks a_partSet a_symbol a_cells a_classOf a_classes a_agreement := by
    intro i aks hi h1 h2 h3 h4
    obtain ⟨g1, g2⟩ := dk_KS_ins hK hx kx hi h4 h3
    refine ⟨vp_in_nI (by omega) (by decide), nm_r (by rw [dk_cl (by omega : i < 1000)]) (nm_r (nI_1 kc) (p _ _ g1 (fun j hj => ?_) g2))⟩
    unfold upd dk_ins
    rcases Nat.lt_trichotomy j i with z | z | z
    · rw [if_neg (by omega), if_pos z]; exact h1 j z
    · rw [if_pos z, if_neg (by omega), if_pos z]
    · rw [if_neg (by omega), if_neg (by omega), if_neg (by omega)]; exact h2 j z (by omega)
  have lp : ∀ i aks, i ≤ kc → (∀ j, j < i → aks j = nI (ks j)) → (∀ j, i < j → j ≤ kc → aks j = nI (ks (j - 1))) → (∀ j, i ≤ j → j < kc → x < ks j) →
      wX_addKey_10 post (nI x) f_count f_counting f_blocks f_isStudied f_stemCount (nI kc) f_partCount f_rows (i + 1) (nI i) (nI i) a_leftSide a_rightSide a_isBundled a_block a_closureOf a_stemSet a_isStem aks a_partSet a_symbol a_cells a_classOf a_classes a_agreement := by
    intro i
    induction i with
    | zero =>
      intro aks hi h1 h2 h3
      exact br_t (by decide) (fin 0 aks hi h1 h2 h3 (fun j hj => by omega))
    | succ i ih =>
      intro aks hi h1 h2 h3
      have k64 := (hK.1 i (by omega)).1
      have iin : vp_in (nI i) 20 := vp_in_nI (by omega) (by decide)
      refine br_f (nI_nle (by omega) (by omega)) ?_
      rw [nI_pred]
      refine ⟨iin, ?_⟩
      rw [dk_cl (by omega : i < 1000), h1 i (by omega)]
      refine dk_if (nI_leI (by omega) (by omega)) (fun z => fin (i + 1) aks hi h1 h2 h3 (fun j hj => ?_)) (fun z => ⟨iin, vp_in_nI (by omega) (by decide), fun a9 e9 => nm_e (nm_r (pk_m1 i) (ih a9 (by omega) ?_ ?_ ?_))⟩)
      · have := hn i (by omega)
        rcases Nat.lt_or_ge j i with w | w
        · have := hK.2 j i w (by omega); omega
        · rw [show j = i by omega]; omega
      · intro j hj
        rw [e9, dk_cl (by omega : i + 1 < 1000), pk_un (by omega)]; exact h1 j (by omega)
      · intro j hj hj'
        rw [e9, dk_cl (by omega : i + 1 < 1000)]
        by_cases w : j = i + 1
        · subst w; rw [pk_us]; rfl
        · rw [pk_un w]; exact h2 j (by omega) hj'
      · intro j hj hj'
        rcases Nat.lt_or_ge i j with w | w
        · exact h3 j (by omega) hj'
        · rw [show j = i by omega]; omega
  exact ⟨_, lp kc a_keySet (Nat.le_refl _) hr (fun j h1 h2 => by omega) (fun j h1 h2 => by omega)⟩
theorem dk_m63 : (63 : Int32) = nI 64 + (-1) := by decide
theorem dk_xfindKeys {post : SX → Prop} (hc : dk_CO c) (hcl : ∀ x, x < 64 → a_closureOf x = nI (c x))
    (p : ∀ kn ksn aks, dk_KS c kn ksn → (∀ k, k < kn → aks k = nI (ksn k)) → (∀ y, y < 64 → dk_kyo c y 63 → ∃ k, k < kn ∧ ksn k = y) → post (f_count, f_counting, f_blocks, f_isStudied, f_stemCount, nI kn, f_partCount, f_rows, a_leftSide, a_rightSide, a_isBundled, a_block, a_closureOf, a_stemSet, a_isStem, aks, a_partSet, a_symbol, a_cells, a_classOf, a_classes, a_agreement)) :
    wpX_findKeys post (f_count, f_counting, f_blocks, f_isStudied, f_stemCount, f_keyCount, f_partCount, f_rows, a_leftSide, a_rightSide, a_isBundled, a_block, a_closureOf, a_stemSet, a_isStem, a_keySet, a_partSet, a_symbol, a_cells, a_classOf, a_classes, a_agreement) := by
  have c63 : c 63 = 63 := dk_su_eq (dk_su63 (hc 63 (by decide)).1) (hc 63 (by decide)).2.1
  have lp : ∀ i kn ksn aks, i ≤ 64 → dk_KS c kn ksn → (∀ k, k < kn → aks k = nI (ksn k)) → (∀ y, i ≤ y → y < 64 → dk_kyo c y 63 → ∃ k, k < kn ∧ ksn k = y) →
      wX_findKeys_20 post (i + 1) (nI i + (-1)) f_count f_counting f_blocks f_isStudied f_stemCount (nI kn) f_partCount f_rows a_leftSide a_rightSide a_isBundled a_block a_closureOf a_stemSet a_isStem aks a_partSet a_symbol a_cells a_classOf a_classes a_agreement := by
    intro i
    induction i with
    | zero =>
      intro kn ksn aks _ hK hr h
      exact br_t (by decide) (p kn ksn aks hK hr (fun y => h y (Nat.zero_le _)))
    | succ i ih =>
      intro kn ksn aks hi hK hr h
      have i64 : i < 64 := by omega
      have le20 := dk_KSle hc hK
      rw [pk_m1]
      refine br_f (nI_pos (by omega)) ⟨vp_in_nI i64 (by decide), ?_⟩
      rw [dk_cl (by omega : i < 1000), hcl i i64]
      refine dk_if (dk_e (b := 63) (hc i i64).1 (by decide)) (fun z => ?_) (fun z => nm_e (ih kn ksn aks (by omega) hK hr (fun y y1 y2 y3 => ?_)))
      · refine dk_xhasKeyWithin (ks := ksn) le20 (fun k hk => ⟨hr k hk, (hK.1 k hk).1⟩) (fun w => br_f (by decide) (nm_e (ih kn ksn aks (by omega) hK hr (fun y y1 y2 y3 => ?_)))) (fun w => br_t rfl ?_)
        · rcases Nat.lt_or_ge i y with q | q
          · exact h y q y2 y3
          · have : y = i := by omega
            subst this
            obtain ⟨k, k1, k2⟩ := w
            exact ⟨k, k1, dk_ky_anti hc (hK.1 k k1).1 y2 (hK.1 k k1).2 y3 k2⟩
        · refine dk_xreduced hc i64 z hcl (fun r hr64 hri hrk => ?_)
          have hn : ∀ k, k < kn → ksn k ≠ r := fun k hk e => w k hk (by rw [e]; exact hri)
          refine dk_xaddKey (dk_KS20 hc hK hr64 hrk hn) hK hr64 hrk hn hr (fun ks' aks' hK' hr' hm => nm_e (ih (kn + 1) ks' aks' (by omega) hK' hr' (fun y y1 y2 y3 => (hm y).mpr ?_)))
          rcases Nat.lt_or_ge i y with q | q
          · exact Or.inr (h y q y2 y3)
          · have : y = i := by omega
            subst this
            exact Or.inl (dk_ky_anti hc hr64 y2 hrk y3 hri).symm
      · rcases Nat.lt_or_ge i y with q | q
        · exact h y q y2 y3
        · have : y = i := by omega
          subst this
          exact absurd ((dk_su63e (hc y y2).1).mp y3.2.1) z
  unfold wpX_findKeys
  refine dk_xreduced (x := 63) hc (by decide) c63 hcl (fun r hr64 hri hrk => ?_)
  refine dk_xaddKey (c := c) (kc := 0) (ks := fun _ => 0) (by decide) ⟨fun k hk => by omega, fun j k hj hk => by omega⟩ hr64 hrk (fun k hk => by omega) (fun k hk => by omega) (fun ks' aks' hK' hr' hm => ⟨65, ?_⟩)
  rw [dk_m63]
  exact lp 64 1 ks' aks' (by omega) hK' hr' (fun y y1 y2 => by omega)
theorem dk_xstudy {post : SX → Prop} {m : Nat} {L R : Nat → Nat} {B : Nat → Bool} (hD : dk_DP m L R B a_leftSide a_rightSide a_isBundled)
    (hS : f_isStudied = 0 ∨ (f_isStudied = 1 ∧ dk_ST m L R B f_stemCount f_keyCount a_closureOf a_isStem a_keySet))
    (p : ∀ co bo sc kc ab clo ss ism ks, dk_ST m L R B sc kc clo ism ks → post (nI m, co, bo, 1, sc, kc, f_partCount, f_rows, a_leftSide, a_rightSide, a_isBundled, ab, clo, ss, ism, ks, a_partSet, a_symbol, a_cells, a_classOf, a_classes, a_agreement)) :
    wpX_study post (nI m, f_counting, f_blocks, f_isStudied, f_stemCount, f_keyCount, f_partCount, f_rows, a_leftSide, a_rightSide, a_isBundled, a_block, a_closureOf, a_stemSet, a_isStem, a_keySet, a_partSet, a_symbol, a_cells, a_classOf, a_classes, a_agreement) := by
  rcases hS with rfl | ⟨rfl, hS⟩
  · have m10 := hD.1
    have p10 : 2 ^ m ≤ 1024 := Nat.pow_le_pow_right (n := 2) (by omega) m10
    have pos : 0 < 2 ^ m := Nat.pos_of_ne_zero (by intro q; simp at q)
    have el : nI (2 ^ m) - 1 = nI (2 ^ m - 1) := by
      have := nI_pred (2 ^ m - 1)
      rw [show 2 ^ m - 1 + 1 = 2 ^ m by omega] at this; exact this
    refine br_t rfl (nm_r (by rw [dk_sh m (by omega), el]) ?_)
    have lp : ∀ e i bo ab clo, i + e = 64 → (∀ y, y < i → clo y = nI (dk_cf (dk_Al m) L R B y)) →
        wX_study_22 post (e + 1) (nI i) (nI m) (nI (2 ^ m - 1)) bo 0 f_stemCount f_keyCount f_partCount f_rows a_leftSide a_rightSide a_isBundled ab clo a_stemSet a_isStem a_keySet a_partSet a_symbol a_cells a_classOf a_classes a_agreement := by
      intro e
      induction e with
      | zero =>
        intro i bo ab clo hi h
        have ei : i = 64 := by omega
        subst ei
        refine br_t (by decide) ?_
        refine dk_xfindStems (c := dk_cf (dk_Al m) L R B) dk_cfO h (fun ss ism hism => ?_)
        refine dk_xfindKeys (c := dk_cf (dk_Al m) L R B) dk_cfO h (fun kn ksn aks h1 h2 h3 => ?_)
        exact p _ _ _ _ _ _ _ _ _ ⟨h, rfl, hism, kn, ksn, rfl, h1, h2, h3⟩
      | succ e ih =>
        intro i bo ab clo hi h
        refine br_f (nI_ge (b := 64) (by omega) (by decide)) ?_
        refine dk_xcloseSet (x := i) (cm := 2 ^ m - 1) (by omega) (by omega) hD (fun nb ab' _ => ⟨vp_in_nI (by omega) (by decide), fun c2 ec => nm_r (nI_1 i) (ih (i + 1) _ ab' c2 (by omega) ?_)⟩)
        rw [dk_A2, dk_cl (by omega : i < 1000)] at ec
        subst ec
        exact lt_s (fun y hy => by rw [pk_un (by omega)]; exact h y hy) pk_us
    exact ⟨_, lp 64 0 f_blocks a_block a_closureOf (by omega) lt_0⟩
  · exact br_f (by decide) (p _ _ _ _ _ _ _ _ _ hS)
end
end
section
/-! the reference: two rows that agree on a set, and what must be there -/
def dk_GI (A : Nat → Prop) (L R : Nat → Nat) (B : Nat → Bool) (x same : Nat) (w : Int64) : Prop :=
  same < 64 ∧ dk_su x same ∧ (∀ r, r < 64 → dk_hb w r = true → r &&& same = 0) ∧ dk_hb w 0 = true ∧ dk_hb w (dk_sd 63 same) = true ∧
  (∀ S M, dk_Mod A L R B S M → dk_su x S → dk_su same S ∧ ∀ r, r < 64 → dk_hb w r = true → M (dk_sd r S))
def dk_Sat (L R : Nat → Nat) (B : Nat → Bool) (k : Nat) (w : Int64) : Prop :=
  ∀ r s, r < 64 → s < 64 → dk_hb w r = true → dk_hb w s = true → (r ^^^ s) &&& L k = 0 → (B k = true → dk_hb w (dk_mix (L k) (R k) r s) = true) ∧ (B k = false → (r ^^^ s) &&& R k = 0)
def dk_UI (A : Nat → Prop) (L R : Nat → Nat) (B : Nat → Bool) (x k same : Nat) (w0 : Int64) (n eq : Nat) (w : Int64) : Prop :=
  eq < 64 ∧ dk_su same eq ∧ (∀ S M, dk_Mod A L R B S M → dk_su x S → dk_su eq S) ∧ dk_GI A L R B x same w ∧ (∀ j, j < 64 → dk_hb w0 j = true → dk_hb w j = true) ∧
  ∀ r s, r < 64 → s < 64 → 64 * r + s < n → dk_hb w0 r = true → dk_hb w0 s = true → (r ^^^ s) &&& L k = 0 → (B k = true → dk_hb w (dk_mix (L k) (R k) r s) = true) ∧ (B k = false → dk_su ((r ^^^ s) &&& R k) eq)
noncomputable def dk_mu (same : Nat) (w : Int64) : Nat := 65 * (6 - dk_pc same) + (64 - dk_cn (fun j => dk_hb w j = true) 64)
theorem dk_mix_lt {v w r s : Nat} (hr : r < 64) (hs : s < 64) : dk_mix v w r s < 64 := dk_or_lt (dk_and_lt hr) (dk_sd_lt hs)
section
variable {A : Nat → Prop} {L R : Nat → Nat} {B : Nat → Bool}
theorem dk_GI0 {x : Nat} {w : Int64} (hx : x < 64) (hw : ∀ j, j < 64 → (dk_hb w j = true ↔ (j = 0 ∨ j = dk_sd 63 x))) : dk_GI A L R B x x w := by
  have e0 : dk_sd 63 x &&& x = 0 := by
    apply dk_and0.mpr
    intro i hi
    rw [dk_tsd] at hi
    cases e : x.testBit i <;> simp_all
  refine ⟨hx, dk_su_rfl _, fun r hr h => ?_, (hw 0 (by decide)).mpr (Or.inl rfl), (hw _ (dk_sd_lt (by decide))).mpr (Or.inr rfl), fun S M hM hS => ⟨hS, fun r hr h => ?_⟩⟩
  · rcases (hw r hr).mp h with z | z
    · rw [z, Nat.zero_and]
    · rw [z]; exact e0
  · rcases (hw r hr).mp h with z | z
    · rw [z]
      have : dk_sd 0 S = 0 := by unfold dk_sd; rw [Nat.zero_and]
      rw [this]; exact hM.2.1
    · rw [z]
      have : dk_sd (dk_sd 63 x) S = dk_sd 63 S := by
        apply Nat.eq_of_testBit_eq
        intro i
        have a := hS i
        simp only [dk_tsd]
        cases e1 : x.testBit i <;> cases e2 : S.testBit i <;> simp_all
      rw [this]; exact hM.2.2.1
theorem dk_GI_mod {x same : Nat} {w : Int64} (h : dk_GI A L R B x same w) (hs : ∀ k, A k → dk_Sat L R B k w) : dk_Mod A L R B same (fun r => r < 64 ∧ dk_hb w r = true) := by
  refine ⟨fun r hr => ⟨hr.1, h.2.2.1 r hr.1 hr.2⟩, ⟨by decide, h.2.2.2.1⟩, ⟨dk_sd_lt (by decide), h.2.2.2.2.1⟩, fun k hk r s hr hs' ag => ?_⟩
  have q := hs k hk r s hr.1 hs'.1 hr.2 hs'.2 ag
  exact ⟨fun hB => ⟨dk_mix_lt hr.1 hs'.1, q.1 hB⟩, q.2⟩
theorem dk_GI_C {x same : Nat} {w : Int64} (h : dk_GI A L R B x same w) (hs : ∀ k, A k → dk_Sat L R B k w) : dk_IsC A L R B x same ∧ ∀ r, r < 64 → (dk_hb w r = true ↔ dk_InT A L R B same r) := by
  refine ⟨⟨h.1, h.2.1, ⟨_, dk_GI_mod h hs⟩, fun S M hM hx => (h.2.2.2.2.2 S M hM hx).1⟩, fun r hr => ⟨fun z M hM => ?_, fun z => (z _ (dk_GI_mod h hs)).2⟩⟩
  have a := (h.2.2.2.2.2 same M hM h.2.1).2 r hr z
  have e : dk_sd r same = r := by
    have q := h.2.2.1 r hr z
    apply Nat.eq_of_testBit_eq
    intro i
    have b := dk_and0.mp q i
    rw [dk_tsd]
    cases e : r.testBit i <;> simp_all
  rw [e] at a; exact a
theorem dk_U_skip {x k same n eq r s : Nat} {w0 w : Int64} (h : dk_UI A L R B x k same w0 n eq w) (hr : r < 64) (hs : s < 64) (hn : n = 64 * r + s)
    (no : ¬ (dk_hb w r = true ∧ dk_hb w s = true ∧ (r ^^^ s) &&& L k = 0)) : dk_UI A L R B x k same w0 (n + 1) eq w := by
  obtain ⟨h1, h2, h3, h4, h5, h6⟩ := h
  refine ⟨h1, h2, h3, h4, h5, fun a b ha hb hl wa wb ag => ?_⟩
  rcases Nat.lt_or_ge (64 * a + b) n with z | z
  · exact h6 a b ha hb z wa wb ag
  · have ea : a = r := by omega
    have eb : b = s := by omega
    subst ea; subst eb
    exact absurd ⟨h5 a ha wa, h5 b hb wb, ag⟩ no
theorem dk_U_row {x k same eq r s : Nat} {w0 w : Int64} (h : dk_UI A L R B x k same w0 (64 * r + s) eq w) (hr : r < 64) (no : dk_hb w r = false) : dk_UI A L R B x k same w0 (64 * (r + 1)) eq w := by
  obtain ⟨h1, h2, h3, h4, h5, h6⟩ := h
  refine ⟨h1, h2, h3, h4, h5, fun a b ha hb hl wa wb ag => ?_⟩
  rcases Nat.lt_or_ge (64 * a + b) (64 * r + s) with z | z
  · exact h6 a b ha hb z wa wb ag
  · have ea : a = r := by omega
    subst ea
    rw [h5 a ha wa] at no; cases no
theorem dk_mix_sd (v w r s S : Nat) : dk_sd (dk_mix v w r s) S = dk_mix v w (dk_sd r S) (dk_sd s S) := by
  apply Nat.eq_of_testBit_eq
  intro i
  simp only [dk_mix, dk_tsd, Nat.testBit_or, Nat.testBit_and]
  cases v.testBit i <;> cases w.testBit i <;> cases r.testBit i <;> cases s.testBit i <;> cases S.testBit i <;> rfl
theorem dk_ag_sd {v r s S : Nat} (h : (r ^^^ s) &&& v = 0) : (dk_sd r S ^^^ dk_sd s S) &&& v = 0 := by
  apply dk_and0.mpr
  intro i hi
  have a := dk_and0.mp h i
  simp only [Nat.testBit_xor, dk_tsd] at a hi
  cases e1 : r.testBit i <;> cases e2 : s.testBit i <;> cases e3 : S.testBit i <;> simp_all
theorem dk_U_b {x k same n eq r s : Nat} {w0 w w' : Int64} (hA : A k) (hB : B k = true) (h : dk_UI A L R B x k same w0 n eq w) (hr : r < 64) (hs : s < 64) (hn : n = 64 * r + s)
    (wr : dk_hb w r = true) (ws : dk_hb w s = true) (ag : (r ^^^ s) &&& L k = 0)
    (hw : ∀ j, dk_hb w' j = (dk_hb w j || decide (j = dk_mix (L k) (R k) r s))) : dk_UI A L R B x k same w0 (n + 1) eq w' := by
  obtain ⟨h1, h2, h3, h4, h5, h6⟩ := h
  obtain ⟨g1, g2, g3, g4, g5, g6⟩ := h4
  have up : ∀ j, dk_hb w j = true → dk_hb w' j = true := fun j z => by rw [hw, z]; rfl
  refine ⟨h1, h2, h3, ⟨g1, g2, fun j hj z => ?_, up _ g4, up _ g5, fun S M hM hx => ⟨(g6 S M hM hx).1, fun j hj z => ?_⟩⟩, fun j hj z => up j (h5 j hj z), fun a b ha hb hl wa wb ag' => ?_⟩
  · rw [hw, Bool.or_eq_true, decide_eq_true_iff] at z
    rcases z with z | z
    · exact g3 j hj z
    · rw [z]
      apply dk_and0.mpr
      intro i hi
      have a1 := dk_and0.mp (g3 r hr wr) i
      have a2 := dk_and0.mp (g3 s hs ws) i
      simp only [dk_mix, dk_tsd, Nat.testBit_or, Nat.testBit_and] at hi
      cases e1 : r.testBit i <;> cases e2 : s.testBit i <;> simp_all
  · rw [hw, Bool.or_eq_true, decide_eq_true_iff] at z
    rcases z with z | z
    · exact (g6 S M hM hx).2 j hj z
    · rw [z, dk_mix_sd]
      exact (hM.2.2.2 k hA _ _ ((g6 S M hM hx).2 r hr wr) ((g6 S M hM hx).2 s hs ws) (dk_ag_sd ag)).1 hB
  · rcases Nat.lt_or_ge (64 * a + b) n with z | z
    · have q := h6 a b ha hb z wa wb ag'
      exact ⟨fun f => up _ (q.1 f), q.2⟩
    · have ea : a = r := by omega
      have eb : b = s := by omega
      subst ea; subst eb
      exact ⟨fun _ => by rw [hw, decide_eq_true rfl, Bool.or_true], fun f => by rw [hB] at f; cases f⟩
theorem dk_U_s {x k same n eq r s : Nat} {w0 w : Int64} (hR : R k < 64) (hA : A k) (hB : B k = false) (h : dk_UI A L R B x k same w0 n eq w) (hr : r < 64) (hs : s < 64) (hn : n = 64 * r + s)
    (wr : dk_hb w r = true) (ws : dk_hb w s = true) (ag : (r ^^^ s) &&& L k = 0) : dk_UI A L R B x k same w0 (n + 1) (eq ||| ((r ^^^ s) &&& R k)) w := by
  obtain ⟨h1, h2, h3, h4, h5, h6⟩ := h
  have up : dk_su eq (eq ||| ((r ^^^ s) &&& R k)) := fun i hi => by rw [Nat.testBit_or, hi]; rfl
  refine ⟨dk_or_lt h1 (dk_and_lt' hR), dk_su_tr h2 up, fun S M hM hx => ?_, h4, h5, fun a b ha hb hl wa wb ag' => ?_⟩
  · intro i hi
    rw [Nat.testBit_or, Bool.or_eq_true] at hi
    rcases hi with z | z
    · exact h3 S M hM hx i z
    · have g6 := h4.2.2.2.2.2 S M hM hx
      have q := (hM.2.2.2 k hA _ _ (g6.2 r hr wr) (g6.2 s hs ws) (dk_ag_sd ag)).2 hB
      have q' := dk_and0.mp q i
      simp only [Nat.testBit_xor, dk_tsd] at q'
      rw [Nat.testBit_and, Nat.testBit_xor] at z
      cases e1 : r.testBit i <;> cases e2 : s.testBit i <;> cases e3 : S.testBit i <;> simp_all
  · rcases Nat.lt_or_ge (64 * a + b) n with z | z
    · have q := h6 a b ha hb z wa wb ag'
      exact ⟨q.1, fun f => dk_su_tr (q.2 f) up⟩
    · have ea : a = r := by omega
      have eb : b = s := by omega
      subst ea; subst eb
      exact ⟨fun f => absurd (hB.symm.trans f) (by decide), fun _ i hi => by rw [Nat.testBit_or, hi, Bool.or_true]⟩
theorem dk_GI_eq {x same eq : Nat} {w w' : Int64} (h : dk_GI A L R B x same w) (h1 : eq < 64) (h2 : dk_su same eq) (h3 : ∀ S M, dk_Mod A L R B S M → dk_su x S → dk_su eq S)
    (hw : ∀ j, j < 64 → (dk_hb w' j = true ↔ ∃ r, r < 64 ∧ dk_hb w r = true ∧ dk_sd r eq = j)) : dk_GI A L R B x eq w' := by
  obtain ⟨g1, g2, g3, g4, g5, g6⟩ := h
  refine ⟨h1, dk_su_tr g2 h2, fun j hj z => ?_, (hw 0 (by decide)).mpr ⟨0, by decide, g4, by unfold dk_sd; rw [Nat.zero_and]⟩, (hw _ (dk_sd_lt (by decide))).mpr ⟨_, dk_sd_lt (by decide), g5, ?_⟩, fun S M hM hx => ⟨h3 S M hM hx, fun j hj z => ?_⟩⟩
  · obtain ⟨r, r1, r2, r3⟩ := (hw j hj).mp z
    rw [← r3]
    apply dk_and0.mpr
    intro i hi
    rw [dk_tsd] at hi
    cases e : eq.testBit i <;> simp_all
  · apply Nat.eq_of_testBit_eq
    intro i
    have a := h2 i
    simp only [dk_tsd]
    cases e1 : same.testBit i <;> cases e2 : eq.testBit i <;> simp_all
  · obtain ⟨r, r1, r2, r3⟩ := (hw j hj).mp z
    have e : dk_sd j S = dk_sd r S := by
      rw [← r3]
      apply Nat.eq_of_testBit_eq
      intro i
      have a := h3 S M hM hx i
      simp only [dk_tsd]
      cases e1 : eq.testBit i <;> cases e2 : S.testBit i <;> simp_all
    rw [e]
    exact (g6 S M hM hx).2 r r1 r2
theorem dk_mu_eq {same eq : Nat} {w w' : Int64} (h1 : same < 64) (h2 : eq < 64) (h : dk_su same eq) (hn : same ≠ eq) : dk_mu eq w' < dk_mu same w := by
  have a := dk_pcl h1 h2 h hn
  have b := dk_pc6 _ h2
  unfold dk_mu
  omega
theorem dk_mu_w {same : Nat} {w w' : Int64} (h : ∀ j, j < 64 → dk_hb w j = true → dk_hb w' j = true) (hn : w' ≠ w) : dk_mu same w' < dk_mu same w := by
  have ex : ∃ j, j < 64 ∧ dk_hb w j = false ∧ dk_hb w' j = true := by
    rcases Classical.em (∃ j, j < 64 ∧ dk_hb w j = false ∧ dk_hb w' j = true) with z | z
    · exact z
    · exfalso; apply hn
      apply dk_hbx
      intro j hj
      cases e : dk_hb w j
      · cases e' : dk_hb w' j
        · rfl
        · exact absurd ⟨j, hj, e, e'⟩ z
      · exact h j hj e
  obtain ⟨j, j1, j2, j3⟩ := ex
  have a := dk_cn_lt (P := fun j => dk_hb w j = true) (Q := fun j => dk_hb w' j = true) (a := j) (by rw [j2]; decide) j3 (N := 64) h j1
  have b := dk_cn_le (fun j => dk_hb w' j = true) 64
  unfold dk_mu
  omega
end
end
section
/-! the reference: the walk of grow -/
theorem dk_hbn {w : Int64} {j : Nat} (hj : j < 64) : ¬ (((w.toUInt64 >>> ((nI j).toInt64.toUInt64 &&& Int64.toUInt64 63)).toInt64 &&& 1) = 1) ↔ dk_hb w j = false := by
  rw [dk_hb1 hj]; cases dk_hb w j <;> simp
section
variable {f_count f_partCount f_rowCount f_same : Int32} {a_lefts a_rights a_bundled a_parts a_cells a_known a_closures a_stemSets a_symbols : Nat → Int32} {f_made : Int64} {a_tables : Nat → Int64}
variable {A : Nat → Prop} {L R : Nat → Nat} {B : Nat → Bool}
theorem dk_yhas {post : Int32 → Prop} {r : Nat} (hr : r < 64) (p1 : dk_hb f_made r = true → post 1) (p0 : dk_hb f_made r = false → post 0) : wpY_has post (f_count, f_partCount, f_rowCount, f_same, f_made, a_lefts, a_rights, a_bundled, a_parts, a_cells, a_known, a_closures, a_tables, a_stemSets, a_symbols) (nI r) :=
  dk_if (dk_hb1 hr) p1 (fun z => p0 (by cases e : dk_hb f_made r; rfl; exact absurd e z))
theorem dk_yequate {post : SY → Prop} {same eq : Nat} {w : Int64} (h1 : same < 64) (h2 : eq < 64)
    (p : ∀ w', (∀ j, j < 64 → (dk_hb w' j = true ↔ ∃ r, r < 64 ∧ dk_hb w r = true ∧ dk_sd r (same ||| eq) = j)) → post (f_count, f_partCount, f_rowCount, nI (same ||| eq), w', a_lefts, a_rights, a_bundled, a_parts, a_cells, a_known, a_closures, a_tables, a_stemSets, a_symbols)) :
    wpY_equate post (f_count, f_partCount, f_rowCount, nI same, w, a_lefts, a_rights, a_bundled, a_parts, a_cells, a_known, a_closures, a_tables, a_stemSets, a_symbols) (nI eq) := by
  refine nm_r (dk_or same eq) ?_
  have lt := dk_or_lt h1 h2
  have lp : ∀ e i w', i + e = 64 → (∀ j, j < 64 → (dk_hb w' j = true ↔ ∃ r, r < i ∧ dk_hb w r = true ∧ dk_sd r (same ||| eq) = j)) →
      wY_equate_23 post w f_count f_partCount f_rowCount (nI (same ||| eq)) a_lefts a_rights a_bundled a_parts a_cells a_known a_closures a_tables a_stemSets a_symbols (e + 1) (nI i) w' := by
    intro e
    induction e with
    | zero =>
      intro i w' hi h
      have ei : i = 64 := by omega
      subst ei
      exact br_t (by decide) (p w' h)
    | succ e ih =>
      intro i w' hi h
      refine br_f (nI_ge (b := 64) (by omega) (by decide)) (dk_if (dk_hb1 (by omega)) (fun z => ?_) (fun z => nm_r (nI_1 i) (ih (i + 1) w' (by omega) (fun j hj => ?_))))
      · refine nm_e (nm_r (nI_1 i) (ih (i + 1) _ (by omega) (fun j hj => ?_)))
        rw [dk_not, dk_hbo (dk_sd_lt (by omega)), Bool.or_eq_true, decide_eq_true_iff, h j hj]
        constructor
        · rintro (⟨r, r1, r2⟩ | q)
          · exact ⟨r, by omega, r2⟩
          · exact ⟨i, by omega, z, q.symm⟩
        · rintro ⟨r, r1, r2, r3⟩
          rcases Nat.lt_or_ge r i with v | v
          · exact Or.inl ⟨r, v, r2, r3⟩
          · have : r = i := by omega
            subst this; exact Or.inr r3.symm
      · rw [h j hj]
        constructor
        · rintro ⟨r, r1, r2⟩; exact ⟨r, by omega, r2⟩
        · rintro ⟨r, r1, r2, r3⟩
          refine ⟨r, ?_, r2, r3⟩
          rcases Nat.lt_or_ge r i with v | v
          · exact v
          · have : r = i := by omega
            subst this; exact absurd r2 z
  exact ⟨_, lp 64 0 0 (by omega) (fun j hj => by rw [dk_hb0]; simp)⟩
theorem dk_yuse {post : Int32 → SY → Prop} {x m k same : Nat} {w : Int64} (hD : dk_DP m L R B a_lefts a_rights a_bundled) (hk : k < m) (hA : A k)
    (hG : dk_GI A L R B x same w)
    (p0 : dk_Sat L R B k w → post 0 (f_count, f_partCount, f_rowCount, nI same, w, a_lefts, a_rights, a_bundled, a_parts, a_cells, a_known, a_closures, a_tables, a_stemSets, a_symbols))
    (p1 : ∀ same' w', dk_GI A L R B x same' w' → dk_mu same' w' < dk_mu same w → post 1 (f_count, f_partCount, f_rowCount, nI same', w', a_lefts, a_rights, a_bundled, a_parts, a_cells, a_known, a_closures, a_tables, a_stemSets, a_symbols)) :
    wpY_use post (f_count, f_partCount, f_rowCount, nI same, w, a_lefts, a_rights, a_bundled, a_parts, a_cells, a_known, a_closures, a_tables, a_stemSets, a_symbols) (nI k) := by
  obtain ⟨m10, hD⟩ := hD
  obtain ⟨e1, l1, e2, l2, e3⟩ := hD k hk
  have kin : vp_in (nI k) 10 := vp_in_nI (by omega) (by decide)
  have ek : (nI k).toNatClampNeg = k := nI_clamp (by omega)
  have s64 := hG.1
  refine ⟨kin, nm_r (by rw [ek, e1]) ⟨kin, nm_r (by rw [ek, e2]) ?_⟩⟩
  have lp39 : ∀ (J : Int32 → Int32 → Int64 → Prop) (r : Nat), r < 64 →
      (∀ eq w', dk_UI A L R B x k same w (64 * (r + 1)) eq w' → J (nI eq) (nI (r + 1)) w') →
      ∀ e s eq w', s + e = 64 → dk_UI A L R B x k same w (64 * r + s) eq w' →
      wY_use_39 post J (nI k) (nI (L k)) (nI (R k)) w (nI r) f_count f_partCount f_rowCount (nI same) a_lefts a_rights a_bundled a_parts a_cells a_known a_closures a_tables a_stemSets a_symbols (e + 1) (nI eq) (nI s) w' := by
    intro J r hr hJ e
    induction e with
    | zero =>
      intro s eq w' hs h
      have es : s = 64 := by omega
      subst es
      exact br_t (by decide) (nm_r (nI_1 r) (hJ eq w' h))
    | succ e ih =>
      intro s eq w' hs h
      have s6 : s < 64 := by omega
      refine br_f (nI_ge (b := 64) (by omega) (by decide)) ?_
      refine dk_yhas hr (fun wr => br_f (by decide) ?_) (fun wr => br_t rfl (nm_r (nI_1 r) (hJ eq w' (dk_U_row h hr wr))))
      refine dk_yhas s6 (fun ws => br_f (by decide) ?_) (fun ws => br_t rfl (nm_r (nI_1 s) (ih (s + 1) eq w' (by omega) (dk_U_skip h hr s6 rfl (fun q => by rw [ws] at q; exact absurd q.2.1 (by decide))))))
      rw [dk_xor, dk_and]
      refine dk_if (dk_z (dk_and_lt' l1)) (fun ag => ?_) (fun ag => nm_r (nI_1 s) (ih (s + 1) eq w' (by omega) (dk_U_skip h hr s6 rfl (fun q => ag q.2.2))))
      refine nm_r (e' := nI (dk_mix (L k) (R k) r s)) (by rw [dk_or, dk_and, dk_not, dk_or]; rfl) ⟨kin, ?_⟩
      rw [ek, e3]
      refine dk_if dk_bI0 (fun hb => ?_) (fun hb => ?_)
      · refine ⟨kin, ?_⟩
        rw [ek, e3, dk_xor, dk_and]
        exact dk_if dk_bI0 (fun _ => nm_r (dk_or _ _) (nm_r (nI_1 s) (ih (s + 1) _ w' (by omega) (dk_U_s l2 hA hb h hr s6 rfl wr ws ag)))) (fun q => absurd hb q)
      · have hb' : B k = true := by cases q : B k; exact absurd q hb; rfl
        refine ⟨kin, ?_⟩
        rw [ek, e3]
        exact dk_if dk_bI0 (fun q => absurd q hb) (fun _ => nm_r (nI_1 s) (ih (s + 1) eq _ (by omega) (dk_U_b hA hb' h hr s6 rfl wr ws ag (fun j => dk_hbo (dk_mix_lt hr s6)))))
  have lp29 : ∀ e r eq w', r + e = 64 → dk_UI A L R B x k same w (64 * r) eq w' →
      wY_use_29 post (nI k) (nI (L k)) (nI (R k)) w f_count f_partCount f_rowCount (nI same) a_lefts a_rights a_bundled a_parts a_cells a_known a_closures a_tables a_stemSets a_symbols (e + 1) (nI eq) (nI r) w' := by
    intro e
    induction e with
    | zero =>
      intro r eq w' hr h
      have er : r = 64 := by omega
      subst er
      refine br_t (by decide) ?_
      obtain ⟨h1, h2, h3, h4, h5, h6⟩ := h
      refine dk_if (dk_e h1 s64) (fun z => ?_) (fun z => ?_)
      · subst z
        refine br_c (fun q => ?_) (fun q => p1 eq w' h4 (dk_mu_w h5 q))
        subst q
        refine p0 (fun a b ha hb wa wb ag => ?_)
        have v := h6 a b ha hb (by omega) wa wb ag
        refine ⟨v.1, fun f => ?_⟩
        have u := v.2 f
        have c1 := h4.2.2.1 a ha wa
        have c2 := h4.2.2.1 b hb wb
        apply Nat.eq_of_testBit_eq
        intro i
        have u1 := u i
        have c3 := dk_and0.mp c1 i
        have c4 := dk_and0.mp c2 i
        simp only [Nat.testBit_and, Nat.testBit_xor, Nat.zero_testBit] at u1 ⊢
        cases f1 : a.testBit i <;> cases f2 : b.testBit i <;> cases f3 : (R k).testBit i <;> cases f4 : eq.testBit i <;> simp_all
      · refine dk_yequate s64 h1 (fun w'' hw => ?_)
        rw [dk_orE.mpr h2] at hw
        rw [dk_orE.mpr h2]
        have g := dk_GI_eq h4 h1 h2 h3 hw
        refine br_f (fun q => ?_) (p1 eq w'' g (dk_mu_eq s64 h1 h2 (fun q => z q.symm)))
        subst q
        obtain ⟨i, i1, i2⟩ := dk_nsu (fun q : dk_su eq same => z (dk_su_eq q h2))
        have a := g.2.2.1 _ (dk_sd_lt (by decide)) hG.2.2.2.2.1
        have b := dk_and0.mp a i (by rw [dk_tsd, dk_63, i2, decide_eq_true (dk_lo h1 i1)]; rfl)
        rw [i1] at b; cases b
    | succ e ih =>
      intro r eq w' hr h
      refine br_f (nI_ge (b := 64) (by omega) (by decide)) ⟨_, lp39 _ r (by omega) (fun eq' w'' h' => ih (r + 1) eq' w'' (by omega) h') 64 0 eq w' (by omega) h⟩
  exact ⟨_, lp29 64 0 same w (by omega) ⟨s64, dk_su_rfl _, fun S M hM hx => (hG.2.2.2.2.2 S M hM hx).1, hG, fun j _ z => z, fun r s hr hs q => by omega⟩⟩
end
end
section
/-! the reference: grow, find, closureOf, isBundle -/
/-- what is known of the sets -/
def dk_KN (m : Nat) (L R : Nat → Nat) (B : Nat → Bool) (kn cc : Nat → Int32) (tb : Nat → Int64) : Prop :=
  ∀ x, x < 64 → kn x = 0 ∨ (kn x = 1 ∧ cc x = nI (dk_cf (dk_Al m) L R B x) ∧ ∀ r, r < 64 → (dk_hb (tb x) r = true ↔ dk_InT (dk_Al m) L R B (dk_cf (dk_Al m) L R B x) r))
def dk_bad (v : Int32) : Prop := v < 0 ∨ (¬ v < 0 ∧ ¬ v ≤ 63)
theorem dk_set (v : Int32) : (∃ x, x < 64 ∧ v = nI x) ∨ dk_bad v := by
  by_cases h : v < 0
  · exact Or.inr (Or.inl h)
  · by_cases g : v ≤ 63
    · obtain ⟨j, j1, j2⟩ := nI_of2 (M := 63) (n := 63) (by decide) h g
      exact Or.inl ⟨j, by omega, j2⟩
    · exact Or.inr (Or.inr ⟨h, g⟩)
section
variable {f_count f_partCount f_rowCount f_same : Int32} {a_lefts a_rights a_bundled a_parts a_cells a_known a_closures a_stemSets a_symbols : Nat → Int32} {f_made : Int64} {a_tables : Nat → Int64}
variable {L R : Nat → Nat} {B : Nat → Bool}
theorem dk_yset {post : Int32 → Prop} {x : Nat} (hx : x < 64) (p : post 1) : wpY_isSet post (f_count, f_partCount, f_rowCount, f_same, f_made, a_lefts, a_rights, a_bundled, a_parts, a_cells, a_known, a_closures, a_tables, a_stemSets, a_symbols) (nI x) :=
  br_f (nI_pos (by omega)) (br_f (by rw [dk_n63, nI_ltI (by decide) (by omega)]; omega) p)
theorem dk_ynot {post : Int32 → Prop} {v : Int32} (h : dk_bad v) (p : post 0) : wpY_isSet post (f_count, f_partCount, f_rowCount, f_same, f_made, a_lefts, a_rights, a_bundled, a_parts, a_cells, a_known, a_closures, a_tables, a_stemSets, a_symbols) v := by
  rcases h with h | ⟨h, g⟩
  · exact br_t h p
  · exact br_f h (br_t (Int32.not_le.mp g) p)
theorem dk_ygrow {post : SY → Prop} {x m ch : Nat} (hx : x < 64) (hch : ch < 1024) (hD : dk_DP m L R B a_lefts a_rights a_bundled)
    (p : ∀ w, (∀ r, r < 64 → (dk_hb w r = true ↔ dk_InT (dk_A m ch) L R B (dk_cf (dk_A m ch) L R B x) r)) → post (nI m, f_partCount, f_rowCount, nI (dk_cf (dk_A m ch) L R B x), w, a_lefts, a_rights, a_bundled, a_parts, a_cells, a_known, a_closures, a_tables, a_stemSets, a_symbols)) :
    wpY_grow post (nI m, f_partCount, f_rowCount, f_same, f_made, a_lefts, a_rights, a_bundled, a_parts, a_cells, a_known, a_closures, a_tables, a_stemSets, a_symbols) (nI x) (nI ch) := by
  have m10 := hD.1
  refine nm_e ?_
  rw [dk_n63, dk_not]
  have lp30 : ∀ (J : Int32 → Int32 → Int32 → Int32 → Int32 → Int64 → (Nat → Int32) → (Nat → Int32) → (Nat → Int32) → (Nat → Int32) → (Nat → Int32) → (Nat → Int32) → (Nat → Int32) → (Nat → Int64) → (Nat → Int32) → (Nat → Int32) → Prop) (same0 : Nat) (w0 : Int64)
      (j0 : (∀ k, dk_A m ch k → dk_Sat L R B k w0) → J 0 (nI m) f_partCount f_rowCount (nI same0) w0 a_lefts a_rights a_bundled a_parts a_cells a_known a_closures a_tables a_stemSets a_symbols)
      (j1 : ∀ same w, dk_GI (dk_A m ch) L R B x same w → dk_mu same w < dk_mu same0 w0 → J 1 (nI m) f_partCount f_rowCount (nI same) w a_lefts a_rights a_bundled a_parts a_cells a_known a_closures a_tables a_stemSets a_symbols),
      ∀ e k same w x3, k + e = m → dk_GI (dk_A m ch) L R B x same w →
        ((x3 = 0 ∧ same = same0 ∧ w = w0 ∧ ∀ i, i < k → ch.testBit i = true → dk_Sat L R B i w0) ∨ (x3 = 1 ∧ dk_mu same w < dk_mu same0 w0)) →
        wY_grow_30 post J (nI ch) (e + 1) x3 (nI k) (nI m) f_partCount f_rowCount (nI same) w a_lefts a_rights a_bundled a_parts a_cells a_known a_closures a_tables a_stemSets a_symbols := by
    intro J same0 w0 j0 j1 e
    induction e with
    | zero =>
      intro k same w x3 hk hG h
      have ek : k = m := by omega
      subst ek
      refine br_t (nI_le (Nat.le_refl _) (by omega)) ?_
      rcases h with ⟨rfl, rfl, rfl, h⟩ | ⟨rfl, h⟩
      · exact j0 (fun i hi => h i hi.1 hi.2)
      · exact j1 same w hG h
    | succ e ih =>
      intro k same w x3 hk hG h
      refine br_f (nI_ge (by omega) (by omega)) (dk_if (dk_b1 (by omega) (by omega)) (fun z => ?_) (fun z => ?_))
      · refine dk_yuse (A := dk_A m ch) (L := L) (R := R) (B := B) (x := x) hD (by omega) ⟨by omega, z⟩ hG (fun q => br_t rfl ?_) (fun same' w' hG' hl => br_f (by decide) (nm_r (nI_1 k) (ih (k + 1) same' w' 1 (by omega) hG' (Or.inr ⟨rfl, ?_⟩))))
        · rcases h with ⟨rfl, rfl, rfl, h⟩ | ⟨rfl, h⟩
          · exact br_t rfl (nm_r (nI_1 k) (ih (k + 1) same w 0 (by omega) hG (Or.inl ⟨rfl, rfl, rfl, lt_s h (fun _ => q)⟩)))
          · exact br_f (by decide) (nm_r (nI_1 k) (ih (k + 1) same w 1 (by omega) hG (Or.inr ⟨rfl, h⟩)))
        · rcases h with ⟨rfl, rfl, rfl, h⟩ | ⟨rfl, h⟩ <;> omega
      · rcases h with ⟨rfl, rfl, rfl, h⟩ | ⟨rfl, h⟩
        · exact br_t rfl (nm_r (nI_1 k) (ih (k + 1) same w 0 (by omega) hG (Or.inl ⟨rfl, rfl, rfl, lt_s h (fun q => absurd q z)⟩)))
        · exact br_f (by decide) (nm_r (nI_1 k) (ih (k + 1) same w 1 (by omega) hG (Or.inr ⟨rfl, h⟩)))
  have lp21 : ∀ n same w x3, dk_GI (dk_A m ch) L R B x same w → ((x3 = 0 ∧ ∀ k, dk_A m ch k → dk_Sat L R B k w) ∨ (x3 = 1 ∧ dk_mu same w < n)) →
      wY_grow_21 post (nI ch) (n + 1) x3 (nI m) f_partCount f_rowCount (nI same) w a_lefts a_rights a_bundled a_parts a_cells a_known a_closures a_tables a_stemSets a_symbols := by
    have fin : ∀ same w, dk_GI (dk_A m ch) L R B x same w → (∀ k, dk_A m ch k → dk_Sat L R B k w) → post (nI m, f_partCount, f_rowCount, nI same, w, a_lefts, a_rights, a_bundled, a_parts, a_cells, a_known, a_closures, a_tables, a_stemSets, a_symbols) := by
      intro same w hG hs
      obtain ⟨c1, c2⟩ := dk_GI_C hG hs
      have ce := dk_cf_e c1
      rw [← ce] at c2
      rw [← ce]
      exact p w c2
    intro n
    induction n with
    | zero =>
      intro same w x3 hG h
      rcases h with ⟨rfl, h⟩ | ⟨rfl, h⟩
      · exact br_t rfl (fin same w hG h)
      · omega
    | succ n ih =>
      intro same w x3 hG h
      rcases h with ⟨rfl, h⟩ | ⟨rfl, h⟩
      · exact br_t rfl (fin same w hG h)
      · exact br_f (by decide) ⟨_, lp30 (wY_grow_21 post (nI ch) (n + 1)) same w (fun q => ih same w 0 hG (Or.inl ⟨rfl, q⟩)) (fun same' w' hG' hl => ih same' w' 1 hG' (Or.inr ⟨rfl, by omega⟩)) m 0 same w 0 (by omega) hG (Or.inl ⟨rfl, rfl, rfl, lt_0⟩)⟩
  refine ⟨_, lp21 _ x _ 1 (dk_GI0 hx (fun j hj => ?_)) (Or.inr ⟨rfl, Nat.lt_succ_self _⟩)⟩
  rw [dk_hbo (dk_sd_lt (by decide)), dk_hb1', Bool.or_eq_true, decide_eq_true_iff, decide_eq_true_iff]
theorem dk_yfind {post : SY → Prop} {x m : Nat} (hx : x < 64) (hD : dk_DP m L R B a_lefts a_rights a_bundled) (hK : dk_KN m L R B a_known a_closures a_tables)
    (p : ∀ sa ma kn cc tb, dk_KN m L R B kn cc tb → kn x = 1 → post (nI m, f_partCount, f_rowCount, sa, ma, a_lefts, a_rights, a_bundled, a_parts, a_cells, kn, cc, tb, a_stemSets, a_symbols)) :
    wpY_find post (nI m, f_partCount, f_rowCount, f_same, f_made, a_lefts, a_rights, a_bundled, a_parts, a_cells, a_known, a_closures, a_tables, a_stemSets, a_symbols) (nI x) := by
  have xin : vp_in (nI x) 64 := vp_in_nI hx (by decide)
  have ex : (nI x).toNatClampNeg = x := nI_clamp (by omega)
  refine ⟨xin, ?_⟩
  rw [ex]
  refine br_c (fun z => ?_) (fun z => p _ _ _ _ _ hK ((hK x hx).resolve_left z).1)
  refine dk_ygrow (ch := 1023) hx (by decide) hD (fun w hw => ⟨xin, fun c2 ec => ⟨xin, fun t2 et => ⟨xin, fun k2 ek => ?_⟩⟩⟩)
  rw [dk_A1 hD.1] at hw ec
  subst ec et ek
  refine p _ _ _ _ _ (fun y hy => ?_) pk_us
  by_cases e : y = x
  · subst e
    rw [pk_us, pk_us, pk_uLs]
    exact Or.inr ⟨rfl, rfl, hw⟩
  · rw [pk_un e, pk_un e, pk_uLn e]
    exact hK y hy
theorem dk_yclosureOf {post : Int32 → SY → Prop} {x m : Nat} (hx : x < 64) (hD : dk_DP m L R B a_lefts a_rights a_bundled) (hK : dk_KN m L R B a_known a_closures a_tables)
    (p : ∀ sa ma kn cc tb, dk_KN m L R B kn cc tb → post (nI (dk_cf (dk_Al m) L R B x)) (nI m, f_partCount, f_rowCount, sa, ma, a_lefts, a_rights, a_bundled, a_parts, a_cells, kn, cc, tb, a_stemSets, a_symbols)) :
    wpY_closureOf post (nI m, f_partCount, f_rowCount, f_same, f_made, a_lefts, a_rights, a_bundled, a_parts, a_cells, a_known, a_closures, a_tables, a_stemSets, a_symbols) (nI x) := by
  have xin : vp_in (nI x) 64 := vp_in_nI hx (by decide)
  have ex : (nI x).toNatClampNeg = x := nI_clamp (by omega)
  unfold wpY_closureOf
  refine dk_yfind hx hD hK (fun sa ma kn cc tb hK' k1 => ⟨xin, ?_⟩)
  have h := (hK' x hx).resolve_left (fun z => by rw [k1] at z; exact absurd z (by decide))
  rw [ex, h.2.1]
  exact p sa ma kn cc tb hK'
theorem dk_yisBundle {post : Int32 → SY → Prop} {x y m : Nat} (hx : x < 64) (hy : y < 64) (hD : dk_DP m L R B a_lefts a_rights a_bundled) (hK : dk_KN m L R B a_known a_closures a_tables)
    (p1 : dk_InT (dk_Al m) L R B (dk_cf (dk_Al m) L R B x) (dk_sd (dk_sd 63 (x ||| y)) (dk_cf (dk_Al m) L R B x)) → ∀ sa ma kn cc tb, dk_KN m L R B kn cc tb → post 1 (nI m, f_partCount, f_rowCount, sa, ma, a_lefts, a_rights, a_bundled, a_parts, a_cells, kn, cc, tb, a_stemSets, a_symbols))
    (p0 : ¬ dk_InT (dk_Al m) L R B (dk_cf (dk_Al m) L R B x) (dk_sd (dk_sd 63 (x ||| y)) (dk_cf (dk_Al m) L R B x)) → ∀ sa ma kn cc tb, dk_KN m L R B kn cc tb → post 0 (nI m, f_partCount, f_rowCount, sa, ma, a_lefts, a_rights, a_bundled, a_parts, a_cells, kn, cc, tb, a_stemSets, a_symbols)) :
    wpY_isBundle post (nI m, f_partCount, f_rowCount, f_same, f_made, a_lefts, a_rights, a_bundled, a_parts, a_cells, a_known, a_closures, a_tables, a_stemSets, a_symbols) (nI x) (nI y) := by
  have xin : vp_in (nI x) 64 := vp_in_nI hx (by decide)
  have ex : (nI x).toNatClampNeg = x := nI_clamp (by omega)
  unfold wpY_isBundle
  refine dk_yfind hx hD hK (fun sa ma kn cc tb hK' k1 => ⟨xin, ?_⟩)
  have h := (hK' x hx).resolve_left (fun z => by rw [k1] at z; exact absurd z (by decide))
  have lt : dk_sd (dk_sd 63 (x ||| y)) (dk_cf (dk_Al m) L R B x) < 64 := dk_sd_lt (dk_sd_lt (by decide))
  refine nm_r (e' := nI (dk_sd (dk_sd 63 (x ||| y)) (dk_cf (dk_Al m) L R B x))) (by rw [ex, h.2.1, dk_or, dk_n63, dk_not, dk_not]) ⟨xin, ?_⟩
  rw [ex]
  exact dk_if ((dk_hb1 lt).trans (h.2.2 _ lt)) (fun z => p1 z sa ma kn cc tb hK') (fun z => p0 z sa ma kn cc tb hK')
end
end
section
/-! the relation -/
def dk_RF (m pn rn : Nat) (L R P : Nat → Nat) (B : Nat → Bool) (sd sc kc : Int32) (al ar abd clo ism ks ap : Nat → Int32) (kn cc : Nat → Int32) (tb : Nat → Int64) : Prop :=
  dk_DP m L R B al ar abd ∧ (pn ≤ 4 ∧ ∀ j, j < pn → ap j = nI (P j) ∧ P j < 64) ∧ rn ≤ 6 ∧ (sd = 0 ∨ (sd = 1 ∧ dk_ST m L R B sc kc clo ism ks)) ∧ dk_KN m L R B kn cc tb
/-- the relation at the head of a turn: given dependencies, parts and the table are the same; what the desk has studied and what the reference knows are the closures -/
def i_Rel (k : Nat) (u : SX) (v : SY) : Prop :=
  ∃ (m : Nat) (pn : Nat) (rn : Nat) (L : Nat → Nat) (R : Nat → Nat) (P : Nat → Nat) (B : Nat → Bool) (co : Int32) (bo : Int32) (sd : Int32) (sc : Int32) (kc : Int32) (al : Nat → Int32) (ar : Nat → Int32) (abd : Nat → Int32) (ab : Nat → Int32) (clo : Nat → Int32) (ss : Nat → Int32) (ism : Nat → Int32) (ks : Nat → Int32) (ap : Nat → Int32) (sy : Nat → Int32) (ce : Nat → Int32) (cof : Nat → Int32) (cls : Nat → Int32) (agr : Nat → Int32) (sa : Int32) (ma : Int64) (kn : Nat → Int32) (cc : Nat → Int32) (tb : Nat → Int64) (sts : Nat → Int32) (sys : Nat → Int32), dk_RF m pn rn L R P B sd sc kc al ar abd clo ism ks ap kn cc tb ∧ u = (nI m, co, bo, sd, sc, kc, nI pn, nI rn, al, ar, abd, ab, clo, ss, ism, ks, ap, sy, ce, cof, cls, agr) ∧ v = (nI m, nI pn, nI rn, sa, ma, al, ar, abd, ap, ce, kn, cc, tb, sts, sys)
theorem dk_el {k : Nat} {u : SX} {v : SY} {Q : SX → SY → Prop} (h : ∀ (m : Nat) (pn : Nat) (rn : Nat) (L : Nat → Nat) (R : Nat → Nat) (P : Nat → Nat) (B : Nat → Bool) (co : Int32) (bo : Int32) (sd : Int32) (sc : Int32) (kc : Int32) (al : Nat → Int32) (ar : Nat → Int32) (abd : Nat → Int32) (ab : Nat → Int32) (clo : Nat → Int32) (ss : Nat → Int32) (ism : Nat → Int32) (ks : Nat → Int32) (ap : Nat → Int32) (sy : Nat → Int32) (ce : Nat → Int32) (cof : Nat → Int32) (cls : Nat → Int32) (agr : Nat → Int32) (sa : Int32) (ma : Int64) (kn : Nat → Int32) (cc : Nat → Int32) (tb : Nat → Int64) (sts : Nat → Int32) (sys : Nat → Int32), dk_RF m pn rn L R P B sd sc kc al ar abd clo ism ks ap kn cc tb → Q (nI m, co, bo, sd, sc, kc, nI pn, nI rn, al, ar, abd, ab, clo, ss, ism, ks, ap, sy, ce, cof, cls, agr) (nI m, nI pn, nI rn, sa, ma, al, ar, abd, ap, ce, kn, cc, tb, sts, sys)) (I : i_Rel k u v) : Q u v :=
  Exists.elim I fun m I => Exists.elim I fun pn I => Exists.elim I fun rn I => Exists.elim I fun L I => Exists.elim I fun R I => Exists.elim I fun P I => Exists.elim I fun B I => Exists.elim I fun co I => Exists.elim I fun bo I => Exists.elim I fun sd I => Exists.elim I fun sc I => Exists.elim I fun kc I => Exists.elim I fun al I => Exists.elim I fun ar I => Exists.elim I fun abd I => Exists.elim I fun ab I => Exists.elim I fun clo I => Exists.elim I fun ss I => Exists.elim I fun ism I => Exists.elim I fun ks I => Exists.elim I fun ap I => Exists.elim I fun sy I => Exists.elim I fun ce I => Exists.elim I fun cof I => Exists.elim I fun cls I => Exists.elim I fun agr I => Exists.elim I fun sa I => Exists.elim I fun ma I => Exists.elim I fun kn I => Exists.elim I fun cc I => Exists.elim I fun tb I => Exists.elim I fun sts I => Exists.elim I fun sys I => by
    obtain ⟨hf, hu, hv⟩ := I
    subst hu hv
    exact h m pn rn L R P B co bo sd sc kc al ar abd ab clo ss ism ks ap sy ce cof cls agr sa ma kn cc tb sts sys hf
theorem dk_mk {k : Nat} {m : Nat} {pn : Nat} {rn : Nat} {L : Nat → Nat} {R : Nat → Nat} {P : Nat → Nat} {B : Nat → Bool} {co : Int32} {bo : Int32} {sd : Int32} {sc : Int32} {kc : Int32} {al : Nat → Int32} {ar : Nat → Int32} {abd : Nat → Int32} {ab : Nat → Int32} {clo : Nat → Int32} {ss : Nat → Int32} {ism : Nat → Int32} {ks : Nat → Int32} {ap : Nat → Int32} {sy : Nat → Int32} {ce : Nat → Int32} {cof : Nat → Int32} {cls : Nat → Int32} {agr : Nat → Int32} {sa : Int32} {ma : Int64} {kn : Nat → Int32} {cc : Nat → Int32} {tb : Nat → Int64} {sts : Nat → Int32} {sys : Nat → Int32} (h : dk_RF m pn rn L R P B sd sc kc al ar abd clo ism ks ap kn cc tb) : i_Rel k (nI m, co, bo, sd, sc, kc, nI pn, nI rn, al, ar, abd, ab, clo, ss, ism, ks, ap, sy, ce, cof, cls, agr) (nI m, nI pn, nI rn, sa, ma, al, ar, abd, ap, ce, kn, cc, tb, sts, sys) :=
  ⟨m, pn, rn, L, R, P, B, co, bo, sd, sc, kc, al, ar, abd, ab, clo, ss, ism, ks, ap, sy, ce, cof, cls, agr, sa, ma, kn, cc, tb, sts, sys, h, rfl, rfl⟩
theorem i_up {k : Nat} {u : SX} {v : SY} (h : i_Rel k u v) : i_Rel (k + 4) u v := h
theorem i_vc0 : wpX_init (fun u => wpY_init (fun v => i_Rel 0 u v)) :=
  dk_mk (k := 0) (m := 0) (pn := 0) (rn := 0) (L := fun _ => 0) (R := fun _ => 0) (P := fun _ => 0) (B := fun _ => false) ⟨⟨by decide, fun j hj => by omega⟩, ⟨by decide, fun j hj => by omega⟩, by decide, Or.inl rfl, fun x _ => Or.inl rfl⟩
theorem dk_ix (a b : Nat) : 6 * nI a + nI b = nI (6 * a + b) := by rw [show (6 : Int32) = nI 6 from rfl, pk_mul, nI_add]
section
variable {f_count f_partCount f_rowCount f_same : Int32} {a_lefts a_rights a_bundled a_parts a_cells a_known a_closures a_stemSets a_symbols : Nat → Int32} {f_made : Int64} {a_tables : Nat → Int64}
theorem dk_yforget {post : SY → Prop} (p : ∀ kn, (∀ x, x < 64 → kn x = 0) → post (f_count, f_partCount, f_rowCount, f_same, f_made, a_lefts, a_rights, a_bundled, a_parts, a_cells, kn, a_closures, a_tables, a_stemSets, a_symbols)) : wpY_forget post (f_count, f_partCount, f_rowCount, f_same, f_made, a_lefts, a_rights, a_bundled, a_parts, a_cells, a_known, a_closures, a_tables, a_stemSets, a_symbols) := by
  have lp : ∀ e i kn, i + e = 64 → (∀ x, x < i → kn x = 0) → wY_forget_2 post f_count f_partCount f_rowCount f_same f_made (e + 1) (nI i) a_lefts a_rights a_bundled a_parts a_cells kn a_closures a_tables a_stemSets a_symbols := by
    intro e
    induction e with
    | zero =>
      intro i kn hi h
      have ei : i = 64 := by omega
      subst ei
      exact br_t (by decide) (p kn h)
    | succ e ih =>
      intro i kn hi h
      refine br_f (nI_ge (b := 64) (by omega) (by decide)) ⟨vp_in_nI (by omega) (by decide), fun a ea => nm_r (nI_1 i) (ih (i + 1) a (by omega) ?_)⟩
      rw [dk_cl (by omega : i < 1000), dk_nb0] at ea
      subst ea
      exact lt_s (fun x hx => by rw [pk_un (by omega)]; exact h x hx) pk_us
  exact ⟨_, lp 64 0 a_known (by omega) lt_0⟩
end
def dk_ub (f : Nat → Bool) (k : Nat) (x : Bool) : Nat → Bool := fun j => if j = k then x else f j
theorem dk_ubs {f : Nat → Bool} {k : Nat} {x : Bool} : dk_ub f k x k = x := if_pos rfl
theorem dk_ubo {f : Nat → Bool} {k j : Nat} {x : Bool} (h : j ≠ k) : dk_ub f k x j = f j := if_neg h
theorem dk_DP_a {m : Nat} {L R : Nat → Nat} {B : Nat → Bool} {al ar abd : Nat → Int32} {x y : Nat} {b : Bool} (h : dk_DP m L R B al ar abd) (hm : m < 10) (hx : x < 64) (hy : y < 64) :
    dk_DP (m + 1) (dk_un L m x) (dk_un R m y) (dk_ub B m b) (upd al m (nI x)) (upd ar m (nI y)) (upd abd m (dk_bI b)) := by
  refine ⟨hm, fun j hj => ?_⟩
  by_cases z : j = m
  · subst z
    rw [pk_us, pk_us, pk_us, dk_us, dk_us, dk_ubs]
    exact ⟨rfl, hx, rfl, hy, rfl⟩
  · rw [pk_un z, pk_un z, pk_un z, dk_uo z, dk_uo z, dk_ubo z]
    exact h.2 j (by omega)
theorem i_vc_give {k : Nat} {u : SX} {v : SY} (I : i_Rel k u v) (hk : k + 4 ≤ 2048) (v1 : Int32) (v2 : Int32) (v3 : Int32) : wpX_give (fun r u' => wpY_give (fun r' v' => r' = r ∧ i_Rel (k + 4) u' v') v v1 v2 v3) u v1 v2 v3 := by
  refine dk_el (Q := fun u v => wpX_give (fun r u' => wpY_give (fun r' v' => r' = r ∧ i_Rel (k + 4) u' v') v v1 v2 v3) u v1 v2 v3) ?_ I
  intro m pn rn L R P B co bo sd sc kc al ar abd ab clo ss ism ks ap sy ce cof cls agr sa ma kn cc tb sts sys hf
  obtain ⟨hD, hP, hr, hS, hK⟩ := hf
  have m10 := hD.1
  unfold wpX_give
  rcases dk_set v1 with ⟨x, x1, rfl⟩ | b1
  · refine dk_xbad x1 (br_t rfl ?_)
    rcases dk_set v2 with ⟨y, y1, rfl⟩ | b2
    · refine dk_xbad y1 (br_t rfl (dk_if (d := m = 10) (nI_eq (b := 10) (by omega) (by decide)) (fun z => ?_) (fun z => ?_)))
      · subst z
        unfold wpY_give
        exact dk_yset x1 (br_f (by decide) (dk_yset y1 (br_f (by decide) (br_t (by decide) ⟨rfl, dk_mk ⟨hD, hP, hr, hS, hK⟩⟩))))
      · have min : vp_in (nI m) 10 := vp_in_nI (by omega) (by decide)
        have em : (nI m).toNatClampNeg = m := dk_cl (by omega)
        have n10 : ¬ nI m = 10 := fun q => z ((nI_eq (b := 10) (by omega) (by decide)).mp q)
        refine ⟨min, fun al' el => ⟨min, fun ar' er => ?_⟩⟩
        have key : ∀ b : Bool, ∀ abd' : Nat → Int32, abd' = upd abd (nI m).toNatClampNeg (vp_nar .boolean (dk_bI b)) → ∀ f1 : Int32, f1 = nI m + 1 →
            ((v3 = 0 ∧ b = false) ∨ (¬ v3 = 0 ∧ b = true)) →
            wpY_give (fun r' v' => r' = f1 - 1 ∧ i_Rel (k + 4) (f1, co, bo, 0, sc, kc, nI pn, nI rn, al', ar', abd', ab, clo, ss, ism, ks, ap, sy, ce, cof, cls, agr) v') (nI m, nI pn, nI rn, sa, ma, al, ar, abd, ap, ce, kn, cc, tb, sts, sys) (nI x) (nI y) v3 := by
          intro b abd' eb f1 e1 hb
          rw [nI_1] at e1
          rw [em] at el er eb
          have en : vp_nar .boolean (dk_bI b) = dk_bI b := by cases b <;> rfl
          rw [en] at eb
          subst e1 el er eb
          unfold wpY_give
          refine dk_yset x1 (br_f (by decide) (dk_yset y1 (br_f (by decide) (br_f n10 ⟨min, nm_r (by rw [em]) ⟨min, nm_r (by rw [em]) ?_⟩⟩))))
          have fin : ∀ kn' : Nat → Int32, (∀ x, x < 64 → kn' x = 0) → i_Rel (k + 4) (nI (m + 1), co, bo, 0, sc, kc, nI pn, nI rn, upd al m (nI x), upd ar m (nI y), upd abd m (dk_bI b), ab, clo, ss, ism, ks, ap, sy, ce, cof, cls, agr) (nI (m + 1), nI pn, nI rn, sa, ma, upd al m (nI x), upd ar m (nI y), upd abd m (dk_bI b), ap, ce, kn', cc, tb, sts, sys) :=
            fun kn' h => dk_mk ⟨dk_DP_a hD (by omega) x1 y1, hP, hr, Or.inl rfl, fun x hx => Or.inl (h x hx)⟩
          rcases hb with ⟨h3, rfl⟩ | ⟨h3, rfl⟩
          · refine br_t h3 ⟨min, fun ab' eb' => nm_r (nI_1 m) (dk_yforget (fun kn' h => ⟨rfl, ?_⟩))⟩
            rw [em] at eb'
            subst eb'
            exact fin kn' h
          · refine br_f h3 ⟨min, fun ab' eb' => nm_r (nI_1 m) (dk_yforget (fun kn' h => ⟨rfl, ?_⟩))⟩
            rw [em] at eb'
            subst eb'
            exact fin kn' h
        exact br_c (fun h3 => ⟨min, fun abd' eb f1 e1 => key false abd' eb f1 e1 (Or.inl ⟨h3, rfl⟩)⟩) (fun h3 => ⟨min, fun abd' eb f1 e1 => key true abd' eb f1 e1 (Or.inr ⟨h3, rfl⟩)⟩)
    · refine dk_xbad1 b2 (br_f (by decide) ?_)
      unfold wpY_give
      exact dk_yset x1 (br_f (by decide) (dk_ynot b2 (br_t rfl ⟨rfl, dk_mk ⟨hD, hP, hr, hS, hK⟩⟩)))
  · refine dk_xbad1 b1 (br_f (by decide) ?_)
    unfold wpY_give
    exact dk_ynot b1 (br_t rfl ⟨rfl, dk_mk ⟨hD, hP, hr, hS, hK⟩⟩)
theorem i_vc_take {k : Nat} {u : SX} {v : SY} (I : i_Rel k u v) (hk : k + 4 ≤ 2048) : wpX_take (fun r u' => wpY_take (fun r' v' => r' = r ∧ i_Rel (k + 4) u' v') v) u := by
  refine dk_el (Q := fun u v => wpX_take (fun r u' => wpY_take (fun r' v' => r' = r ∧ i_Rel (k + 4) u' v') v) u) ?_ I
  intro m pn rn L R P B co bo sd sc kc al ar abd ab clo ss ism ks ap sy ce cof cls agr sa ma kn cc tb sts sys hf
  obtain ⟨hD, hP, hr, hS, hK⟩ := hf
  have m10 := hD.1
  rcases Nat.eq_zero_or_pos m with z | z
  · subst z
    exact br_t (by decide) (br_t (by decide) ⟨rfl, dk_mk ⟨hD, hP, hr, hS, hK⟩⟩)
  · have n0 : ¬ nI m = 0 := nI_ne0 z (by omega)
    have ep : nI m - 1 = nI (m - 1) := by
      have := nI_pred (m - 1)
      rw [show m - 1 + 1 = m by omega] at this; exact this
    refine br_f n0 (nm_r ep (br_f n0 (nm_r ep (dk_yforget (fun kn' h => ⟨rfl, dk_mk ⟨⟨by omega, fun j hj => hD.2 j (by omega)⟩, hP, hr, Or.inl rfl, fun x hx => Or.inl (h x hx)⟩⟩)))))
theorem i_vc_part {k : Nat} {u : SX} {v : SY} (I : i_Rel k u v) (hk : k + 4 ≤ 2048) (v1 : Int32) : wpX_part (fun r u' => wpY_part (fun r' v' => r' = r ∧ i_Rel (k + 4) u' v') v v1) u v1 := by
  refine dk_el (Q := fun u v => wpX_part (fun r u' => wpY_part (fun r' v' => r' = r ∧ i_Rel (k + 4) u' v') v v1) u v1) ?_ I
  intro m pn rn L R P B co bo sd sc kc al ar abd ab clo ss ism ks ap sy ce cof cls agr sa ma kn cc tb sts sys hf
  obtain ⟨hD, hP, hr, hS, hK⟩ := hf
  have p4 := hP.1
  unfold wpX_part
  rcases dk_set v1 with ⟨x, x1, rfl⟩ | b1
  · refine dk_xbad x1 (br_t rfl (dk_if (d := pn = 4) (nI_eq (b := 4) (by omega) (by decide)) (fun z => ?_) (fun z => ?_)))
    · subst z
      unfold wpY_part
      exact dk_yset x1 (br_f (by decide) (br_t (by decide) ⟨rfl, dk_mk ⟨hD, hP, hr, hS, hK⟩⟩))
    · have pin : vp_in (nI pn) 4 := vp_in_nI (by omega) (by decide)
      have ep : (nI pn).toNatClampNeg = pn := dk_cl (by omega)
      have n4 : ¬ nI pn = 4 := fun q => z ((nI_eq (b := 4) (by omega) (by decide)).mp q)
      refine ⟨pin, nm_r (by rw [ep]) (nm_r (nI_1 pn) ?_)⟩
      unfold wpY_part
      refine dk_yset x1 (br_f (by decide) (br_f n4 ⟨pin, nm_r (by rw [ep]) (nm_r (nI_1 pn) ⟨rfl, dk_mk (P := dk_un P pn x) ⟨hD, ⟨by omega, fun j hj => ?_⟩, hr, hS, hK⟩⟩)⟩))
      by_cases w : j = pn
      · subst w; rw [pk_us, dk_us]; exact ⟨rfl, x1⟩
      · rw [pk_un w, dk_uo w]; exact hP.2 j (by omega)
  · refine dk_xbad1 b1 (br_f (by decide) ?_)
    unfold wpY_part
    exact dk_ynot b1 (br_t rfl ⟨rfl, dk_mk ⟨hD, hP, hr, hS, hK⟩⟩)
theorem i_vc_whole {k : Nat} {u : SX} {v : SY} (I : i_Rel k u v) (hk : k + 4 ≤ 2048) : wpX_whole (fun u' => wpY_whole (fun v' => i_Rel (k + 4) u' v') v) u := by
  refine dk_el (Q := fun u v => wpX_whole (fun u' => wpY_whole (fun v' => i_Rel (k + 4) u' v') v) u) ?_ I
  intro m pn rn L R P B co bo sd sc kc al ar abd ab clo ss ism ks ap sy ce cof cls agr sa ma kn cc tb sts sys hf
  obtain ⟨hD, hP, hr, hS, hK⟩ := hf
  exact dk_mk (k := k + 4) (pn := 0) (P := P) ⟨hD, ⟨by decide, fun j hj => by omega⟩, hr, hS, hK⟩
theorem i_vc_blank {k : Nat} {u : SX} {v : SY} (I : i_Rel k u v) (hk : k + 4 ≤ 2048) : wpX_blank (fun u' => wpY_blank (fun v' => i_Rel (k + 4) u' v') v) u := by
  refine dk_el (Q := fun u v => wpX_blank (fun u' => wpY_blank (fun v' => i_Rel (k + 4) u' v') v) u) ?_ I
  intro m pn rn L R P B co bo sd sc kc al ar abd ab clo ss ism ks ap sy ce cof cls agr sa ma kn cc tb sts sys hf
  obtain ⟨hD, hP, hr, hS, hK⟩ := hf
  exact dk_mk (k := k + 4) (rn := 0) ⟨hD, hP, by decide, hS, hK⟩
def dk_zr (ce : Nat → Int32) (r i : Nat) : Nat → Int32 := fun j => if 6 * r ≤ j ∧ j < 6 * r + i then 0 else ce j
theorem dk_zr_s (ce : Nat → Int32) (r i : Nat) : upd (dk_zr ce r i) (6 * r + i) 0 = dk_zr ce r (i + 1) := by
  funext j
  unfold upd dk_zr
  by_cases z : j = 6 * r + i
  · rw [if_pos z, if_pos (by omega)]
  · rw [if_neg z]
    by_cases w : 6 * r ≤ j ∧ j < 6 * r + i
    · rw [if_pos w, if_pos (by omega)]
    · rw [if_neg w, if_neg (by omega)]
theorem dk_zr_0 (ce : Nat → Int32) (r : Nat) : dk_zr ce r 0 = ce := by
  funext j
  unfold dk_zr
  rw [if_neg (by omega)]
section
variable {f_count f_counting f_blocks f_isStudied f_stemCount f_keyCount f_partCount f_rows : Int32} {a_leftSide a_rightSide a_isBundled a_block a_closureOf a_stemSet a_isStem a_keySet a_partSet a_symbol a_cells a_classOf a_classes a_agreement : Nat → Int32}
theorem dk_xrow {post : Int32 → SX → Prop} {rn : Nat} (hr : rn < 6) (p : post (nI rn) (f_count, f_counting, f_blocks, f_isStudied, f_stemCount, f_keyCount, f_partCount, nI (rn + 1), a_leftSide, a_rightSide, a_isBundled, a_block, a_closureOf, a_stemSet, a_isStem, a_keySet, a_partSet, a_symbol, dk_zr a_cells rn 6, a_classOf, a_classes, a_agreement)) : wpX_row post (f_count, f_counting, f_blocks, f_isStudied, f_stemCount, f_keyCount, f_partCount, nI rn, a_leftSide, a_rightSide, a_isBundled, a_block, a_closureOf, a_stemSet, a_isStem, a_keySet, a_partSet, a_symbol, a_cells, a_classOf, a_classes, a_agreement) := by
  have lp : ∀ e i, i + e = 6 → wX_row_14 post f_count f_counting f_blocks f_isStudied f_stemCount f_keyCount f_partCount (nI rn) (e + 1) (nI i) a_leftSide a_rightSide a_isBundled a_block a_closureOf a_stemSet a_isStem a_keySet a_partSet a_symbol (dk_zr a_cells rn i) a_classOf a_classes a_agreement := by
    intro e
    induction e with
    | zero =>
      intro i hi
      have ei : i = 6 := by omega
      subst ei
      exact br_t (by decide) (nm_r (nI_1 rn) (by rw [nI_pred]; exact p))
    | succ e ih =>
      intro i hi
      refine br_f (nI_ge (b := 6) (by omega) (by decide)) ?_
      rw [dk_ix]
      exact ⟨vp_in_nI (by omega) (by decide), nm_r (by rw [dk_cl (by omega : 6 * rn + i < 1000), dk_zr_s]) (nm_r (nI_1 i) (ih (i + 1) (by omega)))⟩
  refine br_f (fun q => by have := (nI_eq (b := 6) (by omega) (by decide)).mp q; omega) ⟨7, ?_⟩
  have := lp 6 0 (by omega)
  rw [dk_zr_0] at this
  exact this
end
section
variable {f_count f_partCount f_rowCount f_same : Int32} {a_lefts a_rights a_bundled a_parts a_cells a_known a_closures a_stemSets a_symbols : Nat → Int32} {f_made : Int64} {a_tables : Nat → Int64}
theorem dk_yrow {post : Int32 → SY → Prop} {rn : Nat} (hr : rn < 6) (p : post (nI rn) (f_count, f_partCount, nI (rn + 1), f_same, f_made, a_lefts, a_rights, a_bundled, a_parts, dk_zr a_cells rn 6, a_known, a_closures, a_tables, a_stemSets, a_symbols)) : wpY_row post (f_count, f_partCount, nI rn, f_same, f_made, a_lefts, a_rights, a_bundled, a_parts, a_cells, a_known, a_closures, a_tables, a_stemSets, a_symbols) := by
  have lp : ∀ e i, i + e = 6 → wY_row_14 post f_count f_partCount (nI rn) f_same f_made (e + 1) (nI i) a_lefts a_rights a_bundled a_parts (dk_zr a_cells rn i) a_known a_closures a_tables a_stemSets a_symbols := by
    intro e
    induction e with
    | zero =>
      intro i hi
      have ei : i = 6 := by omega
      subst ei
      exact br_t (by decide) (nm_r (nI_1 rn) (by rw [nI_pred]; exact p))
    | succ e ih =>
      intro i hi
      refine br_f (nI_ge (b := 6) (by omega) (by decide)) ?_
      rw [dk_ix]
      exact ⟨vp_in_nI (by omega) (by decide), nm_r (by rw [dk_cl (by omega : 6 * rn + i < 1000), dk_zr_s]) (nm_r (nI_1 i) (ih (i + 1) (by omega)))⟩
  refine br_f (fun q => by have := (nI_eq (b := 6) (by omega) (by decide)).mp q; omega) ⟨7, ?_⟩
  have := lp 6 0 (by omega)
  rw [dk_zr_0] at this
  exact this
end
theorem i_vc_row {k : Nat} {u : SX} {v : SY} (I : i_Rel k u v) (hk : k + 4 ≤ 2048) : wpX_row (fun r u' => wpY_row (fun r' v' => r' = r ∧ i_Rel (k + 4) u' v') v) u := by
  refine dk_el (Q := fun u v => wpX_row (fun r u' => wpY_row (fun r' v' => r' = r ∧ i_Rel (k + 4) u' v') v) u) ?_ I
  intro m pn rn L R P B co bo sd sc kc al ar abd ab clo ss ism ks ap sy ce cof cls agr sa ma kn cc tb sts sys hf
  obtain ⟨hD, hP, hr, hS, hK⟩ := hf
  rcases Nat.lt_or_ge rn 6 with z | z
  · exact dk_xrow z (dk_yrow z ⟨rfl, dk_mk ⟨hD, hP, by omega, hS, hK⟩⟩)
  · have e6 : rn = 6 := by omega
    subst e6
    exact br_t (by decide) (br_t (by decide) ⟨rfl, dk_mk ⟨hD, hP, hr, hS, hK⟩⟩)
theorem i_vc_write {k : Nat} {u : SX} {v : SY} (I : i_Rel k u v) (hk : k + 4 ≤ 2048) (v1 : Int32) (v2 : Int32) (v3 : Int32) : wpX_write (fun r u' => wpY_write (fun r' v' => r' = r ∧ i_Rel (k + 4) u' v') v v1 v2 v3) u v1 v2 v3 := by
  refine dk_el (Q := fun u v => wpX_write (fun r u' => wpY_write (fun r' v' => r' = r ∧ i_Rel (k + 4) u' v') v v1 v2 v3) u v1 v2 v3) ?_ I
  intro m pn rn L R P B co bo sd sc kc al ar abd ab clo ss ism ks ap sy ce cof cls agr sa ma kn cc tb sts sys hf
  have hf' := hf
  obtain ⟨hD, hP, hr, hS, hK⟩ := hf
  by_cases h1 : v1 < 0
  · exact br_t h1 (br_t h1 ⟨rfl, dk_mk hf'⟩)
  · by_cases h2 : nI rn ≤ v1
    · exact br_f h1 (br_t h2 (br_f h1 (br_t h2 ⟨rfl, dk_mk hf'⟩)))
    · by_cases h3 : v2 < 0
      · exact br_f h1 (br_f h2 (br_t h3 (br_f h1 (br_f h2 (br_t h3 ⟨rfl, dk_mk hf'⟩)))))
      · by_cases h4 : v2 < 6
        · have h5 : v2 ≤ 5 := by
            rw [Int32.lt_iff_toInt_lt] at h4
            rw [Int32.le_iff_toInt_le]
            have e6 : (6 : Int32).toInt = 6 := by decide
            have e5 : (5 : Int32).toInt = 5 := by decide
            omega
          obtain ⟨a, a1, a2⟩ := ((pk_ix v1 (n := rn) (by omega)).resolve_left h1).resolve_left h2
          have h6 : ¬ nI 6 ≤ v2 := fun q => by
            have q' : (6 : Int32) ≤ v2 := q
            exact absurd h4 (Int32.not_lt.mpr q')
          obtain ⟨b, b1, b2⟩ := ((pk_ix v2 (n := 6) (by omega)).resolve_left h3).resolve_left h6
          subst a2 b2
          refine br_f h1 (br_f h2 (br_f h3 (br_t h4 ?_)))
          rw [dk_ix]
          refine ⟨vp_in_nI (by omega) (by decide), nm_e ⟨vp_in_nI (by omega) (by decide), nm_e ?_⟩⟩
          refine br_f h1 (br_f h2 (br_f h3 (br_t h5 ?_)))
          rw [dk_ix]
          exact ⟨vp_in_nI (by omega) (by decide), nm_e ⟨vp_in_nI (by omega) (by decide), nm_e ⟨rfl, dk_mk ⟨hD, hP, hr, hS, hK⟩⟩⟩⟩
        · have h5 : ¬ v2 ≤ 5 := by
            rw [Int32.lt_iff_toInt_lt] at h4
            rw [Int32.le_iff_toInt_le]
            have e6 : (6 : Int32).toInt = 6 := by decide
            have e5 : (5 : Int32).toInt = 5 := by decide
            omega
          exact br_f h1 (br_f h2 (br_f h3 (br_f h4 (br_f h1 (br_f h2 (br_f h3 (br_f h5 ⟨rfl, dk_mk hf'⟩)))))))
end
section
/-! closure, follows, bundles, fourth -/
section
variable {f_count f_counting f_blocks f_isStudied f_stemCount f_keyCount f_partCount f_rows : Int32} {a_leftSide a_rightSide a_isBundled a_block a_closureOf a_stemSet a_isStem a_keySet a_partSet a_symbol a_cells a_classOf a_classes a_agreement : Nat → Int32}
variable {L R : Nat → Nat} {B : Nat → Bool}
theorem dk_xfollows {post : Int32 → SX → Prop} {m x y : Nat} (hx : x < 64) (hy : y < 64) (hD : dk_DP m L R B a_leftSide a_rightSide a_isBundled)
    (hS : f_isStudied = 0 ∨ (f_isStudied = 1 ∧ dk_ST m L R B f_stemCount f_keyCount a_closureOf a_isStem a_keySet))
    (p1 : dk_su y (dk_cf (dk_Al m) L R B x) → ∀ co bo sc kc ab clo ss ism ks, dk_ST m L R B sc kc clo ism ks → post 1 (nI m, co, bo, 1, sc, kc, f_partCount, f_rows, a_leftSide, a_rightSide, a_isBundled, ab, clo, ss, ism, ks, a_partSet, a_symbol, a_cells, a_classOf, a_classes, a_agreement))
    (p0 : ¬ dk_su y (dk_cf (dk_Al m) L R B x) → ∀ co bo sc kc ab clo ss ism ks, dk_ST m L R B sc kc clo ism ks → post 0 (nI m, co, bo, 1, sc, kc, f_partCount, f_rows, a_leftSide, a_rightSide, a_isBundled, ab, clo, ss, ism, ks, a_partSet, a_symbol, a_cells, a_classOf, a_classes, a_agreement)) :
    wpX_follows post (nI m, f_counting, f_blocks, f_isStudied, f_stemCount, f_keyCount, f_partCount, f_rows, a_leftSide, a_rightSide, a_isBundled, a_block, a_closureOf, a_stemSet, a_isStem, a_keySet, a_partSet, a_symbol, a_cells, a_classOf, a_classes, a_agreement) (nI x) (nI y) := by
  unfold wpX_follows
  refine dk_xbad hx (br_t rfl (dk_xbad hy (br_t rfl ?_)))
  refine dk_xstudy hD hS (fun co bo sc kc ab clo ss ism ks hT => ⟨vp_in_nI hx (by decide), ?_⟩)
  rw [dk_cl (by omega : x < 1000), hT.1 x hx]
  exact dk_xwithin hy (fun z => ⟨rfl, p1 z co bo sc kc ab clo ss ism ks hT⟩) (fun z => ⟨rfl, p0 z co bo sc kc ab clo ss ism ks hT⟩)
theorem dk_xbundles {post : Int32 → SX → Prop} {m x y : Nat} (hx : x < 64) (hy : y < 64) (hD : dk_DP m L R B a_leftSide a_rightSide a_isBundled)
    (p1 : dk_InT (dk_Al m) L R B (dk_cf (dk_Al m) L R B x) (dk_sd (dk_sd 63 (x ||| y)) (dk_cf (dk_Al m) L R B x)) → ∀ co bo ab, post 1 (nI m, co, bo, f_isStudied, f_stemCount, f_keyCount, f_partCount, f_rows, a_leftSide, a_rightSide, a_isBundled, ab, a_closureOf, a_stemSet, a_isStem, a_keySet, a_partSet, a_symbol, a_cells, a_classOf, a_classes, a_agreement))
    (p0 : ¬ dk_InT (dk_Al m) L R B (dk_cf (dk_Al m) L R B x) (dk_sd (dk_sd 63 (x ||| y)) (dk_cf (dk_Al m) L R B x)) → ∀ co bo ab, post 0 (nI m, co, bo, f_isStudied, f_stemCount, f_keyCount, f_partCount, f_rows, a_leftSide, a_rightSide, a_isBundled, ab, a_closureOf, a_stemSet, a_isStem, a_keySet, a_partSet, a_symbol, a_cells, a_classOf, a_classes, a_agreement)) :
    wpX_bundles post (nI m, f_counting, f_blocks, f_isStudied, f_stemCount, f_keyCount, f_partCount, f_rows, a_leftSide, a_rightSide, a_isBundled, a_block, a_closureOf, a_stemSet, a_isStem, a_keySet, a_partSet, a_symbol, a_cells, a_classOf, a_classes, a_agreement) (nI x) (nI y) := by
  have m10 := hD.1
  have p10 : 2 ^ m ≤ 1024 := Nat.pow_le_pow_right (n := 2) (by omega) m10
  have pos : 0 < 2 ^ m := Nat.pos_of_ne_zero (by intro q; simp at q)
  have el : nI (2 ^ m) - 1 = nI (2 ^ m - 1) := by
    have := nI_pred (2 ^ m - 1)
    rw [show 2 ^ m - 1 + 1 = 2 ^ m by omega] at this; exact this
  unfold wpX_bundles
  refine dk_xbad hx (br_t rfl (dk_xbad hy (br_t rfl (nm_r (by rw [dk_sh m (by omega), el]) ?_))))
  refine dk_xfindBasis (cm := 2 ^ m - 1) hx (by omega) hD (fun nb bl ab hB hr hs => ?_)
  obtain ⟨C, hC⟩ := dk_isC_ex hx hB
  have hi := dk_bund (y := y) hB hs hC
  rw [← dk_cf_e (dk_blk_C hB hs hC), dk_A2] at hi
  have n6 := dk_BI6 hB
  have lp : ∀ e k x3, k + e = nb → ((x3 = 1 ∧ ∀ j, j < k → bl j &&& y = 0 ∨ bl j &&& y = bl j) ∨ (x3 = 0 ∧ ¬ ∀ j, j < nb → bl j &&& y = 0 ∨ bl j &&& y = bl j)) →
      wX_bundles_40 post (nI y) (nI m) (nI (2 ^ m - 1)) (nI nb) f_isStudied f_stemCount f_keyCount f_partCount f_rows a_leftSide a_rightSide a_isBundled ab a_closureOf a_stemSet a_isStem a_keySet a_partSet a_symbol a_cells a_classOf a_classes a_agreement (e + 1) x3 (nI k) := by
    intro e
    induction e with
    | zero =>
      intro k x3 hk h
      have ek : k = nb := by omega
      subst ek
      refine br_t (nI_le (Nat.le_refl _) (by omega)) ?_
      rcases h with ⟨rfl, h⟩ | ⟨rfl, h⟩
      · exact ⟨rfl, p1 (hi.mpr h) _ _ _⟩
      · exact ⟨rfl, p0 (fun q => h (hi.mp q)) _ _ _⟩
    | succ e ih =>
      intro k x3 hk h
      have kn : k < nb := by omega
      have kin : vp_in (nI k) 6 := vp_in_nI (by omega) (by decide)
      have b64 := (hB.1 k kn).1
      refine br_f (nI_ge (by omega) (by omega)) ⟨kin, nm_r (e' := nI (bl k &&& y)) (by rw [dk_cl (by omega : k < 1000), hr k kn, dk_and]) ?_⟩
      rcases h with ⟨rfl, h⟩ | ⟨rfl, h⟩
      · refine br_f (by decide) (dk_if (dk_z (dk_and_lt b64)) (fun z => nm_r (nI_1 k) (ih (k + 1) 1 (by omega) (Or.inl ⟨rfl, lt_s h (Or.inl z)⟩))) (fun z => ⟨kin, ?_⟩))
        rw [dk_cl (by omega : k < 1000), hr k kn]
        exact dk_if (dk_e (dk_and_lt b64) b64) (fun w => nm_r (nI_1 k) (ih (k + 1) 1 (by omega) (Or.inl ⟨rfl, lt_s h (Or.inr w)⟩))) (fun w => nm_r (nI_1 k) (ih (k + 1) 0 (by omega) (Or.inr ⟨rfl, fun q => (q k kn).elim z w⟩)))
      · exact br_t rfl (nm_r (nI_1 k) (ih (k + 1) 0 (by omega) (Or.inr ⟨rfl, h⟩)))
  exact ⟨_, lp nb 0 1 (by omega) (Or.inl ⟨rfl, lt_0⟩)⟩
/-- in the fourth form -/
def dk_4 (m : Nat) (L R : Nat → Nat) (B : Nat → Bool) (x : Nat) : Prop :=
  ∀ y, y < 64 → ¬ dk_su y x → x ||| y ≠ 63 → dk_cf (dk_Al m) L R B x ≠ 63 → ¬ dk_InT (dk_Al m) L R B (dk_cf (dk_Al m) L R B x) (dk_sd (dk_sd 63 (x ||| y)) (dk_cf (dk_Al m) L R B x))
theorem dk_xfourth {post : Int32 → SX → Prop} {m : Nat} (hD : dk_DP m L R B a_leftSide a_rightSide a_isBundled)
    (hS : f_isStudied = 0 ∨ (f_isStudied = 1 ∧ dk_ST m L R B f_stemCount f_keyCount a_closureOf a_isStem a_keySet))
    (p1 : (∀ x, x < 64 → dk_4 m L R B x) → ∀ co bo sc kc ab clo ss ism ks, dk_ST m L R B sc kc clo ism ks → post 1 (nI m, co, bo, 1, sc, kc, f_partCount, f_rows, a_leftSide, a_rightSide, a_isBundled, ab, clo, ss, ism, ks, a_partSet, a_symbol, a_cells, a_classOf, a_classes, a_agreement))
    (p0 : (¬ ∀ x, x < 64 → dk_4 m L R B x) → ∀ co bo sc kc ab clo ss ism ks, dk_ST m L R B sc kc clo ism ks → post 0 (nI m, co, bo, 1, sc, kc, f_partCount, f_rows, a_leftSide, a_rightSide, a_isBundled, ab, clo, ss, ism, ks, a_partSet, a_symbol, a_cells, a_classOf, a_classes, a_agreement)) :
    wpX_fourth post (nI m, f_counting, f_blocks, f_isStudied, f_stemCount, f_keyCount, f_partCount, f_rows, a_leftSide, a_rightSide, a_isBundled, a_block, a_closureOf, a_stemSet, a_isStem, a_keySet, a_partSet, a_symbol, a_cells, a_classOf, a_classes, a_agreement) := by
  have m10 := hD.1
  have p10 : 2 ^ m ≤ 1024 := Nat.pow_le_pow_right (n := 2) (by omega) m10
  have pos : 0 < 2 ^ m := Nat.pos_of_ne_zero (by intro q; simp at q)
  have el : nI (2 ^ m) - 1 = nI (2 ^ m - 1) := by
    have := nI_pred (2 ^ m - 1)
    rw [show 2 ^ m - 1 + 1 = 2 ^ m by omega] at this; exact this
  unfold wpX_fourth
  refine dk_xstudy hD hS (fun co bo sc kc ab clo ss ism ks hT => nm_r (by rw [dk_sh m (by omega), el]) ?_)
  have lp : ∀ e i x1 bo ab, i + e = 64 → ((x1 = 1 ∧ ∀ x, x < i → dk_4 m L R B x) ∨ (x1 = 0 ∧ ¬ ∀ x, x < 64 → dk_4 m L R B x)) →
      wX_fourth_20 post (e + 1) x1 (nI i) (nI m) (nI (2 ^ m - 1)) bo 1 sc kc f_partCount f_rows a_leftSide a_rightSide a_isBundled ab clo ss ism ks a_partSet a_symbol a_cells a_classOf a_classes a_agreement := by
    intro e
    induction e with
    | zero =>
      intro i x1 bo ab hi h
      have ei : i = 64 := by omega
      subst ei
      refine br_t (by decide) ?_
      rcases h with ⟨rfl, h⟩ | ⟨rfl, h⟩
      · exact ⟨rfl, p1 h _ _ _ _ _ _ _ _ _ hT⟩
      · exact ⟨rfl, p0 h _ _ _ _ _ _ _ _ _ hT⟩
    | succ e ih =>
      intro i x1 bo ab hi h
      have i64 : i < 64 := by omega
      refine br_f (nI_ge (b := 64) (by omega) (by decide)) ?_
      rcases h with ⟨rfl, h⟩ | ⟨rfl, h⟩
      · refine br_f (by decide) ⟨vp_in_nI i64 (by decide), ?_⟩
        rw [dk_cl (by omega : i < 1000), hT.1 i i64]
        refine dk_if (dk_e (b := 63) (dk_cf64 i64) (by decide)) (fun z => nm_r (nI_1 i) (ih (i + 1) 1 bo ab (by omega) (Or.inl ⟨rfl, lt_s h (fun y _ _ _ q => absurd z q)⟩))) (fun z => ?_)
        refine dk_xfindBasis (cm := 2 ^ m - 1) i64 (by omega) hD (fun nb bl ab' hB hr hs => ?_)
        obtain ⟨C, hC⟩ := dk_isC_ex i64 hB
        have h4 := dk_four hB hs hC
        rw [← dk_cf_e (dk_blk_C hB hs hC), dk_A2] at h4
        have n6 := dk_BI6 hB
        refine dk_if (d := 1 < nb) (nI_ltI (a := 1) (by decide) (by omega)) (fun w => nm_r (nI_1 i) (ih (i + 1) 0 _ ab' (by omega) (Or.inr ⟨rfl, fun q => ?_⟩))) (fun w => nm_r (nI_1 i) (ih (i + 1) 1 _ ab' (by omega) (Or.inl ⟨rfl, lt_s h (fun y y1 y2 y3 _ => h4.mp (by omega) y y1 y2 y3)⟩)))
        have := h4.mpr (fun y y1 y2 y3 => q i i64 y y1 y2 y3 z)
        omega
      · exact br_t rfl ⟨rfl, p0 h _ _ _ _ _ _ _ _ _ hT⟩
  exact ⟨_, lp 64 0 1 bo ab (by omega) (Or.inl ⟨rfl, lt_0⟩)⟩
end
section
variable {f_count f_partCount f_rowCount f_same : Int32} {a_lefts a_rights a_bundled a_parts a_cells a_known a_closures a_stemSets a_symbols : Nat → Int32} {f_made : Int64} {a_tables : Nat → Int64}
variable {L R : Nat → Nat} {B : Nat → Bool}
theorem dk_yfourth {post : Int32 → SY → Prop} {m : Nat} (hD : dk_DP m L R B a_lefts a_rights a_bundled) (hK : dk_KN m L R B a_known a_closures a_tables)
    (p1 : (∀ x, x < 64 → dk_4 m L R B x) → ∀ sa ma kn cc tb, dk_KN m L R B kn cc tb → post 1 (nI m, f_partCount, f_rowCount, sa, ma, a_lefts, a_rights, a_bundled, a_parts, a_cells, kn, cc, tb, a_stemSets, a_symbols))
    (p0 : (¬ ∀ x, x < 64 → dk_4 m L R B x) → ∀ sa ma kn cc tb, dk_KN m L R B kn cc tb → post 0 (nI m, f_partCount, f_rowCount, sa, ma, a_lefts, a_rights, a_bundled, a_parts, a_cells, kn, cc, tb, a_stemSets, a_symbols)) :
    wpY_fourth post (nI m, f_partCount, f_rowCount, f_same, f_made, a_lefts, a_rights, a_bundled, a_parts, a_cells, a_known, a_closures, a_tables, a_stemSets, a_symbols) := by
  have lp10 : ∀ (J : Int32 → Int32 → Int32 → Int32 → Int32 → Int64 → (Nat → Int32) → (Nat → Int32) → (Nat → Int32) → (Nat → Int32) → (Nat → Int32) → (Nat → Int32) → (Nat → Int32) → (Nat → Int64) → (Nat → Int32) → (Nat → Int32) → Prop) (x : Nat), x < 64 →
      (dk_4 m L R B x → ∀ sa ma kn cc tb, dk_KN m L R B kn cc tb → J (nI (x + 1)) (nI m) f_partCount f_rowCount sa ma a_lefts a_rights a_bundled a_parts a_cells kn cc tb a_stemSets a_symbols) →
      ∀ e y, y + e = 64 → ∀ sa ma kn cc tb, dk_KN m L R B kn cc tb →
      (∀ z, z < y → ¬ dk_su z x → x ||| z ≠ 63 → dk_cf (dk_Al m) L R B x ≠ 63 → ¬ dk_InT (dk_Al m) L R B (dk_cf (dk_Al m) L R B x) (dk_sd (dk_sd 63 (x ||| z)) (dk_cf (dk_Al m) L R B x))) →
      wY_fourth_10 post J (nI x) (e + 1) (nI y) (nI m) f_partCount f_rowCount sa ma a_lefts a_rights a_bundled a_parts a_cells kn cc tb a_stemSets a_symbols := by
    intro J x hx hJ e
    induction e with
    | zero =>
      intro y hy sa ma kn cc tb hK h
      have ey : y = 64 := by omega
      subst ey
      exact br_t (by decide) (nm_r (nI_1 x) (hJ h sa ma kn cc tb hK))
    | succ e ih =>
      intro y hy sa ma kn cc tb hK h
      have y64 : y < 64 := by omega
      refine br_f (nI_ge (b := 64) (by omega) (by decide)) ?_
      rw [dk_not, dk_or]
      refine dk_if ((dk_z (dk_sd_lt y64)).trans dk_sd0) (fun z => br_f (by decide) (nm_r (nI_1 y) (ih (y + 1) (by omega) sa ma kn cc tb hK (lt_s h (fun q => absurd z q))))) (fun z => ?_)
      refine dk_if (dk_e (b := 63) (dk_or_lt hx y64) (by decide)) (fun w => br_f (by decide) (nm_r (nI_1 y) (ih (y + 1) (by omega) sa ma kn cc tb hK (lt_s h (fun _ q => absurd w q))))) (fun w => ?_)
      refine dk_yclosureOf hx hD hK (fun sa ma kn cc tb hK => ?_)
      refine dk_if (dk_e (b := 63) (dk_cf64 hx) (by decide)) (fun v => br_f (by decide) (nm_r (nI_1 y) (ih (y + 1) (by omega) sa ma kn cc tb hK (lt_s h (fun _ _ q => absurd v q))))) (fun v => br_t rfl ?_)
      refine dk_yisBundle hx y64 hD hK (fun i sa ma kn cc tb hK => br_f (by decide) (p0 (fun q => q x hx y y64 z w v i) sa ma kn cc tb hK)) (fun i sa ma kn cc tb hK => br_t rfl (nm_r (nI_1 y) (ih (y + 1) (by omega) sa ma kn cc tb hK (lt_s h (fun _ _ _ => i)))))
  have lp2 : ∀ e x, x + e = 64 → ∀ sa ma kn cc tb, dk_KN m L R B kn cc tb → (∀ z, z < x → dk_4 m L R B z) → wY_fourth_2 post (e + 1) (nI x) (nI m) f_partCount f_rowCount sa ma a_lefts a_rights a_bundled a_parts a_cells kn cc tb a_stemSets a_symbols := by
    intro e
    induction e with
    | zero =>
      intro x hx sa ma kn cc tb hK h
      have ex : x = 64 := by omega
      subst ex
      exact br_t (by decide) (p1 h sa ma kn cc tb hK)
    | succ e ih =>
      intro x hx sa ma kn cc tb hK h
      exact br_f (nI_ge (b := 64) (by omega) (by decide)) ⟨_, lp10 _ x (by omega) (fun q sa ma kn cc tb hK => ih (x + 1) (by omega) sa ma kn cc tb hK (lt_s h q)) 64 0 (by omega) sa ma kn cc tb hK lt_0⟩
  exact ⟨_, lp2 64 0 (by omega) _ _ _ _ _ hK lt_0⟩
end
theorem i_vc_closure {k : Nat} {u : SX} {v : SY} (I : i_Rel k u v) (hk : k + 4 ≤ 2048) (v1 : Int32) : wpX_closure (fun r u' => wpY_closure (fun r' v' => r' = r ∧ i_Rel (k + 4) u' v') v v1) u v1 := by
  refine dk_el (Q := fun u v => wpX_closure (fun r u' => wpY_closure (fun r' v' => r' = r ∧ i_Rel (k + 4) u' v') v v1) u v1) ?_ I
  intro m pn rn L R P B co bo sd sc kc al ar abd ab clo ss ism ks ap sy ce cof cls agr sa ma kn cc tb sts sys hf
  have hf' := hf
  obtain ⟨hD, hP, hr, hS, hK⟩ := hf
  unfold wpX_closure
  rcases dk_set v1 with ⟨x, x1, rfl⟩ | b1
  · refine dk_xbad x1 (br_t rfl ?_)
    refine dk_xstudy hD hS (fun co bo sc kc ab clo ss ism ks hT => ⟨vp_in_nI x1 (by decide), ?_⟩)
    rw [dk_cl (by omega : x < 1000), hT.1 x x1]
    unfold wpY_closure
    exact dk_yset x1 (br_f (by decide) (dk_yclosureOf x1 hD hK (fun sa ma kn cc tb hK => ⟨rfl, dk_mk ⟨hD, hP, hr, Or.inr ⟨rfl, hT⟩, hK⟩⟩)))
  · refine dk_xbad1 b1 (br_f (by decide) ?_)
    unfold wpY_closure
    exact dk_ynot b1 (br_t rfl ⟨rfl, dk_mk hf'⟩)
section
variable {f_count f_partCount f_rowCount f_same : Int32} {a_lefts a_rights a_bundled a_parts a_cells a_known a_closures a_stemSets a_symbols : Nat → Int32} {f_made : Int64} {a_tables : Nat → Int64}
variable {L R : Nat → Nat} {B : Nat → Bool}
theorem dk_yfollows {post : Int32 → SY → Prop} {m x y : Nat} (hx : x < 64) (hy : y < 64) (hD : dk_DP m L R B a_lefts a_rights a_bundled) (hK : dk_KN m L R B a_known a_closures a_tables)
    (p1 : dk_su y (dk_cf (dk_Al m) L R B x) → ∀ sa ma kn cc tb, dk_KN m L R B kn cc tb → post 1 (nI m, f_partCount, f_rowCount, sa, ma, a_lefts, a_rights, a_bundled, a_parts, a_cells, kn, cc, tb, a_stemSets, a_symbols))
    (p0 : ¬ dk_su y (dk_cf (dk_Al m) L R B x) → ∀ sa ma kn cc tb, dk_KN m L R B kn cc tb → post 0 (nI m, f_partCount, f_rowCount, sa, ma, a_lefts, a_rights, a_bundled, a_parts, a_cells, kn, cc, tb, a_stemSets, a_symbols)) :
    wpY_follows post (nI m, f_partCount, f_rowCount, f_same, f_made, a_lefts, a_rights, a_bundled, a_parts, a_cells, a_known, a_closures, a_tables, a_stemSets, a_symbols) (nI x) (nI y) := by
  unfold wpY_follows
  refine dk_yset hx (br_f (by decide) (dk_yset hy (br_f (by decide) (dk_yclosureOf hx hD hK (fun sa ma kn cc tb hK => ?_)))))
  exact dk_if (by rw [dk_not]; exact (dk_z (dk_sd_lt hy)).trans dk_sd0) (fun z => p1 z sa ma kn cc tb hK) (fun z => p0 z sa ma kn cc tb hK)
end
theorem i_vc_follows {k : Nat} {u : SX} {v : SY} (I : i_Rel k u v) (hk : k + 4 ≤ 2048) (v1 : Int32) (v2 : Int32) : wpX_follows (fun r u' => wpY_follows (fun r' v' => r' = r ∧ i_Rel (k + 4) u' v') v v1 v2) u v1 v2 := by
  refine dk_el (Q := fun u v => wpX_follows (fun r u' => wpY_follows (fun r' v' => r' = r ∧ i_Rel (k + 4) u' v') v v1 v2) u v1 v2) ?_ I
  intro m pn rn L R P B co bo sd sc kc al ar abd ab clo ss ism ks ap sy ce cof cls agr sa ma kn cc tb sts sys hf
  have hf' := hf
  obtain ⟨hD, hP, hr, hS, hK⟩ := hf
  rcases dk_set v1 with ⟨x, x1, rfl⟩ | b1
  · rcases dk_set v2 with ⟨y, y1, rfl⟩ | b2
    · refine dk_xfollows x1 y1 hD hS (fun z co bo sc kc ab clo ss ism ks hT => ?_) (fun z co bo sc kc ab clo ss ism ks hT => ?_)
      · exact dk_yfollows x1 y1 hD hK (fun _ sa ma kn cc tb hK => ⟨rfl, dk_mk ⟨hD, hP, hr, Or.inr ⟨rfl, hT⟩, hK⟩⟩) (fun w => absurd z w)
      · exact dk_yfollows x1 y1 hD hK (fun w => absurd w z) (fun _ sa ma kn cc tb hK => ⟨rfl, dk_mk ⟨hD, hP, hr, Or.inr ⟨rfl, hT⟩, hK⟩⟩)
    · unfold wpX_follows
      refine dk_xbad x1 (br_t rfl (dk_xbad1 b2 (br_f (by decide) ?_)))
      unfold wpY_follows
      exact dk_yset x1 (br_f (by decide) (dk_ynot b2 (br_t rfl ⟨rfl, dk_mk hf'⟩)))
  · unfold wpX_follows
    refine dk_xbad1 b1 (br_f (by decide) ?_)
    unfold wpY_follows
    exact dk_ynot b1 (br_t rfl ⟨rfl, dk_mk hf'⟩)
theorem i_vc_bundles {k : Nat} {u : SX} {v : SY} (I : i_Rel k u v) (hk : k + 4 ≤ 2048) (v1 : Int32) (v2 : Int32) : wpX_bundles (fun r u' => wpY_bundles (fun r' v' => r' = r ∧ i_Rel (k + 4) u' v') v v1 v2) u v1 v2 := by
  refine dk_el (Q := fun u v => wpX_bundles (fun r u' => wpY_bundles (fun r' v' => r' = r ∧ i_Rel (k + 4) u' v') v v1 v2) u v1 v2) ?_ I
  intro m pn rn L R P B co bo sd sc kc al ar abd ab clo ss ism ks ap sy ce cof cls agr sa ma kn cc tb sts sys hf
  have hf' := hf
  obtain ⟨hD, hP, hr, hS, hK⟩ := hf
  rcases dk_set v1 with ⟨x, x1, rfl⟩ | b1
  · rcases dk_set v2 with ⟨y, y1, rfl⟩ | b2
    · refine dk_xbundles x1 y1 hD (fun z co bo ab => ?_) (fun z co bo ab => ?_)
      · unfold wpY_bundles
        exact dk_yset x1 (br_f (by decide) (dk_yset y1 (br_f (by decide) (dk_yisBundle x1 y1 hD hK (fun _ sa ma kn cc tb hK => br_f (by decide) ⟨rfl, dk_mk ⟨hD, hP, hr, hS, hK⟩⟩) (fun w => absurd z w)))))
      · unfold wpY_bundles
        exact dk_yset x1 (br_f (by decide) (dk_yset y1 (br_f (by decide) (dk_yisBundle x1 y1 hD hK (fun w => absurd w z) (fun _ sa ma kn cc tb hK => br_t rfl ⟨rfl, dk_mk ⟨hD, hP, hr, hS, hK⟩⟩)))))
    · unfold wpX_bundles
      refine dk_xbad x1 (br_t rfl (dk_xbad1 b2 (br_f (by decide) ?_)))
      unfold wpY_bundles
      exact dk_yset x1 (br_f (by decide) (dk_ynot b2 (br_t rfl ⟨rfl, dk_mk hf'⟩)))
  · unfold wpX_bundles
    refine dk_xbad1 b1 (br_f (by decide) ?_)
    unfold wpY_bundles
    exact dk_ynot b1 (br_t rfl ⟨rfl, dk_mk hf'⟩)
theorem i_vc_fourth {k : Nat} {u : SX} {v : SY} (I : i_Rel k u v) (hk : k + 4 ≤ 2048) : wpX_fourth (fun r u' => wpY_fourth (fun r' v' => r' = r ∧ i_Rel (k + 4) u' v') v) u := by
  refine dk_el (Q := fun u v => wpX_fourth (fun r u' => wpY_fourth (fun r' v' => r' = r ∧ i_Rel (k + 4) u' v') v) u) ?_ I
  intro m pn rn L R P B co bo sd sc kc al ar abd ab clo ss ism ks ap sy ce cof cls agr sa ma kn cc tb sts sys hf
  have hf' := hf
  obtain ⟨hD, hP, hr, hS, hK⟩ := hf
  refine dk_xfourth hD hS (fun z co bo sc kc ab clo ss ism ks hT => ?_) (fun z co bo sc kc ab clo ss ism ks hT => ?_)
  · exact dk_yfourth hD hK (fun _ sa ma kn cc tb hK => ⟨rfl, dk_mk ⟨hD, hP, hr, Or.inr ⟨rfl, hT⟩, hK⟩⟩) (fun w => absurd z w)
  · exact dk_yfourth hD hK (fun w => absurd w z) (fun _ sa ma kn cc tb hK => ⟨rfl, dk_mk ⟨hD, hP, hr, Or.inr ⟨rfl, hT⟩, hK⟩⟩)
end
section
/-! keys, key, closed, corners -/
theorem dk_sdx (x i : Nat) : dk_sd x (2 ^ i) = x ↔ x.testBit i = false := by
  constructor
  · intro h
    have t : (dk_sd x (2 ^ i)).testBit i = x.testBit i := by rw [h]
    rw [dk_tsd, Nat.testBit_two_pow_self] at t
    simpa using t.symm
  · intro h
    apply Nat.eq_of_testBit_eq
    intro j
    rw [dk_tsd, dk_tp]
    by_cases e : i = j
    · subst e; rw [h]; rfl
    · rw [decide_eq_false e]; simp
section
variable {f_count f_partCount f_rowCount f_same : Int32} {a_lefts a_rights a_bundled a_parts a_cells a_known a_closures a_stemSets a_symbols : Nat → Int32} {f_made : Int64} {a_tables : Nat → Int64}
variable {L R : Nat → Nat} {B : Nat → Bool}
theorem dk_yisKeyOf {post : Int32 → SY → Prop} {m x s : Nat} (hx : x < 64) (hs : s < 64) (hD : dk_DP m L R B a_lefts a_rights a_bundled) (hK : dk_KN m L R B a_known a_closures a_tables)
    (p1 : dk_kyo (dk_cf (dk_Al m) L R B) x s → ∀ sa ma kn cc tb, dk_KN m L R B kn cc tb → post 1 (nI m, f_partCount, f_rowCount, sa, ma, a_lefts, a_rights, a_bundled, a_parts, a_cells, kn, cc, tb, a_stemSets, a_symbols))
    (p0 : ¬ dk_kyo (dk_cf (dk_Al m) L R B) x s → ∀ sa ma kn cc tb, dk_KN m L R B kn cc tb → post 0 (nI m, f_partCount, f_rowCount, sa, ma, a_lefts, a_rights, a_bundled, a_parts, a_cells, kn, cc, tb, a_stemSets, a_symbols)) :
    wpY_isKeyOf post (nI m, f_partCount, f_rowCount, f_same, f_made, a_lefts, a_rights, a_bundled, a_parts, a_cells, a_known, a_closures, a_tables, a_stemSets, a_symbols) (nI x) (nI s) := by
  unfold wpY_isKeyOf
  refine dk_if (by rw [dk_not]; exact (dk_z (dk_sd_lt hx)).trans dk_sd0) (fun z => ?_) (fun z => p0 (fun q => z q.1) _ _ _ _ _ hK)
  refine dk_yclosureOf hx hD hK (fun sa ma kn cc tb hK => ?_)
  refine dk_if (by rw [dk_not]; exact (dk_z (dk_sd_lt hs)).trans dk_sd0) (fun w => ?_) (fun w => p0 (fun q => w q.2.1) _ _ _ _ _ hK)
  have lp : ∀ e i, i + e = 6 → ∀ sa ma kn cc tb, dk_KN m L R B kn cc tb → (∀ j, j < i → x.testBit j = true → ¬ dk_su s (dk_cf (dk_Al m) L R B (dk_sd x (2 ^ j)))) →
      wY_isKeyOf_24 post (nI x) (nI s) (e + 1) (nI i) (nI m) f_partCount f_rowCount sa ma a_lefts a_rights a_bundled a_parts a_cells kn cc tb a_stemSets a_symbols := by
    intro e
    induction e with
    | zero =>
      intro i hi sa ma kn cc tb hK h
      have ei : i = 6 := by omega
      subst ei
      exact br_t (by decide) (p1 ⟨z, w, h⟩ _ _ _ _ _ hK)
    | succ e ih =>
      intro i hi sa ma kn cc tb hK h
      have l64 : dk_sd x (2 ^ i) < 64 := dk_sd_lt hx
      refine br_f (nI_ge (b := 6) (by omega) (by decide)) (nm_r (e' := nI (dk_sd x (2 ^ i))) (by rw [dk_sh i (by omega), dk_not]) ?_)
      refine dk_if ((dk_e l64 hx).trans (dk_sdx x i)) (fun v => nm_r (nI_1 i) (ih (i + 1) (by omega) sa ma kn cc tb hK (lt_s h (fun q => by rw [v] at q; cases q)))) (fun v => ?_)
      refine dk_yclosureOf l64 hD hK (fun sa ma kn cc tb hK => ?_)
      refine dk_if (by rw [dk_not]; exact (dk_z (dk_sd_lt hs)).trans dk_sd0) (fun y => p0 (fun q => ?_) _ _ _ _ _ hK) (fun y => nm_r (nI_1 i) (ih (i + 1) (by omega) sa ma kn cc tb hK (lt_s h (fun _ => y))))
      have t : x.testBit i = true := by cases f : x.testBit i; exact absurd f v; rfl
      exact q.2.2 i (by omega) t y
  exact ⟨_, lp 6 0 (by omega) sa ma kn cc tb hK lt_0⟩
theorem dk_ykeys {post : Int32 → SY → Prop} {m : Nat} (hD : dk_DP m L R B a_lefts a_rights a_bundled) (hK : dk_KN m L R B a_known a_closures a_tables)
    (p : ∀ sa ma kn cc tb, dk_KN m L R B kn cc tb → post (nI (dk_cn (fun x => dk_kyo (dk_cf (dk_Al m) L R B) x 63) 64)) (nI m, f_partCount, f_rowCount, sa, ma, a_lefts, a_rights, a_bundled, a_parts, a_cells, kn, cc, tb, a_stemSets, a_symbols)) :
    wpY_keys post (nI m, f_partCount, f_rowCount, f_same, f_made, a_lefts, a_rights, a_bundled, a_parts, a_cells, a_known, a_closures, a_tables, a_stemSets, a_symbols) := by
  have lp : ∀ e i, i + e = 64 → ∀ sa ma kn cc tb, dk_KN m L R B kn cc tb → wY_keys_4 post (e + 1) (nI (dk_cn (fun x => dk_kyo (dk_cf (dk_Al m) L R B) x 63) i)) (nI i) (nI m) f_partCount f_rowCount sa ma a_lefts a_rights a_bundled a_parts a_cells kn cc tb a_stemSets a_symbols := by
    intro e
    induction e with
    | zero =>
      intro i hi sa ma kn cc tb hK
      have ei : i = 64 := by omega
      subst ei
      exact br_t (by decide) (p _ _ _ _ _ hK)
    | succ e ih =>
      intro i hi sa ma kn cc tb hK
      refine br_f (nI_ge (b := 64) (by omega) (by decide)) ?_
      refine dk_yisKeyOf (s := 63) (by omega) (by decide) hD hK (fun z sa ma kn cc tb hK => br_f (by decide) (nm_r (by rw [nI_1, ← dk_cn_t (P := fun x => dk_kyo (dk_cf (dk_Al m) L R B) x 63) z]) (nm_r (nI_1 i) (ih (i + 1) (by omega) sa ma kn cc tb hK)))) (fun z sa ma kn cc tb hK => br_t rfl (nm_r (nI_1 i) ?_))
      have := ih (i + 1) (by omega) sa ma kn cc tb hK
      rw [dk_cn_f (P := fun x => dk_kyo (dk_cf (dk_Al m) L R B) x 63) z] at this
      exact this
  exact ⟨_, lp 64 0 (by omega) _ _ _ _ _ hK⟩
theorem dk_ykey {post : Int32 → SY → Prop} {m : Nat} {v : Int32} (hD : dk_DP m L R B a_lefts a_rights a_bundled) (hK : dk_KN m L R B a_known a_closures a_tables)
    (pf : ∀ x, x < 64 → dk_kyo (dk_cf (dk_Al m) L R B) x 63 → v = nI (dk_cn (fun x => dk_kyo (dk_cf (dk_Al m) L R B) x 63) x) → ∀ sa ma kn cc tb, dk_KN m L R B kn cc tb → post (nI x) (nI m, f_partCount, f_rowCount, sa, ma, a_lefts, a_rights, a_bundled, a_parts, a_cells, kn, cc, tb, a_stemSets, a_symbols))
    (pn : (∀ x, x < 64 → dk_kyo (dk_cf (dk_Al m) L R B) x 63 → v ≠ nI (dk_cn (fun x => dk_kyo (dk_cf (dk_Al m) L R B) x 63) x)) → ∀ sa ma kn cc tb, dk_KN m L R B kn cc tb → post (-3) (nI m, f_partCount, f_rowCount, sa, ma, a_lefts, a_rights, a_bundled, a_parts, a_cells, kn, cc, tb, a_stemSets, a_symbols)) :
    wpY_key post (nI m, f_partCount, f_rowCount, f_same, f_made, a_lefts, a_rights, a_bundled, a_parts, a_cells, a_known, a_closures, a_tables, a_stemSets, a_symbols) v := by
  have lp : ∀ e i, i + e = 64 → ∀ sa ma kn cc tb, dk_KN m L R B kn cc tb → (∀ x, x < i → dk_kyo (dk_cf (dk_Al m) L R B) x 63 → v ≠ nI (dk_cn (fun x => dk_kyo (dk_cf (dk_Al m) L R B) x 63) x)) →
      wY_key_4 post v (e + 1) (nI (dk_cn (fun x => dk_kyo (dk_cf (dk_Al m) L R B) x 63) i)) (nI i) (nI m) f_partCount f_rowCount sa ma a_lefts a_rights a_bundled a_parts a_cells kn cc tb a_stemSets a_symbols := by
    intro e
    induction e with
    | zero =>
      intro i hi sa ma kn cc tb hK h
      have ei : i = 64 := by omega
      subst ei
      exact br_t (by decide) (pn h _ _ _ _ _ hK)
    | succ e ih =>
      intro i hi sa ma kn cc tb hK h
      refine br_f (nI_ge (b := 64) (by omega) (by decide)) ?_
      refine dk_yisKeyOf (s := 63) (by omega) (by decide) hD hK (fun z sa ma kn cc tb hK => br_f (by decide) (br_c (fun w => pf i (by omega) z w.symm _ _ _ _ _ hK) (fun w => nm_r (by rw [nI_1, ← dk_cn_t (P := fun x => dk_kyo (dk_cf (dk_Al m) L R B) x 63) z]) (nm_r (nI_1 i) (ih (i + 1) (by omega) sa ma kn cc tb hK (lt_s h (fun _ q => w q.symm))))))) (fun z sa ma kn cc tb hK => br_t rfl (nm_r (nI_1 i) ?_))
      have := ih (i + 1) (by omega) sa ma kn cc tb hK (lt_s h (fun q => absurd q z))
      rw [dk_cn_f (P := fun x => dk_kyo (dk_cf (dk_Al m) L R B) x 63) z] at this
      exact this
  exact ⟨_, lp 64 0 (by omega) _ _ _ _ _ hK lt_0⟩
theorem dk_yclosed {post : Int32 → SY → Prop} {m : Nat} (hD : dk_DP m L R B a_lefts a_rights a_bundled) (hK : dk_KN m L R B a_known a_closures a_tables)
    (p : ∀ sa ma kn cc tb, dk_KN m L R B kn cc tb → post (nI (dk_cn (fun x => dk_cf (dk_Al m) L R B x = x) 64)) (nI m, f_partCount, f_rowCount, sa, ma, a_lefts, a_rights, a_bundled, a_parts, a_cells, kn, cc, tb, a_stemSets, a_symbols)) :
    wpY_closed post (nI m, f_partCount, f_rowCount, f_same, f_made, a_lefts, a_rights, a_bundled, a_parts, a_cells, a_known, a_closures, a_tables, a_stemSets, a_symbols) := by
  have lp : ∀ e i, i + e = 64 → ∀ sa ma kn cc tb, dk_KN m L R B kn cc tb → wY_closed_4 post (e + 1) (nI (dk_cn (fun x => dk_cf (dk_Al m) L R B x = x) i)) (nI i) (nI m) f_partCount f_rowCount sa ma a_lefts a_rights a_bundled a_parts a_cells kn cc tb a_stemSets a_symbols := by
    intro e
    induction e with
    | zero =>
      intro i hi sa ma kn cc tb hK
      have ei : i = 64 := by omega
      subst ei
      exact br_t (by decide) (p _ _ _ _ _ hK)
    | succ e ih =>
      intro i hi sa ma kn cc tb hK
      have i64 : i < 64 := by omega
      refine br_f (nI_ge (b := 64) (by omega) (by decide)) ?_
      refine dk_yclosureOf i64 hD hK (fun sa ma kn cc tb hK => dk_if (dk_e (dk_cf64 i64) i64) (fun z => nm_r (by rw [nI_1, ← dk_cn_t (P := fun x => dk_cf (dk_Al m) L R B x = x) z]) (nm_r (nI_1 i) (ih (i + 1) (by omega) sa ma kn cc tb hK))) (fun z => nm_r (nI_1 i) ?_))
      have := ih (i + 1) (by omega) sa ma kn cc tb hK
      rw [dk_cn_f (P := fun x => dk_cf (dk_Al m) L R B x = x) z] at this
      exact this
  exact ⟨_, lp 64 0 (by omega) _ _ _ _ _ hK⟩
end
section
variable {f_count f_counting f_blocks f_isStudied f_stemCount f_keyCount f_partCount f_rows : Int32} {a_leftSide a_rightSide a_isBundled a_block a_closureOf a_stemSet a_isStem a_keySet a_partSet a_symbol a_cells a_classOf a_classes a_agreement : Nat → Int32}
variable {c : Nat → Nat}
theorem dk_xclosed8 {post : Int32 → SX → Prop} (hc : dk_CO c) (hcl : ∀ x, x < 64 → a_closureOf x = nI (c x)) (p : post (nI (dk_cn (fun x => c x = x) 64)) (f_count, f_counting, f_blocks, f_isStudied, f_stemCount, f_keyCount, f_partCount, f_rows, a_leftSide, a_rightSide, a_isBundled, a_block, a_closureOf, a_stemSet, a_isStem, a_keySet, a_partSet, a_symbol, a_cells, a_classOf, a_classes, a_agreement)) :
    ∃ n, wX_closed_8 post f_count f_counting f_blocks f_isStudied f_stemCount f_keyCount f_partCount f_rows a_leftSide a_rightSide a_isBundled a_block a_closureOf a_stemSet a_isStem a_keySet a_partSet a_symbol a_cells a_classOf a_classes a_agreement n 0 0 := by
  have lp : ∀ e i, i + e = 64 → wX_closed_8 post f_count f_counting f_blocks f_isStudied f_stemCount f_keyCount f_partCount f_rows a_leftSide a_rightSide a_isBundled a_block a_closureOf a_stemSet a_isStem a_keySet a_partSet a_symbol a_cells a_classOf a_classes a_agreement (e + 1) (nI (dk_cn (fun x => c x = x) i)) (nI i) := by
    intro e
    induction e with
    | zero =>
      intro i hi
      have ei : i = 64 := by omega
      subst ei
      exact br_t (by decide) p
    | succ e ih =>
      intro i hi
      have i64 : i < 64 := by omega
      refine br_f (nI_ge (b := 64) (by omega) (by decide)) ⟨vp_in_nI i64 (by decide), ?_⟩
      rw [dk_cl (by omega : i < 1000), hcl i i64]
      refine dk_if (dk_e (hc i i64).1 i64) (fun z => nm_r (by rw [nI_1, ← dk_cn_t (P := fun x => c x = x) z]) (nm_r (nI_1 i) (ih (i + 1) (by omega)))) (fun z => nm_r (nI_1 i) ?_)
      have := ih (i + 1) (by omega)
      rw [dk_cn_f (P := fun x => c x = x) z] at this
      exact this
  exact ⟨_, lp 64 0 (by omega)⟩
end
/-- corners: what the closed sets above x have in common is more than x -/
def dk_cm (c : Nat → Nat) (x j : Nat) : Prop := ∀ y, y < 64 → y ≠ x → dk_su x y → c y = y → y.testBit j = true
def dk_cor (c : Nat → Nat) (x : Nat) : Prop := ∃ j, j < 6 ∧ dk_cm c x j ∧ x.testBit j = false
theorem dk_cm_x {c : Nat → Nat} {x j : Nat} (hc : dk_CO c) (hx : x < 64) : dk_cm c x j ↔ ∀ i, i < 6 → x.testBit i = false → (c (x ||| 2 ^ i)).testBit j = true := by
  constructor
  · intro h i hi hf
    have l64 := dk_or_lt hx (dk_pw hi)
    obtain ⟨c1, c2, c3, c4⟩ := hc _ l64
    refine h _ c1 (fun q => ?_) (fun t ht => c2 t (by rw [Nat.testBit_or, ht]; rfl)) c3
    have := c2 i (by rw [Nat.testBit_or, Nat.testBit_two_pow_self, Bool.or_true])
    rw [q, hf] at this; cases this
  · intro h y hy hn hs hcy
    obtain ⟨i, i1, i2⟩ := dk_nsu (fun q : dk_su y x => hn (dk_su_eq q hs))
    have i6 := dk_lo hy i1
    have := (hc _ (dk_or_lt hx (dk_pw i6))).2.2.2 y hy (fun t ht => by
      rw [Nat.testBit_or, Bool.or_eq_true, dk_tp, decide_eq_true_iff] at ht
      rcases ht with z | z
      · exact hs t z
      · subst z; exact i1)
    rw [hcy] at this
    exact this j (h i i6 i2)
theorem dk_cor_e {c : Nat → Nat} {x out : Nat} (hx : x < 64) (ho : ∀ j, out.testBit j = true ↔ (j < 6 ∧ dk_cm c x j)) : out = x ↔ ¬ dk_cor c x := by
  constructor
  · rintro rfl ⟨j, j1, j2, j3⟩
    rw [(ho j).mpr ⟨j1, j2⟩] at j3; cases j3
  · intro h
    apply dk_su_eq
    · intro j hj
      obtain ⟨j1, j2⟩ := (ho j).mp hj
      cases e : x.testBit j
      · exact absurd ⟨j, j1, j2, e⟩ h
      · rfl
    · intro j hj
      exact (ho j).mpr ⟨dk_lo hx hj, fun y hy hn hs _ => hs j hj⟩
section
variable {f_count f_counting f_blocks f_isStudied f_stemCount f_keyCount f_partCount f_rows : Int32} {a_leftSide a_rightSide a_isBundled a_block a_closureOf a_stemSet a_isStem a_keySet a_partSet a_symbol a_cells a_classOf a_classes a_agreement : Nat → Int32}
variable {c : Nat → Nat}
theorem dk_xisCorner {post : Int32 → Prop} {x : Nat} (hc : dk_CO c) (hx : x < 64) (hcl : ∀ x, x < 64 → a_closureOf x = nI (c x))
    (p1 : dk_cor c x → post 1) (p0 : ¬ dk_cor c x → post 0) : wpX_isCorner post (f_count, f_counting, f_blocks, f_isStudied, f_stemCount, f_keyCount, f_partCount, f_rows, a_leftSide, a_rightSide, a_isBundled, a_block, a_closureOf, a_stemSet, a_isStem, a_keySet, a_partSet, a_symbol, a_cells, a_classOf, a_classes, a_agreement) (nI x) := by
  have lp : ∀ e i out, i + e = 6 → (∀ j, out.testBit j = true ↔ (j < 6 ∧ ∀ t, t < i → x.testBit t = false → (c (x ||| 2 ^ t)).testBit j = true)) →
      wX_isCorner_5 post (nI x) f_count f_counting f_blocks f_isStudied f_stemCount f_keyCount f_partCount f_rows a_leftSide a_rightSide a_isBundled a_block a_closureOf a_stemSet a_isStem a_keySet a_partSet a_symbol a_cells a_classOf a_classes a_agreement (e + 1) (nI out) (nI i) := by
    intro e
    induction e with
    | zero =>
      intro i out hi h
      have ei : i = 6 := by omega
      subst ei
      have ho : ∀ j, out.testBit j = true ↔ (j < 6 ∧ dk_cm c x j) := fun j => by rw [h, dk_cm_x hc hx]
      have o64 : out < 64 := dk_lt (fun j hj => ((ho j).mp hj).1)
      refine br_t (by decide) (dk_if ((dk_e o64 hx).trans (dk_cor_e hx ho)) (fun z => p0 z) (fun z => p1 (Classical.not_not.mp z)))
    | succ e ih =>
      intro i out hi h
      refine br_f (nI_ge (b := 6) (by omega) (by decide)) (dk_if (dk_b0 (by omega) (by omega)) (fun z => ?_) (fun z => nm_r (nI_1 i) (ih (i + 1) out (by omega) (fun j => ?_))))
      · have l64 := dk_or_lt hx (dk_pw (c := i) (by omega))
        rw [dk_sh i (by omega), dk_or, dk_cl (by omega : x ||| 2 ^ i < 1000), hcl _ l64]
        refine ⟨vp_in_nI l64 (by decide), nm_r (dk_and _ _) (nm_r (nI_1 i) (ih (i + 1) _ (by omega) (fun j => ?_)))⟩
        rw [Nat.testBit_and, Bool.and_eq_true, h]
        constructor
        · rintro ⟨⟨a, b⟩, d⟩; exact ⟨a, lt_s b (fun _ => d)⟩
        · rintro ⟨a, b⟩; exact ⟨⟨a, fun t ht => b t (by omega)⟩, b i (by omega) z⟩
      · rw [h]
        constructor
        · rintro ⟨a, b⟩; exact ⟨a, lt_s b (fun q => absurd q z)⟩
        · rintro ⟨a, b⟩; exact ⟨a, fun t ht => b t (by omega)⟩
  exact ⟨_, lp 6 0 63 (by omega) (fun j => by rw [dk_63, decide_eq_true_iff]; exact ⟨fun z => ⟨z, lt_0⟩, fun z => z.1⟩)⟩
theorem dk_xcorners8 {post : Int32 → SX → Prop} (hc : dk_CO c) (hcl : ∀ x, x < 64 → a_closureOf x = nI (c x)) (p : post (nI (dk_cn (fun x => c x = x ∧ dk_cor c x) 63)) (f_count, f_counting, f_blocks, f_isStudied, f_stemCount, f_keyCount, f_partCount, f_rows, a_leftSide, a_rightSide, a_isBundled, a_block, a_closureOf, a_stemSet, a_isStem, a_keySet, a_partSet, a_symbol, a_cells, a_classOf, a_classes, a_agreement)) :
    ∃ n, wX_corners_8 post f_count f_counting f_blocks f_isStudied f_stemCount f_keyCount f_partCount f_rows a_leftSide a_rightSide a_isBundled a_block a_closureOf a_stemSet a_isStem a_keySet a_partSet a_symbol a_cells a_classOf a_classes a_agreement n 0 0 := by
  have lp : ∀ e i, i + e = 63 → wX_corners_8 post f_count f_counting f_blocks f_isStudied f_stemCount f_keyCount f_partCount f_rows a_leftSide a_rightSide a_isBundled a_block a_closureOf a_stemSet a_isStem a_keySet a_partSet a_symbol a_cells a_classOf a_classes a_agreement (e + 1) (nI (dk_cn (fun x => c x = x ∧ dk_cor c x) i)) (nI i) := by
    intro e
    induction e with
    | zero =>
      intro i hi
      have ei : i = 63 := by omega
      subst ei
      exact br_t (by decide) p
    | succ e ih =>
      intro i hi
      have i64 : i < 64 := by omega
      have no : ¬ (c i = i ∧ dk_cor c i) → wX_corners_8 post f_count f_counting f_blocks f_isStudied f_stemCount f_keyCount f_partCount f_rows a_leftSide a_rightSide a_isBundled a_block a_closureOf a_stemSet a_isStem a_keySet a_partSet a_symbol a_cells a_classOf a_classes a_agreement (e + 1) (nI (dk_cn (fun x => c x = x ∧ dk_cor c x) i)) (nI (i + 1)) := fun z => by
        have := ih (i + 1) (by omega)
        rw [dk_cn_f (P := fun x => c x = x ∧ dk_cor c x) z] at this
        exact this
      refine br_f (nI_ge (b := 63) (by omega) (by decide)) ⟨vp_in_nI i64 (by decide), ?_⟩
      rw [dk_cl (by omega : i < 1000), hcl i i64]
      refine dk_if (dk_e (hc i i64).1 i64) (fun z => ?_) (fun z => nm_r (nI_1 i) (no (fun q => z q.1)))
      exact dk_xisCorner hc i64 hcl (fun w => br_f (by decide) (nm_r (by rw [nI_1, ← dk_cn_t (P := fun x => c x = x ∧ dk_cor c x) ⟨z, w⟩]) (nm_r (nI_1 i) (ih (i + 1) (by omega))))) (fun w => br_t rfl (nm_r (nI_1 i) (no (fun q => w q.2))))
  exact ⟨_, lp 63 0 (by omega)⟩
end
section
variable {f_count f_partCount f_rowCount f_same : Int32} {a_lefts a_rights a_bundled a_parts a_cells a_known a_closures a_stemSets a_symbols : Nat → Int32} {f_made : Int64} {a_tables : Nat → Int64}
variable {L R : Nat → Nat} {B : Nat → Bool}
theorem dk_yisCorner {post : Int32 → SY → Prop} {m x : Nat} (hx : x < 64) (hD : dk_DP m L R B a_lefts a_rights a_bundled) (hK : dk_KN m L R B a_known a_closures a_tables)
    (p1 : (dk_cf (dk_Al m) L R B x = x ∧ dk_cor (dk_cf (dk_Al m) L R B) x) → ∀ sa ma kn cc tb, dk_KN m L R B kn cc tb → post 1 (nI m, f_partCount, f_rowCount, sa, ma, a_lefts, a_rights, a_bundled, a_parts, a_cells, kn, cc, tb, a_stemSets, a_symbols))
    (p0 : ¬ (dk_cf (dk_Al m) L R B x = x ∧ dk_cor (dk_cf (dk_Al m) L R B) x) → ∀ sa ma kn cc tb, dk_KN m L R B kn cc tb → post 0 (nI m, f_partCount, f_rowCount, sa, ma, a_lefts, a_rights, a_bundled, a_parts, a_cells, kn, cc, tb, a_stemSets, a_symbols)) :
    wpY_isCorner post (nI m, f_partCount, f_rowCount, f_same, f_made, a_lefts, a_rights, a_bundled, a_parts, a_cells, a_known, a_closures, a_tables, a_stemSets, a_symbols) (nI x) := by
  have lp : ∀ e i out, i + e = 64 → ∀ sa ma kn cc tb, dk_KN m L R B kn cc tb → (∀ j, out.testBit j = true ↔ (j < 6 ∧ ∀ y, y < i → y ≠ x → dk_su x y → dk_cf (dk_Al m) L R B y = y → y.testBit j = true)) →
      wY_isCorner_5 post (nI x) (e + 1) (nI out) (nI i) (nI m) f_partCount f_rowCount sa ma a_lefts a_rights a_bundled a_parts a_cells kn cc tb a_stemSets a_symbols := by
    intro e
    induction e with
    | zero =>
      intro i out hi sa ma kn cc tb hK h
      have ei : i = 64 := by omega
      subst ei
      have ho : ∀ j, out.testBit j = true ↔ (j < 6 ∧ dk_cm (dk_cf (dk_Al m) L R B) x j) := h
      have o64 : out < 64 := dk_lt (fun j hj => ((ho j).mp hj).1)
      refine br_t (by decide) ?_
      refine dk_yclosureOf hx hD hK (fun sa ma kn cc tb hK => dk_if (dk_e (dk_cf64 hx) hx) (fun z => ?_) (fun z => p0 (fun q => z q.1) _ _ _ _ _ hK))
      exact dk_if ((dk_e o64 hx).trans (dk_cor_e hx ho)) (fun w => p0 (fun q => w q.2) _ _ _ _ _ hK) (fun w => p1 ⟨z, Classical.not_not.mp w⟩ _ _ _ _ _ hK)
    | succ e ih =>
      intro i out hi sa ma kn cc tb hK h
      have i64 : i < 64 := by omega
      have no : (¬ (i ≠ x ∧ dk_su x i ∧ dk_cf (dk_Al m) L R B i = i)) → ∀ sa ma kn cc tb, dk_KN m L R B kn cc tb → wY_isCorner_5 post (nI x) (e + 1) (nI out) (nI (i + 1)) (nI m) f_partCount f_rowCount sa ma a_lefts a_rights a_bundled a_parts a_cells kn cc tb a_stemSets a_symbols := by
        intro q sa ma kn cc tb hK
        refine ih (i + 1) out (by omega) sa ma kn cc tb hK (fun j => ?_)
        rw [h]
        constructor
        · rintro ⟨a, b⟩; exact ⟨a, lt_s b (fun r s t => absurd ⟨r, s, t⟩ q)⟩
        · rintro ⟨a, b⟩; exact ⟨a, fun t ht => b t (by omega)⟩
      refine br_f (nI_ge (b := 64) (by omega) (by decide)) (dk_if (dk_e i64 hx) (fun z => br_t rfl (nm_r (nI_1 i) (no (fun q => q.1 z) _ _ _ _ _ hK))) (fun z => ?_))
      refine dk_if (by rw [dk_not]; exact (dk_z (dk_sd_lt hx)).trans dk_sd0) (fun w => ?_) (fun w => br_t rfl (nm_r (nI_1 i) (no (fun q => w q.2.1) _ _ _ _ _ hK)))
      refine dk_yclosureOf i64 hD hK (fun sa ma kn cc tb hK => dk_if (dk_e (dk_cf64 i64) i64) (fun v => br_f (by decide) (nm_r (dk_and _ _) (nm_r (nI_1 i) (ih (i + 1) _ (by omega) sa ma kn cc tb hK (fun j => ?_))))) (fun v => br_t rfl (nm_r (nI_1 i) (no (fun q => v q.2.2) _ _ _ _ _ hK))))
      rw [Nat.testBit_and, Bool.and_eq_true, h]
      constructor
      · rintro ⟨⟨a, b⟩, d⟩; exact ⟨a, lt_s b (fun _ _ _ => d)⟩
      · rintro ⟨a, b⟩; exact ⟨⟨a, fun t ht => b t (by omega)⟩, b i (by omega) z w v⟩
  exact ⟨_, lp 64 0 63 (by omega) _ _ _ _ _ hK (fun j => by rw [dk_63, decide_eq_true_iff]; exact ⟨fun z => ⟨z, lt_0⟩, fun z => z.1⟩)⟩
theorem dk_ycorners {post : Int32 → SY → Prop} {m : Nat} (hD : dk_DP m L R B a_lefts a_rights a_bundled) (hK : dk_KN m L R B a_known a_closures a_tables)
    (p : ∀ sa ma kn cc tb, dk_KN m L R B kn cc tb → post (nI (dk_cn (fun x => dk_cf (dk_Al m) L R B x = x ∧ dk_cor (dk_cf (dk_Al m) L R B) x) 63)) (nI m, f_partCount, f_rowCount, sa, ma, a_lefts, a_rights, a_bundled, a_parts, a_cells, kn, cc, tb, a_stemSets, a_symbols)) :
    wpY_corners post (nI m, f_partCount, f_rowCount, f_same, f_made, a_lefts, a_rights, a_bundled, a_parts, a_cells, a_known, a_closures, a_tables, a_stemSets, a_symbols) := by
  have lp : ∀ e i, i + e = 63 → ∀ sa ma kn cc tb, dk_KN m L R B kn cc tb → wY_corners_4 post (e + 1) (nI (dk_cn (fun x => dk_cf (dk_Al m) L R B x = x ∧ dk_cor (dk_cf (dk_Al m) L R B) x) i)) (nI i) (nI m) f_partCount f_rowCount sa ma a_lefts a_rights a_bundled a_parts a_cells kn cc tb a_stemSets a_symbols := by
    intro e
    induction e with
    | zero =>
      intro i hi sa ma kn cc tb hK
      have ei : i = 63 := by omega
      subst ei
      exact br_t (by decide) (p _ _ _ _ _ hK)
    | succ e ih =>
      intro i hi sa ma kn cc tb hK
      refine br_f (nI_ge (b := 63) (by omega) (by decide)) ?_
      refine dk_yisCorner (by omega) hD hK (fun z sa ma kn cc tb hK => br_f (by decide) (nm_r (by rw [nI_1, ← dk_cn_t (P := fun x => dk_cf (dk_Al m) L R B x = x ∧ dk_cor (dk_cf (dk_Al m) L R B) x) z]) (nm_r (nI_1 i) (ih (i + 1) (by omega) sa ma kn cc tb hK)))) (fun z sa ma kn cc tb hK => br_t rfl (nm_r (nI_1 i) ?_))
      have := ih (i + 1) (by omega) sa ma kn cc tb hK
      rw [dk_cn_f (P := fun x => dk_cf (dk_Al m) L R B x = x ∧ dk_cor (dk_cf (dk_Al m) L R B) x) z] at this
      exact this
  exact ⟨_, lp 63 0 (by omega) _ _ _ _ _ hK⟩
end
theorem i_vc_keys {k : Nat} {u : SX} {v : SY} (I : i_Rel k u v) (hk : k + 4 ≤ 2048) : wpX_keys (fun r u' => wpY_keys (fun r' v' => r' = r ∧ i_Rel (k + 4) u' v') v) u := by
  refine dk_el (Q := fun u v => wpX_keys (fun r u' => wpY_keys (fun r' v' => r' = r ∧ i_Rel (k + 4) u' v') v) u) ?_ I
  intro m pn rn L R P B co bo sd sc kc al ar abd ab clo ss ism ks ap sy ce cof cls agr sa ma kn cc tb sts sys hf
  have hf' := hf
  obtain ⟨hD, hP, hr, hS, hK⟩ := hf
  unfold wpX_keys
  refine dk_xstudy hD hS (fun co bo sc kc ab clo ss ism ks hT => ?_)
  refine dk_ykeys hD hK (fun sa ma kn cc tb hK => ⟨?_, dk_mk ⟨hD, hP, hr, Or.inr ⟨rfl, hT⟩, hK⟩⟩)
  obtain ⟨_, _, _, n, ksn, e1, e2, e3, e4⟩ := hT
  rw [e1]
  congr 1
  exact dk_rank_all e2.2 (fun x hx => ⟨e4 x hx, fun ⟨k, k1, k2⟩ => by rw [← k2]; exact (e2.1 k k1).2⟩) (fun k hk => (e2.1 k hk).1)
theorem i_vc_closed {k : Nat} {u : SX} {v : SY} (I : i_Rel k u v) (hk : k + 4 ≤ 2048) : wpX_closed (fun r u' => wpY_closed (fun r' v' => r' = r ∧ i_Rel (k + 4) u' v') v) u := by
  refine dk_el (Q := fun u v => wpX_closed (fun r u' => wpY_closed (fun r' v' => r' = r ∧ i_Rel (k + 4) u' v') v) u) ?_ I
  intro m pn rn L R P B co bo sd sc kc al ar abd ab clo ss ism ks ap sy ce cof cls agr sa ma kn cc tb sts sys hf
  have hf' := hf
  obtain ⟨hD, hP, hr, hS, hK⟩ := hf
  unfold wpX_closed
  refine dk_xstudy hD hS (fun co bo sc kc ab clo ss ism ks hT => ?_)
  exact dk_xclosed8 dk_cfO hT.1 (dk_yclosed hD hK (fun sa ma kn cc tb hK => ⟨rfl, dk_mk ⟨hD, hP, hr, Or.inr ⟨rfl, hT⟩, hK⟩⟩))
theorem i_vc_corners {k : Nat} {u : SX} {v : SY} (I : i_Rel k u v) (hk : k + 4 ≤ 2048) : wpX_corners (fun r u' => wpY_corners (fun r' v' => r' = r ∧ i_Rel (k + 4) u' v') v) u := by
  refine dk_el (Q := fun u v => wpX_corners (fun r u' => wpY_corners (fun r' v' => r' = r ∧ i_Rel (k + 4) u' v') v) u) ?_ I
  intro m pn rn L R P B co bo sd sc kc al ar abd ab clo ss ism ks ap sy ce cof cls agr sa ma kn cc tb sts sys hf
  have hf' := hf
  obtain ⟨hD, hP, hr, hS, hK⟩ := hf
  unfold wpX_corners
  refine dk_xstudy hD hS (fun co bo sc kc ab clo ss ism ks hT => ?_)
  exact dk_xcorners8 dk_cfO hT.1 (dk_ycorners hD hK (fun sa ma kn cc tb hK => ⟨rfl, dk_mk ⟨hD, hP, hr, Or.inr ⟨rfl, hT⟩, hK⟩⟩))
theorem i_vc_key {k : Nat} {u : SX} {v : SY} (I : i_Rel k u v) (hk : k + 4 ≤ 2048) (v1 : Int32) : wpX_key (fun r u' => wpY_key (fun r' v' => r' = r ∧ i_Rel (k + 4) u' v') v v1) u v1 := by
  refine dk_el (Q := fun u v => wpX_key (fun r u' => wpY_key (fun r' v' => r' = r ∧ i_Rel (k + 4) u' v') v v1) u v1) ?_ I
  intro m pn rn L R P B co bo sd sc kc al ar abd ab clo ss ism ks ap sy ce cof cls agr sa ma kn cc tb sts sys hf
  have hf' := hf
  obtain ⟨hD, hP, hr, hS, hK⟩ := hf
  unfold wpX_key
  refine dk_xstudy hD hS (fun co bo sc kc ab clo ss ism ks hT => ?_)
  have hT' := hT
  obtain ⟨_, _, _, n, ksn, e1, e2, e3, e4⟩ := hT
  have hp : ∀ x, x < 64 → (dk_kyo (dk_cf (dk_Al m) L R B) x 63 ↔ ∃ k, k < n ∧ ksn k = x) := fun x hx => ⟨e4 x hx, fun ⟨k, k1, k2⟩ => by rw [← k2]; exact (e2.1 k k1).2⟩
  have n20 := dk_KSle dk_cfO e2
  have rk : ∀ k, k < n → dk_cn (fun x => dk_kyo (dk_cf (dk_Al m) L R B) x 63) (ksn k) = k := fun k hk => dk_rank_k e2.2 hp hk (Nat.le_of_lt (e2.1 k hk).1)
  have no : (∀ j, j < n → v1 ≠ nI j) → wpY_key (fun r' v' => r' = -3 ∧ i_Rel (k + 4) (nI m, co, bo, 1, sc, kc, nI pn, nI rn, al, ar, abd, ab, clo, ss, ism, ks, ap, sy, ce, cof, cls, agr) v') (nI m, nI pn, nI rn, sa, ma, al, ar, abd, ap, ce, kn, cc, tb, sts, sys) v1 := by
    intro q
    refine dk_ykey hD hK (fun x hx hkx hv => ?_) (fun _ sa ma kn cc tb hK => ⟨rfl, dk_mk ⟨hD, hP, hr, Or.inr ⟨rfl, hT'⟩, hK⟩⟩)
    obtain ⟨j, j1, j2⟩ := e4 x hx hkx
    rw [← j2, rk j j1] at hv
    exact absurd hv (q j j1)
  subst e1
  by_cases h0 : v1 < 0
  · exact br_t h0 (no (fun j hj e => by subst e; exact nI_pos (by omega) h0))
  · refine br_f h0 ?_
    rcases pk_ix v1 (n := n) (by omega) with z | z | ⟨i, i1, rfl⟩
    · exact absurd z h0
    · exact br_f (Int32.not_lt.mpr z) (no (fun j hj e => by subst e; exact nI_ge hj (by omega) z))
    · refine br_t (nI_lt i1 (by omega)) ⟨vp_in_nI (by omega) (by decide), ?_⟩
      rw [dk_cl (by omega : i < 1000), e3 i i1]
      refine dk_ykey hD hK (fun x hx hkx hv sa ma kn cc tb hK => ⟨?_, dk_mk ⟨hD, hP, hr, Or.inr ⟨rfl, hT'⟩, hK⟩⟩) (fun q => ?_)
      · obtain ⟨j, j1, j2⟩ := e4 x hx hkx
        rw [← j2, rk j j1, nI_eq (by omega) (by omega)] at hv
        rw [← j2, hv]
      · exact absurd (by rw [rk i i1]) (q (ksn i) (e2.1 i i1).1 (e2.1 i i1).2)
end
section
/-! stems, stem -/
section
variable {f_count f_partCount f_rowCount f_same : Int32} {a_lefts a_rights a_bundled a_parts a_cells a_known a_closures a_stemSets a_symbols : Nat → Int32} {f_made : Int64} {a_tables : Nat → Int64}
variable {L R : Nat → Nat} {B : Nat → Bool}
theorem dk_yfindStems {post : SY → Prop} {m : Nat} (hD : dk_DP m L R B a_lefts a_rights a_bundled) (hK : dk_KN m L R B a_known a_closures a_tables)
    (p : ∀ sa ma kn cc tb sts, dk_KN m L R B kn cc tb → (∀ q, q < 64 → (sts q = 1 ∧ dk_st (dk_cf (dk_Al m) L R B) q) ∨ (sts q = 0 ∧ ¬ dk_st (dk_cf (dk_Al m) L R B) q)) → post (nI m, f_partCount, f_rowCount, sa, ma, a_lefts, a_rights, a_bundled, a_parts, a_cells, kn, cc, tb, sts, a_symbols)) :
    wpY_findStems post (nI m, f_partCount, f_rowCount, f_same, f_made, a_lefts, a_rights, a_bundled, a_parts, a_cells, a_known, a_closures, a_tables, a_stemSets, a_symbols) := by
  have lp30 : ∀ (J : Int32 → Int32 → Int32 → Int32 → Int32 → Int64 → (Nat → Int32) → (Nat → Int32) → (Nat → Int32) → (Nat → Int32) → (Nat → Int32) → (Nat → Int32) → (Nat → Int32) → (Nat → Int64) → (Nat → Int32) → (Nat → Int32) → Prop) (x : Nat), x < 64 →
      (∀ sa ma kn cc tb sts, dk_KN m L R B kn cc tb → (∀ q, q < x + 1 → (sts q = 1 ∧ dk_st (dk_cf (dk_Al m) L R B) q) ∨ (sts q = 0 ∧ ¬ dk_st (dk_cf (dk_Al m) L R B) q)) → J (nI (x + 1)) (nI m) f_partCount f_rowCount sa ma a_lefts a_rights a_bundled a_parts a_cells kn cc tb sts a_symbols) →
      ∀ e i, i + e = x → ∀ sa ma kn cc tb sts, dk_KN m L R B kn cc tb → (∀ q, q < x → (sts q = 1 ∧ dk_st (dk_cf (dk_Al m) L R B) q) ∨ (sts q = 0 ∧ ¬ dk_st (dk_cf (dk_Al m) L R B) q)) →
      ((sts x = 1 ∧ (dk_cf (dk_Al m) L R B x ≠ x ∧ ∀ q, q < i → dk_st (dk_cf (dk_Al m) L R B) q → dk_su q x → dk_su (dk_cf (dk_Al m) L R B q) x)) ∨ (sts x = 0 ∧ ¬ (dk_cf (dk_Al m) L R B x ≠ x ∧ ∀ q, q < x → dk_st (dk_cf (dk_Al m) L R B) q → dk_su q x → dk_su (dk_cf (dk_Al m) L R B q) x))) →
      wY_findStems_30 post J (nI x) (e + 1) (nI i) (nI m) f_partCount f_rowCount sa ma a_lefts a_rights a_bundled a_parts a_cells kn cc tb sts a_symbols := by
    intro J x hx hJ e
    have xin : vp_in (nI x) 64 := vp_in_nI hx (by decide)
    induction e with
    | zero =>
      intro i hi sa ma kn cc tb sts hK h1 h2
      have ei : i = x := by omega
      subst ei
      refine br_t (nI_le (Nat.le_refl _) (by omega)) (nm_r (nI_1 i) (hJ sa ma kn cc tb sts hK (lt_s h1 ?_)))
      rw [dk_st_e]; exact h2
    | succ e ih =>
      intro i hi sa ma kn cc tb sts hK h1 h2
      have i64 : i < 64 := by omega
      have iin : vp_in (nI i) 64 := vp_in_nI i64 (by decide)
      have ex : (nI x).toNatClampNeg = x := dk_cl (by omega)
      have set : ∀ (b : Bool) sa ma kn cc tb, dk_KN m L R B kn cc tb → ((b = true ∧ sts x = 1 ∧ (dk_st (dk_cf (dk_Al m) L R B) i → dk_su i x → dk_su (dk_cf (dk_Al m) L R B i) x)) ∨ (b = false ∧ (sts x = 0 ∨ (dk_st (dk_cf (dk_Al m) L R B) i ∧ dk_su i x ∧ ¬ dk_su (dk_cf (dk_Al m) L R B i) x)))) →
          wY_findStems_30 post J (nI x) (e + 1) (nI (i + 1)) (nI m) f_partCount f_rowCount sa ma a_lefts a_rights a_bundled a_parts a_cells kn cc tb (upd sts x (dk_bI b)) a_symbols := by
        intro b sa ma kn cc tb hK hb
        refine ih (i + 1) (by omega) sa ma kn cc tb _ hK (fun q hq => by rw [pk_un (by omega)]; exact h1 q hq) ?_
        rw [pk_us]
        rcases hb with ⟨rfl, b1, b2⟩ | ⟨rfl, b1⟩
        · rcases h2 with ⟨_, g1, g2⟩ | ⟨g, _⟩
          · exact Or.inl ⟨rfl, g1, lt_s g2 b2⟩
          · rw [b1] at g; exact absurd g (by decide)
        · refine Or.inr ⟨rfl, ?_⟩
          rcases b1 with b1 | ⟨b1, b2, b3⟩
          · rcases h2 with ⟨g, _⟩ | ⟨_, g⟩
            · rw [b1] at g; exact absurd g (by decide)
            · exact g
          · exact fun q => b3 (q.2 i (by omega) b1 b2)
      have n57 : (¬ (dk_st (dk_cf (dk_Al m) L R B) i ∧ dk_su i x)) → wY_findStems_56 post J (wY_findStems_30 post J (nI x) (e + 1)) (nI x) (nI i) (nI m) f_partCount f_rowCount sa ma a_lefts a_rights a_bundled a_parts a_cells kn cc tb sts a_symbols := by
        intro q
        refine ⟨xin, ?_⟩
        rw [ex]
        refine br_c (fun z => ⟨xin, nm_r (by first | rfl | (rw [ex]; rfl)) (nm_r (nI_1 i) (set false _ _ _ _ _ hK (Or.inr ⟨rfl, Or.inl z⟩)))⟩) (fun z => br_t rfl ⟨xin, nm_r (by first | rfl | (rw [ex]; rfl)) (nm_r (nI_1 i) (set true _ _ _ _ _ hK (Or.inl ⟨rfl, ?_, fun a b => absurd ⟨a, b⟩ q⟩)))⟩)
        rcases h2 with ⟨g, _⟩ | ⟨g, _⟩
        · exact g
        · exact absurd g z
      refine br_f (nI_ge (by omega) (by omega)) ⟨iin, ?_⟩
      rw [dk_cl (by omega : i < 1000)]
      rcases h1 i (by omega) with ⟨s1, s2⟩ | ⟨s1, s2⟩
      · refine br_f (by rw [s1]; decide) (dk_if (by rw [dk_not]; exact (dk_z (dk_sd_lt i64)).trans dk_sd0) (fun z => ⟨xin, ?_⟩) (fun z => n57 (fun q => z q.2)))
        rw [ex]
        refine br_c (fun w => ⟨xin, nm_r (by first | rfl | (rw [ex]; rfl)) (nm_r (nI_1 i) (set false _ _ _ _ _ hK (Or.inr ⟨rfl, Or.inl w⟩)))⟩) (fun w => br_f (by decide) ?_)
        have sx : sts x = 1 := by
          rcases h2 with ⟨g, _⟩ | ⟨g, _⟩
          · exact g
          · exact absurd g w
        refine dk_yclosureOf i64 hD hK (fun sa ma kn cc tb hK => dk_if (by rw [dk_not]; exact (dk_z (dk_sd_lt (dk_cf64 i64))).trans dk_sd0) (fun v => ⟨xin, nm_r (by first | rfl | (rw [ex]; rfl)) (nm_r (nI_1 i) (set true _ _ _ _ _ hK (Or.inl ⟨rfl, sx, fun _ _ => v⟩)))⟩) (fun v => ⟨xin, nm_r (by first | rfl | (rw [ex]; rfl)) (nm_r (nI_1 i) (set false _ _ _ _ _ hK (Or.inr ⟨rfl, Or.inr ⟨s2, z, v⟩⟩)))⟩))
      · exact br_t s1 (n57 (fun q => s2 q.1))
  have lp2 : ∀ e x, x + e = 64 → ∀ sa ma kn cc tb sts, dk_KN m L R B kn cc tb → (∀ q, q < x → (sts q = 1 ∧ dk_st (dk_cf (dk_Al m) L R B) q) ∨ (sts q = 0 ∧ ¬ dk_st (dk_cf (dk_Al m) L R B) q)) →
      wY_findStems_2 post (e + 1) (nI x) (nI m) f_partCount f_rowCount sa ma a_lefts a_rights a_bundled a_parts a_cells kn cc tb sts a_symbols := by
    intro e
    induction e with
    | zero =>
      intro x hx sa ma kn cc tb sts hK h
      have ex : x = 64 := by omega
      subst ex
      exact br_t (by decide) (p sa ma kn cc tb sts hK h)
    | succ e ih =>
      intro x hx sa ma kn cc tb sts hK h
      have x64 : x < 64 := by omega
      have xin : vp_in (nI x) 64 := vp_in_nI x64 (by decide)
      have ex : (nI x).toNatClampNeg = x := dk_cl (by omega)
      refine br_f (nI_ge (b := 64) (by omega) (by decide)) ?_
      refine dk_yclosureOf x64 hD hK (fun sa ma kn cc tb hK => dk_if (dk_e (dk_cf64 x64) x64) (fun z => ⟨xin, nm_r (by rw [ex]) ⟨_, lp30 _ x x64 (fun sa ma kn cc tb sts hK h => ih (x + 1) (by omega) sa ma kn cc tb sts hK h) x 0 (by omega) sa ma kn cc tb _ hK (fun q hq => by rw [pk_un (by omega)]; exact h q hq) ?_⟩⟩) (fun z => ⟨xin, nm_r (by rw [ex]) ⟨_, lp30 _ x x64 (fun sa ma kn cc tb sts hK h => ih (x + 1) (by omega) sa ma kn cc tb sts hK h) x 0 (by omega) sa ma kn cc tb _ hK (fun q hq => by rw [pk_un (by omega)]; exact h q hq) ?_⟩⟩))
      · rw [pk_us]; exact Or.inr ⟨dk_nb0, fun q => q.1 z⟩
      · rw [pk_us]; exact Or.inl ⟨dk_nb1, z, lt_0⟩
  exact ⟨_, lp2 64 0 (by omega) _ _ _ _ _ _ hK lt_0⟩
theorem dk_ystems8 {post : Int32 → SY → Prop} {Q : Nat → Prop} (h : ∀ q, q < 64 → (a_stemSets q = 1 ∧ Q q) ∨ (a_stemSets q = 0 ∧ ¬ Q q)) (p : post (nI (dk_cn Q 64)) (f_count, f_partCount, f_rowCount, f_same, f_made, a_lefts, a_rights, a_bundled, a_parts, a_cells, a_known, a_closures, a_tables, a_stemSets, a_symbols)) : ∃ n, wY_stems_8 post f_count f_partCount f_rowCount f_same f_made a_lefts a_rights a_bundled a_parts a_cells a_known a_closures a_tables a_stemSets a_symbols n 0 0 := by
  have lp : ∀ e i, i + e = 64 → wY_stems_8 post f_count f_partCount f_rowCount f_same f_made a_lefts a_rights a_bundled a_parts a_cells a_known a_closures a_tables a_stemSets a_symbols (e + 1) (nI (dk_cn Q i)) (nI i) := by
    intro e
    induction e with
    | zero =>
      intro i hi
      have ei : i = 64 := by omega
      subst ei
      exact br_t (by decide) p
    | succ e ih =>
      intro i hi
      refine br_f (nI_ge (b := 64) (by omega) (by decide)) ⟨vp_in_nI (by omega) (by decide), ?_⟩
      rw [dk_cl (by omega : i < 1000)]
      rcases h i (by omega) with ⟨s1, s2⟩ | ⟨s1, s2⟩
      · exact br_f (by rw [s1]; decide) (nm_r (by rw [nI_1, ← dk_cn_t (P := Q) s2]) (nm_r (nI_1 i) (ih (i + 1) (by omega))))
      · refine br_t s1 (nm_r (nI_1 i) ?_)
        have := ih (i + 1) (by omega)
        rw [dk_cn_f (P := Q) s2] at this
        exact this
  exact ⟨_, lp 64 0 (by omega)⟩
theorem dk_ystem8 {post : Int32 → SY → Prop} {Q : Nat → Prop} {v : Int32} (h : ∀ q, q < 64 → (a_stemSets q = 1 ∧ Q q) ∨ (a_stemSets q = 0 ∧ ¬ Q q))
    (pf : ∀ x, x < 64 → Q x → v = nI (dk_cn Q x) → post (nI x) (f_count, f_partCount, f_rowCount, f_same, f_made, a_lefts, a_rights, a_bundled, a_parts, a_cells, a_known, a_closures, a_tables, a_stemSets, a_symbols)) (pn : (∀ x, x < 64 → Q x → v ≠ nI (dk_cn Q x)) → post (-3) (f_count, f_partCount, f_rowCount, f_same, f_made, a_lefts, a_rights, a_bundled, a_parts, a_cells, a_known, a_closures, a_tables, a_stemSets, a_symbols)) : ∃ n, wY_stem_8 post v f_count f_partCount f_rowCount f_same f_made a_lefts a_rights a_bundled a_parts a_cells a_known a_closures a_tables a_stemSets a_symbols n 0 0 := by
  have lp : ∀ e i, i + e = 64 → (∀ x, x < i → Q x → v ≠ nI (dk_cn Q x)) → wY_stem_8 post v f_count f_partCount f_rowCount f_same f_made a_lefts a_rights a_bundled a_parts a_cells a_known a_closures a_tables a_stemSets a_symbols (e + 1) (nI (dk_cn Q i)) (nI i) := by
    intro e
    induction e with
    | zero =>
      intro i hi g
      have ei : i = 64 := by omega
      subst ei
      exact br_t (by decide) (pn g)
    | succ e ih =>
      intro i hi g
      refine br_f (nI_ge (b := 64) (by omega) (by decide)) ⟨vp_in_nI (by omega) (by decide), ?_⟩
      rw [dk_cl (by omega : i < 1000)]
      rcases h i (by omega) with ⟨s1, s2⟩ | ⟨s1, s2⟩
      · exact br_f (by rw [s1]; decide) (br_c (fun w => pf i (by omega) s2 w.symm) (fun w => nm_r (by rw [nI_1, ← dk_cn_t (P := Q) s2]) (nm_r (nI_1 i) (ih (i + 1) (by omega) (lt_s g (fun _ q => w q.symm))))))
      · refine br_t s1 (nm_r (nI_1 i) ?_)
        have := ih (i + 1) (by omega) (lt_s g (fun q => absurd q s2))
        rw [dk_cn_f (P := Q) s2] at this
        exact this
  exact ⟨_, lp 64 0 (by omega) lt_0⟩
end
section
variable {f_count f_counting f_blocks f_isStudied f_stemCount f_keyCount f_partCount f_rows : Int32} {a_leftSide a_rightSide a_isBundled a_block a_closureOf a_stemSet a_isStem a_keySet a_partSet a_symbol a_cells a_classOf a_classes a_agreement : Nat → Int32}
theorem dk_xstem8 {post : Int32 → SX → Prop} {Q : Nat → Prop} {v : Int32} (h : ∀ q, q < 64 → (a_isStem q = 1 ∧ Q q) ∨ (a_isStem q = 0 ∧ ¬ Q q))
    (pf : ∀ x, x < 64 → Q x → v = nI (dk_cn Q x) → post (nI x) (f_count, f_counting, f_blocks, f_isStudied, f_stemCount, f_keyCount, f_partCount, f_rows, a_leftSide, a_rightSide, a_isBundled, a_block, a_closureOf, a_stemSet, a_isStem, a_keySet, a_partSet, a_symbol, a_cells, a_classOf, a_classes, a_agreement)) (pn : (∀ x, x < 64 → Q x → v ≠ nI (dk_cn Q x)) → post (-3) (f_count, f_counting, f_blocks, f_isStudied, f_stemCount, f_keyCount, f_partCount, f_rows, a_leftSide, a_rightSide, a_isBundled, a_block, a_closureOf, a_stemSet, a_isStem, a_keySet, a_partSet, a_symbol, a_cells, a_classOf, a_classes, a_agreement)) : ∃ n, wX_stem_8 post v f_count f_counting f_blocks f_isStudied f_stemCount f_keyCount f_partCount f_rows a_leftSide a_rightSide a_isBundled a_block a_closureOf a_stemSet a_isStem a_keySet a_partSet a_symbol a_cells a_classOf a_classes a_agreement n 0 0 := by
  have lp : ∀ e i, i + e = 64 → (∀ x, x < i → Q x → v ≠ nI (dk_cn Q x)) → wX_stem_8 post v f_count f_counting f_blocks f_isStudied f_stemCount f_keyCount f_partCount f_rows a_leftSide a_rightSide a_isBundled a_block a_closureOf a_stemSet a_isStem a_keySet a_partSet a_symbol a_cells a_classOf a_classes a_agreement (e + 1) (nI (dk_cn Q i)) (nI i) := by
    intro e
    induction e with
    | zero =>
      intro i hi g
      have ei : i = 64 := by omega
      subst ei
      exact br_t (by decide) (pn g)
    | succ e ih =>
      intro i hi g
      refine br_f (nI_ge (b := 64) (by omega) (by decide)) ⟨vp_in_nI (by omega) (by decide), ?_⟩
      rw [dk_cl (by omega : i < 1000)]
      rcases h i (by omega) with ⟨s1, s2⟩ | ⟨s1, s2⟩
      · exact br_f (by rw [s1]; decide) (br_c (fun w => pf i (by omega) s2 w.symm) (fun w => nm_r (by rw [nI_1, ← dk_cn_t (P := Q) s2]) (nm_r (nI_1 i) (ih (i + 1) (by omega) (lt_s g (fun _ q => w q.symm))))))
      · refine br_t s1 (nm_r (nI_1 i) ?_)
        have := ih (i + 1) (by omega) (lt_s g (fun q => absurd q s2))
        rw [dk_cn_f (P := Q) s2] at this
        exact this
  exact ⟨_, lp 64 0 (by omega) lt_0⟩
end
theorem dk_cn_inj {Q : Nat → Prop} {x y : Nat} (hx : Q x) (hy : Q y) (h : dk_cn Q x = dk_cn Q y) : x = y := by
  have key : ∀ a b, a < b → Q a → dk_cn Q a < dk_cn Q b := by
    intro a b hab ha
    have := dk_cn_m (P := Q) (a := a + 1) (b := b) hab
    rw [dk_cn_t ha] at this; omega
  rcases Nat.lt_trichotomy x y with z | z | z
  · have := key x y z hx; omega
  · exact z
  · have := key y x z hy; omega
theorem i_vc_stems {k : Nat} {u : SX} {v : SY} (I : i_Rel k u v) (hk : k + 4 ≤ 2048) : wpX_stems (fun r u' => wpY_stems (fun r' v' => r' = r ∧ i_Rel (k + 4) u' v') v) u := by
  refine dk_el (Q := fun u v => wpX_stems (fun r u' => wpY_stems (fun r' v' => r' = r ∧ i_Rel (k + 4) u' v') v) u) ?_ I
  intro m pn rn L R P B co bo sd sc kc al ar abd ab clo ss ism ks ap sy ce cof cls agr sa ma kn cc tb sts sys hf
  have hf' := hf
  obtain ⟨hD, hP, hr, hS, hK⟩ := hf
  unfold wpX_stems
  refine dk_xstudy hD hS (fun co bo sc kc ab clo ss ism ks hT => ?_)
  unfold wpY_stems
  refine dk_yfindStems hD hK (fun sa ma kn cc tb sts hK hs => ?_)
  exact dk_ystems8 hs ⟨hT.2.1.symm, dk_mk ⟨hD, hP, hr, Or.inr ⟨rfl, hT⟩, hK⟩⟩
theorem i_vc_stem {k : Nat} {u : SX} {v : SY} (I : i_Rel k u v) (hk : k + 4 ≤ 2048) (v1 : Int32) : wpX_stem (fun r u' => wpY_stem (fun r' v' => r' = r ∧ i_Rel (k + 4) u' v') v v1) u v1 := by
  refine dk_el (Q := fun u v => wpX_stem (fun r u' => wpY_stem (fun r' v' => r' = r ∧ i_Rel (k + 4) u' v') v v1) u v1) ?_ I
  intro m pn rn L R P B co bo sd sc kc al ar abd ab clo ss ism ks ap sy ce cof cls agr sa ma kn cc tb sts sys hf
  have hf' := hf
  obtain ⟨hD, hP, hr, hS, hK⟩ := hf
  unfold wpX_stem
  refine dk_xstudy hD hS (fun co bo sc kc ab clo ss ism ks hT => ?_)
  refine dk_xstem8 hT.2.2.1 (fun x hx sx vx => ?_) (fun no => ?_)
  · unfold wpY_stem
    refine dk_yfindStems hD hK (fun sa ma kn cc tb sts hK hs => ?_)
    refine dk_ystem8 hs (fun y hy sy vy => ⟨?_, dk_mk ⟨hD, hP, hr, Or.inr ⟨rfl, hT⟩, hK⟩⟩) (fun no => absurd vx (no x hx sx))
    rw [vx, nI_eq (Nat.lt_of_le_of_lt (dk_cn_le _ _) (by omega)) (Nat.lt_of_le_of_lt (dk_cn_le _ _) (by omega))] at vy
    rw [dk_cn_inj sx sy vy]
  · unfold wpY_stem
    refine dk_yfindStems hD hK (fun sa ma kn cc tb sts hK hs => ?_)
    exact dk_ystem8 hs (fun y hy sy vy => absurd vy (no y hy sy)) (fun _ => ⟨rfl, dk_mk ⟨hD, hP, hr, Or.inr ⟨rfl, hT⟩, hK⟩⟩)
end
section
/-! third, boyce -/
def dk_subB (s x : Nat) : Bool := !(x &&& s == x) || (x == 0 || (List.range x).all (fun y => !(y &&& s == y) || decide (y ≤ (x - 1) &&& s)))
theorem dk_sub0 : ∀ s, s < 64 → ∀ x, x < 64 → dk_subB s x = true := by decide +kernel
theorem dk_sub' (s : Nat) (hs : s < 64) (x : Nat) (hx : x < 64) (h : x &&& s = x ∧ x ≠ 0) (y : Nat) (hy : y &&& s = y ∧ y < x) : y ≤ (x - 1) &&& s := by
  have q := dk_sub0 s hs x hx
  unfold dk_subB at q
  rw [Bool.or_eq_true, Bool.or_eq_true, List.all_eq_true] at q
  rcases q with q | q | q
  · rw [h.1] at q; simp at q
  · exact absurd (by simpa using q) h.2
  · have r := q y (List.mem_range.mpr hy.2)
    rw [Bool.or_eq_true] at r
    rcases r with r | r
    · rw [hy.1] at r; simp at r
    · simpa using r
theorem dk_sub {s x y : Nat} (hs : s < 64) (hx : dk_su x s) (h0 : x ≠ 0) (hy : dk_su y s) (hl : y < x) : y ≤ (x - 1) &&& s := by
  have x64 : x < 64 := by
    have a : x &&& s = x := dk_andE.mpr hx
    have b : x &&& s ≤ s := Nat.and_le_right
    omega
  exact dk_sub' s hs x x64 ⟨dk_andE.mpr hx, h0⟩ y ⟨dk_andE.mpr hy, hl⟩
theorem dk_su_le {x s : Nat} (h : dk_su x s) : x ≤ s := by
  have a : x &&& s = x := dk_andE.mpr h
  have b : x &&& s ≤ s := Nat.and_le_right
  omega
/-- columns in keys of s; columns that a part of s gives without giving s -/
def dk_pr (c : Nat → Nat) (s i : Nat) : Prop := ∃ y, y < 64 ∧ dk_kyo c y s ∧ y.testBit i = true
def dk_gv (c : Nat → Nat) (s i : Nat) : Prop := ∃ y, y < 64 ∧ dk_su y s ∧ ¬ dk_su s (c y) ∧ (c y).testBit i = true ∧ s.testBit i = true ∧ y.testBit i = false
theorem dk_m1s {x s : Nat} (h : x ≠ 0) : (nI x - 1) &&& nI s = nI ((x - 1) &&& s) := by
  have := nI_pred (x - 1)
  rw [show x - 1 + 1 = x by omega] at this
  rw [this, dk_and]
section
variable {f_count f_counting f_blocks f_isStudied f_stemCount f_keyCount f_partCount f_rows : Int32} {a_leftSide a_rightSide a_isBundled a_block a_closureOf a_stemSet a_isStem a_keySet a_partSet a_symbol a_cells a_classOf a_classes a_agreement : Nat → Int32}
variable {c : Nat → Nat}
theorem dk_xisMinimal {post : Int32 → Prop} {x s : Nat} (hc : dk_CO c) (hx : x < 64) (hs : s < 64) (hcl : ∀ x, x < 64 → a_closureOf x = nI (c x))
    (p1 : (∀ i, i < 6 → x.testBit i = true → ¬ dk_su s (c (dk_sd x (2 ^ i)))) → post 1) (p0 : (¬ ∀ i, i < 6 → x.testBit i = true → ¬ dk_su s (c (dk_sd x (2 ^ i)))) → post 0) :
    wpX_isMinimal post (f_count, f_counting, f_blocks, f_isStudied, f_stemCount, f_keyCount, f_partCount, f_rows, a_leftSide, a_rightSide, a_isBundled, a_block, a_closureOf, a_stemSet, a_isStem, a_keySet, a_partSet, a_symbol, a_cells, a_classOf, a_classes, a_agreement) (nI x) (nI s) := by
  have lp : ∀ e i x3, i + e = 6 → ((x3 = 1 ∧ ∀ j, j < i → x.testBit j = true → ¬ dk_su s (c (dk_sd x (2 ^ j)))) ∨ (x3 = 0 ∧ ¬ ∀ i, i < 6 → x.testBit i = true → ¬ dk_su s (c (dk_sd x (2 ^ i))))) →
      wX_isMinimal_5 post (nI x) (nI s) f_count f_counting f_blocks f_isStudied f_stemCount f_keyCount f_partCount f_rows a_leftSide a_rightSide a_isBundled a_block a_closureOf a_stemSet a_isStem a_keySet a_partSet a_symbol a_cells a_classOf a_classes a_agreement (e + 1) x3 (nI i) := by
    intro e
    induction e with
    | zero =>
      intro i x3 hi h
      have ei : i = 6 := by omega
      subst ei
      refine br_t (by decide) ?_
      rcases h with ⟨rfl, h⟩ | ⟨rfl, h⟩
      · exact ⟨rfl, p1 h⟩
      · exact ⟨rfl, p0 h⟩
    | succ e ih =>
      intro i x3 hi h
      refine br_f (nI_ge (b := 6) (by omega) (by decide)) (dk_if (dk_b1 (by omega) (by omega)) (fun z => ?_) (fun z => ?_))
      · rcases h with ⟨rfl, h⟩ | ⟨rfl, h⟩
        · have l64 : dk_sd x (2 ^ i) < 64 := dk_sd_lt hx
          refine br_f (by decide) (br_f (by decide) ?_)
          rw [dk_sh i (by omega), dk_not, dk_cl (by omega : dk_sd x (2 ^ i) < 1000), hcl _ l64]
          exact ⟨vp_in_nI l64 (by decide), dk_xwithin hs (fun w => br_f (by decide) (nm_r (nI_1 i) (ih (i + 1) 0 (by omega) (Or.inr ⟨rfl, fun q => q i (by omega) z w⟩)))) (fun w => br_t rfl (nm_r (nI_1 i) (ih (i + 1) 1 (by omega) (Or.inl ⟨rfl, lt_s h (fun _ => w)⟩))))⟩
        · exact br_t rfl (nm_r (nI_1 i) (ih (i + 1) 0 (by omega) (Or.inr ⟨rfl, h⟩)))
      · rcases h with ⟨rfl, h⟩ | ⟨rfl, h⟩
        · exact br_f (by decide) (br_t rfl (nm_r (nI_1 i) (ih (i + 1) 1 (by omega) (Or.inl ⟨rfl, lt_s h (fun q => absurd q z)⟩))))
        · exact br_t rfl (nm_r (nI_1 i) (ih (i + 1) 0 (by omega) (Or.inr ⟨rfl, h⟩)))
  exact ⟨_, lp 6 0 1 (by omega) (Or.inl ⟨rfl, lt_0⟩)⟩
theorem dk_xprimeIn {post : Int32 → Prop} {s : Nat} (hc : dk_CO c) (hs : s < 64) (hcl : ∀ x, x < 64 → a_closureOf x = nI (c x))
    (p : ∀ out, out < 64 → (∀ i, out.testBit i = true ↔ dk_pr c s i) → post (nI out)) : wpX_primeIn post (f_count, f_counting, f_blocks, f_isStudied, f_stemCount, f_keyCount, f_partCount, f_rows, a_leftSide, a_rightSide, a_isBundled, a_block, a_closureOf, a_stemSet, a_isStem, a_keySet, a_partSet, a_symbol, a_cells, a_classOf, a_classes, a_agreement) (nI s) := by
  have lp : ∀ n x out, x < n → dk_su x s → out < 64 → (∀ i, out.testBit i = true ↔ ∃ y, x < y ∧ y < 64 ∧ dk_kyo c y s ∧ y.testBit i = true) →
      wX_primeIn_4 post (nI s) f_count f_counting f_blocks f_isStudied f_stemCount f_keyCount f_partCount f_rows a_leftSide a_rightSide a_isBundled a_block a_closureOf a_stemSet a_isStem a_keySet a_partSet a_symbol a_cells a_classOf a_classes a_agreement n (nI out) (nI x) := by
    intro n
    induction n with
    | zero => intro x out h; omega
    | succ n ih =>
      intro x out hn hx ho h
      have x64 : x < 64 := Nat.lt_of_le_of_lt (dk_su_le hx) hs
      rcases Nat.eq_zero_or_pos x with z | z
      · subst z
        refine br_t (by decide) (p out ho (fun i => ?_))
        rw [h]
        constructor
        · rintro ⟨y, _, y2⟩; exact ⟨y, y2⟩
        · rintro ⟨y, y1, y2, y3⟩
          refine ⟨y, Nat.pos_of_ne_zero (fun q => ?_), y1, y2, y3⟩
          subst q; rw [Nat.zero_testBit] at y3; cases y3
      · have x0 : x ≠ 0 := by omega
        have lt : (x - 1) &&& s < x := Nat.lt_of_le_of_lt Nat.and_le_left (by omega)
        have su' : dk_su ((x - 1) &&& s) s := fun i hi => by rw [Nat.testBit_and, Bool.and_eq_true] at hi; exact hi.2
        have no : ¬ dk_kyo c x s → wX_primeIn_4 post (nI s) f_count f_counting f_blocks f_isStudied f_stemCount f_keyCount f_partCount f_rows a_leftSide a_rightSide a_isBundled a_block a_closureOf a_stemSet a_isStem a_keySet a_partSet a_symbol a_cells a_classOf a_classes a_agreement n (nI out) (nI ((x - 1) &&& s)) := by
          intro q
          refine ih _ out (by omega) su' ho (fun i => ?_)
          rw [h]
          constructor
          · rintro ⟨y, y1, y2⟩; exact ⟨y, by omega, y2⟩
          · rintro ⟨y, y1, y2, y3, y4⟩
            refine ⟨y, ?_, y2, y3, y4⟩
            rcases Nat.lt_trichotomy x y with w | w | w
            · exact w
            · subst w; exact absurd y3 q
            · have := dk_sub hs hx x0 y3.1 w; omega
        refine br_f (nI_nle (by omega) (by omega)) ⟨vp_in_nI x64 (by decide), ?_⟩
        rw [dk_cl (by omega : x < 1000), hcl x x64]
        refine dk_xwithin hs (fun w => br_f (by decide) ?_) (fun w => br_t rfl (nm_r (dk_m1s x0) (no (fun q => w q.2.1))))
        refine dk_xisMinimal hc x64 hs hcl (fun v => br_f (by decide) (nm_r (dk_or _ _) (nm_r (dk_m1s x0) (ih _ _ (by omega) su' (dk_or_lt ho x64) (fun i => ?_))))) (fun v => br_t rfl (nm_r (dk_m1s x0) (no (fun q => v q.2.2))))
        rw [Nat.testBit_or, Bool.or_eq_true, h]
        constructor
        · rintro (⟨y, y1, y2⟩ | q)
          · exact ⟨y, by omega, y2⟩
          · exact ⟨x, lt, x64, ⟨hx, w, v⟩, q⟩
        · rintro ⟨y, y1, y2, y3, y4⟩
          rcases Nat.lt_trichotomy x y with t | t | t
          · exact Or.inl ⟨y, t, y2, y3, y4⟩
          · subst t; exact Or.inr y4
          · have := dk_sub hs hx x0 y3.1 t; omega
  refine ⟨s + 1, lp (s + 1) s 0 (by omega) (dk_su_rfl _) (by decide) (fun i => ?_)⟩
  rw [Nat.zero_testBit]
  constructor
  · intro q; cases q
  · rintro ⟨y, y1, _, y3, _⟩
    have := dk_su_le y3.1; omega
theorem dk_xgivenIn {post : Int32 → Prop} {s : Nat} (hc : dk_CO c) (hs : s < 64) (hcl : ∀ x, x < 64 → a_closureOf x = nI (c x))
    (p : ∀ out, out < 64 → (∀ i, out.testBit i = true ↔ dk_gv c s i) → post (nI out)) : wpX_givenIn post (f_count, f_counting, f_blocks, f_isStudied, f_stemCount, f_keyCount, f_partCount, f_rows, a_leftSide, a_rightSide, a_isBundled, a_block, a_closureOf, a_stemSet, a_isStem, a_keySet, a_partSet, a_symbol, a_cells, a_classOf, a_classes, a_agreement) (nI s) := by
  have lp : ∀ n x out, x < n → dk_su x s → out < 64 → (∀ i, out.testBit i = true ↔ ∃ y, x < y ∧ y < 64 ∧ dk_su y s ∧ ¬ dk_su s (c y) ∧ (c y).testBit i = true ∧ s.testBit i = true ∧ y.testBit i = false) →
      wX_givenIn_4 post (nI s) f_count f_counting f_blocks f_isStudied f_stemCount f_keyCount f_partCount f_rows a_leftSide a_rightSide a_isBundled a_block a_closureOf a_stemSet a_isStem a_keySet a_partSet a_symbol a_cells a_classOf a_classes a_agreement n (nI out) (nI x) := by
    intro n
    induction n with
    | zero => intro x out h; omega
    | succ n ih =>
      intro x out hn hx ho h
      have x64 : x < 64 := Nat.lt_of_le_of_lt (dk_su_le hx) hs
      rcases Nat.eq_zero_or_pos x with z | z
      · subst z
        refine br_t (by decide) ?_
        rw [hcl 0 (by decide)]
        refine dk_xwithin hs (fun w => br_f (by decide) (p out ho (fun i => ?_))) (fun w => br_t rfl ?_)
        · rw [h]
          constructor
          · rintro ⟨y, _, y2⟩; exact ⟨y, y2⟩
          · rintro ⟨y, y1, y2, y3, y4⟩
            refine ⟨y, Nat.pos_of_ne_zero (fun q => ?_), y1, y2, y3, y4⟩
            subst q; exact y3 w
        · rw [dk_and, dk_or]
          refine p _ (dk_or_lt ho (dk_and_lt' hs)) (fun i => ?_)
          rw [Nat.testBit_or, Bool.or_eq_true, Nat.testBit_and, Bool.and_eq_true, h]
          constructor
          · rintro (⟨y, _, y2⟩ | q)
            · exact ⟨y, y2⟩
            · exact ⟨0, by decide, dk_su0 _, w, q.1, q.2, Nat.zero_testBit _⟩
          · rintro ⟨y, y1, y2, y3, y4, y5, y6⟩
            rcases Nat.eq_zero_or_pos y with t | t
            · subst t; exact Or.inr ⟨y4, y5⟩
            · exact Or.inl ⟨y, t, y1, y2, y3, y4, y5, y6⟩
      · have x0 : x ≠ 0 := by omega
        have lt : (x - 1) &&& s < x := Nat.lt_of_le_of_lt Nat.and_le_left (by omega)
        have su' : dk_su ((x - 1) &&& s) s := fun i hi => by rw [Nat.testBit_and, Bool.and_eq_true] at hi; exact hi.2
        refine br_f (nI_nle (by omega) (by omega)) ⟨vp_in_nI x64 (by decide), ?_⟩
        rw [dk_cl (by omega : x < 1000), hcl x x64]
        refine dk_xwithin hs (fun w => br_f (by decide) (nm_r (dk_m1s x0) (ih _ out (by omega) su' ho (fun i => ?_)))) (fun w => br_t rfl ⟨vp_in_nI x64 (by decide), ?_⟩)
        · rw [h]
          constructor
          · rintro ⟨y, y1, y2⟩; exact ⟨y, by omega, y2⟩
          · rintro ⟨y, y1, y2, y3, y4⟩
            refine ⟨y, ?_, y2, y3, y4⟩
            rcases Nat.lt_trichotomy x y with t | t | t
            · exact t
            · subst t; exact absurd w y4.1
            · have := dk_sub hs hx x0 y3 t; omega
        · rw [dk_and, dk_not, dk_or]
          refine nm_r (dk_m1s x0) (ih _ _ (by omega) su' (dk_or_lt ho (dk_sd_lt (dk_and_lt' hs))) (fun i => ?_))
          rw [Nat.testBit_or, Bool.or_eq_true, dk_tsd, Bool.and_eq_true, Nat.testBit_and, Bool.and_eq_true, h]
          constructor
          · rintro (⟨y, y1, y2⟩ | q)
            · exact ⟨y, by omega, y2⟩
            · exact ⟨x, lt, x64, hx, w, q.1.1, q.1.2, by simpa using q.2⟩
          · rintro ⟨y, y1, y2, y3, y4, y5, y6, y7⟩
            rcases Nat.lt_trichotomy x y with t | t | t
            · exact Or.inl ⟨y, t, y2, y3, y4, y5, y6, y7⟩
            · subst t; exact Or.inr ⟨⟨y5, y6⟩, by simpa using y7⟩
            · have := dk_sub hs hx x0 y3 t; omega
  refine ⟨s + 1, lp (s + 1) s 0 (by omega) (dk_su_rfl _) (by decide) (fun i => ?_)⟩
  rw [Nat.zero_testBit]
  constructor
  · intro q; cases q
  · rintro ⟨y, y1, _, y3, _⟩
    have := dk_su_le y3; omega
end
section
variable {f_count f_partCount f_rowCount f_same : Int32} {a_lefts a_rights a_bundled a_parts a_cells a_known a_closures a_stemSets a_symbols : Nat → Int32} {f_made : Int64} {a_tables : Nat → Int64}
variable {L R : Nat → Nat} {B : Nat → Bool}
theorem dk_yinKeysOf {post : Int32 → SY → Prop} {m s : Nat} (hs : s < 64) (hD : dk_DP m L R B a_lefts a_rights a_bundled) (hK : dk_KN m L R B a_known a_closures a_tables)
    (p : ∀ out, out < 64 → (∀ i, out.testBit i = true ↔ dk_pr (dk_cf (dk_Al m) L R B) s i) → ∀ sa ma kn cc tb, dk_KN m L R B kn cc tb → post (nI out) (nI m, f_partCount, f_rowCount, sa, ma, a_lefts, a_rights, a_bundled, a_parts, a_cells, kn, cc, tb, a_stemSets, a_symbols)) :
    wpY_inKeysOf post (nI m, f_partCount, f_rowCount, f_same, f_made, a_lefts, a_rights, a_bundled, a_parts, a_cells, a_known, a_closures, a_tables, a_stemSets, a_symbols) (nI s) := by
  have lp : ∀ e x out, x + e = 64 → out < 64 → ∀ sa ma kn cc tb, dk_KN m L R B kn cc tb → (∀ i, out.testBit i = true ↔ ∃ y, y < x ∧ dk_kyo (dk_cf (dk_Al m) L R B) y s ∧ y.testBit i = true) →
      wY_inKeysOf_4 post (nI s) (e + 1) (nI out) (nI x) (nI m) f_partCount f_rowCount sa ma a_lefts a_rights a_bundled a_parts a_cells kn cc tb a_stemSets a_symbols := by
    intro e
    induction e with
    | zero =>
      intro x out hx ho sa ma kn cc tb hK h
      have ex : x = 64 := by omega
      subst ex
      exact br_t (by decide) (p out ho h _ _ _ _ _ hK)
    | succ e ih =>
      intro x out hx ho sa ma kn cc tb hK h
      have x64 : x < 64 := by omega
      refine br_f (nI_ge (b := 64) (by omega) (by decide)) ?_
      refine dk_yisKeyOf x64 hs hD hK (fun z sa ma kn cc tb hK => br_f (by decide) (nm_r (dk_or _ _) (nm_r (nI_1 x) (ih (x + 1) _ (by omega) (dk_or_lt ho x64) sa ma kn cc tb hK (fun i => ?_))))) (fun z sa ma kn cc tb hK => br_t rfl (nm_r (nI_1 x) (ih (x + 1) out (by omega) ho sa ma kn cc tb hK (fun i => ?_))))
      · rw [Nat.testBit_or, Bool.or_eq_true, h]
        constructor
        · rintro (⟨y, y1, y2⟩ | q)
          · exact ⟨y, by omega, y2⟩
          · exact ⟨x, by omega, z, q⟩
        · rintro ⟨y, y1, y2, y3⟩
          rcases Nat.lt_or_ge y x with t | t
          · exact Or.inl ⟨y, t, y2, y3⟩
          · have : y = x := by omega
            subst this; exact Or.inr y3
      · rw [h]
        constructor
        · rintro ⟨y, y1, y2⟩; exact ⟨y, by omega, y2⟩
        · rintro ⟨y, y1, y2, y3⟩
          refine ⟨y, ?_, y2, y3⟩
          rcases Nat.lt_or_ge y x with t | t
          · exact t
          · have : y = x := by omega
            subst this; exact absurd y2 z
  exact ⟨_, lp 64 0 0 (by omega) (by decide) _ _ _ _ _ hK (fun i => by rw [Nat.zero_testBit]; exact ⟨fun q => absurd q (by decide), fun ⟨y, hy, _⟩ => by omega⟩)⟩
theorem dk_ythird {post : Int32 → SY → Prop} {m s : Nat} (hs : s < 64) (hD : dk_DP m L R B a_lefts a_rights a_bundled) (hK : dk_KN m L R B a_known a_closures a_tables)
    (p1 : (∀ i, dk_gv (dk_cf (dk_Al m) L R B) s i → dk_pr (dk_cf (dk_Al m) L R B) s i) → ∀ sa ma kn cc tb, dk_KN m L R B kn cc tb → post 1 (nI m, f_partCount, f_rowCount, sa, ma, a_lefts, a_rights, a_bundled, a_parts, a_cells, kn, cc, tb, a_stemSets, a_symbols))
    (p0 : (¬ ∀ i, dk_gv (dk_cf (dk_Al m) L R B) s i → dk_pr (dk_cf (dk_Al m) L R B) s i) → ∀ sa ma kn cc tb, dk_KN m L R B kn cc tb → post 0 (nI m, f_partCount, f_rowCount, sa, ma, a_lefts, a_rights, a_bundled, a_parts, a_cells, kn, cc, tb, a_stemSets, a_symbols)) :
    wpY_third post (nI m, f_partCount, f_rowCount, f_same, f_made, a_lefts, a_rights, a_bundled, a_parts, a_cells, a_known, a_closures, a_tables, a_stemSets, a_symbols) (nI s) := by
  unfold wpY_third
  refine dk_yset hs (br_f (by decide) (dk_yinKeysOf hs hD hK (fun pm hpm hp sa ma kn cc tb hK => ?_)))
  have lp : ∀ e x, x + e = 64 → ∀ sa ma kn cc tb, dk_KN m L R B kn cc tb → (∀ y, y < x → dk_su y s → ¬ dk_su s (dk_cf (dk_Al m) L R B y) → ∀ i, (dk_cf (dk_Al m) L R B y).testBit i = true → s.testBit i = true → y.testBit i = false → pm.testBit i = true) →
      wY_third_18 post (nI s) (nI pm) (e + 1) (nI x) (nI m) f_partCount f_rowCount sa ma a_lefts a_rights a_bundled a_parts a_cells kn cc tb a_stemSets a_symbols := by
    intro e
    induction e with
    | zero =>
      intro x hx sa ma kn cc tb hK h
      have ex : x = 64 := by omega
      subst ex
      exact br_t (by decide) (p1 (fun i ⟨y, y1, y2, y3, y4, y5, y6⟩ => (hp i).mp (h y y1 y2 y3 i y4 y5 y6)) _ _ _ _ _ hK)
    | succ e ih =>
      intro x hx sa ma kn cc tb hK h
      have x64 : x < 64 := by omega
      refine br_f (nI_ge (b := 64) (by omega) (by decide)) ?_
      refine dk_yclosureOf x64 hD hK (fun sa ma kn cc tb hK => nm_r (by rw [dk_and, dk_not]) ?_)
      refine dk_if (by rw [dk_not]; exact (dk_z (dk_sd_lt x64)).trans dk_sd0) (fun z => br_f (by decide) ?_) (fun z => br_t rfl (nm_r (nI_1 x) (ih (x + 1) (by omega) sa ma kn cc tb hK (lt_s h (fun q => absurd q z)))))
      refine dk_yclosureOf x64 hD hK (fun sa ma kn cc tb hK => ?_)
      refine dk_if (by rw [dk_not]; exact (dk_z (dk_sd_lt hs)).trans dk_sd0) (fun w => nm_r (nI_1 x) (ih (x + 1) (by omega) sa ma kn cc tb hK (lt_s h (fun _ q => absurd w q)))) (fun w => ?_)
      refine dk_if (by rw [dk_not]; exact (dk_z (dk_sd_lt (dk_sd_lt (dk_and_lt' hs)))).trans dk_sd0) (fun v => nm_r (nI_1 x) (ih (x + 1) (by omega) sa ma kn cc tb hK (lt_s h (fun _ _ i a b d => v i ?_)))) (fun v => p0 (fun q => v (fun i hi => ?_)) _ _ _ _ _ hK)
      · rw [dk_tsd, Bool.and_eq_true, Nat.testBit_and, Bool.and_eq_true] at hi
        exact (hp i).mpr (q i ⟨x, x64, z, w, hi.1.1, hi.1.2, by simpa using hi.2⟩)
      · rw [dk_tsd, Nat.testBit_and, a, b, d]; rfl
  exact ⟨_, lp 64 0 (by omega) _ _ _ _ _ hK lt_0⟩
theorem dk_yboyce {post : Int32 → SY → Prop} {m s : Nat} (hs : s < 64) (hD : dk_DP m L R B a_lefts a_rights a_bundled) (hK : dk_KN m L R B a_known a_closures a_tables)
    (p1 : (∀ i, ¬ dk_gv (dk_cf (dk_Al m) L R B) s i) → ∀ sa ma kn cc tb, dk_KN m L R B kn cc tb → post 1 (nI m, f_partCount, f_rowCount, sa, ma, a_lefts, a_rights, a_bundled, a_parts, a_cells, kn, cc, tb, a_stemSets, a_symbols))
    (p0 : (¬ ∀ i, ¬ dk_gv (dk_cf (dk_Al m) L R B) s i) → ∀ sa ma kn cc tb, dk_KN m L R B kn cc tb → post 0 (nI m, f_partCount, f_rowCount, sa, ma, a_lefts, a_rights, a_bundled, a_parts, a_cells, kn, cc, tb, a_stemSets, a_symbols)) :
    wpY_boyce post (nI m, f_partCount, f_rowCount, f_same, f_made, a_lefts, a_rights, a_bundled, a_parts, a_cells, a_known, a_closures, a_tables, a_stemSets, a_symbols) (nI s) := by
  unfold wpY_boyce
  refine dk_yset hs (br_f (by decide) ?_)
  have lp : ∀ e x, x + e = 64 → ∀ sa ma kn cc tb, dk_KN m L R B kn cc tb → (∀ y, y < x → dk_su y s → ¬ dk_su s (dk_cf (dk_Al m) L R B y) → dk_sd (dk_cf (dk_Al m) L R B y &&& s) y = 0) →
      wY_boyce_12 post (nI s) (e + 1) (nI x) (nI m) f_partCount f_rowCount sa ma a_lefts a_rights a_bundled a_parts a_cells kn cc tb a_stemSets a_symbols := by
    intro e
    induction e with
    | zero =>
      intro x hx sa ma kn cc tb hK h
      have ex : x = 64 := by omega
      subst ex
      refine br_t (by decide) (p1 (fun i ⟨y, y1, y2, y3, y4, y5, y6⟩ => ?_) _ _ _ _ _ hK)
      have := dk_sd0.mp (h y y1 y2 y3) i (by rw [Nat.testBit_and, y4, y5]; rfl)
      rw [this] at y6; cases y6
    | succ e ih =>
      intro x hx sa ma kn cc tb hK h
      have x64 : x < 64 := by omega
      refine br_f (nI_ge (b := 64) (by omega) (by decide)) ?_
      refine dk_yclosureOf x64 hD hK (fun sa ma kn cc tb hK => nm_r (by rw [dk_and, dk_not]) ?_)
      refine dk_if (by rw [dk_not]; exact (dk_z (dk_sd_lt x64)).trans dk_sd0) (fun z => br_f (by decide) ?_) (fun z => br_t rfl (nm_r (nI_1 x) (ih (x + 1) (by omega) sa ma kn cc tb hK (lt_s h (fun q => absurd q z)))))
      refine dk_if (dk_z (dk_sd_lt (dk_and_lt' hs))) (fun w => nm_r (nI_1 x) (ih (x + 1) (by omega) sa ma kn cc tb hK (lt_s h (fun _ _ => w)))) (fun w => ?_)
      refine dk_yclosureOf x64 hD hK (fun sa ma kn cc tb hK => ?_)
      refine dk_if (by rw [dk_not]; exact (dk_z (dk_sd_lt hs)).trans dk_sd0) (fun v => nm_r (nI_1 x) (ih (x + 1) (by omega) sa ma kn cc tb hK (lt_s h (fun _ q => absurd v q)))) (fun v => p0 (fun q => w (dk_sd0.mpr (fun i hi => ?_))) _ _ _ _ _ hK)
      rw [Nat.testBit_and, Bool.and_eq_true] at hi
      cases f : x.testBit i
      · exact absurd ⟨x, x64, z, v, hi.1, hi.2, f⟩ (q i)
      · rfl
  exact ⟨_, lp 64 0 (by omega) _ _ _ _ _ hK lt_0⟩
end
theorem i_vc_third {k : Nat} {u : SX} {v : SY} (I : i_Rel k u v) (hk : k + 4 ≤ 2048) (v1 : Int32) : wpX_third (fun r u' => wpY_third (fun r' v' => r' = r ∧ i_Rel (k + 4) u' v') v v1) u v1 := by
  refine dk_el (Q := fun u v => wpX_third (fun r u' => wpY_third (fun r' v' => r' = r ∧ i_Rel (k + 4) u' v') v v1) u v1) ?_ I
  intro m pn rn L R P B co bo sd sc kc al ar abd ab clo ss ism ks ap sy ce cof cls agr sa ma kn cc tb sts sys hf
  have hf' := hf
  obtain ⟨hD, hP, hr, hS, hK⟩ := hf
  rcases dk_set v1 with ⟨s, s1, rfl⟩ | b1
  · unfold wpX_third
    refine dk_xbad s1 (br_t rfl ?_)
    refine dk_xstudy hD hS (fun co bo sc kc ab clo ss ism ks hT => ?_)
    refine dk_xgivenIn (c := dk_cf (dk_Al m) L R B) dk_cfO s1 hT.1 (fun g g64 hg => ?_)
    refine dk_xprimeIn (c := dk_cf (dk_Al m) L R B) dk_cfO s1 hT.1 (fun q q64 hq => ?_)
    refine dk_xwithin g64 (fun z => ⟨rfl, ?_⟩) (fun z => ⟨rfl, ?_⟩)
    · exact dk_ythird s1 hD hK (fun _ sa ma kn cc tb hK => ⟨rfl, dk_mk ⟨hD, hP, hr, Or.inr ⟨rfl, hT⟩, hK⟩⟩) (fun w => absurd (fun i hi => (hq i).mp (z i ((hg i).mpr hi))) w)
    · exact dk_ythird s1 hD hK (fun w => absurd (fun i hi => (hq i).mpr (w i ((hg i).mp hi))) z) (fun _ sa ma kn cc tb hK => ⟨rfl, dk_mk ⟨hD, hP, hr, Or.inr ⟨rfl, hT⟩, hK⟩⟩)
  · unfold wpX_third
    refine dk_xbad1 b1 (br_f (by decide) ?_)
    unfold wpY_third
    exact dk_ynot b1 (br_t rfl ⟨rfl, dk_mk hf'⟩)
theorem i_vc_boyce {k : Nat} {u : SX} {v : SY} (I : i_Rel k u v) (hk : k + 4 ≤ 2048) (v1 : Int32) : wpX_boyce (fun r u' => wpY_boyce (fun r' v' => r' = r ∧ i_Rel (k + 4) u' v') v v1) u v1 := by
  refine dk_el (Q := fun u v => wpX_boyce (fun r u' => wpY_boyce (fun r' v' => r' = r ∧ i_Rel (k + 4) u' v') v v1) u v1) ?_ I
  intro m pn rn L R P B co bo sd sc kc al ar abd ab clo ss ism ks ap sy ce cof cls agr sa ma kn cc tb sts sys hf
  have hf' := hf
  obtain ⟨hD, hP, hr, hS, hK⟩ := hf
  rcases dk_set v1 with ⟨s, s1, rfl⟩ | b1
  · unfold wpX_boyce
    refine dk_xbad s1 (br_t rfl ?_)
    refine dk_xstudy hD hS (fun co bo sc kc ab clo ss ism ks hT => ?_)
    refine dk_xgivenIn (c := dk_cf (dk_Al m) L R B) dk_cfO s1 hT.1 (fun g g64 hg => ?_)
    refine dk_if (dk_z g64) (fun z => ?_) (fun z => ?_)
    · subst z
      refine dk_yboyce s1 hD hK (fun _ sa ma kn cc tb hK => ⟨rfl, dk_mk ⟨hD, hP, hr, Or.inr ⟨rfl, hT⟩, hK⟩⟩) (fun w => absurd (fun i hi => ?_) w)
      have := (hg i).mpr hi
      rw [Nat.zero_testBit] at this; cases this
    · obtain ⟨i, hi⟩ := dk_ne z
      exact dk_yboyce s1 hD hK (fun w => absurd ((hg i).mp hi) (w i)) (fun _ sa ma kn cc tb hK => ⟨rfl, dk_mk ⟨hD, hP, hr, Or.inr ⟨rfl, hT⟩, hK⟩⟩)
  · unfold wpX_boyce
    refine dk_xbad1 b1 (br_f (by decide) ?_)
    unfold wpY_boyce
    exact dk_ynot b1 (br_t rfl ⟨rfl, dk_mk hf'⟩)
end
section
/-! needs -/
def dk_bts (s : Nat) : Nat := dk_sm (fun d => s / 2 ^ d % 2) 10
theorem dk_bts_le (s : Nat) : dk_bts s ≤ 10 := by
  have key : ∀ n, dk_sm (fun d => s / 2 ^ d % 2) n ≤ n := by
    intro n
    induction n with
    | zero => exact Nat.le_refl _
    | succ n ih => simp only [dk_sm]; omega
  exact key 10
noncomputable def dk_bst (f : Nat → Prop) : Nat → Nat
  | 0 => 11
  | s + 1 => @ite Nat (dk_bts s < dk_bst f s ∧ f s) (Classical.propDecidable _) (dk_bts s) (dk_bst f s)
theorem dk_bst_t {f : Nat → Prop} {s : Nat} (h : dk_bts s < dk_bst f s) (g : f s) : dk_bst f (s + 1) = dk_bts s := by
  simp only [dk_bst]; exact if_pos ⟨h, g⟩
theorem dk_bst_f {f : Nat → Prop} {s : Nat} (h : ¬ (dk_bts s < dk_bst f s ∧ f s)) : dk_bst f (s + 1) = dk_bst f s := by
  simp only [dk_bst]; exact if_neg h
theorem dk_bst_le (f : Nat → Prop) : ∀ s, dk_bst f s ≤ 11
  | 0 => Nat.le_refl _
  | s + 1 => by
    rcases Classical.em (dk_bts s < dk_bst f s ∧ f s) with z | z
    · rw [dk_bst_t z.1 z.2]; have := dk_bts_le s; omega
    · rw [dk_bst_f z]; exact dk_bst_le f s
theorem dk_bst_no {f : Nat → Prop} : ∀ n, (∀ s, s < n → ¬ f s) → dk_bst f n = 11
  | 0, _ => rfl
  | n + 1, h => by rw [dk_bst_f (fun q => h n (by omega) q.2)]; exact dk_bst_no n (fun s hs => h s (by omega))
theorem dk_bst_yes {f : Nat → Prop} {n : Nat} (h : f n) : dk_bst f (n + 1) ≤ 10 := by
  have b := dk_bts_le n
  rcases Nat.lt_or_ge (dk_bts n) (dk_bst f n) with z | z
  · rw [dk_bst_t z h]; exact b
  · rw [dk_bst_f (fun q => by omega)]; omega
section
variable {f_count f_counting f_blocks f_isStudied f_stemCount f_keyCount f_partCount f_rows : Int32} {a_leftSide a_rightSide a_isBundled a_block a_closureOf a_stemSet a_isStem a_keySet a_partSet a_symbol a_cells a_classOf a_classes a_agreement : Nat → Int32}
theorem dk_xbitsOf {post : Int32 → Prop} {s : Nat} (hs : s < 1024) (p : post (nI (dk_bts s))) : wpX_bitsOf post (f_count, f_counting, f_blocks, f_isStudied, f_stemCount, f_keyCount, f_partCount, f_rows, a_leftSide, a_rightSide, a_isBundled, a_block, a_closureOf, a_stemSet, a_isStem, a_keySet, a_partSet, a_symbol, a_cells, a_classOf, a_classes, a_agreement) (nI s) := by
  have lp : ∀ e d, d + e = 10 → wX_bitsOf_4 post (nI s) f_count f_counting f_blocks f_isStudied f_stemCount f_keyCount f_partCount f_rows a_leftSide a_rightSide a_isBundled a_block a_closureOf a_stemSet a_isStem a_keySet a_partSet a_symbol a_cells a_classOf a_classes a_agreement (e + 1) (nI (dk_sm (fun d => s / 2 ^ d % 2) d)) (nI d) := by
    intro e
    induction e with
    | zero =>
      intro d hd
      have ed : d = 10 := by omega
      subst ed
      exact br_t (by decide) p
    | succ e ih =>
      intro d hd
      refine br_f (nI_ge (b := 10) (by omega) (by decide)) (nm_r (by rw [dk_bit (by omega) (by omega), nI_add]; rfl) (nm_r (nI_1 d) (ih (d + 1) (by omega))))
  exact ⟨_, lp 10 0 (by omega)⟩
variable {L R : Nat → Nat} {B : Nat → Bool}
theorem dk_xneeds51 {post : Int32 → SX → Prop} {m x y : Nat} (hx : x < 64) (hy : y < 64) (hD : dk_DP m L R B a_leftSide a_rightSide a_isBundled)
    (p : ∀ co bo ab, post (nI (dk_bst (fun s => dk_su y (dk_cf (dk_A m s) L R B x)) (2 ^ m))) (nI m, co, bo, f_isStudied, f_stemCount, f_keyCount, f_partCount, f_rows, a_leftSide, a_rightSide, a_isBundled, ab, a_closureOf, a_stemSet, a_isStem, a_keySet, a_partSet, a_symbol, a_cells, a_classOf, a_classes, a_agreement)) :
    ∃ n, wX_needs_51 post (nI x) (nI y) n 11 0 (nI m) f_counting f_blocks f_isStudied f_stemCount f_keyCount f_partCount f_rows a_leftSide a_rightSide a_isBundled a_block a_closureOf a_stemSet a_isStem a_keySet a_partSet a_symbol a_cells a_classOf a_classes a_agreement := by
  have m10 := hD.1
  have p10 : 2 ^ m ≤ 1024 := Nat.pow_le_pow_right (n := 2) (by omega) m10
  have lp : ∀ e s co bo ab, s + e = 2 ^ m → wX_needs_51 post (nI x) (nI y) (e + 1) (nI (dk_bst (fun s => dk_su y (dk_cf (dk_A m s) L R B x)) s)) (nI s) (nI m) co bo f_isStudied f_stemCount f_keyCount f_partCount f_rows a_leftSide a_rightSide a_isBundled ab a_closureOf a_stemSet a_isStem a_keySet a_partSet a_symbol a_cells a_classOf a_classes a_agreement := by
    intro e
    induction e with
    | zero =>
      intro s co bo ab hs
      have es : s = 2 ^ m := by omega
      subst es
      exact br_t (by rw [dk_sh m (by omega)]; exact nI_le (Nat.le_refl _) (by omega)) (p co bo ab)
    | succ e ih =>
      intro s co bo ab hs
      have bl := dk_bst_le (fun s => dk_su y (dk_cf (dk_A m s) L R B x)) s
      have bt := dk_bts_le s
      have no : ∀ co bo ab, ¬ (dk_bts s < dk_bst (fun s => dk_su y (dk_cf (dk_A m s) L R B x)) s ∧ dk_su y (dk_cf (dk_A m s) L R B x)) → wX_needs_51 post (nI x) (nI y) (e + 1) (nI (dk_bst (fun s => dk_su y (dk_cf (dk_A m s) L R B x)) s)) (nI (s + 1)) (nI m) co bo f_isStudied f_stemCount f_keyCount f_partCount f_rows a_leftSide a_rightSide a_isBundled ab a_closureOf a_stemSet a_isStem a_keySet a_partSet a_symbol a_cells a_classOf a_classes a_agreement := by
        intro co bo ab q
        have := ih (s + 1) co bo ab (by omega)
        rw [dk_bst_f (f := fun s => dk_su y (dk_cf (dk_A m s) L R B x)) q] at this
        exact this
      refine br_f (by rw [dk_sh m (by omega)]; exact nI_ge (by omega) (by omega)) (dk_xbitsOf (by omega) ?_)
      refine dk_if (nI_leI (by omega) (by omega)) (fun z => nm_r (nI_1 s) (no co bo ab (fun q => by omega))) (fun z => ?_)
      refine dk_xcloseSet hx (by omega) hD (fun nb ab' _ => dk_xwithin hy (fun w => br_f (by decide) (nm_r (nI_1 s) ?_)) (fun w => br_t rfl (nm_r (nI_1 s) (no _ _ _ (fun q => w q.2)))))
      have := ih (s + 1) (nI s) (nI nb) ab' (by omega)
      rw [dk_bst_t (f := fun s => dk_su y (dk_cf (dk_A m s) L R B x)) (by omega) w] at this
      exact this
  exact ⟨_, lp (2 ^ m) 0 f_counting f_blocks a_block (by omega)⟩
end
section
variable {f_count f_partCount f_rowCount f_same : Int32} {a_lefts a_rights a_bundled a_parts a_cells a_known a_closures a_stemSets a_symbols : Nat → Int32} {f_made : Int64} {a_tables : Nat → Int64}
theorem dk_ybits {post : Int32 → Prop} {s : Nat} (hs : s < 1024) (p : post (nI (dk_bts s))) : wpY_bits post (f_count, f_partCount, f_rowCount, f_same, f_made, a_lefts, a_rights, a_bundled, a_parts, a_cells, a_known, a_closures, a_tables, a_stemSets, a_symbols) (nI s) := by
  have lp : ∀ e d, d + e = 10 → wY_bits_4 post (nI s) f_count f_partCount f_rowCount f_same f_made a_lefts a_rights a_bundled a_parts a_cells a_known a_closures a_tables a_stemSets a_symbols (e + 1) (nI (dk_sm (fun d => s / 2 ^ d % 2) d)) (nI d) := by
    intro e
    induction e with
    | zero =>
      intro d hd
      have ed : d = 10 := by omega
      subst ed
      exact br_t (by decide) p
    | succ e ih =>
      intro d hd
      refine br_f (nI_ge (b := 10) (by omega) (by decide)) (nm_r (by rw [dk_bit (by omega) (by omega), nI_add]; rfl) (nm_r (nI_1 d) (ih (d + 1) (by omega))))
  exact ⟨_, lp 10 0 (by omega)⟩
variable {L R : Nat → Nat} {B : Nat → Bool}
theorem dk_yneeds24 {post : Int32 → SY → Prop} {m x y : Nat} (hx : x < 64) (hy : y < 64) (hD : dk_DP m L R B a_lefts a_rights a_bundled)
    (p1 : dk_bst (fun s => dk_su y (dk_cf (dk_A m s) L R B x)) (2 ^ m) ≠ 11 → ∀ sa ma, post (nI (dk_bst (fun s => dk_su y (dk_cf (dk_A m s) L R B x)) (2 ^ m))) (nI m, f_partCount, f_rowCount, sa, ma, a_lefts, a_rights, a_bundled, a_parts, a_cells, a_known, a_closures, a_tables, a_stemSets, a_symbols))
    (p0 : dk_bst (fun s => dk_su y (dk_cf (dk_A m s) L R B x)) (2 ^ m) = 11 → ∀ sa ma, post (-3) (nI m, f_partCount, f_rowCount, sa, ma, a_lefts, a_rights, a_bundled, a_parts, a_cells, a_known, a_closures, a_tables, a_stemSets, a_symbols)) :
    ∃ n, wY_needs_24 post (nI x) (nI y) n 11 0 (nI m) f_partCount f_rowCount f_same f_made a_lefts a_rights a_bundled a_parts a_cells a_known a_closures a_tables a_stemSets a_symbols := by
  have m10 := hD.1
  have p10 : 2 ^ m ≤ 1024 := Nat.pow_le_pow_right (n := 2) (by omega) m10
  have lp : ∀ e s sa ma, s + e = 2 ^ m → wY_needs_24 post (nI x) (nI y) (e + 1) (nI (dk_bst (fun s => dk_su y (dk_cf (dk_A m s) L R B x)) s)) (nI s) (nI m) f_partCount f_rowCount sa ma a_lefts a_rights a_bundled a_parts a_cells a_known a_closures a_tables a_stemSets a_symbols := by
    intro e
    induction e with
    | zero =>
      intro s sa ma hs
      have es : s = 2 ^ m := by omega
      subst es
      have bl := dk_bst_le (fun s => dk_su y (dk_cf (dk_A m s) L R B x)) (2 ^ m)
      exact br_t (by rw [dk_sh m (by omega)]; exact nI_le (Nat.le_refl _) (by omega)) (dk_if (nI_eq (b := 11) (by omega) (by decide)) (fun z => p0 z sa ma) (fun z => p1 z sa ma))
    | succ e ih =>
      intro s sa ma hs
      have bl := dk_bst_le (fun s => dk_su y (dk_cf (dk_A m s) L R B x)) s
      have bt := dk_bts_le s
      have no : ∀ sa ma, ¬ (dk_bts s < dk_bst (fun s => dk_su y (dk_cf (dk_A m s) L R B x)) s ∧ dk_su y (dk_cf (dk_A m s) L R B x)) → wY_needs_24 post (nI x) (nI y) (e + 1) (nI (dk_bst (fun s => dk_su y (dk_cf (dk_A m s) L R B x)) s)) (nI (s + 1)) (nI m) f_partCount f_rowCount sa ma a_lefts a_rights a_bundled a_parts a_cells a_known a_closures a_tables a_stemSets a_symbols := by
        intro sa ma q
        have := ih (s + 1) sa ma (by omega)
        rw [dk_bst_f (f := fun s => dk_su y (dk_cf (dk_A m s) L R B x)) q] at this
        exact this
      refine br_f (by rw [dk_sh m (by omega)]; exact nI_ge (by omega) (by omega)) (dk_ybits (by omega) ?_)
      refine dk_if (nI_leI (by omega) (by omega)) (fun z => nm_r (nI_1 s) (no sa ma (fun q => by omega))) (fun z => ?_)
      refine dk_ygrow hx (by omega) hD (fun w _ => dk_if (by rw [dk_not]; exact (dk_z (dk_sd_lt hy)).trans dk_sd0) (fun q => nm_r (nI_1 s) ?_) (fun q => nm_r (nI_1 s) (no _ _ (fun r => q r.2))))
      have := ih (s + 1) (nI (dk_cf (dk_A m s) L R B x)) w (by omega)
      rw [dk_bst_t (f := fun s => dk_su y (dk_cf (dk_A m s) L R B x)) (by omega) q] at this
      exact this
  exact ⟨_, lp (2 ^ m) 0 f_same f_made (by omega)⟩
end
theorem i_vc_needs {k : Nat} {u : SX} {v : SY} (I : i_Rel k u v) (hk : k + 4 ≤ 2048) (v1 : Int32) (v2 : Int32) : wpX_needs (fun r u' => wpY_needs (fun r' v' => r' = r ∧ i_Rel (k + 4) u' v') v v1 v2) u v1 v2 := by
  refine dk_el (Q := fun u v => wpX_needs (fun r u' => wpY_needs (fun r' v' => r' = r ∧ i_Rel (k + 4) u' v') v v1 v2) u v1 v2) ?_ I
  intro m pn rn L R P B co bo sd sc kc al ar abd ab clo ss ism ks ap sy ce cof cls agr sa ma kn cc tb sts sys hf
  have hf' := hf
  obtain ⟨hD, hP, hr, hS, hK⟩ := hf
  have m10 := hD.1
  have pos : 0 < 2 ^ m := Nat.pos_of_ne_zero (by intro q; simp at q)
  rcases dk_set v1 with ⟨x, x1, rfl⟩ | b1
  · rcases dk_set v2 with ⟨y, y1, rfl⟩ | b2
    · unfold wpX_needs
      refine dk_xbad x1 (br_t rfl (dk_xbad y1 (br_t rfl (br_t rfl ?_))))
      refine dk_xfollows x1 y1 hD hS (fun z co bo sc kc ab clo ss ism ks hT => br_f (by decide) ?_) (fun z co bo sc kc ab clo ss ism ks hT => br_t rfl ?_)
      · refine dk_xneeds51 x1 y1 hD (fun co bo ab => ?_)
        unfold wpY_needs
        refine dk_yset x1 (br_f (by decide) (dk_yset y1 (br_f (by decide) ?_)))
        refine dk_yneeds24 x1 y1 hD (fun _ sa ma => ⟨rfl, dk_mk ⟨hD, hP, hr, Or.inr ⟨rfl, hT⟩, hK⟩⟩) (fun w => ?_)
        have := dk_bst_yes (f := fun s => dk_su y (dk_cf (dk_A m s) L R B x)) (n := 2 ^ m - 1) (by show dk_su y (dk_cf (dk_A m (2 ^ m - 1)) L R B x); rw [dk_A2]; exact z)
        rw [show 2 ^ m - 1 + 1 = 2 ^ m by omega] at this
        omega
      · unfold wpY_needs
        refine dk_yset x1 (br_f (by decide) (dk_yset y1 (br_f (by decide) ?_)))
        refine dk_yneeds24 x1 y1 hD (fun w => ?_) (fun _ sa ma => ⟨rfl, dk_mk ⟨hD, hP, hr, Or.inr ⟨rfl, hT⟩, hK⟩⟩)
        refine absurd (dk_bst_no _ (fun s _ q => z (dk_su_tr q ?_))) w
        exact dk_cf_mono (A := dk_Al m) (A' := dk_A m s) (fun k hk => hk.1) (dk_cfC x1) (dk_cfC x1)
    · unfold wpX_needs
      refine dk_xbad x1 (br_t rfl (dk_xbad1 b2 (br_f (by decide) (br_f (by decide) ?_))))
      unfold wpY_needs
      exact dk_yset x1 (br_f (by decide) (dk_ynot b2 (br_t rfl ⟨rfl, dk_mk hf'⟩)))
  · unfold wpX_needs
    refine dk_xbad1 b1 (br_f (by decide) (br_f (by decide) ?_))
    unfold wpY_needs
    exact dk_ynot b1 (br_t rfl ⟨rfl, dk_mk hf'⟩)
end
section
/-! the table at hand: rows that agree, the first of the rows that agree, counts -/
def dk_ag (ce : Nat → Int32) (set r s : Nat) : Prop := ∀ c, c < 6 → set.testBit c = true → ce (6 * r + c) = ce (6 * s + c)
section
variable {ce : Nat → Int32}
theorem dk_ag_r (set r : Nat) : dk_ag ce set r r := fun _ _ _ => rfl
theorem dk_ag_s {set r s : Nat} (h : dk_ag ce set r s) : dk_ag ce set s r := fun c hc hs => (h c hc hs).symm
theorem dk_ag_t {set r s t : Nat} (h : dk_ag ce set r s) (g : dk_ag ce set s t) : dk_ag ce set r t := fun c hc hs => (h c hc hs).trans (g c hc hs)
theorem dk_ag_m {set set' r s : Nat} (hs : dk_su set' set) (h : dk_ag ce set r s) : dk_ag ce set' r s := fun c hc z => h c hc (hs c z)
theorem dk_ag_u {a b r s : Nat} (h : dk_ag ce a r s) (g : dk_ag ce b r s) : dk_ag ce (a ||| b) r s := fun c hc z => by
  rw [Nat.testBit_or, Bool.or_eq_true] at z
  exact z.elim (h c hc) (g c hc)
theorem dk_ag_p {c r s : Nat} (hc : c < 6) : dk_ag ce (2 ^ c) r s ↔ ce (6 * r + c) = ce (6 * s + c) :=
  ⟨fun h => h c hc Nat.testBit_two_pow_self, fun h d hd z => by rw [dk_tp] at z; have : c = d := of_decide_eq_true z; subst this; exact h⟩
theorem dk_su_l (a b : Nat) : dk_su a (a ||| b) := fun i h => by rw [Nat.testBit_or, h]; rfl
theorem dk_su_r (a b : Nat) : dk_su b (a ||| b) := fun i h => by rw [Nat.testBit_or, h, Bool.or_true]
end
theorem dk_fi_ex (ce : Nat → Int32) (set r : Nat) : ∃ k, dk_ag ce set k r ∧ ∀ j, j < k → ¬ dk_ag ce set j r := pk_least (fun q => dk_ag ce set q r) ⟨r, dk_ag_r set r⟩
noncomputable def dk_fi (ce : Nat → Int32) (set r : Nat) : Nat := (dk_fi_ex ce set r).choose
section
variable {ce : Nat → Int32}
theorem dk_fi_a (set r : Nat) : dk_ag ce set (dk_fi ce set r) r := (dk_fi_ex ce set r).choose_spec.1
theorem dk_fi_l {set r j : Nat} (h : j < dk_fi ce set r) : ¬ dk_ag ce set j r := (dk_fi_ex ce set r).choose_spec.2 j h
theorem dk_fi_le (set r : Nat) : dk_fi ce set r ≤ r := by
  rcases Nat.lt_or_ge r (dk_fi ce set r) with z | z
  · exact absurd (dk_ag_r set r) (dk_fi_l z)
  · exact z
theorem dk_fi_u {set r k : Nat} (h : dk_ag ce set k r) (g : ∀ j, j < k → ¬ dk_ag ce set j r) : dk_fi ce set r = k := by
  rcases Nat.lt_trichotomy (dk_fi ce set r) k with z | z | z
  · exact absurd (dk_fi_a set r) (g _ z)
  · exact z
  · exact absurd h (dk_fi_l z)
theorem dk_fi_e {set r s : Nat} : dk_fi ce set r = dk_fi ce set s ↔ dk_ag ce set r s := by
  constructor
  · intro h
    have a := dk_fi_a (ce := ce) set r
    have b := dk_fi_a (ce := ce) set s
    rw [← h] at b
    exact dk_ag_t (dk_ag_s a) b
  · intro h
    exact dk_fi_u (dk_ag_t (dk_fi_a set s) (dk_ag_s h)) (fun j hj q => dk_fi_l hj (dk_ag_t q h))
theorem dk_fi_i (set r : Nat) : dk_fi ce set (dk_fi ce set r) = dk_fi ce set r := dk_fi_e.mpr (dk_fi_a set r)
theorem dk_fi_m {set set' r : Nat} (h : dk_su set' set) (g : dk_fi ce set' r = r) : dk_fi ce set r = r := by
  rcases Nat.lt_or_ge (dk_fi ce set r) r with z | z
  · have a := dk_ag_m h (dk_fi_a (ce := ce) set r)
    have z' : dk_fi ce set r < dk_fi ce set' r := by omega
    exact absurd a (dk_fi_l z')
  · exact Nat.le_antisymm (dk_fi_le set r) z
end
theorem dk_cn_sub {P Q : Nat → Prop} {N : Nat} (h : ∀ k, k < N → P k → Q k) (e : dk_cn P N = dk_cn Q N) : ∀ k, k < N → Q k → P k := by
  intro k hk hq
  rcases Classical.em (P k) with z | z
  · exact z
  · have := dk_cn_lt z hq h hk; omega
/-- a table keeps x -> y if y parts no rows that agree on x -/
theorem dk_keep {ce : Nat → Int32} {rn x y : Nat} : dk_cn (fun r => dk_fi ce (x ||| y) r = r) rn = dk_cn (fun r => dk_fi ce x r = r) rn ↔ ∀ r s, r < rn → s < rn → dk_ag ce x r s → dk_ag ce y r s := by
  have sub : ∀ r, r < rn → dk_fi ce x r = r → dk_fi ce (x ||| y) r = r := fun r _ h => dk_fi_m (dk_su_l x y) h
  constructor
  · intro e
    have eq := dk_cn_sub sub e.symm
    have key : ∀ r, r < rn → dk_ag ce y r (dk_fi ce x r) := by
      intro r hr
      have a := dk_fi_le (ce := ce) (x ||| y) r
      have b := eq _ (by omega) (dk_fi_i (ce := ce) (x ||| y) r)
      have d := dk_fi_a (ce := ce) (x ||| y) r
      have g : dk_fi ce x (dk_fi ce (x ||| y) r) = dk_fi ce x r := dk_fi_e.mpr (dk_ag_m (dk_su_l x y) d)
      rw [b] at g
      rw [← g]
      exact dk_ag_s (dk_ag_m (dk_su_r x y) d)
    intro r s hr hs h
    have a := key r hr
    have b := key s hs
    rw [dk_fi_e.mpr h] at a
    exact dk_ag_t a (dk_ag_s b)
  · intro h
    apply dk_cn_eq
    intro r hr
    refine ⟨fun q => ?_, sub r hr⟩
    have fr := dk_fi_le (ce := ce) x r
    have a := h (dk_fi ce x r) r (by omega) hr (dk_fi_a x r)
    have b := dk_fi_e.mpr (dk_ag_u (dk_fi_a (ce := ce) x r) a)
    have c' : dk_fi ce (x ||| y) (dk_fi ce x r) ≤ dk_fi ce x r := dk_fi_le _ _
    omega
/-! counts of pairs -/
theorem dk_cn_split (P : Nat → Prop) (a : Nat) : ∀ j, dk_cn P (a + j) = dk_cn P a + dk_cn (fun i => P (a + i)) j
  | 0 => rfl
  | j + 1 => by
    show dk_cn P (a + j) + dk_b (P (a + j)) = _
    rw [dk_cn_split P a j]
    simp only [dk_cn]; omega
theorem dk_cn_none {P : Nat → Prop} : ∀ N, (∀ k, k < N → ¬ P k) → dk_cn P N = 0
  | 0, _ => rfl
  | N + 1, h => by rw [dk_cn_f (h N (by omega))]; exact dk_cn_none N (fun k hk => h k (by omega))
theorem dk_cn_prod (B D : Nat → Prop) (n : Nat) (hn : 0 < n) : ∀ k, dk_cn (fun p => B (p / n) ∧ D (p % n)) (k * n) = dk_cn B k * dk_cn D n
  | 0 => by rw [Nat.zero_mul]; show 0 = 0 * _; rw [Nat.zero_mul]
  | k + 1 => by
    rw [Nat.succ_mul, dk_cn_split, dk_cn_prod B D n hn k]
    have e : ∀ i, i < n → ((k * n + i) / n = k ∧ (k * n + i) % n = i) := by
      intro i hi
      rw [Nat.mul_comm k n, Nat.mul_add_div hn, Nat.div_eq_of_lt hi, Nat.mul_add_mod, Nat.mod_eq_of_lt hi]
      exact ⟨rfl, rfl⟩
    rcases Classical.em (B k) with z | z
    · rw [dk_cn_t z, Nat.succ_mul]
      congr 1
      exact dk_cn_eq (fun i hi => by rw [(e i hi).1, (e i hi).2]; exact ⟨fun q => q.2, fun q => ⟨z, q⟩⟩)
    · rw [dk_cn_f z, dk_cn_none (P := fun i => B ((k * n + i) / n) ∧ D ((k * n + i) % n)) n (fun i hi => by rw [(e i hi).1]; exact fun q => z q.1)]; rfl
theorem dk_cn_img {A : Nat → Prop} {f : Nat → Nat} {N : Nat} : ∀ n, (∀ r, r < n → A r → f r < N) → (∀ r s, r < n → s < n → A r → A s → f r = f s → r = s) →
    dk_cn A n = dk_cn (fun p => ∃ r, r < n ∧ A r ∧ f r = p) N
  | 0, _, _ => by rw [dk_cn_none N (fun k hk ⟨r, hr, _⟩ => by omega)]; rfl
  | n + 1, h, g => by
    have ih := dk_cn_img (A := A) (f := f) (N := N) n (fun r hr => h r (by omega)) (fun r s hr hs => g r s (by omega) (by omega))
    rcases Classical.em (A n) with z | z
    · rw [dk_cn_t z, ih, ← dk_cn_add (P := fun p => ∃ r, r < n ∧ A r ∧ f r = p) (a := f n) (fun ⟨r, r1, r2, r3⟩ => by have := g r n (by omega) (by omega) r2 z r3; omega) (h n (by omega) z)]
      refine dk_cn_eq (fun p hp => ⟨?_, ?_⟩)
      · rintro (⟨r, r1, r2⟩ | q)
        · exact ⟨r, by omega, r2⟩
        · exact ⟨n, by omega, z, q.symm⟩
      · rintro ⟨r, r1, r2, r3⟩
        rcases Nat.lt_or_ge r n with w | w
        · exact Or.inl ⟨r, w, r2, r3⟩
        · have : r = n := by omega
          subst this; exact Or.inr r3.symm
    · rw [dk_cn_f z, ih]
      refine dk_cn_eq (fun p hp => ⟨fun ⟨r, r1, r2⟩ => ⟨r, by omega, r2⟩, fun ⟨r, r1, r2, r3⟩ => ⟨r, ?_, r2, r3⟩⟩)
      rcases Nat.lt_or_ge r n with w | w
      · exact w
      · have : r = n := by omega
        subst this; exact absurd r2 z
/-- the product of the rows that agree on x -/
theorem dk_prod {ce : Nat → Int32} {rn x y h : Nat} :
    dk_cn (fun r => dk_fi ce x r = h ∧ dk_fi ce 63 r = r) rn = dk_cn (fun r => dk_fi ce x r = h ∧ dk_fi ce (x ||| y) r = r) rn * dk_cn (fun r => dk_fi ce x r = h ∧ dk_fi ce (x ||| dk_sd (dk_sd 63 x) y) r = r) rn ↔
    ∀ r s, r < rn → s < rn → dk_fi ce x r = h → dk_fi ce x s = h → ∃ t, t < rn ∧ dk_ag ce (x ||| y) t r ∧ dk_ag ce (dk_sd 63 (x ||| y)) t s := by
  rcases Nat.eq_zero_or_pos rn with rz | rz
  · subst rz
    exact ⟨fun _ r s hr => by omega, fun _ => rfl⟩
  have c63 : ∀ r s, dk_ag ce (x ||| y) r s → dk_ag ce (x ||| dk_sd (dk_sd 63 x) y) r s → dk_ag ce 63 r s := by
    intro r s h1 h2 c hc _
    cases e1 : (x ||| y).testBit c
    · refine h2 c hc ?_
      simp only [Nat.testBit_or, dk_tsd, dk_63, decide_eq_true hc] at e1 ⊢
      cases e2 : x.testBit c <;> cases e3 : y.testBit c <;> simp_all
    · exact h1 c hc e1
  have rest : ∀ i, (dk_sd 63 (x ||| y)).testBit i = (dk_sd (dk_sd 63 x) y).testBit i := by
    intro i
    simp only [dk_tsd, Nat.testBit_or]
    cases x.testBit i <;> cases y.testBit i <;> simp
  have rest' : dk_sd 63 (x ||| y) = dk_sd (dk_sd 63 x) y := Nat.eq_of_testBit_eq rest
  rw [rest']
  have lx : dk_su x (x ||| y) := dk_su_l _ _
  have lz : dk_su x (x ||| dk_sd (dk_sd 63 x) y) := dk_su_l _ _
  have big : ∀ a, a < 64 → dk_su a 63 := fun a ha => dk_su63 ha
  have up63 : ∀ (a r s : Nat), dk_ag ce 63 r s → dk_ag ce a r s := fun a r s g c hc _ => g c hc (by rw [dk_63, decide_eq_true hc])
  have im := dk_cn_img (A := fun r => dk_fi ce x r = h ∧ dk_fi ce 63 r = r) (f := fun r => dk_fi ce (x ||| y) r * rn + dk_fi ce (x ||| dk_sd (dk_sd 63 x) y) r) (N := rn * rn) rn
    (fun r hr _ => by
      have a := dk_fi_le (ce := ce) (x ||| y) r
      have b := dk_fi_le (ce := ce) (x ||| dk_sd (dk_sd 63 x) y) r
      have c1 : dk_fi ce (x ||| y) r + 1 ≤ rn := by omega
      have c2 := Nat.mul_le_mul_right rn c1
      rw [Nat.succ_mul] at c2
      show dk_fi ce (x ||| y) r * rn + dk_fi ce (x ||| dk_sd (dk_sd 63 x) y) r < rn * rn
      omega)
    (fun r s hr hs ha hb e => by
      have e' : dk_fi ce (x ||| y) r * rn + dk_fi ce (x ||| dk_sd (dk_sd 63 x) y) r = dk_fi ce (x ||| y) s * rn + dk_fi ce (x ||| dk_sd (dk_sd 63 x) y) s := e
      have b1 := dk_fi_le (ce := ce) (x ||| dk_sd (dk_sd 63 x) y) r
      have b2 := dk_fi_le (ce := ce) (x ||| dk_sd (dk_sd 63 x) y) s
      have d1 : dk_fi ce (x ||| y) r = dk_fi ce (x ||| y) s := by
        have q := congrArg (· / rn) e'
        simp only [Nat.mul_comm _ rn] at q
        rw [Nat.mul_add_div rz, Nat.mul_add_div rz, Nat.div_eq_of_lt (by omega), Nat.div_eq_of_lt (by omega)] at q
        exact q
      have d2 : dk_fi ce (x ||| dk_sd (dk_sd 63 x) y) r = dk_fi ce (x ||| dk_sd (dk_sd 63 x) y) s := by rw [d1] at e'; omega
      have g := c63 r s (dk_fi_e.mp d1) (dk_fi_e.mp d2)
      have := dk_fi_e.mpr g
      rw [ha.2, hb.2] at this; exact this)
  rw [im, ← dk_cn_prod _ _ rn rz rn]
  have sub : ∀ p, p < rn * rn → (∃ r, r < rn ∧ (dk_fi ce x r = h ∧ dk_fi ce 63 r = r) ∧ dk_fi ce (x ||| y) r * rn + dk_fi ce (x ||| dk_sd (dk_sd 63 x) y) r = p) →
      ((dk_fi ce x (p / rn) = h ∧ dk_fi ce (x ||| y) (p / rn) = p / rn) ∧ (dk_fi ce x (p % rn) = h ∧ dk_fi ce (x ||| dk_sd (dk_sd 63 x) y) (p % rn) = p % rn)) := by
    rintro p hp ⟨r, r1, r2, r3⟩
    have b := dk_fi_le (ce := ce) (x ||| dk_sd (dk_sd 63 x) y) r
    have q1 : p / rn = dk_fi ce (x ||| y) r := by rw [← r3, Nat.mul_comm, Nat.mul_add_div rz, Nat.div_eq_of_lt (by omega)]; rfl
    have q2 : p % rn = dk_fi ce (x ||| dk_sd (dk_sd 63 x) y) r := by rw [← r3, Nat.mul_comm, Nat.mul_add_mod, Nat.mod_eq_of_lt (by omega)]
    rw [q1, q2]
    exact ⟨⟨(dk_fi_e.mpr (dk_ag_m lx (dk_fi_a _ r))).trans r2.1, dk_fi_i _ _⟩, ⟨(dk_fi_e.mpr (dk_ag_m lz (dk_fi_a _ r))).trans r2.1, dk_fi_i _ _⟩⟩
  constructor
  · intro e
    have eq := dk_cn_sub sub e
    intro r s hr hs h1 h2
    have f1 := dk_fi_le (ce := ce) (x ||| y) r
    have f2 := dk_fi_le (ce := ce) (x ||| dk_sd (dk_sd 63 x) y) s
    have pl : dk_fi ce (x ||| y) r * rn + dk_fi ce (x ||| dk_sd (dk_sd 63 x) y) s < rn * rn := by
      have c1 : dk_fi ce (x ||| y) r + 1 ≤ rn := by omega
      have c2 := Nat.mul_le_mul_right rn c1
      rw [Nat.succ_mul] at c2
      omega
    have q1 : (dk_fi ce (x ||| y) r * rn + dk_fi ce (x ||| dk_sd (dk_sd 63 x) y) s) / rn = dk_fi ce (x ||| y) r := by rw [Nat.mul_comm, Nat.mul_add_div rz, Nat.div_eq_of_lt (by omega)]; rfl
    have q2 : (dk_fi ce (x ||| y) r * rn + dk_fi ce (x ||| dk_sd (dk_sd 63 x) y) s) % rn = dk_fi ce (x ||| dk_sd (dk_sd 63 x) y) s := by rw [Nat.mul_comm, Nat.mul_add_mod, Nat.mod_eq_of_lt (by omega)]
    obtain ⟨t, t1, t2, t3⟩ := eq _ pl (by
      rw [q1, q2]
      exact ⟨⟨(dk_fi_e.mpr (dk_ag_m lx (dk_fi_a _ r))).trans h1, dk_fi_i _ _⟩, ⟨(dk_fi_e.mpr (dk_ag_m lz (dk_fi_a _ s))).trans h2, dk_fi_i _ _⟩⟩)
    have g := dk_fi_le (ce := ce) (x ||| dk_sd (dk_sd 63 x) y) t
    have d1 : dk_fi ce (x ||| y) t = dk_fi ce (x ||| y) r := by
      have q := congrArg (· / rn) t3
      simp only [Nat.mul_comm _ rn] at q
      rw [Nat.mul_add_div rz, Nat.mul_add_div rz, Nat.div_eq_of_lt (by omega), Nat.div_eq_of_lt (by omega)] at q
      exact q
    have d2 : dk_fi ce (x ||| dk_sd (dk_sd 63 x) y) t = dk_fi ce (x ||| dk_sd (dk_sd 63 x) y) s := by rw [d1] at t3; omega
    exact ⟨t, t1, dk_fi_e.mp d1, dk_ag_m (dk_su_r x _) (dk_fi_e.mp d2)⟩
  · intro hx
    refine dk_cn_eq (fun p hp => ⟨sub p hp, fun ⟨⟨b1, b2⟩, ⟨d1, d2⟩⟩ => ?_⟩)
    have l1 : p / rn < rn := Nat.div_lt_of_lt_mul hp
    have l2 : p % rn < rn := Nat.mod_lt _ rz
    obtain ⟨t, t1, t2, t3⟩ := hx (p / rn) (p % rn) l1 l2 b1 d1
    have tx : dk_ag ce x t (p / rn) := dk_ag_m lx t2
    have tz : dk_ag ce (x ||| dk_sd (dk_sd 63 x) y) t (p % rn) := dk_ag_u (dk_ag_t tx (dk_fi_e.mp (b1.trans d1.symm))) t3
    have r1 := dk_fi_le (ce := ce) 63 t
    have r2 := dk_fi_a (ce := ce) 63 t
    refine ⟨dk_fi ce 63 t, by omega, ⟨(dk_fi_e.mpr (dk_ag_t (up63 x _ _ r2) tx)).trans b1, dk_fi_i _ _⟩, ?_⟩
    rw [dk_fi_e.mpr (dk_ag_t (up63 (x ||| y) _ _ r2) t2), dk_fi_e.mpr (dk_ag_t (up63 (x ||| dk_sd (dk_sd 63 x) y) _ _ r2) tz), b2, d2]
    exact Nat.div_add_mod' p rn
end
section
/-! the desk: rows that agree -/
def dk_CL (ce : Nat → Int32) (rn n : Nat) (cof cls : Nat → Int32) : Prop :=
  ∀ set, set < n → (∀ r, r < rn → cof (6 * set + r) = nI (dk_fi ce set r)) ∧ cls set = nI (dk_cn (fun r => dk_fi ce set r = r) rn)
theorem dk_s1' (x : Int32) : x - 1 = x + (-1) := by rw [Int32.sub_eq_add_neg]
theorem dk_ag_c {ce : Nat → Int32} {set c r s : Nat} (hc : c < 6) (hs : set.testBit c = true) : dk_ag ce set r s ↔ (dk_ag ce (dk_sd set (2 ^ c)) r s ∧ ce (6 * r + c) = ce (6 * s + c)) := by
  constructor
  · intro h
    exact ⟨dk_ag_m (fun i hi => by rw [dk_tsd, Bool.and_eq_true] at hi; exact hi.1) h, h c hc hs⟩
  · rintro ⟨h1, h2⟩ d hd hs'
    rcases Nat.decEq c d with z | z
    · exact h1 d hd (by rw [dk_tsd, hs', dk_tp, decide_eq_false z]; rfl)
    · subst z; exact h2
theorem dk_sd_b {set c : Nat} (hs : set.testBit c = true) : dk_sd set (2 ^ c) < set := by
  have a := dk_sd_le set (2 ^ c)
  rcases Nat.lt_or_ge (dk_sd set (2 ^ c)) set with z | z
  · exact z
  · have := (dk_sdx set c).mp (by omega)
    rw [hs] at this; cases this
section
variable {f_count f_counting f_blocks f_isStudied f_stemCount f_keyCount f_partCount f_rows : Int32} {a_leftSide a_rightSide a_isBundled a_block a_closureOf a_stemSet a_isStem a_keySet a_partSet a_symbol a_cells a_classOf a_classes a_agreement : Nat → Int32}
theorem dk_xhighestOf {post : Int32 → Prop} {set : Nat} (h0 : 0 < set) (h64 : set < 64) (p : ∀ c, c < 6 → set.testBit c = true → post (nI c)) : wpX_highestOf post (f_count, f_counting, f_blocks, f_isStudied, f_stemCount, f_keyCount, f_partCount, f_rows, a_leftSide, a_rightSide, a_isBundled, a_block, a_closureOf, a_stemSet, a_isStem, a_keySet, a_partSet, a_symbol, a_cells, a_classOf, a_classes, a_agreement) (nI set) := by
  have lp : ∀ e i f, i + e = 6 → ((f < 6 ∧ set.testBit f = true) ∨ (∀ j, j < i → set.testBit j = false)) → wX_highestOf_4 post (nI set) f_count f_counting f_blocks f_isStudied f_stemCount f_keyCount f_partCount f_rows a_leftSide a_rightSide a_isBundled a_block a_closureOf a_stemSet a_isStem a_keySet a_partSet a_symbol a_cells a_classOf a_classes a_agreement (e + 1) (nI f) (nI i) := by
    intro e
    induction e with
    | zero =>
      intro i f hi h
      have ei : i = 6 := by omega
      subst ei
      refine br_t (by decide) ?_
      rcases h with ⟨h1, h2⟩ | h
      · exact p f h1 h2
      · obtain ⟨j, hj⟩ := dk_ne (a := set) (by omega)
        rw [h j (dk_lo h64 hj)] at hj; cases hj
    | succ e ih =>
      intro i f hi h
      refine br_f (nI_ge (b := 6) (by omega) (by decide)) (dk_if (dk_b1 (by omega) (by omega)) (fun z => nm_r (nI_1 i) (ih (i + 1) i (by omega) (Or.inl ⟨by omega, z⟩))) (fun z => nm_r (nI_1 i) (ih (i + 1) f (by omega) ?_)))
      rcases h with h | h
      · exact Or.inl h
      · exact Or.inr (lt_s h (by cases q : set.testBit i; rfl; exact absurd q z))
  exact ⟨_, lp 6 0 0 (by omega) (Or.inr lt_0)⟩
theorem dk_xpartClasses {post : SX → Prop} {rn set : Nat} (hr : rn ≤ 6) (h0 : 0 < set) (h64 : set < 64) (hC : dk_CL a_cells rn set a_classOf a_classes)
    (p : ∀ cof cls, dk_CL a_cells rn (set + 1) cof cls → post (f_count, f_counting, f_blocks, f_isStudied, f_stemCount, f_keyCount, f_partCount, nI rn, a_leftSide, a_rightSide, a_isBundled, a_block, a_closureOf, a_stemSet, a_isStem, a_keySet, a_partSet, a_symbol, a_cells, cof, cls, a_agreement)) : wpX_partClasses post (f_count, f_counting, f_blocks, f_isStudied, f_stemCount, f_keyCount, f_partCount, nI rn, a_leftSide, a_rightSide, a_isBundled, a_block, a_closureOf, a_stemSet, a_isStem, a_keySet, a_partSet, a_symbol, a_cells, a_classOf, a_classes, a_agreement) (nI set) := by
  unfold wpX_partClasses
  refine dk_xhighestOf h0 h64 (fun c hc hb => ?_)
  have l1 := dk_sd_b hb
  have sin : vp_in (nI set) 64 := vp_in_nI h64 (by decide)
  have es : (nI set).toNatClampNeg = set := dk_cl (by omega)
  refine nm_r (e' := nI (dk_sd set (2 ^ c))) (by rw [dk_sh c (by omega), dk_not]) ⟨sin, nm_r (by rw [es]) ?_⟩
  have lp43 : ∀ (cof cls : Nat → Int32) (J : Int32 → (Nat → Int32) → (Nat → Int32) → (Nat → Int32) → (Nat → Int32) → (Nat → Int32) → (Nat → Int32) → (Nat → Int32) → (Nat → Int32) → (Nat → Int32) → (Nat → Int32) → (Nat → Int32) → (Nat → Int32) → (Nat → Int32) → (Nat → Int32) → Prop) (r : Nat), r < rn →
      (∀ q, q < rn → cof (6 * dk_sd set (2 ^ c) + q) = nI (dk_fi a_cells (dk_sd set (2 ^ c)) q)) →
      ((dk_fi a_cells set r = r → J (nI (r + 1)) a_leftSide a_rightSide a_isBundled a_block a_closureOf a_stemSet a_isStem a_keySet a_partSet a_symbol a_cells (upd cof (6 * set + r) (nI (dk_fi a_cells set r))) (upd cls set (cls set + 1)) a_agreement)) →
      ((¬ dk_fi a_cells set r = r → J (nI (r + 1)) a_leftSide a_rightSide a_isBundled a_block a_closureOf a_stemSet a_isStem a_keySet a_partSet a_symbol a_cells (upd cof (6 * set + r) (nI (dk_fi a_cells set r))) (upd cls set (cls set)) a_agreement)) →
      ∀ k f, k ≤ f → f ≤ r → dk_ag a_cells set f r → (∀ q, k ≤ q → q < f → ¬ dk_ag a_cells set q r) →
      wX_partClasses_43 post J (nI set) (nI c) (nI (dk_sd set (2 ^ c))) (nI r) f_count f_counting f_blocks f_isStudied f_stemCount f_keyCount f_partCount (nI rn) a_leftSide a_rightSide a_isBundled a_block a_closureOf a_stemSet a_isStem a_keySet a_partSet a_symbol a_cells cof cls a_agreement (k + 1) (nI f) (nI k + (-1)) := by
    intro cof cls J r hr' hc' j1 j2 k
    induction k with
    | zero =>
      intro f hk hf hag hno
      have ef : dk_fi a_cells set r = f := dk_fi_u hag (fun j hj => hno j (Nat.zero_le _) hj)
      rw [ef] at j1 j2
      refine br_t (by decide) ?_
      rw [dk_ix]
      refine ⟨vp_in_nI (by omega) (by decide), nm_r (by rw [dk_cl (by omega : 6 * set + r < 1000)]) ?_⟩
      refine dk_if (nI_eq (by omega) (by omega)) (fun z => ⟨sin, sin, nm_r (by rw [es]) (nm_r (nI_1 r) (j1 z))⟩) (fun z => ⟨sin, sin, nm_r (by rw [es]) (nm_r (nI_1 r) (j2 z))⟩)
    | succ k ih =>
      intro f hk hf hag hno
      rw [pk_m1]
      have kr : k < r := by omega
      have no : ¬ dk_ag a_cells set k r → wX_partClasses_43 post J (nI set) (nI c) (nI (dk_sd set (2 ^ c))) (nI r) f_count f_counting f_blocks f_isStudied f_stemCount f_keyCount f_partCount (nI rn) a_leftSide a_rightSide a_isBundled a_block a_closureOf a_stemSet a_isStem a_keySet a_partSet a_symbol a_cells cof cls a_agreement (k + 1) (nI f) (nI k + (-1)) := fun q =>
        ih f (by omega) hf hag (fun t t1 t2 => by
          rcases Nat.decEq t k with w | w
          · exact hno t (by omega) t2
          · subst w; exact q)
      have yes : dk_ag a_cells set k r → wX_partClasses_43 post J (nI set) (nI c) (nI (dk_sd set (2 ^ c))) (nI r) f_count f_counting f_blocks f_isStudied f_stemCount f_keyCount f_partCount (nI rn) a_leftSide a_rightSide a_isBundled a_block a_closureOf a_stemSet a_isStem a_keySet a_partSet a_symbol a_cells cof cls a_agreement (k + 1) (nI k) (nI k + (-1)) := fun q =>
        ih k (Nat.le_refl _) (by omega) q (fun t t1 t2 => by omega)
      have f1 := dk_fi_le (ce := a_cells) (dk_sd set (2 ^ c)) k
      have f2 := dk_fi_le (ce := a_cells) (dk_sd set (2 ^ c)) r
      refine br_f (nI_pos (by omega)) ?_
      rw [dk_ix, dk_ix, dk_ix, dk_ix, dk_cl (by omega : 6 * dk_sd set (2 ^ c) + k < 1000), dk_cl (by omega : 6 * dk_sd set (2 ^ c) + r < 1000), dk_cl (by omega : 6 * k + c < 1000), dk_cl (by omega : 6 * r + c < 1000), hc' k (by omega), hc' r hr']
      refine ⟨vp_in_nI (by omega) (by decide), vp_in_nI (by omega) (by decide), ?_⟩
      refine dk_if ((nI_eq (by omega) (by omega)).trans dk_fi_e) (fun z => ⟨vp_in_nI (by omega) (by decide), vp_in_nI (by omega) (by decide), ?_⟩) (fun z => br_t rfl (nm_e (no (fun q => z ((dk_ag_c hc hb).mp q).1))))
      exact br_c (fun w => br_f (by decide) (nm_e (yes ((dk_ag_c hc hb).mpr ⟨z, w⟩)))) (fun w => br_t rfl (nm_e (no (fun q => w ((dk_ag_c hc hb).mp q).2))))
  have lp24 : ∀ e r cof cls, r + e = rn → (∀ t, t < set → (∀ q, q < rn → cof (6 * t + q) = nI (dk_fi a_cells t q)) ∧ cls t = nI (dk_cn (fun r => dk_fi a_cells t r = r) rn)) →
      (∀ q, q < r → cof (6 * set + q) = nI (dk_fi a_cells set q)) → cls set = nI (dk_cn (fun r => dk_fi a_cells set r = r) r) →
      wX_partClasses_24 post (nI set) (nI c) (nI (dk_sd set (2 ^ c))) f_count f_counting f_blocks f_isStudied f_stemCount f_keyCount f_partCount (nI rn) (e + 1) (nI r) a_leftSide a_rightSide a_isBundled a_block a_closureOf a_stemSet a_isStem a_keySet a_partSet a_symbol a_cells cof cls a_agreement := by
    intro e
    induction e with
    | zero =>
      intro r cof cls he h1 h2 h3
      have er : r = rn := by omega
      subst er
      refine br_t (nI_le (Nat.le_refl _) (by omega)) (p cof cls (fun t ht => ?_))
      rcases Nat.lt_or_ge t set with z | z
      · exact h1 t z
      · have : t = set := by omega
        subst this; exact ⟨h2, h3⟩
    | succ e ih =>
      intro r cof cls he h1 h2 h3
      have rr : r < rn := by omega
      refine br_f (nI_ge (by omega) (by omega)) (nm_r (dk_s1' _) ⟨r + 1, lp43 cof cls _ r rr (h1 _ l1).1 (fun z => ih (r + 1) _ _ (by omega) ?_ ?_ ?_) (fun z => ih (r + 1) _ _ (by omega) ?_ ?_ ?_) r r (Nat.le_refl _) (Nat.le_refl _) (dk_ag_r _ _) (fun q q1 q2 => by omega)⟩)
      · exact fun t ht => ⟨fun q hq => by rw [pk_un (by omega)]; exact (h1 t ht).1 q hq, by rw [pk_un (by omega)]; exact (h1 t ht).2⟩
      · exact lt_s (fun q hq => by rw [pk_un (by omega)]; exact h2 q hq) pk_us
      · rw [pk_us, h3, dk_cn_t (P := fun r => dk_fi a_cells set r = r) z, nI_1]
      · exact fun t ht => ⟨fun q hq => by rw [pk_un (by omega)]; exact (h1 t ht).1 q hq, by rw [pk_un (by omega)]; exact (h1 t ht).2⟩
      · exact lt_s (fun q hq => by rw [pk_un (by omega)]; exact h2 q hq) pk_us
      · rw [pk_us, h3, dk_cn_f (P := fun r => dk_fi a_cells set r = r) z]
  exact ⟨_, lp24 rn 0 a_classOf _ (by omega) (fun t ht => ⟨(hC t ht).1, by rw [pk_un (by omega)]; exact (hC t ht).2⟩) lt_0 pk_us⟩
theorem dk_xfindClasses {post : SX → Prop} {rn : Nat} (hr : rn ≤ 6) (p : ∀ cof cls, dk_CL a_cells rn 64 cof cls → post (f_count, f_counting, f_blocks, f_isStudied, f_stemCount, f_keyCount, f_partCount, nI rn, a_leftSide, a_rightSide, a_isBundled, a_block, a_closureOf, a_stemSet, a_isStem, a_keySet, a_partSet, a_symbol, a_cells, cof, cls, a_agreement)) : wpX_findClasses post (f_count, f_counting, f_blocks, f_isStudied, f_stemCount, f_keyCount, f_partCount, nI rn, a_leftSide, a_rightSide, a_isBundled, a_block, a_closureOf, a_stemSet, a_isStem, a_keySet, a_partSet, a_symbol, a_cells, a_classOf, a_classes, a_agreement) := by
  have f0 : ∀ r, dk_fi a_cells 0 r = 0 := fun r => dk_fi_u (fun c _ h => by rw [Nat.zero_testBit] at h; cases h) (fun j hj => by omega)
  have lp43 : ∀ e set cof cls, set + e = 64 → 0 < set → dk_CL a_cells rn set cof cls → wX_findClasses_43 post (e + 1) (nI set) f_count f_counting f_blocks f_isStudied f_stemCount f_keyCount f_partCount (nI rn) a_leftSide a_rightSide a_isBundled a_block a_closureOf a_stemSet a_isStem a_keySet a_partSet a_symbol a_cells cof cls a_agreement := by
    intro e
    induction e with
    | zero =>
      intro set cof cls he h0 hC
      have es : set = 64 := by omega
      subst es
      exact br_t (by decide) (p cof cls hC)
    | succ e ih =>
      intro set cof cls he h0 hC
      exact br_f (nI_ge (b := 64) (by omega) (by decide)) (dk_xpartClasses hr h0 (by omega) hC (fun cof' cls' hC' => nm_r (nI_1 set) (ih (set + 1) cof' cls' (by omega) (by omega) hC')))
  have lp2 : ∀ e r cof, r + e = rn → (∀ q, q < r → cof q = 0) → wX_findClasses_2 post f_count f_counting f_blocks f_isStudied f_stemCount f_keyCount f_partCount (nI rn) (e + 1) (nI r) a_leftSide a_rightSide a_isBundled a_block a_closureOf a_stemSet a_isStem a_keySet a_partSet a_symbol a_cells cof a_classes a_agreement := by
    intro e
    induction e with
    | zero =>
      intro r cof he h
      have er : r = rn := by omega
      subst er
      refine br_t (nI_le (Nat.le_refl _) (by omega)) (dk_if (nI_leI (b := 0) (by omega) (by decide)) (fun z => nm_e ⟨_, lp43 63 1 cof _ (by omega) (by omega) (fun t ht => ?_)⟩) (fun z => nm_e ⟨_, lp43 63 1 cof _ (by omega) (by omega) (fun t ht => ?_)⟩))
      · have : t = 0 := by omega
        subst this
        have : r = 0 := by omega
        subst this
        exact ⟨fun q hq => by omega, pk_us⟩
      · have : t = 0 := by omega
        subst this
        refine ⟨fun q hq => by rw [Nat.mul_zero, Nat.zero_add, h q hq, f0]; rfl, ?_⟩
        rw [pk_us]
        have : dk_cn (fun r => dk_fi a_cells 0 r = r) r = 1 := by
          have a := dk_cn_split (fun r => dk_fi a_cells 0 r = r) 1 (r - 1)
          rw [show 1 + (r - 1) = r by omega, dk_cn_none (P := fun i => dk_fi a_cells 0 (1 + i) = 1 + i) (r - 1) (fun k _ q => by rw [f0] at q; omega), dk_cn_t (P := fun r => dk_fi a_cells 0 r = r) (n := 0) (f0 0)] at a
          exact a
        rw [this]; rfl
    | succ e ih =>
      intro r cof he h
      refine br_f (nI_ge (by omega) (by omega)) ⟨vp_in_nI (by omega) (by decide), nm_r (by rw [dk_cl (by omega : r < 1000)]) (nm_r (nI_1 r) (ih (r + 1) _ (by omega) (lt_s (fun q hq => by rw [pk_un (by omega)]; exact h q hq) pk_us)))⟩
  exact ⟨_, lp2 rn 0 a_classOf (by omega) lt_0⟩
end
end
section
/-! the reference: agreements of rows; keeps, exact -/
def dk_amk (ce : Nat → Int32) (r s : Nat) : Nat → Nat
  | 0 => 0
  | k + 1 => if ce (6 * r + k) = ce (6 * s + k) then dk_amk ce r s k ||| 2 ^ k else dk_amk ce r s k
theorem dk_amk_b (ce : Nat → Int32) (r s c : Nat) : ∀ k, (dk_amk ce r s k).testBit c = true ↔ (c < k ∧ ce (6 * r + c) = ce (6 * s + c))
  | 0 => by show (0 : Nat).testBit c = true ↔ _; rw [Nat.zero_testBit]; exact ⟨fun q => absurd q (by decide), fun q => by omega⟩
  | k + 1 => by
    have ih := dk_amk_b ce r s c k
    unfold dk_amk
    by_cases e : ce (6 * r + k) = ce (6 * s + k)
    · rw [if_pos e, Nat.testBit_or, Bool.or_eq_true, ih, dk_tp, decide_eq_true_iff]
      constructor
      · rintro (q | q)
        · exact ⟨by omega, q.2⟩
        · subst q; exact ⟨by omega, e⟩
      · rintro ⟨q1, q2⟩
        rcases Nat.lt_or_ge c k with w | w
        · exact Or.inl ⟨w, q2⟩
        · exact Or.inr (by omega)
    · rw [if_neg e, ih]
      constructor
      · rintro ⟨q1, q2⟩; exact ⟨by omega, q2⟩
      · rintro ⟨q1, q2⟩
        refine ⟨?_, q2⟩
        rcases Nat.lt_or_ge c k with w | w
        · exact w
        · have : c = k := by omega
          subst this; exact absurd q2 e
theorem dk_amk_t {ce : Nat → Int32} {r s c : Nat} (h : ce (6 * r + c) = ce (6 * s + c)) : dk_amk ce r s (c + 1) = dk_amk ce r s c ||| 2 ^ c := if_pos h
theorem dk_amk_f {ce : Nat → Int32} {r s c : Nat} (h : ¬ ce (6 * r + c) = ce (6 * s + c)) : dk_amk ce r s (c + 1) = dk_amk ce r s c := if_neg h
def dk_am (ce : Nat → Int32) (r s : Nat) : Nat := dk_amk ce r s 6
theorem dk_am_b (ce : Nat → Int32) (r s c : Nat) : (dk_am ce r s).testBit c = true ↔ (c < 6 ∧ ce (6 * r + c) = ce (6 * s + c)) := dk_amk_b ce r s c 6
theorem dk_am64 (ce : Nat → Int32) (r s : Nat) : dk_am ce r s < 64 := dk_lt (fun i hi => ((dk_am_b ce r s i).mp hi).1)
theorem dk_am_ag {ce : Nat → Int32} {set r s : Nat} (h : set < 64) : dk_su set (dk_am ce r s) ↔ dk_ag ce set r s :=
  ⟨fun q c hc z => ((dk_am_b ce r s c).mp (q c z)).2, fun q c z => (dk_am_b ce r s c).mpr ⟨dk_lo h z, q c (dk_lo h z) z⟩⟩
theorem dk_bits_eq {a b : Nat} {P : Nat → Prop} (ha : ∀ i, a.testBit i = true ↔ P i) (hb : ∀ i, b.testBit i = true ↔ P i) : a = b :=
  dk_su_eq (fun i h => (hb i).mpr ((ha i).mp h)) (fun i h => (ha i).mpr ((hb i).mp h))
/-- what x gives in the table -/
def dk_kb (ce : Nat → Int32) (rn x c : Nat) : Prop := ∀ r s, r < rn → s < rn → dk_ag ce x r s → ce (6 * r + c) = ce (6 * s + c)
section
variable {f_count f_partCount f_rowCount f_same : Int32} {a_lefts a_rights a_bundled a_parts a_cells a_known a_closures a_stemSets a_symbols : Nat → Int32} {f_made : Int64} {a_tables : Nat → Int64}
theorem dk_yagreement {post : Int32 → Prop} {r s : Nat} (hr : r < 6) (hs : s < 6) (p : post (nI (dk_am a_cells r s))) : wpY_agreement post (f_count, f_partCount, f_rowCount, f_same, f_made, a_lefts, a_rights, a_bundled, a_parts, a_cells, a_known, a_closures, a_tables, a_stemSets, a_symbols) (nI r) (nI s) := by
  have lp : ∀ e c, c + e = 6 → wY_agreement_5 post (nI r) (nI s) f_count f_partCount f_rowCount f_same f_made a_lefts a_rights a_bundled a_parts a_cells a_known a_closures a_tables a_stemSets a_symbols (e + 1) (nI (dk_amk a_cells r s c)) (nI c) := by
    intro e
    induction e with
    | zero =>
      intro c hc
      have ec : c = 6 := by omega
      subst ec
      exact br_t (by decide) p
    | succ e ih =>
      intro c hc
      refine br_f (nI_ge (b := 6) (by omega) (by decide)) ?_
      rw [dk_ix, dk_ix, dk_cl (by omega : 6 * r + c < 1000), dk_cl (by omega : 6 * s + c < 1000)]
      refine ⟨vp_in_nI (by omega) (by decide), vp_in_nI (by omega) (by decide), br_c (fun z => nm_r (e' := nI (dk_amk a_cells r s (c + 1))) ?_ (nm_r (nI_1 c) (ih (c + 1) (by omega)))) (fun z => nm_r (nI_1 c) ?_)⟩
      · rw [dk_sh c (by omega), dk_or, dk_amk_t z]
      · have := ih (c + 1) (by omega)
        rw [dk_amk_f z] at this
        exact this
  exact ⟨_, lp 6 0 (by omega)⟩
theorem dk_ykeptBy {post : Int32 → Prop} {rn x : Nat} (hn : rn ≤ 6) (hx : x < 64) (p : ∀ K, K < 64 → (∀ c, K.testBit c = true ↔ (c < 6 ∧ dk_kb a_cells rn x c)) → post (nI K)) : wpY_keptBy post (f_count, f_partCount, nI rn, f_same, f_made, a_lefts, a_rights, a_bundled, a_parts, a_cells, a_known, a_closures, a_tables, a_stemSets, a_symbols) (nI x) := by
  have lp16 : ∀ (J : Int32 → Int32 → Prop) (r : Nat), r < rn →
      (∀ K, K < 64 → (∀ c, K.testBit c = true ↔ (c < 6 ∧ (∀ a b, a < r + 1 → b < a → dk_ag a_cells x a b → a_cells (6 * a + c) = a_cells (6 * b + c)))) → J (nI K) (nI (r + 1))) →
      ∀ e s K, s + e = r → K < 64 → (∀ c, K.testBit c = true ↔ (c < 6 ∧ (∀ a b, a < r → b < a → dk_ag a_cells x a b → a_cells (6 * a + c) = a_cells (6 * b + c)) ∧ (∀ b, b < s → dk_ag a_cells x r b → a_cells (6 * r + c) = a_cells (6 * b + c)))) →
      wY_keptBy_16 post J (nI x) (nI r) f_count f_partCount (nI rn) f_same f_made a_lefts a_rights a_bundled a_parts a_cells a_known a_closures a_tables a_stemSets a_symbols (e + 1) (nI K) (nI s) := by
    intro J r hr hJ e
    induction e with
    | zero =>
      intro s K hs hK h
      have es : s = r := by omega
      subst es
      refine br_t (nI_le (Nat.le_refl _) (by omega)) (nm_r (nI_1 s) (hJ K hK (fun c => ?_)))
      rw [h]
      constructor
      · rintro ⟨a1, a2, a3⟩
        refine ⟨a1, fun a b ha hb => ?_⟩
        rcases Nat.lt_or_ge a s with z | z
        · exact a2 a b z hb
        · have : a = s := by omega
          subst this; exact a3 b hb
      · rintro ⟨a1, a2⟩
        exact ⟨a1, fun a b ha hb => a2 a b (by omega) hb, fun b hb => a2 s b (by omega) hb⟩
    | succ e ih =>
      intro s K hs hK h
      refine br_f (nI_ge (by omega) (by omega)) (dk_yagreement (by omega) (by omega) (dk_if (d := dk_ag a_cells x r s) (by rw [dk_not]; exact ((dk_z (dk_sd_lt hx)).trans dk_sd0).trans (dk_am_ag hx)) (fun z => nm_r (dk_and _ _) (nm_r (nI_1 s) (ih (s + 1) _ (by omega) (dk_and_lt hK) (fun c => ?_)))) (fun z => nm_r (nI_1 s) (ih (s + 1) K (by omega) hK (fun c => ?_)))))
      · rw [Nat.testBit_and, Bool.and_eq_true, h, dk_am_b]
        constructor
        · rintro ⟨⟨a1, a2, a3⟩, a4, a5⟩; exact ⟨a1, a2, lt_s a3 (fun _ => a5)⟩
        · rintro ⟨a1, a2, a3⟩; exact ⟨⟨a1, a2, fun b hb => a3 b (by omega)⟩, a1, a3 s (by omega) z⟩
      · rw [h]
        constructor
        · rintro ⟨a1, a2, a3⟩; exact ⟨a1, a2, lt_s a3 (fun q => absurd q z)⟩
        · rintro ⟨a1, a2, a3⟩; exact ⟨a1, a2, fun b hb => a3 b (by omega)⟩
  have lp5 : ∀ e r K, r + e = rn → K < 64 → (∀ c, K.testBit c = true ↔ (c < 6 ∧ (∀ a b, a < r → b < a → dk_ag a_cells x a b → a_cells (6 * a + c) = a_cells (6 * b + c)))) →
      wY_keptBy_5 post (nI x) f_count f_partCount (nI rn) f_same f_made a_lefts a_rights a_bundled a_parts a_cells a_known a_closures a_tables a_stemSets a_symbols (e + 1) (nI K) (nI r) := by
    intro e
    induction e with
    | zero =>
      intro r K hr hK h
      have er : r = rn := by omega
      subst er
      refine br_t (nI_le (Nat.le_refl _) (by omega)) (p K hK (fun c => ?_))
      rw [h]
      constructor
      · rintro ⟨a1, a2⟩
        refine ⟨a1, fun a b ha hb hg => ?_⟩
        rcases Nat.lt_trichotomy a b with z | z | z
        · exact (a2 b a hb z (dk_ag_s hg)).symm
        · rw [z]
        · exact a2 a b ha z hg
      · rintro ⟨a1, a2⟩
        exact ⟨a1, fun a b ha hb => a2 a b ha (by omega)⟩
    | succ e ih =>
      intro r K hr hK h
      refine br_f (nI_ge (by omega) (by omega)) ⟨_, lp16 _ r (by omega) (fun K' hK' h' => ih (r + 1) K' (by omega) hK' h') r 0 K (by omega) hK (fun c => ?_)⟩
      rw [h]
      exact ⟨fun ⟨a1, a2⟩ => ⟨a1, a2, lt_0⟩, fun ⟨a1, a2, _⟩ => ⟨a1, a2⟩⟩
  exact ⟨_, lp5 rn 0 63 (by omega) (by decide) (fun c => by rw [dk_63, decide_eq_true_iff]; exact ⟨fun q => ⟨q, fun a b ha => by omega⟩, fun q => q.1⟩)⟩
end
theorem dk_clq {ce : Nat → Int32} {rn x y : Nat} {cof cls : Nat → Int32} (hn : rn ≤ 6) (hC : dk_CL ce rn 64 cof cls) (hx : x < 64) (hy : y < 64) :
    cls (x ||| y) = cls x ↔ ∀ r s, r < rn → s < rn → dk_ag ce x r s → dk_ag ce y r s := by
  have a := dk_cn_le (fun r => dk_fi ce (x ||| y) r = r) rn
  have b := dk_cn_le (fun r => dk_fi ce x r = r) rn
  rw [(hC _ (dk_or_lt hx hy)).2, (hC x hx).2, nI_eq (by omega) (by omega)]
  exact dk_keep
theorem dk_clc {ce : Nat → Int32} {rn x c : Nat} {cof cls : Nat → Int32} (hn : rn ≤ 6) (hC : dk_CL ce rn 64 cof cls) (hx : x < 64) (hc : c < 6) :
    cls (x ||| 2 ^ c) = cls x ↔ dk_kb ce rn x c := by
  rw [dk_clq hn hC hx (dk_pw hc)]
  exact ⟨fun h r s hr hs g => (dk_ag_p hc).mp (h r s hr hs g), fun h r s hr hs g => (dk_ag_p hc).mpr (h r s hr hs g)⟩
theorem i_vc_keeps {k : Nat} {u : SX} {v : SY} (I : i_Rel k u v) (hk : k + 4 ≤ 2048) (v1 : Int32) (v2 : Int32) : wpX_keeps (fun r u' => wpY_keeps (fun r' => r' = r ∧ i_Rel (k + 4) u' v) v v1 v2) u v1 v2 := by
  refine dk_el (Q := fun u v => wpX_keeps (fun r u' => wpY_keeps (fun r' => r' = r ∧ i_Rel (k + 4) u' v) v v1 v2) u v1 v2) ?_ I
  intro m pn rn L R P B co bo sd sc kc al ar abd ab clo ss ism ks ap sy ce cof cls agr sa ma kn cc tb sts sys hf
  have hf' := hf
  obtain ⟨hD, hP, hr, hS, hK⟩ := hf
  rcases dk_set v1 with ⟨x, x1, rfl⟩ | b1
  · rcases dk_set v2 with ⟨y, y1, rfl⟩ | b2
    · unfold wpX_keeps
      refine dk_xbad x1 (br_t rfl (dk_xbad y1 (br_t rfl ?_)))
      refine dk_xfindClasses hr (fun cof cls hC => ?_)
      have l64 := dk_or_lt x1 y1
      rw [dk_or, dk_cl (by omega : x ||| y < 1000), dk_cl (by omega : x < 1000)]
      refine ⟨vp_in_nI l64 (by decide), vp_in_nI x1 (by decide), dk_if (dk_clq hr hC x1 y1) (fun z => ?_) (fun z => ?_)⟩
      · unfold wpY_keeps
        refine dk_yset x1 (br_f (by decide) (dk_yset y1 (br_f (by decide) (dk_ykeptBy hr x1 (fun K hK hk => ?_)))))
        refine br_t ?_ ⟨rfl, dk_mk hf'⟩
        rw [dk_not, dk_z (dk_sd_lt y1), dk_sd0]
        exact fun c hc => (hk c).mpr ⟨dk_lo y1 hc, fun r s h1 h2 g => z r s h1 h2 g c (dk_lo y1 hc) hc⟩
      · unfold wpY_keeps
        refine dk_yset x1 (br_f (by decide) (dk_yset y1 (br_f (by decide) (dk_ykeptBy hr x1 (fun K hK hk => ?_)))))
        refine br_f (fun q => z ?_) ⟨rfl, dk_mk hf'⟩
        rw [dk_not, dk_z (dk_sd_lt y1), dk_sd0] at q
        exact fun r s h1 h2 g c hc hb => ((hk c).mp (q c hb)).2 r s h1 h2 g
    · unfold wpX_keeps
      refine dk_xbad x1 (br_t rfl (dk_xbad1 b2 (br_f (by decide) ?_)))
      unfold wpY_keeps
      exact dk_yset x1 (br_f (by decide) (dk_ynot b2 (br_t rfl ⟨rfl, dk_mk hf'⟩)))
  · unfold wpX_keeps
    refine dk_xbad1 b1 (br_f (by decide) ?_)
    unfold wpY_keeps
    exact dk_ynot b1 (br_t rfl ⟨rfl, dk_mk hf'⟩)
section
variable {f_count f_counting f_blocks f_isStudied f_stemCount f_keyCount f_partCount f_rows : Int32} {a_leftSide a_rightSide a_isBundled a_block a_closureOf a_stemSet a_isStem a_keySet a_partSet a_symbol a_cells a_classOf a_classes a_agreement : Nat → Int32}
theorem dk_xexact12 {post : Int32 → SX → Prop} {rn : Nat} {c : Nat → Nat} (hn : rn ≤ 6) (hc : dk_CO c) (hC : dk_CL a_cells rn 64 a_classOf a_classes) (hcl : ∀ x, x < 64 → a_closureOf x = nI (c x))
    (p1 : (∀ x, x < 64 → ∀ j, (c x).testBit j = true ↔ (j < 6 ∧ dk_kb a_cells rn x j)) → post 1 (f_count, f_counting, f_blocks, f_isStudied, f_stemCount, f_keyCount, f_partCount, f_rows, a_leftSide, a_rightSide, a_isBundled, a_block, a_closureOf, a_stemSet, a_isStem, a_keySet, a_partSet, a_symbol, a_cells, a_classOf, a_classes, a_agreement)) (p0 : (¬ ∀ x, x < 64 → ∀ j, (c x).testBit j = true ↔ (j < 6 ∧ dk_kb a_cells rn x j)) → post 0 (f_count, f_counting, f_blocks, f_isStudied, f_stemCount, f_keyCount, f_partCount, f_rows, a_leftSide, a_rightSide, a_isBundled, a_block, a_closureOf, a_stemSet, a_isStem, a_keySet, a_partSet, a_symbol, a_cells, a_classOf, a_classes, a_agreement)) :
    ∃ n, wX_exact_12 post f_count f_counting f_blocks f_isStudied f_stemCount f_keyCount f_partCount f_rows a_leftSide a_rightSide a_isBundled a_block a_closureOf a_stemSet a_isStem a_keySet a_partSet a_symbol a_cells a_classOf a_classes a_agreement n 1 0 := by
  have lp27 : ∀ (J : Int32 → Int32 → Prop) (x : Nat), x < 64 → ((∀ j, (c x).testBit j = true ↔ (j < 6 ∧ dk_kb a_cells rn x j)) → J 1 (nI (x + 1))) → ((¬ ∀ j, (c x).testBit j = true ↔ (j < 6 ∧ dk_kb a_cells rn x j)) → J 0 (nI (x + 1))) →
      ∀ e i out, i + e = 6 → out < 64 → (∀ j, out.testBit j = true ↔ (j < i ∧ dk_kb a_cells rn x j)) → wX_exact_27 post J (nI x) f_count f_counting f_blocks f_isStudied f_stemCount f_keyCount f_partCount f_rows a_leftSide a_rightSide a_isBundled a_block a_closureOf a_stemSet a_isStem a_keySet a_partSet a_symbol a_cells a_classOf a_classes a_agreement (e + 1) (nI out) (nI i) := by
    intro J x hx j1 j0 e
    induction e with
    | zero =>
      intro i out hi ho h
      have ei : i = 6 := by omega
      subst ei
      refine br_t (by decide) ⟨vp_in_nI hx (by decide), ?_⟩
      rw [dk_cl (by omega : x < 1000), hcl x hx]
      refine dk_if (dk_e ho (hc x hx).1) (fun z => nm_r (nI_1 x) (j1 (by rw [← z]; exact h))) (fun z => nm_r (nI_1 x) (j0 (fun q => z (dk_bits_eq h q))))
    | succ e ih =>
      intro i out hi ho h
      have l64 := dk_or_lt hx (dk_pw (c := i) (by omega))
      refine br_f (nI_ge (b := 6) (by omega) (by decide)) ?_
      rw [dk_sh i (by omega), dk_or, dk_cl (by omega : x ||| 2 ^ i < 1000), dk_cl (by omega : x < 1000)]
      refine ⟨vp_in_nI l64 (by decide), vp_in_nI hx (by decide), dk_if (dk_clc hn hC hx (by omega)) (fun z => nm_r (dk_or _ _) (nm_r (nI_1 i) (ih (i + 1) _ (by omega) (dk_or_lt ho (dk_pw (by omega))) (fun j => ?_)))) (fun z => nm_r (nI_1 i) (ih (i + 1) out (by omega) ho (fun j => ?_)))⟩
      · rw [Nat.testBit_or, Bool.or_eq_true, h, dk_tp, decide_eq_true_iff]
        constructor
        · rintro (q | q)
          · exact ⟨by omega, q.2⟩
          · subst q; exact ⟨by omega, z⟩
        · rintro ⟨q1, q2⟩
          rcases Nat.lt_or_ge j i with w | w
          · exact Or.inl ⟨w, q2⟩
          · exact Or.inr (by omega)
      · rw [h]
        constructor
        · rintro ⟨q1, q2⟩; exact ⟨by omega, q2⟩
        · rintro ⟨q1, q2⟩
          refine ⟨?_, q2⟩
          rcases Nat.lt_or_ge j i with w | w
          · exact w
          · have : j = i := by omega
            subst this; exact absurd q2 z
  have lp12 : ∀ e x x1, x + e = 64 → ((x1 = 1 ∧ ∀ y, y < x → ∀ j, (c y).testBit j = true ↔ (j < 6 ∧ dk_kb a_cells rn y j)) ∨ (x1 = 0 ∧ ¬ ∀ x, x < 64 → ∀ j, (c x).testBit j = true ↔ (j < 6 ∧ dk_kb a_cells rn x j))) →
      wX_exact_12 post f_count f_counting f_blocks f_isStudied f_stemCount f_keyCount f_partCount f_rows a_leftSide a_rightSide a_isBundled a_block a_closureOf a_stemSet a_isStem a_keySet a_partSet a_symbol a_cells a_classOf a_classes a_agreement (e + 1) x1 (nI x) := by
    intro e
    induction e with
    | zero =>
      intro x x1 hx h
      have ex : x = 64 := by omega
      subst ex
      refine br_t (by decide) ?_
      rcases h with ⟨rfl, h⟩ | ⟨rfl, h⟩
      · exact ⟨rfl, p1 h⟩
      · exact ⟨rfl, p0 h⟩
    | succ e ih =>
      intro x x1 hx h
      refine br_f (nI_ge (b := 64) (by omega) (by decide)) ?_
      rcases h with ⟨rfl, h⟩ | ⟨rfl, h⟩
      · exact br_f (by decide) ⟨_, lp27 _ x (by omega) (fun q => ih (x + 1) 1 (by omega) (Or.inl ⟨rfl, lt_s h q⟩)) (fun q => ih (x + 1) 0 (by omega) (Or.inr ⟨rfl, fun w => q (w x (by omega))⟩)) 6 0 0 (by omega) (by decide) (fun j => by rw [Nat.zero_testBit]; exact ⟨fun q => absurd q (by decide), fun q => by omega⟩)⟩
      · exact br_t rfl ⟨rfl, p0 h⟩
  exact ⟨_, lp12 64 0 1 (by omega) (Or.inl ⟨rfl, lt_0⟩)⟩
end
section
variable {f_count f_partCount f_rowCount f_same : Int32} {a_lefts a_rights a_bundled a_parts a_cells a_known a_closures a_stemSets a_symbols : Nat → Int32} {f_made : Int64} {a_tables : Nat → Int64}
variable {L R : Nat → Nat} {B : Nat → Bool}
theorem dk_yexact {post : Int32 → SY → Prop} {m rn : Nat} (hn : rn ≤ 6) (hD : dk_DP m L R B a_lefts a_rights a_bundled) (hK : dk_KN m L R B a_known a_closures a_tables)
    (p1 : (∀ x, x < 64 → ∀ j, (dk_cf (dk_Al m) L R B x).testBit j = true ↔ (j < 6 ∧ dk_kb a_cells rn x j)) → ∀ sa ma kn cc tb, dk_KN m L R B kn cc tb → post 1 (nI m, f_partCount, nI rn, sa, ma, a_lefts, a_rights, a_bundled, a_parts, a_cells, kn, cc, tb, a_stemSets, a_symbols))
    (p0 : (¬ ∀ x, x < 64 → ∀ j, (dk_cf (dk_Al m) L R B x).testBit j = true ↔ (j < 6 ∧ dk_kb a_cells rn x j)) → ∀ sa ma kn cc tb, dk_KN m L R B kn cc tb → post 0 (nI m, f_partCount, nI rn, sa, ma, a_lefts, a_rights, a_bundled, a_parts, a_cells, kn, cc, tb, a_stemSets, a_symbols)) :
    wpY_exact post (nI m, f_partCount, nI rn, f_same, f_made, a_lefts, a_rights, a_bundled, a_parts, a_cells, a_known, a_closures, a_tables, a_stemSets, a_symbols) := by
  have lp : ∀ e x, x + e = 64 → ∀ sa ma kn cc tb, dk_KN m L R B kn cc tb → (∀ y, y < x → ∀ j, (dk_cf (dk_Al m) L R B y).testBit j = true ↔ (j < 6 ∧ dk_kb a_cells rn y j)) →
      wY_exact_2 post (e + 1) (nI x) (nI m) f_partCount (nI rn) sa ma a_lefts a_rights a_bundled a_parts a_cells kn cc tb a_stemSets a_symbols := by
    intro e
    induction e with
    | zero =>
      intro x hx sa ma kn cc tb hK h
      have ex : x = 64 := by omega
      subst ex
      exact br_t (by decide) (p1 h _ _ _ _ _ hK)
    | succ e ih =>
      intro x hx sa ma kn cc tb hK h
      have x64 : x < 64 := by omega
      refine br_f (nI_ge (b := 64) (by omega) (by decide)) ?_
      refine dk_yclosureOf x64 hD hK (fun sa ma kn cc tb hK => dk_ykeptBy hn x64 (fun K hK' hk => ?_))
      exact dk_if (dk_e (dk_cf64 x64) hK') (fun z => nm_r (nI_1 x) (ih (x + 1) (by omega) sa ma kn cc tb hK (lt_s h (by rw [z]; exact hk)))) (fun z => p0 (fun q => z (dk_bits_eq (q x x64) hk)) _ _ _ _ _ hK)
  exact ⟨_, lp 64 0 (by omega) _ _ _ _ _ hK lt_0⟩
end
theorem i_vc_exact {k : Nat} {u : SX} {v : SY} (I : i_Rel k u v) (hk : k + 4 ≤ 2048) : wpX_exact (fun r u' => wpY_exact (fun r' v' => r' = r ∧ i_Rel (k + 4) u' v') v) u := by
  refine dk_el (Q := fun u v => wpX_exact (fun r u' => wpY_exact (fun r' v' => r' = r ∧ i_Rel (k + 4) u' v') v) u) ?_ I
  intro m pn rn L R P B co bo sd sc kc al ar abd ab clo ss ism ks ap sy ce cof cls agr sa ma kn cc tb sts sys hf
  have hf' := hf
  obtain ⟨hD, hP, hr, hS, hK⟩ := hf
  unfold wpX_exact
  refine dk_xstudy hD hS (fun co bo sc kc ab clo ss ism ks hT => ?_)
  refine dk_xfindClasses hr (fun cof cls hC => ?_)
  refine dk_xexact12 (c := dk_cf (dk_Al m) L R B) hr dk_cfO hC hT.1 (fun z => ?_) (fun z => ?_)
  · exact dk_yexact hr hD hK (fun _ sa ma kn cc tb hK => ⟨rfl, dk_mk ⟨hD, hP, hr, Or.inr ⟨rfl, hT⟩, hK⟩⟩) (fun w => absurd z w)
  · exact dk_yexact hr hD hK (fun w => absurd w z) (fun _ sa ma kn cc tb hK => ⟨rfl, dk_mk ⟨hD, hP, hr, Or.inr ⟨rfl, hT⟩, hK⟩⟩)
end
section
/-! discovered, agreements, keepsBundled -/
/-- x gives c in the table, and no smaller set does -/
def dk_D (ce : Nat → Int32) (rn x c : Nat) : Prop := x.testBit c = false ∧ dk_kb ce rn x c ∧ ∀ k, k < 6 → x.testBit k = true → ¬ dk_kb ce rn (dk_sd x (2 ^ k)) c
def dk_Dp (ce : Nat → Int32) (rn p : Nat) : Prop := dk_D ce rn (p / 6) (p % 6)
theorem dk_Dp_e {ce : Nat → Int32} {rn x c : Nat} (hc : c < 6) : dk_Dp ce rn (6 * x + c) ↔ dk_D ce rn x c := by
  unfold dk_Dp
  rw [show (6 * x + c) / 6 = x by omega, show (6 * x + c) % 6 = c by omega]
section
variable {f_count f_counting f_blocks f_isStudied f_stemCount f_keyCount f_partCount f_rows : Int32} {a_leftSide a_rightSide a_isBundled a_block a_closureOf a_stemSet a_isStem a_keySet a_partSet a_symbol a_cells a_classOf a_classes a_agreement : Nat → Int32}
theorem dk_xisLeastFor {post : Int32 → Prop} {rn x c : Nat} (hn : rn ≤ 6) (hx : x < 64) (hc : c < 6) (hC : dk_CL a_cells rn 64 a_classOf a_classes)
    (p1 : (∀ k, k < 6 → x.testBit k = true → ¬ dk_kb a_cells rn (dk_sd x (2 ^ k)) c) → post 1) (p0 : (¬ ∀ k, k < 6 → x.testBit k = true → ¬ dk_kb a_cells rn (dk_sd x (2 ^ k)) c) → post 0) :
    wpX_isLeastFor post (f_count, f_counting, f_blocks, f_isStudied, f_stemCount, f_keyCount, f_partCount, f_rows, a_leftSide, a_rightSide, a_isBundled, a_block, a_closureOf, a_stemSet, a_isStem, a_keySet, a_partSet, a_symbol, a_cells, a_classOf, a_classes, a_agreement) (nI x) (nI c) := by
  have lp : ∀ e k x3, k + e = 6 → ((x3 = 1 ∧ ∀ j, j < k → x.testBit j = true → ¬ dk_kb a_cells rn (dk_sd x (2 ^ j)) c) ∨ (x3 = 0 ∧ ¬ ∀ k, k < 6 → x.testBit k = true → ¬ dk_kb a_cells rn (dk_sd x (2 ^ k)) c)) →
      wX_isLeastFor_5 post (nI x) (nI c) f_count f_counting f_blocks f_isStudied f_stemCount f_keyCount f_partCount f_rows a_leftSide a_rightSide a_isBundled a_block a_closureOf a_stemSet a_isStem a_keySet a_partSet a_symbol a_cells a_classOf a_classes a_agreement (e + 1) x3 (nI k) := by
    intro e
    induction e with
    | zero =>
      intro k x3 hk h
      have ek : k = 6 := by omega
      subst ek
      refine br_t (by decide) ?_
      rcases h with ⟨rfl, h⟩ | ⟨rfl, h⟩
      · exact ⟨rfl, p1 h⟩
      · exact ⟨rfl, p0 h⟩
    | succ e ih =>
      intro k x3 hk h
      have l64 : dk_sd x (2 ^ k) < 64 := dk_sd_lt hx
      refine br_f (nI_ge (b := 6) (by omega) (by decide)) (nm_r (e' := nI (dk_sd x (2 ^ k))) (by rw [dk_sh k (by omega), dk_not]) ?_)
      rcases h with ⟨rfl, h⟩ | ⟨rfl, h⟩
      · refine br_f (by decide) (dk_if ((dk_e l64 hx).trans (dk_sdx x k)) (fun z => nm_r (nI_1 k) (ih (k + 1) 1 (by omega) (Or.inl ⟨rfl, lt_s h (fun q => absurd (z.symm.trans q) (by decide))⟩))) (fun z => ?_))
        have t : x.testBit k = true := by cases f : x.testBit k; exact absurd f z; rfl
        have m64 := dk_or_lt l64 (dk_pw hc)
        rw [dk_sh c (by omega), dk_or, dk_cl (by omega : dk_sd x (2 ^ k) ||| 2 ^ c < 1000), dk_cl (by omega : dk_sd x (2 ^ k) < 1000)]
        exact ⟨vp_in_nI m64 (by decide), vp_in_nI l64 (by decide), dk_if (dk_clc hn hC l64 hc) (fun w => nm_r (nI_1 k) (ih (k + 1) 0 (by omega) (Or.inr ⟨rfl, fun q => q k (by omega) t w⟩))) (fun w => nm_r (nI_1 k) (ih (k + 1) 1 (by omega) (Or.inl ⟨rfl, lt_s h (fun _ => w)⟩)))⟩
      · exact br_t rfl (nm_r (nI_1 k) (ih (k + 1) 0 (by omega) (Or.inr ⟨rfl, h⟩)))
  exact ⟨_, lp 6 0 1 (by omega) (Or.inl ⟨rfl, lt_0⟩)⟩
theorem dk_xdiscovered8 {post : Int32 → SX → Prop} {rn : Nat} (hn : rn ≤ 6) (hC : dk_CL a_cells rn 64 a_classOf a_classes) (p : post (nI (dk_cn (dk_Dp a_cells rn) 384)) (f_count, f_counting, f_blocks, f_isStudied, f_stemCount, f_keyCount, f_partCount, f_rows, a_leftSide, a_rightSide, a_isBundled, a_block, a_closureOf, a_stemSet, a_isStem, a_keySet, a_partSet, a_symbol, a_cells, a_classOf, a_classes, a_agreement)) : ∃ n, wX_discovered_8 post f_count f_counting f_blocks f_isStudied f_stemCount f_keyCount f_partCount f_rows a_leftSide a_rightSide a_isBundled a_block a_closureOf a_stemSet a_isStem a_keySet a_partSet a_symbol a_cells a_classOf a_classes a_agreement n 0 0 := by
  have lp16 : ∀ (J : Int32 → Int32 → Prop) (x : Nat), x < 64 → J (nI (dk_cn (dk_Dp a_cells rn) (6 * (x + 1)))) (nI (x + 1)) →
      ∀ e c, c + e = 6 → wX_discovered_16 post J (nI x) f_count f_counting f_blocks f_isStudied f_stemCount f_keyCount f_partCount f_rows a_leftSide a_rightSide a_isBundled a_block a_closureOf a_stemSet a_isStem a_keySet a_partSet a_symbol a_cells a_classOf a_classes a_agreement (e + 1) (nI (dk_cn (dk_Dp a_cells rn) (6 * x + c))) (nI c) := by
    intro J x hx hJ e
    induction e with
    | zero =>
      intro c hc
      have ec : c = 6 := by omega
      subst ec
      exact br_t (by decide) (nm_r (nI_1 x) hJ)
    | succ e ih =>
      intro c hc
      have c6 : c < 6 := by omega
      have no : ¬ dk_D a_cells rn x c → wX_discovered_16 post J (nI x) f_count f_counting f_blocks f_isStudied f_stemCount f_keyCount f_partCount f_rows a_leftSide a_rightSide a_isBundled a_block a_closureOf a_stemSet a_isStem a_keySet a_partSet a_symbol a_cells a_classOf a_classes a_agreement (e + 1) (nI (dk_cn (dk_Dp a_cells rn) (6 * x + c))) (nI (c + 1)) := fun q => by
        have := ih (c + 1) (by omega)
        rw [← Nat.add_assoc, dk_cn_f (P := dk_Dp a_cells rn) (fun z => q ((dk_Dp_e c6).mp z))] at this
        exact this
      refine br_f (nI_ge (b := 6) (by omega) (by decide)) (dk_if (dk_b0 (by omega) (by omega)) (fun z => br_f (by decide) ?_) (fun z => br_t rfl (nm_r (nI_1 c) (no (fun q => z q.1)))))
      have m64 := dk_or_lt hx (dk_pw c6)
      rw [dk_sh c (by omega), dk_or, dk_cl (by omega : x ||| 2 ^ c < 1000), dk_cl (by omega : x < 1000)]
      refine ⟨vp_in_nI m64 (by decide), vp_in_nI hx (by decide), dk_if (dk_clc hn hC hx c6) (fun w => ?_) (fun w => nm_r (nI_1 c) (no (fun q => w q.2.1)))⟩
      refine dk_xisLeastFor hn hx c6 hC (fun v => br_f (by decide) (nm_r (by rw [nI_1, ← dk_cn_t (P := dk_Dp a_cells rn) ((dk_Dp_e c6).mpr ⟨z, w, v⟩)]; rfl) (nm_r (nI_1 c) (ih (c + 1) (by omega))))) (fun v => br_t rfl (nm_r (nI_1 c) (no (fun q => v q.2.2))))
  have lp8 : ∀ e x, x + e = 64 → wX_discovered_8 post f_count f_counting f_blocks f_isStudied f_stemCount f_keyCount f_partCount f_rows a_leftSide a_rightSide a_isBundled a_block a_closureOf a_stemSet a_isStem a_keySet a_partSet a_symbol a_cells a_classOf a_classes a_agreement (e + 1) (nI (dk_cn (dk_Dp a_cells rn) (6 * x))) (nI x) := by
    intro e
    induction e with
    | zero =>
      intro x hx
      have ex : x = 64 := by omega
      subst ex
      exact br_t (by decide) p
    | succ e ih =>
      intro x hx
      exact br_f (nI_ge (b := 64) (by omega) (by decide)) ⟨_, lp16 _ x (by omega) (ih (x + 1) (by omega)) 6 0 (by omega)⟩
  exact ⟨_, lp8 64 0 (by omega)⟩
end
section
variable {f_count f_partCount f_rowCount f_same : Int32} {a_lefts a_rights a_bundled a_parts a_cells a_known a_closures a_stemSets a_symbols : Nat → Int32} {f_made : Int64} {a_tables : Nat → Int64}
theorem dk_yisLeast {post : Int32 → Prop} {rn x c : Nat} (hn : rn ≤ 6) (hx : x < 64) (hc : c < 6)
    (p1 : (∀ k, k < 6 → x.testBit k = true → ¬ dk_kb a_cells rn (dk_sd x (2 ^ k)) c) → post 1) (p0 : (¬ ∀ k, k < 6 → x.testBit k = true → ¬ dk_kb a_cells rn (dk_sd x (2 ^ k)) c) → post 0) :
    wpY_isLeast post (f_count, f_partCount, nI rn, f_same, f_made, a_lefts, a_rights, a_bundled, a_parts, a_cells, a_known, a_closures, a_tables, a_stemSets, a_symbols) (nI x) (nI c) := by
  have lp : ∀ e k, k + e = 6 → (∀ j, j < k → x.testBit j = true → ¬ dk_kb a_cells rn (dk_sd x (2 ^ j)) c) → wY_isLeast_2 post (nI x) (nI c) f_count f_partCount (nI rn) f_same f_made a_lefts a_rights a_bundled a_parts a_cells a_known a_closures a_tables a_stemSets a_symbols (e + 1) (nI k) := by
    intro e
    induction e with
    | zero =>
      intro k hk h
      have ek : k = 6 := by omega
      subst ek
      exact br_t (by decide) (p1 h)
    | succ e ih =>
      intro k hk h
      have l64 : dk_sd x (2 ^ k) < 64 := dk_sd_lt hx
      refine br_f (nI_ge (b := 6) (by omega) (by decide)) (nm_r (e' := nI (dk_sd x (2 ^ k))) (by rw [dk_sh k (by omega), dk_not]) ?_)
      refine dk_if ((dk_e l64 hx).trans (dk_sdx x k)) (fun z => nm_r (nI_1 k) (ih (k + 1) (by omega) (lt_s h (fun q => absurd (z.symm.trans q) (by decide))))) (fun z => ?_)
      have t : x.testBit k = true := by cases f : x.testBit k; exact absurd f z; rfl
      refine dk_ykeptBy hn l64 (fun K hK hk => dk_if ((dk_b1 (by omega) (by omega)).trans (hk c)) (fun w => p0 (fun q => q k (by omega) t w.2)) (fun w => nm_r (nI_1 k) (ih (k + 1) (by omega) (lt_s h (fun _ q => w ⟨hc, q⟩)))))
  exact ⟨_, lp 6 0 (by omega) lt_0⟩
theorem dk_ydiscovered {post : Int32 → Prop} {rn : Nat} (hn : rn ≤ 6) (p : post (nI (dk_cn (dk_Dp a_cells rn) 384))) : wpY_discovered post (f_count, f_partCount, nI rn, f_same, f_made, a_lefts, a_rights, a_bundled, a_parts, a_cells, a_known, a_closures, a_tables, a_stemSets, a_symbols) := by
  have lp16 : ∀ (J : Int32 → Int32 → Prop) (x : Nat), x < 64 → J (nI (dk_cn (dk_Dp a_cells rn) (6 * (x + 1)))) (nI (x + 1)) →
      ∀ e c, c + e = 6 → wY_discovered_12 post J (nI x) f_count f_partCount (nI rn) f_same f_made a_lefts a_rights a_bundled a_parts a_cells a_known a_closures a_tables a_stemSets a_symbols (e + 1) (nI (dk_cn (dk_Dp a_cells rn) (6 * x + c))) (nI c) := by
    intro J x hx hJ e
    induction e with
    | zero =>
      intro c hc
      have ec : c = 6 := by omega
      subst ec
      exact br_t (by decide) (nm_r (nI_1 x) hJ)
    | succ e ih =>
      intro c hc
      have c6 : c < 6 := by omega
      have no : ¬ dk_D a_cells rn x c → wY_discovered_12 post J (nI x) f_count f_partCount (nI rn) f_same f_made a_lefts a_rights a_bundled a_parts a_cells a_known a_closures a_tables a_stemSets a_symbols (e + 1) (nI (dk_cn (dk_Dp a_cells rn) (6 * x + c))) (nI (c + 1)) := fun q => by
        have := ih (c + 1) (by omega)
        rw [← Nat.add_assoc, dk_cn_f (P := dk_Dp a_cells rn) (fun z => q ((dk_Dp_e c6).mp z))] at this
        exact this
      refine br_f (nI_ge (b := 6) (by omega) (by decide)) (dk_if (dk_b0 (by omega) (by omega)) (fun z => ?_) (fun z => br_t rfl (nm_r (nI_1 c) (no (fun q => z q.1)))))
      refine dk_ykeptBy hn hx (fun K hK hk => dk_if ((dk_b1 (by omega) (by omega)).trans (hk c)) (fun w => br_f (by decide) ?_) (fun w => br_t rfl (nm_r (nI_1 c) (no (fun q => w ⟨c6, q.2.1⟩)))))
      exact dk_yisLeast hn hx c6 (fun v => br_f (by decide) (nm_r (by rw [nI_1, ← dk_cn_t (P := dk_Dp a_cells rn) ((dk_Dp_e c6).mpr ⟨z, w.2, v⟩)]; rfl) (nm_r (nI_1 c) (ih (c + 1) (by omega))))) (fun v => br_t rfl (nm_r (nI_1 c) (no (fun q => v q.2.2))))
  have lp8 : ∀ e x, x + e = 64 → wY_discovered_4 post f_count f_partCount (nI rn) f_same f_made a_lefts a_rights a_bundled a_parts a_cells a_known a_closures a_tables a_stemSets a_symbols (e + 1) (nI (dk_cn (dk_Dp a_cells rn) (6 * x))) (nI x) := by
    intro e
    induction e with
    | zero =>
      intro x hx
      have ex : x = 64 := by omega
      subst ex
      exact br_t (by decide) p
    | succ e ih =>
      intro x hx
      exact br_f (nI_ge (b := 64) (by omega) (by decide)) ⟨_, lp16 _ x (by omega) (ih (x + 1) (by omega)) 6 0 (by omega)⟩
  exact ⟨_, lp8 64 0 (by omega)⟩
end
theorem i_vc_discovered {k : Nat} {u : SX} {v : SY} (I : i_Rel k u v) (hk : k + 4 ≤ 2048) : wpX_discovered (fun r u' => wpY_discovered (fun r' => r' = r ∧ i_Rel (k + 4) u' v) v) u := by
  refine dk_el (Q := fun u v => wpX_discovered (fun r u' => wpY_discovered (fun r' => r' = r ∧ i_Rel (k + 4) u' v) v) u) ?_ I
  intro m pn rn L R P B co bo sd sc kc al ar abd ab clo ss ism ks ap sy ce cof cls agr sa ma kn cc tb sts sys hf
  have hf' := hf
  obtain ⟨hD, hP, hr, hS, hK⟩ := hf
  unfold wpX_discovered
  refine dk_xfindClasses hr (fun cof cls hC => ?_)
  exact dk_xdiscovered8 hr hC (dk_ydiscovered hr ⟨rfl, dk_mk hf'⟩)
/-! agreements -/
/-- sets in which two rows agree, of the pairs before (r, q) -/
def dk_Q (ce : Nat → Int32) (r q a : Nat) : Prop := ∃ r' q', ((r' < r ∧ q' < r') ∨ (r' = r ∧ q' < q)) ∧ dk_am ce r' q' = a
theorem dk_Q_s (ce : Nat → Int32) (r q a : Nat) : dk_Q ce r (q + 1) a ↔ (dk_Q ce r q a ∨ a = dk_am ce r q) := by
  constructor
  · rintro ⟨r', q', h | ⟨h1, h2⟩, e⟩
    · exact Or.inl ⟨r', q', Or.inl h, e⟩
    · rcases Nat.lt_or_ge q' q with w | w
      · exact Or.inl ⟨r', q', Or.inr ⟨h1, w⟩, e⟩
      · have : q' = q := by omega
        subst this; subst h1; exact Or.inr e.symm
  · rintro (⟨r', q', h, e⟩ | h)
    · exact ⟨r', q', by omega, e⟩
    · exact ⟨r, q, Or.inr ⟨rfl, by omega⟩, h.symm⟩
theorem dk_Q_r (ce : Nat → Int32) (r a : Nat) : dk_Q ce (r + 1) 0 a ↔ dk_Q ce r r a := by
  constructor
  · rintro ⟨r', q', h, e⟩; exact ⟨r', q', by omega, e⟩
  · rintro ⟨r', q', h, e⟩; exact ⟨r', q', by omega, e⟩
def dk_NT (ce : Nat → Int32) (r q n : Nat) (agr : Nat → Int32) : Prop :=
  n = dk_cn (dk_Q ce r q) 64 ∧ n ≤ dk_sm (fun i => i) r + q ∧ ∃ as : Nat → Nat, (∀ k, k < n → agr k = nI (as k) ∧ as k < 64) ∧ ∀ a, a < 64 → (dk_Q ce r q a ↔ ∃ k, k < n ∧ as k = a)
theorem dk_tri : ∀ r, r < 6 → dk_sm (fun i => i) r + r ≤ 15 := by decide +kernel
theorem dk_cnp {P Q : Nat → Prop} {N : Nat} (h : ∀ a, P a ↔ Q a) : dk_cn P N = dk_cn Q N := dk_cn_eq (fun k _ => h k)
section
variable {f_count f_counting f_blocks f_isStudied f_stemCount f_keyCount f_partCount f_rows : Int32} {a_leftSide a_rightSide a_isBundled a_block a_closureOf a_stemSet a_isStem a_keySet a_partSet a_symbol a_cells a_classOf a_classes a_agreement : Nat → Int32}
theorem dk_xagreementOf {post : Int32 → Prop} {r s : Nat} (hr : r < 6) (hs : s < 6) (p : post (nI (dk_am a_cells r s))) : wpX_agreementOf post (f_count, f_counting, f_blocks, f_isStudied, f_stemCount, f_keyCount, f_partCount, f_rows, a_leftSide, a_rightSide, a_isBundled, a_block, a_closureOf, a_stemSet, a_isStem, a_keySet, a_partSet, a_symbol, a_cells, a_classOf, a_classes, a_agreement) (nI r) (nI s) := by
  have lp : ∀ e c, c + e = 6 → wX_agreementOf_5 post (nI r) (nI s) f_count f_counting f_blocks f_isStudied f_stemCount f_keyCount f_partCount f_rows a_leftSide a_rightSide a_isBundled a_block a_closureOf a_stemSet a_isStem a_keySet a_partSet a_symbol a_cells a_classOf a_classes a_agreement (e + 1) (nI (dk_amk a_cells r s c)) (nI c) := by
    intro e
    induction e with
    | zero =>
      intro c hc
      have ec : c = 6 := by omega
      subst ec
      exact br_t (by decide) p
    | succ e ih =>
      intro c hc
      refine br_f (nI_ge (b := 6) (by omega) (by decide)) ?_
      rw [dk_ix, dk_ix, dk_cl (by omega : 6 * r + c < 1000), dk_cl (by omega : 6 * s + c < 1000)]
      refine ⟨vp_in_nI (by omega) (by decide), vp_in_nI (by omega) (by decide), br_c (fun z => nm_r (e' := nI (dk_amk a_cells r s (c + 1))) ?_ (nm_r (nI_1 c) (ih (c + 1) (by omega)))) (fun z => nm_r (nI_1 c) ?_)⟩
      · rw [dk_sh c (by omega), dk_or, dk_amk_t z]
      · have := ih (c + 1) (by omega)
        rw [dk_amk_f z] at this
        exact this
  exact ⟨_, lp 6 0 (by omega)⟩
theorem dk_xisNoted {post : Int32 → Prop} {n a : Nat} {as : Nat → Nat} (n15 : n ≤ 15) (ha : a < 64) (h : ∀ k, k < n → a_agreement k = nI (as k) ∧ as k < 64)
    (p1 : (∃ k, k < n ∧ as k = a) → post 1) (p0 : (∀ k, k < n → as k ≠ a) → post 0) : wpX_isNoted post (f_count, f_counting, f_blocks, f_isStudied, f_stemCount, f_keyCount, f_partCount, f_rows, a_leftSide, a_rightSide, a_isBundled, a_block, a_closureOf, a_stemSet, a_isStem, a_keySet, a_partSet, a_symbol, a_cells, a_classOf, a_classes, a_agreement) (nI a) (nI n) := by
  have lp : ∀ e k x3, k + e = n → ((x3 = 0 ∧ ∀ j, j < k → as j ≠ a) ∨ (x3 = 1 ∧ ∃ k, k < n ∧ as k = a)) → wX_isNoted_5 post (nI a) (nI n) f_count f_counting f_blocks f_isStudied f_stemCount f_keyCount f_partCount f_rows a_leftSide a_rightSide a_isBundled a_block a_closureOf a_stemSet a_isStem a_keySet a_partSet a_symbol a_cells a_classOf a_classes a_agreement (e + 1) x3 (nI k) := by
    intro e
    induction e with
    | zero =>
      intro k x3 hk g
      have ek : k = n := by omega
      subst ek
      refine br_t (nI_le (Nat.le_refl _) (by omega)) ?_
      rcases g with ⟨rfl, g⟩ | ⟨rfl, g⟩
      · exact ⟨rfl, p0 g⟩
      · exact ⟨rfl, p1 g⟩
    | succ e ih =>
      intro k x3 hk g
      refine br_f (nI_ge (by omega) (by omega)) ?_
      rcases g with ⟨rfl, g⟩ | ⟨rfl, g⟩
      · obtain ⟨h1, h2⟩ := h k (by omega)
        refine br_t rfl ⟨vp_in_nI (by omega) (by decide), ?_⟩
        rw [dk_cl (by omega : k < 1000), h1]
        exact dk_if (dk_e h2 ha) (fun z => nm_r (nI_1 k) (ih (k + 1) 1 (by omega) (Or.inr ⟨rfl, k, by omega, z⟩))) (fun z => nm_r (nI_1 k) (ih (k + 1) 0 (by omega) (Or.inl ⟨rfl, lt_s g z⟩)))
      · exact br_f (by decide) (nm_r (nI_1 k) (ih (k + 1) 1 (by omega) (Or.inr ⟨rfl, g⟩)))
  exact ⟨_, lp n 0 0 (by omega) (Or.inl ⟨rfl, lt_0⟩)⟩
theorem dk_xagreements {post : Int32 → SX → Prop} {rn : Nat} (hn : rn ≤ 6) (p : ∀ agr, post (nI (dk_cn (dk_Q a_cells rn 0) 64)) (f_count, f_counting, f_blocks, f_isStudied, f_stemCount, f_keyCount, f_partCount, nI rn, a_leftSide, a_rightSide, a_isBundled, a_block, a_closureOf, a_stemSet, a_isStem, a_keySet, a_partSet, a_symbol, a_cells, a_classOf, a_classes, agr)) : wpX_agreements post (f_count, f_counting, f_blocks, f_isStudied, f_stemCount, f_keyCount, f_partCount, nI rn, a_leftSide, a_rightSide, a_isBundled, a_block, a_closureOf, a_stemSet, a_isStem, a_keySet, a_partSet, a_symbol, a_cells, a_classOf, a_classes, a_agreement) := by
  have lp14 : ∀ (J : Int32 → Int32 → (Nat → Int32) → (Nat → Int32) → (Nat → Int32) → (Nat → Int32) → (Nat → Int32) → (Nat → Int32) → (Nat → Int32) → (Nat → Int32) → (Nat → Int32) → (Nat → Int32) → (Nat → Int32) → (Nat → Int32) → (Nat → Int32) → (Nat → Int32) → Prop) (r : Nat), r < rn →
      (∀ n agr, dk_NT a_cells (r + 1) 0 n agr → J (nI n) (nI (r + 1)) a_leftSide a_rightSide a_isBundled a_block a_closureOf a_stemSet a_isStem a_keySet a_partSet a_symbol a_cells a_classOf a_classes agr) →
      ∀ e q n agr, q + e = r → dk_NT a_cells r q n agr → wX_agreements_14 post J (nI r) f_count f_counting f_blocks f_isStudied f_stemCount f_keyCount f_partCount (nI rn) (e + 1) (nI n) (nI q) a_leftSide a_rightSide a_isBundled a_block a_closureOf a_stemSet a_isStem a_keySet a_partSet a_symbol a_cells a_classOf a_classes agr := by
    intro J r hr hJ e
    induction e with
    | zero =>
      intro q n agr hq hN
      have eq : q = r := by omega
      subst eq
      refine br_t (nI_le (Nat.le_refl _) (by omega)) (nm_r (nI_1 q) (hJ n agr ?_))
      obtain ⟨h1, h2, as, h3, h4⟩ := hN
      refine ⟨h1.trans (dk_cnp (fun a => (dk_Q_r a_cells q a).symm)), by simp only [dk_sm]; omega, as, h3, fun a ha => (dk_Q_r a_cells q a).trans (h4 a ha)⟩
    | succ e ih =>
      intro q n agr hq hN
      have tr := dk_tri r (by omega)
      refine br_f (nI_ge (by omega) (by omega)) (dk_xagreementOf (by omega) (by omega) ?_)
      obtain ⟨h1, h2, as, h3, h4⟩ := hN
      have a64 := dk_am64 a_cells r q
      refine dk_xisNoted (by omega) a64 h3 (fun z => br_f (by decide) (nm_r (nI_1 q) (ih (q + 1) n agr (by omega) ?_))) (fun z => br_t rfl ⟨vp_in_nI (by omega) (by decide), nm_r (by rw [dk_cl (by omega : n < 1000)]) (nm_r (nI_1 n) (nm_r (nI_1 q) (ih (q + 1) (n + 1) _ (by omega) ?_)))⟩)
      · have hq' : ∀ a, dk_Q a_cells r (q + 1) a ↔ dk_Q a_cells r q a := fun a => by
          rw [dk_Q_s]
          exact ⟨fun w => w.elim id (fun w => by rw [w]; exact (h4 _ a64).mpr z), Or.inl⟩
        exact ⟨h1.trans (dk_cnp (fun a => (hq' a).symm)), by omega, as, h3, fun a ha => (hq' a).trans (h4 a ha)⟩
      · have nq : ¬ dk_Q a_cells r q (dk_am a_cells r q) := fun w => by
          obtain ⟨k, k1, k2⟩ := (h4 _ a64).mp w
          exact z k k1 k2
        refine ⟨?_, by omega, dk_un as n (dk_am a_cells r q), fun k hk => ?_, fun a ha => ?_⟩
        · rw [dk_cnp (dk_Q_s a_cells r q), dk_cn_add nq a64, ← h1]
        · by_cases w : k = n
          · subst w; rw [pk_us, dk_us]; exact ⟨rfl, a64⟩
          · rw [pk_un w, dk_uo w]; exact h3 k (by omega)
        · rw [dk_Q_s]
          constructor
          · rintro (w | w)
            · obtain ⟨k, k1, k2⟩ := (h4 a ha).mp w
              exact ⟨k, by omega, by rw [dk_uo (by omega)]; exact k2⟩
            · exact ⟨n, by omega, by rw [dk_us, w]⟩
          · rintro ⟨k, k1, k2⟩
            by_cases w : k = n
            · subst w; rw [dk_us] at k2; exact Or.inr k2.symm
            · rw [dk_uo w] at k2; exact Or.inl ((h4 a ha).mpr ⟨k, by omega, k2⟩)
  have lp4 : ∀ e r n agr, r + e = rn → dk_NT a_cells r 0 n agr → wX_agreements_4 post f_count f_counting f_blocks f_isStudied f_stemCount f_keyCount f_partCount (nI rn) (e + 1) (nI n) (nI r) a_leftSide a_rightSide a_isBundled a_block a_closureOf a_stemSet a_isStem a_keySet a_partSet a_symbol a_cells a_classOf a_classes agr := by
    intro e
    induction e with
    | zero =>
      intro r n agr hr hN
      have er : r = rn := by omega
      subst er
      refine br_t (nI_le (Nat.le_refl _) (by omega)) ?_
      rw [hN.1]; exact p agr
    | succ e ih =>
      intro r n agr hr hN
      exact br_f (nI_ge (by omega) (by omega)) ⟨_, lp14 _ r (by omega) (fun n' agr' hN' => ih (r + 1) n' agr' (by omega) hN') r 0 n agr (by omega) hN⟩
  have q0 : ∀ a, ¬ dk_Q a_cells 0 0 a := fun a ⟨r', q', h, _⟩ => by omega
  exact ⟨_, lp4 rn 0 0 a_agreement (by omega) ⟨(dk_cn_none 64 (fun k _ => q0 k)).symm, Nat.zero_le _, fun _ => 0, fun k hk => by omega, fun a _ => ⟨fun w => absurd w (q0 a), fun ⟨k, hk, _⟩ => by omega⟩⟩⟩
end
theorem dk_hbb {w : Int64} {j : Nat} (hj : j < 64) : (((w.toUInt64 >>> ((nI j).toInt64.toUInt64 &&& Int64.toUInt64 63)).toInt64 &&& 1)).toInt32 = nI (dk_b (dk_hb w j = true)) := by
  rcases Classical.em (dk_hb w j = true) with h | h
  · rw [(dk_hb1 hj).mpr h, dk_bt h]; rfl
  · have h0 : dk_hb w j = false := by cases e : dk_hb w j; rfl; exact absurd e h
    rw [dk_bf h]
    have e : (w.toUInt64 >>> ((nI j).toInt64.toUInt64 &&& Int64.toUInt64 63)).toInt64.toBitVec = w.toBitVec >>> j := by
      apply BitVec.eq_of_toNat_eq
      show (w.toUInt64 >>> ((nI j).toInt64.toUInt64 &&& Int64.toUInt64 63)).toNat = _
      rw [UInt64.toNat_shiftRight, dk_cu j hj, Nat.mod_eq_of_lt hj, BitVec.toNat_ushiftRight]
      rfl
    have z : (w.toUInt64 >>> ((nI j).toInt64.toUInt64 &&& Int64.toUInt64 63)).toInt64 &&& 1 = 0 := by
      rw [← Int64.toBitVec_inj, Int64.toBitVec_and, e]
      show w.toBitVec >>> j &&& 1#64 = 0#64
      apply BitVec.eq_of_getLsbD_eq
      intro i hi
      rw [BitVec.getLsbD_and, BitVec.getLsbD_ushiftRight, BitVec.getLsbD_one, BitVec.getLsbD_zero]
      rcases Nat.eq_zero_or_pos i with q | q
      · subst q
        have h0' : w.toBitVec.getLsbD j = false := h0
        rw [Nat.add_zero, h0']; rfl
      · have : decide (0 = i) = false := decide_eq_false (by omega)
        simp [this]; omega
    rw [z]; rfl
section
variable {f_count f_partCount f_rowCount f_same : Int32} {a_lefts a_rights a_bundled a_parts a_cells a_known a_closures a_stemSets a_symbols : Nat → Int32} {f_made : Int64} {a_tables : Nat → Int64}
theorem dk_yagreements {post : Int32 → Prop} {rn : Nat} (hn : rn ≤ 6) (p : post (nI (dk_cn (dk_Q a_cells rn 0) 64))) : wpY_agreements post (f_count, f_partCount, nI rn, f_same, f_made, a_lefts, a_rights, a_bundled, a_parts, a_cells, a_known, a_closures, a_tables, a_stemSets, a_symbols) := by
  have lp50 : ∀ (w : Int64) e x, x + e = 64 → post (nI (dk_cn (fun a => dk_hb w a = true) 64)) → wY_agreements_50 post w f_count f_partCount (nI rn) f_same f_made a_lefts a_rights a_bundled a_parts a_cells a_known a_closures a_tables a_stemSets a_symbols (e + 1) (nI (dk_cn (fun a => dk_hb w a = true) x)) (nI x) := by
    intro w e
    induction e with
    | zero =>
      intro x hx hp
      have ex : x = 64 := by omega
      subst ex
      exact br_t (by decide) hp
    | succ e ih =>
      intro x hx hp
      exact br_f (nI_ge (b := 64) (by omega) (by decide)) (nm_r (by rw [dk_hbb (by omega), nI_add]; rfl) (nm_r (nI_1 x) (ih (x + 1) (by omega) hp)))
  have lp15 : ∀ (J : Int64 → Int32 → Prop) (r : Nat), r < rn → (∀ w, (∀ a, a < 64 → (dk_hb w a = true ↔ dk_Q a_cells (r + 1) 0 a)) → J w (nI (r + 1))) →
      ∀ e q w, q + e = r → (∀ a, a < 64 → (dk_hb w a = true ↔ dk_Q a_cells r q a)) → wY_agreements_15 post J (nI r) f_count f_partCount (nI rn) f_same f_made a_lefts a_rights a_bundled a_parts a_cells a_known a_closures a_tables a_stemSets a_symbols (e + 1) w (nI q) := by
    intro J r hr hJ e
    induction e with
    | zero =>
      intro q w hq h
      have eq : q = r := by omega
      subst eq
      exact br_t (nI_le (Nat.le_refl _) (by omega)) (nm_r (nI_1 q) (hJ w (fun a ha => (h a ha).trans (dk_Q_r a_cells q a).symm)))
    | succ e ih =>
      intro q w hq h
      refine br_f (nI_ge (by omega) (by omega)) (dk_yagreement (by omega) (by omega) (nm_e (nm_r (nI_1 q) (ih (q + 1) _ (by omega) (fun a ha => ?_)))))
      rw [dk_hbo (dk_am64 _ _ _), Bool.or_eq_true, decide_eq_true_iff, h a ha, dk_Q_s]
  have lp4 : ∀ e r w, r + e = rn → (∀ a, a < 64 → (dk_hb w a = true ↔ dk_Q a_cells r 0 a)) → wY_agreements_4 post f_count f_partCount (nI rn) f_same f_made a_lefts a_rights a_bundled a_parts a_cells a_known a_closures a_tables a_stemSets a_symbols (e + 1) w (nI r) := by
    intro e
    induction e with
    | zero =>
      intro r w hr h
      have er : r = rn := by omega
      subst er
      refine br_t (nI_le (Nat.le_refl _) (by omega)) ⟨_, lp50 w 64 0 (by omega) ?_⟩
      rw [dk_cn_eq h]; exact p
    | succ e ih =>
      intro r w hr h
      exact br_f (nI_ge (by omega) (by omega)) ⟨_, lp15 _ r (by omega) (fun w' h' => ih (r + 1) w' (by omega) h') r 0 w (by omega) h⟩
  exact ⟨_, lp4 rn 0 0 (by omega) (fun a _ => by rw [dk_hb0]; exact ⟨fun q => absurd q (by decide), fun ⟨r', q', h, _⟩ => by omega⟩)⟩
end
theorem i_vc_agreements {k : Nat} {u : SX} {v : SY} (I : i_Rel k u v) (hk : k + 4 ≤ 2048) : wpX_agreements (fun r u' => wpY_agreements (fun r' => r' = r ∧ i_Rel (k + 4) u' v) v) u := by
  refine dk_el (Q := fun u v => wpX_agreements (fun r u' => wpY_agreements (fun r' => r' = r ∧ i_Rel (k + 4) u' v) v) u) ?_ I
  intro m pn rn L R P B co bo sd sc kc al ar abd ab clo ss ism ks ap sy ce cof cls agr sa ma kn cc tb sts sys hf
  have hf' := hf
  obtain ⟨hD, hP, hr, hS, hK⟩ := hf
  exact dk_xagreements hr (fun agr => dk_yagreements hr ⟨rfl, dk_mk hf'⟩)
end
section
/-! keepsBundled -/
def dk_PR (ce : Nat → Int32) (rn x y h : Nat) : Prop :=
  dk_cn (fun r => dk_fi ce x r = h ∧ dk_fi ce 63 r = r) rn = dk_cn (fun r => dk_fi ce x r = h ∧ dk_fi ce (x ||| y) r = r) rn * dk_cn (fun r => dk_fi ce x r = h ∧ dk_fi ce (x ||| dk_sd (dk_sd 63 x) y) r = r) rn
def dk_MX (ce : Nat → Int32) (rn x y r s : Nat) : Prop := ∃ t, t < rn ∧ dk_ag ce (x ||| y) t r ∧ dk_ag ce (dk_sd 63 (x ||| y)) t s
theorem dk_PR_all {ce : Nat → Int32} {rn x y : Nat} : (∀ h, h < rn → dk_fi ce x h = h → dk_PR ce rn x y h) ↔ ∀ r, r < rn → ∀ s, s < rn → dk_ag ce x r s → dk_MX ce rn x y r s := by
  constructor
  · intro H r hr s hs g
    have f := dk_fi_le (ce := ce) x r
    exact dk_prod.mp (H (dk_fi ce x r) (by omega) (dk_fi_i _ _)) r s hr hs rfl (dk_fi_e.mpr (dk_ag_s g))
  · intro H h hh e
    exact dk_prod.mpr (fun r s hr hs h1 h2 => H r hr s hs (dk_fi_e.mp (h1.trans h2.symm)))
section
variable {f_count f_counting f_blocks f_isStudied f_stemCount f_keyCount f_partCount f_rows : Int32} {a_leftSide a_rightSide a_isBundled a_block a_closureOf a_stemSet a_isStem a_keySet a_partSet a_symbol a_cells a_classOf a_classes a_agreement : Nat → Int32}
theorem dk_xisProduct {post : Int32 → Prop} {rn x y h : Nat} (hn : rn ≤ 6) (hx : x < 64) (hy : y < 64) (hh : h < rn) (hC : dk_CL a_cells rn 64 a_classOf a_classes)
    (p1 : dk_PR a_cells rn x y h → post 1) (p0 : ¬ dk_PR a_cells rn x y h → post 0) : wpX_isProduct post (f_count, f_counting, f_blocks, f_isStudied, f_stemCount, f_keyCount, f_partCount, nI rn, a_leftSide, a_rightSide, a_isBundled, a_block, a_closureOf, a_stemSet, a_isStem, a_keySet, a_partSet, a_symbol, a_cells, a_classOf, a_classes, a_agreement) (nI x) (nI y) (nI h) := by
  have z64 : dk_sd (dk_sd 63 x) y < 64 := dk_sd_lt (dk_sd_lt (by decide))
  have xy64 := dk_or_lt hx hy
  have xz64 := dk_or_lt hx z64
  refine nm_r (e' := nI (dk_sd (dk_sd 63 x) y)) (by rw [dk_n63, dk_not, dk_not]) ?_
  have lp : ∀ e r, r + e = rn → wX_isProduct_24 post (nI x) (nI y) (nI h) (nI (dk_sd (dk_sd 63 x) y)) f_count f_counting f_blocks f_isStudied f_stemCount f_keyCount f_partCount (nI rn) a_leftSide a_rightSide a_isBundled a_block a_closureOf a_stemSet a_isStem a_keySet a_partSet a_symbol a_cells a_classOf a_classes a_agreement (e + 1)
      (nI (dk_cn (fun r => dk_fi a_cells x r = h ∧ dk_fi a_cells 63 r = r) r)) (nI (dk_cn (fun r => dk_fi a_cells x r = h ∧ dk_fi a_cells (x ||| y) r = r) r)) (nI (dk_cn (fun r => dk_fi a_cells x r = h ∧ dk_fi a_cells (x ||| dk_sd (dk_sd 63 x) y) r = r) r)) (nI r) := by
    intro e
    induction e with
    | zero =>
      intro r hr
      have er : r = rn := by omega
      subst er
      have a1 := dk_cn_le (fun q => dk_fi a_cells x q = h ∧ dk_fi a_cells 63 q = q) r
      have a2 := dk_cn_le (fun q => dk_fi a_cells x q = h ∧ dk_fi a_cells (x ||| y) q = q) r
      have a3 := dk_cn_le (fun q => dk_fi a_cells x q = h ∧ dk_fi a_cells (x ||| dk_sd (dk_sd 63 x) y) q = q) r
      refine br_t (nI_le (Nat.le_refl _) (by omega)) ?_
      rw [pk_mul]
      have a4 : dk_cn (fun q => dk_fi a_cells x q = h ∧ dk_fi a_cells (x ||| y) q = q) r * dk_cn (fun q => dk_fi a_cells x q = h ∧ dk_fi a_cells (x ||| dk_sd (dk_sd 63 x) y) q = q) r ≤ 6 * 6 := Nat.mul_le_mul (by omega) (by omega)
      exact dk_if (d := dk_PR a_cells r x y h) (nI_eq (by omega) (by omega)) p1 p0
    | succ e ih =>
      intro r hr
      have rr : r < rn := by omega
      have f1 := dk_fi_le (ce := a_cells) x r
      have f2 := dk_fi_le (ce := a_cells) 63 r
      have f3 := dk_fi_le (ce := a_cells) (x ||| y) r
      have f4 := dk_fi_le (ce := a_cells) (x ||| dk_sd (dk_sd 63 x) y) r
      have nx := ih (r + 1) (by omega)
      refine br_f (nI_ge (by omega) (by omega)) ?_
      rw [dk_ix, show (378 : Int32) + nI r = nI (378 + r) from nI_add 378 r, dk_cl (by omega : 6 * x + r < 1000), dk_cl (by omega : 378 + r < 1000), (hC x hx).1 r rr]
      refine ⟨vp_in_nI (by omega) (by decide), dk_if (nI_eq (by omega) (by omega)) (fun z => ⟨vp_in_nI (by omega) (by decide), ?_⟩) (fun z => nm_r (nI_1 r) ?_)⟩
      · have c63 := (hC 63 (by decide)).1 r rr
        rw [show 6 * 63 + r = 378 + r by omega] at c63
        rw [c63]
        have s3 : ∀ (a b a' b' : Nat), dk_cn (fun q => dk_fi a_cells x q = h ∧ dk_fi a_cells 63 q = q) (r + 1) = a' → dk_cn (fun q => dk_fi a_cells x q = h ∧ dk_fi a_cells (x ||| y) q = q) (r + 1) = b' →
            wX_isProduct_104 post (wX_isProduct_24 post (nI x) (nI y) (nI h) (nI (dk_sd (dk_sd 63 x) y)) f_count f_counting f_blocks f_isStudied f_stemCount f_keyCount f_partCount (nI rn) a_leftSide a_rightSide a_isBundled a_block a_closureOf a_stemSet a_isStem a_keySet a_partSet a_symbol a_cells a_classOf a_classes a_agreement (e + 1)) (nI x) (nI y) (nI h) (nI (dk_sd (dk_sd 63 x) y)) (nI a') (nI (dk_cn (fun r => dk_fi a_cells x r = h ∧ dk_fi a_cells (x ||| dk_sd (dk_sd 63 x) y) r = r) r)) (nI r) (nI b') f_count f_counting f_blocks f_isStudied f_stemCount f_keyCount f_partCount (nI rn) a_leftSide a_rightSide a_isBundled a_block a_closureOf a_stemSet a_isStem a_keySet a_partSet a_symbol a_cells a_classOf a_classes a_agreement := by
          intro a b a' b' ea eb
          rw [ea, eb] at nx
          unfold wX_isProduct_104
          rw [dk_or, dk_ix, dk_cl (by omega : 6 * (x ||| dk_sd (dk_sd 63 x) y) + r < 1000), (hC _ xz64).1 r rr]
          refine ⟨vp_in_nI (by omega) (by decide), dk_if (nI_eq (by omega) (by omega)) (fun w => nm_r (nI_1 _) (nm_r (nI_1 r) ?_)) (fun w => nm_r (nI_1 r) ?_)⟩
          · rw [dk_cn_t (P := fun q => dk_fi a_cells x q = h ∧ dk_fi a_cells (x ||| dk_sd (dk_sd 63 x) y) q = q) ⟨z, w⟩] at nx
            exact nx
          · rw [dk_cn_f (P := fun q => dk_fi a_cells x q = h ∧ dk_fi a_cells (x ||| dk_sd (dk_sd 63 x) y) q = q) (fun q => w q.2)] at nx
            exact nx
        have s2 : ∀ (a' : Nat), dk_cn (fun q => dk_fi a_cells x q = h ∧ dk_fi a_cells 63 q = q) (r + 1) = a' →
            wX_isProduct_74 post (wX_isProduct_24 post (nI x) (nI y) (nI h) (nI (dk_sd (dk_sd 63 x) y)) f_count f_counting f_blocks f_isStudied f_stemCount f_keyCount f_partCount (nI rn) a_leftSide a_rightSide a_isBundled a_block a_closureOf a_stemSet a_isStem a_keySet a_partSet a_symbol a_cells a_classOf a_classes a_agreement (e + 1)) (nI x) (nI y) (nI h) (nI (dk_sd (dk_sd 63 x) y)) (nI (dk_cn (fun r => dk_fi a_cells x r = h ∧ dk_fi a_cells (x ||| y) r = r) r)) (nI (dk_cn (fun r => dk_fi a_cells x r = h ∧ dk_fi a_cells (x ||| dk_sd (dk_sd 63 x) y) r = r) r)) (nI r) (nI a') f_count f_counting f_blocks f_isStudied f_stemCount f_keyCount f_partCount (nI rn) a_leftSide a_rightSide a_isBundled a_block a_closureOf a_stemSet a_isStem a_keySet a_partSet a_symbol a_cells a_classOf a_classes a_agreement := by
          intro a' ea
          unfold wX_isProduct_74
          rw [dk_or, dk_ix, dk_cl (by omega : 6 * (x ||| y) + r < 1000), (hC _ xy64).1 r rr, nI_1]
          exact ⟨vp_in_nI (by omega) (by decide), dk_if (nI_eq (by omega) (by omega)) (fun w => s3 0 0 _ _ ea (dk_cn_t (P := fun q => dk_fi a_cells x q = h ∧ dk_fi a_cells (x ||| y) q = q) ⟨z, w⟩)) (fun w => s3 0 0 _ _ ea (dk_cn_f (P := fun q => dk_fi a_cells x q = h ∧ dk_fi a_cells (x ||| y) q = q) (fun q => w q.2)))⟩
        rw [nI_1]
        exact dk_if (nI_eq (by omega) (by omega)) (fun w => s2 _ (dk_cn_t (P := fun q => dk_fi a_cells x q = h ∧ dk_fi a_cells 63 q = q) ⟨z, w⟩)) (fun w => s2 _ (dk_cn_f (P := fun q => dk_fi a_cells x q = h ∧ dk_fi a_cells 63 q = q) (fun q => w q.2)))
      · rw [dk_cn_f (P := fun q => dk_fi a_cells x q = h ∧ dk_fi a_cells 63 q = q) (fun q => z q.1), dk_cn_f (P := fun q => dk_fi a_cells x q = h ∧ dk_fi a_cells (x ||| y) q = q) (fun q => z q.1), dk_cn_f (P := fun q => dk_fi a_cells x q = h ∧ dk_fi a_cells (x ||| dk_sd (dk_sd 63 x) y) q = q) (fun q => z q.1)] at nx
        exact nx
  exact ⟨_, lp rn 0 (by omega)⟩
theorem dk_xkeepsBundled27 {post : Int32 → SX → Prop} {rn x y : Nat} (hn : rn ≤ 6) (hx : x < 64) (hy : y < 64) (hC : dk_CL a_cells rn 64 a_classOf a_classes)
    (p1 : (∀ h, h < rn → dk_fi a_cells x h = h → dk_PR a_cells rn x y h) → post 1 (f_count, f_counting, f_blocks, f_isStudied, f_stemCount, f_keyCount, f_partCount, nI rn, a_leftSide, a_rightSide, a_isBundled, a_block, a_closureOf, a_stemSet, a_isStem, a_keySet, a_partSet, a_symbol, a_cells, a_classOf, a_classes, a_agreement)) (p0 : (¬ ∀ h, h < rn → dk_fi a_cells x h = h → dk_PR a_cells rn x y h) → post 0 (f_count, f_counting, f_blocks, f_isStudied, f_stemCount, f_keyCount, f_partCount, nI rn, a_leftSide, a_rightSide, a_isBundled, a_block, a_closureOf, a_stemSet, a_isStem, a_keySet, a_partSet, a_symbol, a_cells, a_classOf, a_classes, a_agreement)) :
    ∃ n, wX_keepsBundled_27 post (nI x) (nI y) f_count f_counting f_blocks f_isStudied f_stemCount f_keyCount f_partCount (nI rn) a_leftSide a_rightSide a_isBundled a_block a_closureOf a_stemSet a_isStem a_keySet a_partSet a_symbol a_cells a_classOf a_classes a_agreement n 1 0 := by
  have lp : ∀ e r x3, r + e = rn → ((x3 = 1 ∧ ∀ h, h < r → dk_fi a_cells x h = h → dk_PR a_cells rn x y h) ∨ (x3 = 0 ∧ ¬ ∀ h, h < rn → dk_fi a_cells x h = h → dk_PR a_cells rn x y h)) →
      wX_keepsBundled_27 post (nI x) (nI y) f_count f_counting f_blocks f_isStudied f_stemCount f_keyCount f_partCount (nI rn) a_leftSide a_rightSide a_isBundled a_block a_closureOf a_stemSet a_isStem a_keySet a_partSet a_symbol a_cells a_classOf a_classes a_agreement (e + 1) x3 (nI r) := by
    intro e
    induction e with
    | zero =>
      intro r x3 hr h
      have er : r = rn := by omega
      subst er
      refine br_t (nI_le (Nat.le_refl _) (by omega)) ?_
      rcases h with ⟨rfl, h⟩ | ⟨rfl, h⟩
      · exact ⟨rfl, p1 h⟩
      · exact ⟨rfl, p0 h⟩
    | succ e ih =>
      intro r x3 hr h
      have rr : r < rn := by omega
      have f1 := dk_fi_le (ce := a_cells) x r
      refine br_f (nI_ge (by omega) (by omega)) ?_
      rcases h with ⟨rfl, h⟩ | ⟨rfl, h⟩
      · refine br_f (by decide) ?_
        rw [dk_ix, dk_cl (by omega : 6 * x + r < 1000), (hC x hx).1 r rr]
        refine ⟨vp_in_nI (by omega) (by decide), dk_if (nI_eq (by omega) (by omega)) (fun z => ?_) (fun z => nm_r (nI_1 r) (ih (r + 1) 1 (by omega) (Or.inl ⟨rfl, lt_s h (fun q => absurd q z)⟩)))⟩
        exact dk_xisProduct hn hx hy rr hC (fun w => br_f (by decide) (nm_r (nI_1 r) (ih (r + 1) 1 (by omega) (Or.inl ⟨rfl, lt_s h (fun _ => w)⟩)))) (fun w => br_t rfl (nm_r (nI_1 r) (ih (r + 1) 0 (by omega) (Or.inr ⟨rfl, fun q => w (q r rr z)⟩))))
      · exact br_t rfl ⟨rfl, p0 h⟩
  exact ⟨_, lp rn 0 1 (by omega) (Or.inl ⟨rfl, lt_0⟩)⟩
end
section
variable {f_count f_partCount f_rowCount f_same : Int32} {a_lefts a_rights a_bundled a_parts a_cells a_known a_closures a_stemSets a_symbols : Nat → Int32} {f_made : Int64} {a_tables : Nat → Int64}
theorem dk_yhasMixed {post : Int32 → Prop} {rn x y r s : Nat} (hn : rn ≤ 6) (hx : x < 64) (hy : y < 64) (hr : r < rn) (hs : s < rn)
    (p1 : dk_MX a_cells rn x y r s → post 1) (p0 : ¬ dk_MX a_cells rn x y r s → post 0) : wpY_hasMixed post (f_count, f_partCount, nI rn, f_same, f_made, a_lefts, a_rights, a_bundled, a_parts, a_cells, a_known, a_closures, a_tables, a_stemSets, a_symbols) (nI r) (nI s) (nI x) (nI y) := by
  have xy64 := dk_or_lt hx hy
  have z64 : dk_sd 63 (x ||| y) < 64 := dk_sd_lt (by decide)
  have lp : ∀ e t, t + e = rn → (∀ q, q < t → ¬ (dk_ag a_cells (x ||| y) q r ∧ dk_ag a_cells (dk_sd 63 (x ||| y)) q s)) → wY_hasMixed_3 post (nI r) (nI s) (nI x) (nI y) f_count f_partCount (nI rn) f_same f_made a_lefts a_rights a_bundled a_parts a_cells a_known a_closures a_tables a_stemSets a_symbols (e + 1) (nI t) := by
    intro e
    induction e with
    | zero =>
      intro t ht h
      have et : t = rn := by omega
      subst et
      exact br_t (nI_le (Nat.le_refl _) (by omega)) (p0 (fun ⟨q, q1, q2⟩ => h q q1 q2))
    | succ e ih =>
      intro t ht h
      have tt : t < rn := by omega
      have second : ∀ z0 : Int32, ((z0 = 1 ∧ dk_ag a_cells (x ||| y) t r) ∨ (z0 = 0 ∧ ¬ dk_ag a_cells (x ||| y) t r)) →
          wY_hasMixed_34 post (wY_hasMixed_3 post (nI r) (nI s) (nI x) (nI y) f_count f_partCount (nI rn) f_same f_made a_lefts a_rights a_bundled a_parts a_cells a_known a_closures a_tables a_stemSets a_symbols (e + 1)) (nI r) (nI s) (nI x) (nI y) (nI t) z0 f_count f_partCount (nI rn) f_same f_made a_lefts a_rights a_bundled a_parts a_cells a_known a_closures a_tables a_stemSets a_symbols := by
        intro z0 hz
        unfold wY_hasMixed_34
        refine dk_yagreement (by omega) (by omega) (dk_if (d := dk_ag a_cells (dk_sd 63 (x ||| y)) t s) (by rw [dk_or, dk_n63, dk_not, dk_not]; exact ((dk_z (dk_sd_lt z64)).trans dk_sd0).trans (dk_am_ag z64)) (fun w => ?_) (fun w => ?_))
        · rcases hz with ⟨rfl, hz⟩ | ⟨rfl, hz⟩
          · exact br_f (by decide) (br_f (by decide) (p1 ⟨t, tt, hz, w⟩))
          · exact br_t rfl (nm_r (nI_1 t) (ih (t + 1) (by omega) (lt_s h (fun q => hz q.1))))
        · rcases hz with ⟨rfl, hz⟩ | ⟨rfl, hz⟩
          · exact br_f (by decide) (br_t rfl (nm_r (nI_1 t) (ih (t + 1) (by omega) (lt_s h (fun q => w q.2)))))
          · exact br_t rfl (nm_r (nI_1 t) (ih (t + 1) (by omega) (lt_s h (fun q => hz q.1))))
      refine br_f (nI_ge (by omega) (by omega)) (dk_yagreement (by omega) (by omega) (dk_if (d := dk_ag a_cells (x ||| y) t r) (by rw [dk_or, dk_not]; exact ((dk_z (dk_sd_lt xy64)).trans dk_sd0).trans (dk_am_ag xy64)) (fun z => second 1 (Or.inl ⟨rfl, z⟩)) (fun z => second 0 (Or.inr ⟨rfl, z⟩))))
  exact ⟨_, lp rn 0 (by omega) lt_0⟩
theorem dk_ykeepsBundled {post : Int32 → Prop} {rn x y : Nat} (hn : rn ≤ 6) (hx : x < 64) (hy : y < 64)
    (p1 : (∀ r, r < rn → ∀ s, s < rn → dk_ag a_cells x r s → dk_MX a_cells rn x y r s) → post 1) (p0 : (¬ ∀ r, r < rn → ∀ s, s < rn → dk_ag a_cells x r s → dk_MX a_cells rn x y r s) → post 0) :
    wpY_keepsBundled post (f_count, f_partCount, nI rn, f_same, f_made, a_lefts, a_rights, a_bundled, a_parts, a_cells, a_known, a_closures, a_tables, a_stemSets, a_symbols) (nI x) (nI y) := by
  unfold wpY_keepsBundled
  refine dk_yset hx (br_f (by decide) (dk_yset hy (br_f (by decide) ?_)))
  have lp31 : ∀ (J : Int32 → Prop) (r : Nat), r < rn → ((∀ s, s < rn → dk_ag a_cells x r s → dk_MX a_cells rn x y r s) → J (nI (r + 1))) →
      ∀ e s, s + e = rn → (∀ q, q < s → dk_ag a_cells x r q → dk_MX a_cells rn x y r q) → wY_keepsBundled_31 post J (nI x) (nI y) (nI r) f_count f_partCount (nI rn) f_same f_made a_lefts a_rights a_bundled a_parts a_cells a_known a_closures a_tables a_stemSets a_symbols (e + 1) (nI s) := by
    intro J r hr hJ e
    induction e with
    | zero =>
      intro s hs h
      have es : s = rn := by omega
      subst es
      exact br_t (nI_le (Nat.le_refl _) (by omega)) (nm_r (nI_1 r) (hJ h))
    | succ e ih =>
      intro s hs h
      refine br_f (nI_ge (by omega) (by omega)) (dk_yagreement (by omega) (by omega) (dk_if (d := dk_ag a_cells x r s) (by rw [dk_not]; exact ((dk_z (dk_sd_lt hx)).trans dk_sd0).trans (dk_am_ag hx)) (fun z => ?_) (fun z => nm_r (nI_1 s) (ih (s + 1) (by omega) (lt_s h (fun q => absurd q z))))))
      exact dk_yhasMixed hn hx hy hr (by omega) (fun w => br_f (by decide) (nm_r (nI_1 s) (ih (s + 1) (by omega) (lt_s h (fun _ => w))))) (fun w => br_t rfl (p0 (fun q => w (q r hr s (by omega) z))))
  have lp20 : ∀ e r, r + e = rn → (∀ q, q < r → ∀ s, s < rn → dk_ag a_cells x q s → dk_MX a_cells rn x y q s) → wY_keepsBundled_20 post (nI x) (nI y) f_count f_partCount (nI rn) f_same f_made a_lefts a_rights a_bundled a_parts a_cells a_known a_closures a_tables a_stemSets a_symbols (e + 1) (nI r) := by
    intro e
    induction e with
    | zero =>
      intro r hr h
      have er : r = rn := by omega
      subst er
      exact br_t (nI_le (Nat.le_refl _) (by omega)) (p1 h)
    | succ e ih =>
      intro r hr h
      exact br_f (nI_ge (by omega) (by omega)) ⟨_, lp31 _ r (by omega) (fun q => ih (r + 1) (by omega) (lt_s h q)) rn 0 (by omega) lt_0⟩
  exact ⟨_, lp20 rn 0 (by omega) lt_0⟩
end
theorem i_vc_keepsBundled {k : Nat} {u : SX} {v : SY} (I : i_Rel k u v) (hk : k + 4 ≤ 2048) (v1 : Int32) (v2 : Int32) : wpX_keepsBundled (fun r u' => wpY_keepsBundled (fun r' => r' = r ∧ i_Rel (k + 4) u' v) v v1 v2) u v1 v2 := by
  refine dk_el (Q := fun u v => wpX_keepsBundled (fun r u' => wpY_keepsBundled (fun r' => r' = r ∧ i_Rel (k + 4) u' v) v v1 v2) u v1 v2) ?_ I
  intro m pn rn L R P B co bo sd sc kc al ar abd ab clo ss ism ks ap sy ce cof cls agr sa ma kn cc tb sts sys hf
  have hf' := hf
  obtain ⟨hD, hP, hr, hS, hK⟩ := hf
  rcases dk_set v1 with ⟨x, x1, rfl⟩ | b1
  · rcases dk_set v2 with ⟨y, y1, rfl⟩ | b2
    · unfold wpX_keepsBundled
      refine dk_xbad x1 (br_t rfl (dk_xbad y1 (br_t rfl ?_)))
      refine dk_xfindClasses hr (fun cof cls hC => ?_)
      refine dk_xkeepsBundled27 hr x1 y1 hC (fun z => ?_) (fun z => ?_)
      · exact dk_ykeepsBundled hr x1 y1 (fun _ => ⟨rfl, dk_mk hf'⟩) (fun w => absurd (dk_PR_all.mp z) w)
      · exact dk_ykeepsBundled hr x1 y1 (fun w => absurd (dk_PR_all.mpr w) z) (fun _ => ⟨rfl, dk_mk hf'⟩)
    · unfold wpX_keepsBundled
      refine dk_xbad x1 (br_t rfl (dk_xbad1 b2 (br_f (by decide) ?_)))
      unfold wpY_keepsBundled
      exact dk_yset x1 (br_f (by decide) (dk_ynot b2 (br_t rfl ⟨rfl, dk_mk hf'⟩)))
  · unfold wpX_keepsBundled
    refine dk_xbad1 b1 (br_f (by decide) ?_)
    unfold wpY_keepsBundled
    exact dk_ynot b1 (br_t rfl ⟨rfl, dk_mk hf'⟩)
end
section
/-! preserves -/
/-- the single dependencies -/
def dk_As (m : Nat) (B : Nat → Bool) : Nat → Prop := fun k => k < m ∧ B k = false
def dk_rdk (F : Nat → Nat) (P : Nat → Nat) : Nat → Nat → Nat
  | 0, out => out
  | k + 1, out => dk_rdk F P k out ||| (F (dk_rdk F P k out &&& P k) &&& P k)
def dk_gi (F : Nat → Nat) (P : Nat → Nat) (pn : Nat) : Nat → Nat → Nat
  | 0, out => out
  | t + 1, out => dk_rdk F P pn (dk_gi F P pn t out)
theorem dk_rdk_s (F P : Nat → Nat) (k out : Nat) : dk_su (dk_rdk F P k out) (dk_rdk F P (k + 1) out) := dk_su_l _ _
theorem dk_rdk_su (F P : Nat → Nat) (out : Nat) : ∀ k, dk_su out (dk_rdk F P k out)
  | 0 => dk_su_rfl _
  | k + 1 => dk_su_tr (dk_rdk_su F P out k) (dk_rdk_s F P k out)
theorem dk_rdk64 {F P : Nat → Nat} {out : Nat} (ho : out < 64) : ∀ k, (∀ j, j < k → P j < 64) → dk_rdk F P k out < 64
  | 0, _ => ho
  | k + 1, h => dk_or_lt (dk_rdk64 ho k (fun j hj => h j (by omega))) (dk_and_lt' (h k (by omega)))
theorem dk_gi64 {F P : Nat → Nat} {pn out : Nat} (ho : out < 64) (h : ∀ j, j < pn → P j < 64) : ∀ t, dk_gi F P pn t out < 64
  | 0 => ho
  | t + 1 => dk_rdk64 (dk_gi64 ho h t) pn h
theorem dk_gi_fix {F P : Nat → Nat} {pn out t : Nat} (h : dk_rdk F P pn (dk_gi F P pn t out) = dk_gi F P pn t out) : ∀ s, dk_gi F P pn (t + s) out = dk_gi F P pn t out
  | 0 => rfl
  | s + 1 => by show dk_rdk F P pn (dk_gi F P pn (t + s) out) = _; rw [dk_gi_fix h s]; exact h
theorem dk_single {m x set : Nat} {L R : Nat → Nat} {B : Nat → Bool} (hs : set < 64) (hx : dk_su x set) (hL : ∀ k, k < m → L k < 64 ∧ R k < 64)
    (hm : ∀ S M, dk_Mod (dk_As m B) L R B S M → dk_su x S → dk_su set S) (hc : ∀ k, k < m → B k = false → dk_su (L k) set → dk_su (R k) set) : dk_IsC (dk_As m B) L R B x set := by
  have z0 : dk_sd 63 set &&& set = 0 := by
    apply dk_and0.mpr
    intro i hi
    rw [dk_tsd] at hi
    cases e : set.testBit i <;> simp_all
  refine ⟨hs, hx, ⟨fun r => r = 0 ∨ r = dk_sd 63 set, fun r hr => ?_, Or.inl rfl, Or.inr rfl, fun k hk r s hr hs' ag => ⟨fun q => absurd (hk.2.symm.trans q) (by decide), fun _ => ?_⟩⟩, hm⟩
  · rcases hr with rfl | rfl
    · exact ⟨by decide, Nat.zero_and _⟩
    · exact ⟨dk_sd_lt (by decide), z0⟩
  · have key : dk_sd 63 set &&& L k = 0 → dk_sd 63 set &&& R k = 0 := by
      intro h
      have a : dk_su (L k) set := by
        intro i hi
        cases e : set.testBit i
        · have := dk_and0.mp h i (by rw [dk_tsd, dk_63, e, decide_eq_true (dk_lo (hL k hk.1).1 hi)]; rfl)
          rw [hi] at this; cases this
        · rfl
      have b := hc k hk.1 hk.2 a
      apply dk_and0.mpr
      intro i hi
      cases e : (R k).testBit i
      · rfl
      · rw [dk_tsd, b i e] at hi; simp at hi
    rcases hr with rfl | rfl <;> rcases hs' with rfl | rfl
    · rw [Nat.xor_self, Nat.zero_and]
    · rw [Nat.zero_xor] at ag ⊢; exact key ag
    · rw [Nat.xor_zero] at ag ⊢; exact key ag
    · rw [Nat.xor_self, Nat.zero_and]
section
variable {f_count f_partCount f_rowCount f_same : Int32} {a_lefts a_rights a_bundled a_parts a_cells a_known a_closures a_stemSets a_symbols : Nat → Int32} {f_made : Int64} {a_tables : Nat → Int64}
variable {L R : Nat → Nat} {B : Nat → Bool}
theorem dk_ysingleClosure {post : Int32 → Prop} {m x : Nat} (hx : x < 64) (hD : dk_DP m L R B a_lefts a_rights a_bundled) (p : post (nI (dk_cf (dk_As m B) L R B x))) :
    wpY_singleClosure post (nI m, f_partCount, f_rowCount, f_same, f_made, a_lefts, a_rights, a_bundled, a_parts, a_cells, a_known, a_closures, a_tables, a_stemSets, a_symbols) (nI x) := by
  have m10 := hD.1
  have hL : ∀ k, k < m → L k < 64 ∧ R k < 64 := fun k hk => ⟨(hD.2 k hk).2.1, (hD.2 k hk).2.2.2.1⟩
  have lp : ∀ e n set, n + e = 100 → set < 64 → dk_su x set → (∀ S M, dk_Mod (dk_As m B) L R B S M → dk_su x S → dk_su set S) →
      ((∀ k, k < m → B k = false → dk_su (L k) set → dk_su (R k) set) ∨ (n / 10 ≤ dk_pc set ∧ ∀ k, k < n % 10 → k < m → B k = false → dk_su (L k) set → dk_su (R k) set) ∨ n / 10 + 1 ≤ dk_pc set) →
      wY_singleClosure_4 post (nI m) f_partCount f_rowCount f_same f_made a_lefts a_rights a_bundled a_parts a_cells a_known a_closures a_tables a_stemSets a_symbols (e + 1) (nI set) (nI n) := by
    intro e
    induction e with
    | zero =>
      intro n set hn hs hxs hm h
      have en : n = 100 := by omega
      subst en
      refine br_t (by decide) ?_
      have hc : ∀ k, k < m → B k = false → dk_su (L k) set → dk_su (R k) set := by
        have := dk_pc6 _ hs
        rcases h with h | ⟨h, _⟩ | h
        · exact h
        · omega
        · omega
      rw [← dk_cf_e (dk_single hs hxs hL hm hc)]; exact p
    | succ e ih =>
      intro n set hn hs hxs hm h
      have k10 : n % 10 < 10 := Nat.mod_lt _ (by decide)
      -- no change, and dependency n % 10 is kept
      have no : ((n % 10 < m → B (n % 10) = false → dk_su (L (n % 10)) set → dk_su (R (n % 10)) set)) → wY_singleClosure_4 post (nI m) f_partCount f_rowCount f_same f_made a_lefts a_rights a_bundled a_parts a_cells a_known a_closures a_tables a_stemSets a_symbols (e + 1) (nI set) (nI (n + 1)) := by
        intro q
        refine ih (n + 1) set (by omega) hs hxs hm ?_
        rcases h with h | ⟨h1, h2⟩ | h
        · exact Or.inl h
        · have all : ∀ k, k < n % 10 + 1 → k < m → B k = false → dk_su (L k) set → dk_su (R k) set := lt_s h2 q
          rcases Nat.lt_or_ge (n % 10) 9 with w | w
          · exact Or.inr (Or.inl ⟨by omega, fun k hk => all k (by omega)⟩)
          · exact Or.inl (fun k hk => all k (by omega) hk)
        · rcases Nat.lt_or_ge (n % 10) 9 with w | w
          · exact Or.inr (Or.inr (by omega))
          · exact Or.inr (Or.inl ⟨by omega, fun k hk => by omega⟩)
      refine br_f (nI_ge (b := 100) (by omega) (by decide)) ⟨by decide, nm_r (e' := nI (n % 10)) (pk_rem (d := 10) (by omega) (by decide) (by decide)) ?_⟩
      refine dk_if (nI_leI (by omega) (by omega)) (fun z => br_t rfl (nm_r (nI_1 n) (no (fun q => by omega)))) (fun z => ?_)
      have km : n % 10 < m := by omega
      obtain ⟨e1, l1, e2, l2, e3⟩ := hD.2 _ km
      have kin : vp_in (nI (n % 10)) 10 := vp_in_nI (by omega) (by decide)
      refine ⟨kin, ?_⟩
      rw [dk_cl (by omega : n % 10 < 1000), e3, e1, dk_not]
      refine dk_if dk_bI0 (fun hb => ⟨kin, ?_⟩) (fun hb => br_t rfl (nm_r (nI_1 n) (no (fun _ q => absurd q hb))))
      refine dk_if ((dk_z (dk_sd_lt l1)).trans dk_sd0) (fun w => br_f (by decide) ⟨kin, nm_r (e' := nI (set ||| R (n % 10))) (by rw [dk_cl (by omega : n % 10 < 1000), e2, dk_or]) (nm_r (nI_1 n) ?_)⟩) (fun w => br_t rfl (nm_r (nI_1 n) (no (fun _ _ q => absurd q w))))
      rcases Classical.em (dk_su (R (n % 10)) set) with v | v
      · have : set ||| R (n % 10) = set := by rw [Nat.or_comm]; exact dk_orE.mpr v
        rw [this]
        exact no (fun _ _ _ => v)
      · have s64 : set ||| R (n % 10) < 64 := dk_or_lt hs l2
        have up : dk_su set (set ||| R (n % 10)) := dk_su_l _ _
        have ne : set ≠ set ||| R (n % 10) := fun q => v (by rw [q]; exact dk_su_r _ _)
        have pl := dk_pcl hs s64 up ne
        refine ih (n + 1) _ (by omega) s64 (dk_su_tr hxs up) (fun S M hM hxS i hi => ?_) ?_
        · rw [Nat.testBit_or, Bool.or_eq_true] at hi
          have sS := hm S M hM hxS
          rcases hi with q | q
          · exact sS i q
          · have ag : (0 ^^^ dk_sd 63 S) &&& L (n % 10) = 0 := by
              rw [Nat.zero_xor]
              apply dk_and0.mpr
              intro j hj
              cases f : (L (n % 10)).testBit j
              · rfl
              · rw [dk_tsd, sS j (w j f)] at hj; simp at hj
            have r := (hM.2.2.2 (n % 10) ⟨km, hb⟩ _ _ hM.2.1 hM.2.2.1 ag).2 hb
            rw [Nat.zero_xor] at r
            cases f : S.testBit i
            · have := dk_and0.mp r i (by rw [dk_tsd, dk_63, f, decide_eq_true (dk_lo l2 q)]; rfl)
              rw [q] at this; cases this
            · rfl
        · rcases h with h | ⟨h1, h2⟩ | h
          · exact absurd (h _ km hb w) v
          · rcases Nat.lt_or_ge (n % 10) 9 with u | u
            · exact Or.inr (Or.inr (by omega))
            · exact Or.inr (Or.inl ⟨by omega, fun k hk => by omega⟩)
          · rcases Nat.lt_or_ge (n % 10) 9 with u | u
            · exact Or.inr (Or.inr (by omega))
            · exact Or.inr (Or.inl ⟨by omega, fun k hk => by omega⟩)
  exact ⟨_, lp 100 0 x (by omega) hx (dk_su_rfl _) (fun S M _ h => h) (Or.inr (Or.inl ⟨Nat.zero_le _, fun k hk => by omega⟩))⟩
theorem dk_ypreserves {post : Int32 → Prop} {m pn : Nat} {P : Nat → Nat} (hD : dk_DP m L R B a_lefts a_rights a_bundled) (hP : pn ≤ 4 ∧ ∀ j, j < pn → a_parts j = nI (P j) ∧ P j < 64)
    (p1 : (∀ d, d < m → B d = false → dk_su (R d) (dk_gi (dk_cf (dk_As m B) L R B) P pn 8 (L d))) → post 1)
    (p0 : (¬ ∀ d, d < m → B d = false → dk_su (R d) (dk_gi (dk_cf (dk_As m B) L R B) P pn 8 (L d))) → post 0) :
    wpY_preserves post (nI m, nI pn, f_rowCount, f_same, f_made, a_lefts, a_rights, a_bundled, a_parts, a_cells, a_known, a_closures, a_tables, a_stemSets, a_symbols) := by
  have m10 := hD.1
  obtain ⟨p4, hP⟩ := hP
  have hP' : ∀ j, j < pn → P j < 64 := fun j hj => (hP j hj).2
  have lp19 : ∀ (J : Int32 → Prop) (d : Nat), d < m → ((B d = false → dk_su (R d) (dk_gi (dk_cf (dk_As m B) L R B) P pn 8 (L d))) → J (nI (d + 1))) →
      ∀ e n t j, n + e = 32 → n = 4 * t + j → j < 4 → wY_preserves_19 post J (nI d) (nI m) (nI pn) f_rowCount f_same f_made a_lefts a_rights a_bundled a_parts a_cells a_known a_closures a_tables a_stemSets a_symbols (e + 1) (nI (dk_rdk (dk_cf (dk_As m B) L R B) P (min j pn) (dk_gi (dk_cf (dk_As m B) L R B) P pn t (L d)))) (nI n) := by
    intro J d hd hJ e
    obtain ⟨e1, l1, e2, l2, e3⟩ := hD.2 d hd
    have din : vp_in (nI d) 10 := vp_in_nI (by omega) (by decide)
    have ed : (nI d).toNatClampNeg = d := dk_cl (by omega)
    induction e with
    | zero =>
      intro n t j hn hnt hj
      have en : n = 32 := by omega
      subst en
      have ej : j = 0 := by omega
      subst ej
      have et : t = 8 := by omega
      subst et
      refine br_t (by decide) ⟨din, ?_⟩
      rw [ed, e3, e2]
      have s64 : dk_gi (dk_cf (dk_As m B) L R B) P pn 8 (L d) < 64 := dk_gi64 l1 hP' 8
      rw [Nat.zero_min]
      refine dk_if dk_bI0 (fun hb => ⟨din, dk_if (d := dk_su (R d) (dk_gi (dk_cf (dk_As m B) L R B) P pn 8 (L d))) (by rw [dk_not]; exact (dk_z (dk_sd_lt l2)).trans dk_sd0) (fun z => nm_r (nI_1 d) (hJ (fun _ => z))) (fun z => p0 (fun q => z (q d hd hb)))⟩) (fun hb => nm_r (nI_1 d) (hJ (fun q => absurd q hb)))
    | succ e ih =>
      intro n t j hn hnt hj
      have g64 : dk_gi (dk_cf (dk_As m B) L R B) P pn t (L d) < 64 := dk_gi64 l1 hP' t
      have s64 : dk_rdk (dk_cf (dk_As m B) L R B) P (min j pn) (dk_gi (dk_cf (dk_As m B) L R B) P pn t (L d)) < 64 := dk_rdk64 g64 _ (fun i hi => hP' i (by omega))
      have rem : nI n - nI n / 4 * 4 = nI j := by
        have := pk_rem (a := n) (d := 4) (by omega) (by decide) (by decide)
        rw [show n % 4 = j by omega] at this; exact this
      -- the value after this part
      have nx : wY_preserves_19 post J (nI d) (nI m) (nI pn) f_rowCount f_same f_made a_lefts a_rights a_bundled a_parts a_cells a_known a_closures a_tables a_stemSets a_symbols (e + 1) (nI (dk_rdk (dk_cf (dk_As m B) L R B) P (min (j + 1) pn) (dk_gi (dk_cf (dk_As m B) L R B) P pn t (L d)))) (nI (n + 1)) := by
        rcases Nat.lt_or_ge j 3 with w | w
        · exact ih (n + 1) t (j + 1) (by omega) (by omega) (by omega)
        · have := ih (n + 1) (t + 1) 0 (by omega) (by omega) (by omega)
          rw [Nat.zero_min] at this
          rw [show min (j + 1) pn = pn by omega]
          exact this
      refine br_f (nI_ge (b := 32) (by omega) (by decide)) ⟨by decide, ?_⟩
      rw [rem]
      refine dk_if (nI_leI (by omega) (by omega)) (fun z => ?_) (fun z => ⟨by decide, vp_in_nI (by omega) (by decide), ?_⟩)
      · unfold wY_preserves_47
        have e0 : ∀ q : Int32, q &&& 0 = 0 := fun q => by
          obtain ⟨k, _, rfl⟩ : ∃ k, k < 2 ^ 32 ∧ q = nI k := ⟨q.toBitVec.toNat, q.toBitVec.isLt, by apply Int32.toBitVec_inj.1; apply BitVec.eq_of_toNat_eq; rw [pk_tn q.toBitVec.isLt]⟩
          have := dk_and k 0
          rw [Nat.and_zero] at this; exact this
        rw [e0]
        refine dk_ysingleClosure (x := 0) (by decide) hD (nm_r (e' := nI (dk_rdk (dk_cf (dk_As m B) L R B) P (min j pn) (dk_gi (dk_cf (dk_As m B) L R B) P pn t (L d)))) ?_ (nm_r (nI_1 n) ?_))
        · rw [e0]
          have := dk_or (dk_rdk (dk_cf (dk_As m B) L R B) P (min j pn) (dk_gi (dk_cf (dk_As m B) L R B) P pn t (L d))) 0
          rw [Nat.or_zero] at this; exact this
        · rw [show min (j + 1) pn = min j pn by omega] at nx; exact nx
      · have jp : j < pn := by omega
        rw [dk_cl (by omega : j < 1000), (hP j jp).1]
        unfold wY_preserves_47
        rw [dk_and]
        refine dk_ysingleClosure (dk_and_lt s64) hD (nm_r (by rw [dk_and, dk_or]) (nm_r (nI_1 n) ?_))
        rw [show min (j + 1) pn = j + 1 by omega] at nx
        rw [show min j pn = j by omega]
        exact nx
  have lp2 : ∀ e d, d + e = m → (∀ q, q < d → B q = false → dk_su (R q) (dk_gi (dk_cf (dk_As m B) L R B) P pn 8 (L q))) → wY_preserves_2 post (nI m) (nI pn) f_rowCount f_same f_made a_lefts a_rights a_bundled a_parts a_cells a_known a_closures a_tables a_stemSets a_symbols (e + 1) (nI d) := by
    intro e
    induction e with
    | zero =>
      intro d hd h
      have ed : d = m := by omega
      subst ed
      exact br_t (nI_le (Nat.le_refl _) (by omega)) (p1 h)
    | succ e ih =>
      intro d hd h
      obtain ⟨e1, l1, e2, l2, e3⟩ := hD.2 d (by omega)
      refine br_f (nI_ge (by omega) (by omega)) ⟨vp_in_nI (by omega) (by decide), nm_r (by rw [dk_cl (by omega : d < 1000), e1]) ⟨33, ?_⟩⟩
      have := lp19 _ d (by omega) (fun q => ih (d + 1) (by omega) (lt_s h q)) 32 0 0 0 (by omega) (by omega) (by omega)
      rw [Nat.zero_min] at this
      exact this
  exact ⟨_, lp2 m 0 (by omega) lt_0⟩
end
section
variable {f_count f_counting f_blocks f_isStudied f_stemCount f_keyCount f_partCount f_rows : Int32} {a_leftSide a_rightSide a_isBundled a_block a_closureOf a_stemSet a_isStem a_keySet a_partSet a_symbol a_cells a_classOf a_classes a_agreement : Nat → Int32}
variable {L R : Nat → Nat} {B : Nat → Bool}
theorem dk_xsingleGiven {post : Int32 → Prop} {m : Nat} (hD : dk_DP m L R B a_leftSide a_rightSide a_isBundled) (p : ∀ sg, sg < 1024 → dk_A m sg = dk_As m B → post (nI sg)) : wpX_singleGiven post (nI m, f_counting, f_blocks, f_isStudied, f_stemCount, f_keyCount, f_partCount, f_rows, a_leftSide, a_rightSide, a_isBundled, a_block, a_closureOf, a_stemSet, a_isStem, a_keySet, a_partSet, a_symbol, a_cells, a_classOf, a_classes, a_agreement) := by
  have m10 := hD.1
  have lp : ∀ e d sg, d + e = m → (∀ k, sg.testBit k = true ↔ (k < d ∧ B k = false)) → wX_singleGiven_4 post (nI m) f_counting f_blocks f_isStudied f_stemCount f_keyCount f_partCount f_rows a_leftSide a_rightSide a_isBundled a_block a_closureOf a_stemSet a_isStem a_keySet a_partSet a_symbol a_cells a_classOf a_classes a_agreement (e + 1) (nI sg) (nI d) := by
    intro e
    induction e with
    | zero =>
      intro d sg hd h
      have ed : d = m := by omega
      subst ed
      refine br_t (nI_le (Nat.le_refl _) (by omega)) (p sg ?_ ?_)
      · apply Nat.lt_pow_two_of_testBit (n := 10)
        intro i hi
        cases q : sg.testBit i
        · rfl
        · have := ((h i).mp q).1; omega
      · funext k
        apply propext
        exact ⟨fun q => (h k).mp q.2, fun q => ⟨q.1, (h k).mpr q⟩⟩
    | succ e ih =>
      intro d sg hd h
      obtain ⟨e1, l1, e2, l2, e3⟩ := hD.2 d (by omega)
      refine br_f (nI_ge (by omega) (by omega)) ⟨vp_in_nI (by omega) (by decide), ?_⟩
      rw [dk_cl (by omega : d < 1000), e3]
      refine dk_if dk_bI0 (fun hb => nm_r (by rw [dk_sh d (by omega), dk_or]) (nm_r (nI_1 d) (ih (d + 1) _ (by omega) (fun k => ?_)))) (fun hb => nm_r (nI_1 d) (ih (d + 1) sg (by omega) (fun k => ?_)))
      · rw [Nat.testBit_or, Bool.or_eq_true, h, dk_tp, decide_eq_true_iff]
        constructor
        · rintro (q | q)
          · exact ⟨by omega, q.2⟩
          · subst q; exact ⟨by omega, hb⟩
        · rintro ⟨q1, q2⟩
          rcases Nat.lt_or_ge k d with w | w
          · exact Or.inl ⟨w, q2⟩
          · exact Or.inr (by omega)
      · rw [h]
        constructor
        · rintro ⟨q1, q2⟩; exact ⟨by omega, q2⟩
        · rintro ⟨q1, q2⟩
          refine ⟨?_, q2⟩
          rcases Nat.lt_or_ge k d with w | w
          · exact w
          · have : k = d := by omega
            subst this; exact absurd q2 hb
  exact ⟨_, lp m 0 0 (by omega) (fun k => by rw [Nat.zero_testBit]; exact ⟨fun q => absurd q (by decide), fun q => by omega⟩)⟩
theorem dk_xclosedInParts {post : Int32 → SX → Prop} {m sg pn x : Nat} {P : Nat → Nat} (hx : x < 64) (hsg : sg < 1024) (hD : dk_DP m L R B a_leftSide a_rightSide a_isBundled) (hP : pn ≤ 4 ∧ ∀ j, j < pn → a_partSet j = nI (P j) ∧ P j < 64)
    (p : ∀ bo ab, post (nI (dk_gi (dk_cf (dk_A m sg) L R B) P pn 8 x)) (nI m, nI sg, bo, f_isStudied, f_stemCount, f_keyCount, nI pn, f_rows, a_leftSide, a_rightSide, a_isBundled, ab, a_closureOf, a_stemSet, a_isStem, a_keySet, a_partSet, a_symbol, a_cells, a_classOf, a_classes, a_agreement)) :
    wpX_closedInParts post (nI m, nI sg, f_blocks, f_isStudied, f_stemCount, f_keyCount, nI pn, f_rows, a_leftSide, a_rightSide, a_isBundled, a_block, a_closureOf, a_stemSet, a_isStem, a_keySet, a_partSet, a_symbol, a_cells, a_classOf, a_classes, a_agreement) (nI x) := by
  obtain ⟨p4, hP⟩ := hP
  have hP' : ∀ j, j < pn → P j < 64 := fun j hj => (hP j hj).2
  have lp24 : ∀ (J : Int32 → Int32 → Int32 → Int32 → Int32 → Int32 → Int32 → Int32 → Int32 → Int32 → Int32 → (Nat → Int32) → (Nat → Int32) → (Nat → Int32) → (Nat → Int32) → (Nat → Int32) → (Nat → Int32) → (Nat → Int32) → (Nat → Int32) → (Nat → Int32) → (Nat → Int32) → (Nat → Int32) → (Nat → Int32) → (Nat → Int32) → (Nat → Int32) → Prop) (t out : Nat), out < 64 →
      (dk_rdk (dk_cf (dk_A m sg) L R B) P pn out = out → ∀ bo ab, J (nI out) 0 (nI (t + 1)) (nI m) (nI sg) bo f_isStudied f_stemCount f_keyCount (nI pn) f_rows a_leftSide a_rightSide a_isBundled ab a_closureOf a_stemSet a_isStem a_keySet a_partSet a_symbol a_cells a_classOf a_classes a_agreement) →
      (dk_rdk (dk_cf (dk_A m sg) L R B) P pn out ≠ out → ∀ bo ab, J (nI (dk_rdk (dk_cf (dk_A m sg) L R B) P pn out)) 1 (nI (t + 1)) (nI m) (nI sg) bo f_isStudied f_stemCount f_keyCount (nI pn) f_rows a_leftSide a_rightSide a_isBundled ab a_closureOf a_stemSet a_isStem a_keySet a_partSet a_symbol a_cells a_classOf a_classes a_agreement) →
      ∀ e k bo ab, k + e = pn → wX_closedInParts_24 post J (nI t) (nI out) (e + 1) (nI (dk_rdk (dk_cf (dk_A m sg) L R B) P k out)) (nI k) (nI m) (nI sg) bo f_isStudied f_stemCount f_keyCount (nI pn) f_rows a_leftSide a_rightSide a_isBundled ab a_closureOf a_stemSet a_isStem a_keySet a_partSet a_symbol a_cells a_classOf a_classes a_agreement := by
    intro J t out ho j0 j1 e
    induction e with
    | zero =>
      intro k bo ab hk
      have ek : k = pn := by omega
      subst ek
      refine br_t (nI_le (Nat.le_refl _) (by omega)) (dk_if (dk_e (dk_rdk64 ho k hP') ho) (fun z => nm_r (nI_1 t) (by rw [z]; exact j0 z bo ab)) (fun z => nm_r (nI_1 t) (j1 z bo ab)))
    | succ e ih =>
      intro k bo ab hk
      have kp : k < pn := by omega
      have s64 : dk_rdk (dk_cf (dk_A m sg) L R B) P k out < 64 := dk_rdk64 ho k (fun i hi => hP' i (by omega))
      refine br_f (nI_ge (by omega) (by omega)) ⟨vp_in_nI (by omega) (by decide), ?_⟩
      rw [dk_cl (by omega : k < 1000), (hP k kp).1, dk_and]
      refine dk_xcloseSet (dk_and_lt s64) hsg hD (fun nb ab' _ => ⟨vp_in_nI (by omega) (by decide), nm_r (e' := nI (dk_rdk (dk_cf (dk_A m sg) L R B) P (k + 1) out)) (by first | (rw [(hP k kp).1, dk_and, dk_or]; rfl) | (rw [dk_and, dk_or]; rfl) | (rw [dk_cl (by omega : k < 1000), (hP k kp).1, dk_and, dk_or]; rfl)) (nm_r (nI_1 k) (ih (k + 1) _ ab' (by omega)))⟩)
  have lp7 : ∀ e t x3 bo ab, t + e = 7 → ((x3 = 0 ∧ dk_rdk (dk_cf (dk_A m sg) L R B) P pn (dk_gi (dk_cf (dk_A m sg) L R B) P pn t x) = dk_gi (dk_cf (dk_A m sg) L R B) P pn t x) ∨ (x3 = 1 ∧ t ≤ dk_pc (dk_gi (dk_cf (dk_A m sg) L R B) P pn t x))) →
      wX_closedInParts_7 post (e + 1) (nI (dk_gi (dk_cf (dk_A m sg) L R B) P pn t x)) x3 (nI t) (nI m) (nI sg) bo f_isStudied f_stemCount f_keyCount (nI pn) f_rows a_leftSide a_rightSide a_isBundled ab a_closureOf a_stemSet a_isStem a_keySet a_partSet a_symbol a_cells a_classOf a_classes a_agreement := by
    have fin : ∀ t bo ab, t ≤ 7 → dk_rdk (dk_cf (dk_A m sg) L R B) P pn (dk_gi (dk_cf (dk_A m sg) L R B) P pn t x) = dk_gi (dk_cf (dk_A m sg) L R B) P pn t x → post (nI (dk_gi (dk_cf (dk_A m sg) L R B) P pn t x)) (nI m, nI sg, bo, f_isStudied, f_stemCount, f_keyCount, nI pn, f_rows, a_leftSide, a_rightSide, a_isBundled, ab, a_closureOf, a_stemSet, a_isStem, a_keySet, a_partSet, a_symbol, a_cells, a_classOf, a_classes, a_agreement) := by
      intro t bo ab ht h
      have := dk_gi_fix h (8 - t)
      rw [show t + (8 - t) = 8 by omega] at this
      rw [← this]
      exact p bo ab
    intro e
    induction e with
    | zero =>
      intro t x3 bo ab ht h
      have et : t = 7 := by omega
      subst et
      refine br_t (by decide) ?_
      rcases h with ⟨rfl, h⟩ | ⟨rfl, h⟩
      · exact fin 7 bo ab (by omega) h
      · have := dk_pc6 _ (dk_gi64 (F := dk_cf (dk_A m sg) L R B) hx hP' 7); omega
    | succ e ih =>
      intro t x3 bo ab ht h
      refine br_f (nI_ge (b := 7) (by omega) (by decide)) ?_
      rcases h with ⟨rfl, h⟩ | ⟨rfl, h⟩
      · exact br_t rfl (fin t bo ab (by omega) h)
      · have g64 : dk_gi (dk_cf (dk_A m sg) L R B) P pn t x < 64 := dk_gi64 hx hP' t
        refine br_f (by decide) ⟨pn + 1, lp24 _ t _ g64 (fun q bo ab => ?_) (fun q bo ab => ih (t + 1) 1 bo ab (by omega) (Or.inr ⟨rfl, ?_⟩)) pn 0 bo ab (by omega)⟩
        · have := ih (t + 1) 0 bo ab (by omega) (Or.inl ⟨rfl, by show dk_rdk (dk_cf (dk_A m sg) L R B) P pn (dk_rdk (dk_cf (dk_A m sg) L R B) P pn (dk_gi (dk_cf (dk_A m sg) L R B) P pn t x)) = dk_rdk (dk_cf (dk_A m sg) L R B) P pn (dk_gi (dk_cf (dk_A m sg) L R B) P pn t x); rw [q, q]⟩)
          have eg : dk_gi (dk_cf (dk_A m sg) L R B) P pn (t + 1) x = dk_gi (dk_cf (dk_A m sg) L R B) P pn t x := q
          rw [eg] at this
          exact this
        · have := dk_pcl g64 (dk_rdk64 g64 pn hP') (dk_rdk_su (dk_cf (dk_A m sg) L R B) P _ pn) (fun w => q w.symm)
          have eg : dk_gi (dk_cf (dk_A m sg) L R B) P pn (t + 1) x = dk_rdk (dk_cf (dk_A m sg) L R B) P pn (dk_gi (dk_cf (dk_A m sg) L R B) P pn t x) := rfl
          rw [eg]; omega
  exact ⟨_, lp7 7 0 1 f_blocks a_block (by omega) (Or.inr ⟨rfl, Nat.zero_le _⟩)⟩
theorem dk_xpreserves {post : Int32 → SX → Prop} {m pn : Nat} {P : Nat → Nat} (hD : dk_DP m L R B a_leftSide a_rightSide a_isBundled) (hP : pn ≤ 4 ∧ ∀ j, j < pn → a_partSet j = nI (P j) ∧ P j < 64)
    (p1 : (∀ d, d < m → B d = false → dk_su (R d) (dk_gi (dk_cf (dk_As m B) L R B) P pn 8 (L d))) → ∀ co bo ab, post 1 (nI m, co, bo, f_isStudied, f_stemCount, f_keyCount, nI pn, f_rows, a_leftSide, a_rightSide, a_isBundled, ab, a_closureOf, a_stemSet, a_isStem, a_keySet, a_partSet, a_symbol, a_cells, a_classOf, a_classes, a_agreement))
    (p0 : (¬ ∀ d, d < m → B d = false → dk_su (R d) (dk_gi (dk_cf (dk_As m B) L R B) P pn 8 (L d))) → ∀ co bo ab, post 0 (nI m, co, bo, f_isStudied, f_stemCount, f_keyCount, nI pn, f_rows, a_leftSide, a_rightSide, a_isBundled, ab, a_closureOf, a_stemSet, a_isStem, a_keySet, a_partSet, a_symbol, a_cells, a_classOf, a_classes, a_agreement)) :
    wpX_preserves post (nI m, f_counting, f_blocks, f_isStudied, f_stemCount, f_keyCount, nI pn, f_rows, a_leftSide, a_rightSide, a_isBundled, a_block, a_closureOf, a_stemSet, a_isStem, a_keySet, a_partSet, a_symbol, a_cells, a_classOf, a_classes, a_agreement) := by
  have m10 := hD.1
  unfold wpX_preserves
  refine dk_xsingleGiven hD (fun sg hsg eA => ?_)
  have lp : ∀ e d x1 bo ab, d + e = m → ((x1 = 1 ∧ ∀ q, q < d → B q = false → dk_su (R q) (dk_gi (dk_cf (dk_As m B) L R B) P pn 8 (L q))) ∨ (x1 = 0 ∧ ¬ ∀ d, d < m → B d = false → dk_su (R d) (dk_gi (dk_cf (dk_As m B) L R B) P pn 8 (L d)))) →
      wX_preserves_12 post (e + 1) x1 (nI d) (nI m) (nI sg) bo f_isStudied f_stemCount f_keyCount (nI pn) f_rows a_leftSide a_rightSide a_isBundled ab a_closureOf a_stemSet a_isStem a_keySet a_partSet a_symbol a_cells a_classOf a_classes a_agreement := by
    intro e
    induction e with
    | zero =>
      intro d x1 bo ab hd h
      have ed : d = m := by omega
      subst ed
      refine br_t (nI_le (Nat.le_refl _) (by omega)) ?_
      rcases h with ⟨rfl, h⟩ | ⟨rfl, h⟩
      · exact ⟨rfl, p1 h _ _ _⟩
      · exact ⟨rfl, p0 h _ _ _⟩
    | succ e ih =>
      intro d x1 bo ab hd h
      obtain ⟨e1, l1, e2, l2, e3⟩ := hD.2 d (by omega)
      have din : vp_in (nI d) 10 := vp_in_nI (by omega) (by decide)
      refine br_f (nI_ge (by omega) (by omega)) ⟨din, ?_⟩
      rw [dk_cl (by omega : d < 1000), e3, e1]
      refine dk_if dk_bI0 (fun hb => ⟨din, ?_⟩) (fun hb => nm_r (nI_1 d) (ih (d + 1) x1 bo ab (by omega) ?_))
      · refine dk_xclosedInParts l1 hsg hD hP (fun bo ab => ?_)
        rw [eA]
        rcases h with ⟨rfl, h⟩ | ⟨rfl, h⟩
        · refine br_f (by decide) ⟨din, ?_⟩
          first | rw [dk_cl (by omega : d < 1000), e2] | rw [e2]
          exact dk_xwithin l2 (fun z => br_f (by decide) (nm_r (nI_1 d) (ih (d + 1) 1 bo ab (by omega) (Or.inl ⟨rfl, lt_s h (fun _ => z)⟩)))) (fun z => br_t rfl (nm_r (nI_1 d) (ih (d + 1) 0 bo ab (by omega) (Or.inr ⟨rfl, fun q => z (q d (by omega) hb)⟩))))
        · exact br_t rfl (nm_r (nI_1 d) (ih (d + 1) 0 bo ab (by omega) (Or.inr ⟨rfl, h⟩)))
      · rcases h with ⟨rfl, h⟩ | ⟨rfl, h⟩
        · exact Or.inl ⟨rfl, lt_s h (fun q => absurd q hb)⟩
        · exact Or.inr ⟨rfl, h⟩
  exact ⟨_, lp m 0 1 f_blocks a_block (by omega) (Or.inl ⟨rfl, lt_0⟩)⟩
end
theorem i_vc_preserves {k : Nat} {u : SX} {v : SY} (I : i_Rel k u v) (hk : k + 4 ≤ 2048) : wpX_preserves (fun r u' => wpY_preserves (fun r' => r' = r ∧ i_Rel (k + 4) u' v) v) u := by
  refine dk_el (Q := fun u v => wpX_preserves (fun r u' => wpY_preserves (fun r' => r' = r ∧ i_Rel (k + 4) u' v) v) u) ?_ I
  intro m pn rn L R P B co bo sd sc kc al ar abd ab clo ss ism ks ap sy ce cof cls agr sa ma kn cc tb sts sys hf
  have hf' := hf
  obtain ⟨hD, hP, hr, hS, hK⟩ := hf
  refine dk_xpreserves hD hP (fun z co bo ab => ?_) (fun z co bo ab => ?_)
  · exact dk_ypreserves hD hP (fun _ => ⟨rfl, dk_mk ⟨hD, hP, hr, hS, hK⟩⟩) (fun w => absurd z w)
  · exact dk_ypreserves hD hP (fun w => absurd w z) (fun _ => ⟨rfl, dk_mk ⟨hD, hP, hr, hS, hK⟩⟩)
end
section
/-! lossless: symbols, made the same column by column -/
def dk_mg (pn : Nat) (f : Nat → Nat) (c lo hi : Nat) : Nat → Nat := fun j => if j % 6 = c ∧ j < 6 * pn ∧ f j = hi then lo else f j
def dk_jcol (pn y p q c : Nat) (f : Nat → Nat) : Nat → Nat := if y.testBit c = true then dk_mg pn f c (min (f (6 * p + c)) (f (6 * q + c))) (max (f (6 * p + c)) (f (6 * q + c))) else f
def dk_jrow (pn y p q : Nat) : Nat → (Nat → Nat) → (Nat → Nat)
  | 0, f => f
  | k + 1, f => dk_jcol pn y p q k (dk_jrow pn y p q k f)
def dk_like (f : Nat → Nat) (p q x : Nat) : Prop := ∀ c, c < 6 → x.testBit c = true → f (6 * p + c) = f (6 * q + c)
noncomputable def dk_pst (pn : Nat) (L R : Nat → Nat) (B : Nat → Bool) (d n : Nat) (f : Nat → Nat) : Nat → Nat :=
  @ite (Nat → Nat) (n / 4 < n % 4 ∧ n % 4 < pn ∧ B d = false ∧ dk_like f (n / 4) (n % 4) (L d)) (Classical.propDecidable _) (dk_jrow pn (R d) (n / 4) (n % 4) 6 f) f
noncomputable def dk_pk (pn : Nat) (L R : Nat → Nat) (B : Nat → Bool) (d : Nat) : Nat → (Nat → Nat) → (Nat → Nat)
  | 0, f => f
  | n + 1, f => dk_pst pn L R B d n (dk_pk pn L R B d n f)
noncomputable def dk_dk (pn : Nat) (L R : Nat → Nat) (B : Nat → Bool) : Nat → (Nat → Nat) → (Nat → Nat)
  | 0, f => f
  | d + 1, f => dk_pk pn L R B d 16 (dk_dk pn L R B d f)
theorem dk_pst_t {pn d n : Nat} {L R : Nat → Nat} {B : Nat → Bool} {f : Nat → Nat} (h : n / 4 < n % 4 ∧ n % 4 < pn ∧ B d = false ∧ dk_like f (n / 4) (n % 4) (L d)) : dk_pst pn L R B d n f = dk_jrow pn (R d) (n / 4) (n % 4) 6 f := if_pos h
theorem dk_pst_f {pn d n : Nat} {L R : Nat → Nat} {B : Nat → Bool} {f : Nat → Nat} (h : ¬ (n / 4 < n % 4 ∧ n % 4 < pn ∧ B d = false ∧ dk_like f (n / 4) (n % 4) (L d))) : dk_pst pn L R B d n f = f := if_neg h
theorem dk_pk_B {pn d : Nat} {L R : Nat → Nat} {B : Nat → Bool} {f : Nat → Nat} (h : ¬ B d = false) : ∀ n, dk_pk pn L R B d n f = f
  | 0 => rfl
  | n + 1 => by show dk_pst pn L R B d n (dk_pk pn L R B d n f) = f; rw [dk_pst_f (fun q => h q.2.2.1), dk_pk_B h n]
def dk_VS (pn : Nat) (f : Nat → Nat) : Prop := ∀ j, j < 6 * pn → f j < 5
def dk_RS (pn : Nat) (f : Nat → Nat) (a : Nat → Int32) : Prop := ∀ j, j < 6 * pn → a j = nI (f j)
noncomputable def dk_dc (pn : Nat) (f : Nat → Nat) (c : Nat) : Nat := dk_cn (fun v => ∃ p, p < pn ∧ f (6 * p + c) = v) 5
noncomputable def dk_mS (pn : Nat) (f : Nat → Nat) : Nat := dk_sm (dk_dc pn f) 6
/-- nothing was new (0), or fewer symbols are left (1) -/
def dk_FL (pn : Nat) (fl : Int32) (f f' : Nat → Nat) : Prop := (fl = 0 ∧ f' = f) ∨ (fl = 1 ∧ dk_mS pn f' < dk_mS pn f)
theorem dk_FL_l {pn : Nat} {b : Int32} {f0 f f' : Nat → Nat} (h : dk_FL pn 1 f0 f) (g : dk_FL pn b f f') : dk_FL pn 1 f0 f' := by
  rcases h with ⟨h, _⟩ | ⟨_, h⟩
  · exact absurd h (by decide)
  · rcases g with ⟨_, g⟩ | ⟨_, g⟩
    · rw [g]; exact Or.inr ⟨rfl, h⟩
    · exact Or.inr ⟨rfl, by omega⟩
theorem dk_FL_r {pn : Nat} {b : Int32} {f0 f f' : Nat → Nat} (h : dk_FL pn 0 f0 f) (g : dk_FL pn b f f') : dk_FL pn b f0 f' := by
  rcases h with ⟨_, h⟩ | ⟨h, _⟩
  · rw [← h]; exact g
  · exact absurd h (by decide)
theorem dk_FL_0 (pn : Nat) (f : Nat → Nat) : dk_FL pn 0 f f := Or.inl ⟨rfl, rfl⟩
theorem dk_mg_VS {pn c lo hi : Nat} {f : Nat → Nat} (h : dk_VS pn f) (hl : lo < 5) : dk_VS pn (dk_mg pn f c lo hi) := by
  intro j hj
  unfold dk_mg
  split
  · exact hl
  · exact h j hj
theorem dk_mg_e {pn c a : Nat} {f : Nat → Nat} : dk_mg pn f c a a = f := by
  funext j
  unfold dk_mg
  split
  · rename_i h; exact h.2.2.symm
  · rfl
theorem dk_mm {a b : Nat} : (min a b = a ∨ min a b = b) ∧ (max a b = a ∨ max a b = b) ∧ (a ≠ b → min a b ≠ max a b) := by omega
theorem dk_mg_mS {pn c p q : Nat} {f : Nat → Nat} (hV : dk_VS pn f) (hc : c < 6) (hp : p < pn) (hq : q < pn) (hn : f (6 * p + c) ≠ f (6 * q + c)) :
    dk_mS pn (dk_mg pn f c (min (f (6 * p + c)) (f (6 * q + c))) (max (f (6 * p + c)) (f (6 * q + c)))) < dk_mS pn f := by
  obtain ⟨m1, m2, m3⟩ := dk_mm (a := f (6 * p + c)) (b := f (6 * q + c))
  have m3 := m3 hn
  have inlo : ∃ t, t < pn ∧ f (6 * t + c) = min (f (6 * p + c)) (f (6 * q + c)) := by
    rcases m1 with e | e
    · exact ⟨p, hp, e.symm⟩
    · exact ⟨q, hq, e.symm⟩
  have inhi : ∃ t, t < pn ∧ f (6 * t + c) = max (f (6 * p + c)) (f (6 * q + c)) := by
    rcases m2 with e | e
    · exact ⟨p, hp, e.symm⟩
    · exact ⟨q, hq, e.symm⟩
  have h5 : max (f (6 * p + c)) (f (6 * q + c)) < 5 := by
    obtain ⟨t, t1, t2⟩ := inhi
    rw [← t2]; exact hV _ (by omega)
  generalize min (f (6 * p + c)) (f (6 * q + c)) = lo at *
  generalize max (f (6 * p + c)) (f (6 * q + c)) = hi at *
  have inc : ∀ t, t < pn → dk_mg pn f c lo hi (6 * t + c) = if f (6 * t + c) = hi then lo else f (6 * t + c) := by
    intro t ht
    unfold dk_mg
    by_cases e : f (6 * t + c) = hi
    · rw [if_pos ⟨by omega, by omega, e⟩, if_pos e]
    · rw [if_neg (fun q => e q.2.2), if_neg e]
  have outc : ∀ k, k < 6 → k ≠ c → ∀ t, dk_mg pn f c lo hi (6 * t + k) = f (6 * t + k) := by
    intro k hk hkc t
    unfold dk_mg
    rw [if_neg (fun q => by have := q.1; omega)]
  have less : dk_dc pn (dk_mg pn f c lo hi) c < dk_dc pn f c := by
    unfold dk_dc
    refine dk_cn_lt (a := hi) ?_ inhi (N := 5) ?_ h5
    · rintro ⟨t, t1, t2⟩
      rw [inc t t1] at t2
      split at t2
      · exact m3 t2
      · contradiction
    · rintro v _ ⟨t, t1, t2⟩
      rw [inc t t1] at t2
      split at t2
      · rw [← t2]; exact inlo
      · exact ⟨t, t1, t2⟩
  have u := dk_sm_u (f := dk_dc pn f) (g := dk_dc pn (dk_mg pn f c lo hi)) (k := c) 6 hc (fun k hk hkc => by
    unfold dk_dc
    apply dk_cnp
    intro v
    constructor
    · rintro ⟨t, t1, t2⟩; rw [outc k hk hkc t] at t2; exact ⟨t, t1, t2⟩
    · rintro ⟨t, t1, t2⟩; exact ⟨t, t1, by rw [outc k hk hkc t]; exact t2⟩)
  unfold dk_mS
  omega
theorem dk_min5 {a b : Nat} (ha : a < 5) (hb : b < 5) : min a b < 5 := by omega
theorem dk_jcol_VS {pn y p q c : Nat} {f : Nat → Nat} (h : dk_VS pn f) (hc : c < 6) (hp : p < pn) (hq : q < pn) : dk_VS pn (dk_jcol pn y p q c f) := by
  unfold dk_jcol
  split
  · exact dk_mg_VS h (dk_min5 (h _ (by omega)) (h _ (by omega)))
  · exact h
theorem dk_jrow_VS {pn y p q : Nat} {f : Nat → Nat} (h : dk_VS pn f) (hp : p < pn) (hq : q < pn) : ∀ k, k ≤ 6 → dk_VS pn (dk_jrow pn y p q k f)
  | 0, _ => h
  | k + 1, hk => dk_jcol_VS (dk_jrow_VS h hp hq k (by omega)) (by omega) hp hq
theorem dk_pst_VS {pn d n : Nat} {L R : Nat → Nat} {B : Nat → Bool} {f : Nat → Nat} (h : dk_VS pn f) : dk_VS pn (dk_pst pn L R B d n f) := by
  rcases Classical.em (n / 4 < n % 4 ∧ n % 4 < pn ∧ B d = false ∧ dk_like f (n / 4) (n % 4) (L d)) with z | z
  · rw [dk_pst_t z]; exact dk_jrow_VS h (by omega) z.2.1 6 (Nat.le_refl _)
  · rw [dk_pst_f z]; exact h
theorem dk_pk_VS {pn d : Nat} {L R : Nat → Nat} {B : Nat → Bool} {f : Nat → Nat} (h : dk_VS pn f) : ∀ n, dk_VS pn (dk_pk pn L R B d n f)
  | 0 => h
  | n + 1 => dk_pst_VS (dk_pk_VS h n)
theorem dk_dk_VS {pn : Nat} {L R : Nat → Nat} {B : Nat → Bool} {f : Nat → Nat} (h : dk_VS pn f) : ∀ d, dk_VS pn (dk_dk pn L R B d f)
  | 0 => h
  | d + 1 => dk_pk_VS (dk_dk_VS h d) 16
theorem dk_cn_or (P : Nat → Prop) (a N : Nat) : dk_cn (fun k => P k ∨ k = a) N ≤ dk_cn P N + 1 := by
  rcases Classical.em (P a) with z | z
  · have : dk_cn (fun k => P k ∨ k = a) N = dk_cn P N := dk_cnp (fun k => ⟨fun q => q.elim id (fun e => by rw [e]; exact z), Or.inl⟩)
    omega
  · rcases Nat.lt_or_ge a N with w | w
    · rw [dk_cn_add z w]; exact Nat.le_refl _
    · have : dk_cn (fun k => P k ∨ k = a) N = dk_cn P N := dk_cn_eq (fun k hk => ⟨fun q => q.elim id (fun e => by omega), Or.inl⟩)
      omega
theorem dk_cn_vals (g : Nat → Nat) (N : Nat) : ∀ n, dk_cn (fun v => ∃ p, p < n ∧ g p = v) N ≤ n
  | 0 => by rw [dk_cn_none N (fun k _ ⟨p, hp, _⟩ => by omega)]; exact Nat.le_refl _
  | n + 1 => by
    have ih := dk_cn_vals g N n
    have e : dk_cn (fun v => ∃ p, p < n + 1 ∧ g p = v) N = dk_cn (fun v => (∃ p, p < n ∧ g p = v) ∨ v = g n) N := dk_cnp (fun v => ⟨fun ⟨p, p1, p2⟩ => by
        rcases Nat.lt_or_ge p n with w | w
        · exact Or.inl ⟨p, w, p2⟩
        · have : p = n := by omega
          subst this; exact Or.inr p2.symm, fun q => q.elim (fun ⟨p, p1, p2⟩ => ⟨p, by omega, p2⟩) (fun e => ⟨n, by omega, e.symm⟩)⟩)
    have o := dk_cn_or (fun v => ∃ p, p < n ∧ g p = v) (g n) N
    omega
theorem dk_mS_le {pn : Nat} {f : Nat → Nat} (h : pn ≤ 4) : dk_mS pn f ≤ 24 := by
  have key : ∀ n, dk_sm (dk_dc pn f) n ≤ 4 * n := by
    intro n
    induction n with
    | zero => exact Nat.le_refl _
    | succ n ih =>
      have := dk_cn_vals (fun p => f (6 * p + n)) 5 pn
      have e : dk_dc pn f n ≤ pn := this
      simp only [dk_sm]; omega
  exact key 6
theorem dk_mS_ge {pn : Nat} {f : Nat → Nat} (hV : dk_VS pn f) (h : 0 < pn) : 6 ≤ dk_mS pn f := by
  refine dk_sm_ge 6 (fun c hc => ?_)
  have a := dk_cn_lt (P := fun _ => False) (Q := fun v => ∃ p, p < pn ∧ f (6 * p + c) = v) (a := f (6 * 0 + c)) (fun q => q) ⟨0, h, rfl⟩ (N := 5) (fun _ _ q => q.elim) (hV _ (by omega))
  have e : dk_dc pn f c = dk_cn (fun v => ∃ p, p < pn ∧ f (6 * p + c) = v) 5 := rfl
  omega
/-- rounds -/
noncomputable def dk_ri (pn m : Nat) (L R : Nat → Nat) (B : Nat → Bool) : Nat → (Nat → Nat) → (Nat → Nat)
  | 0, f => f
  | t + 1, f => dk_dk pn L R B m (dk_ri pn m L R B t f)
theorem dk_ri_VS {pn m : Nat} {L R : Nat → Nat} {B : Nat → Bool} {f : Nat → Nat} (h : dk_VS pn f) : ∀ t, dk_VS pn (dk_ri pn m L R B t f)
  | 0 => h
  | t + 1 => dk_dk_VS (dk_ri_VS h t) m
theorem dk_ri_fix {pn m t : Nat} {L R : Nat → Nat} {B : Nat → Bool} {f : Nat → Nat} (h : dk_dk pn L R B m (dk_ri pn m L R B t f) = dk_ri pn m L R B t f) : ∀ s, dk_ri pn m L R B (t + s) f = dk_ri pn m L R B t f
  | 0 => rfl
  | s + 1 => by show dk_dk pn L R B m (dk_ri pn m L R B (t + s) f) = _; rw [dk_ri_fix h s]; exact h
theorem dk_ri_u {pn m t s : Nat} {L R : Nat → Nat} {B : Nat → Bool} {f : Nat → Nat} (h : dk_dk pn L R B m (dk_ri pn m L R B t f) = dk_ri pn m L R B t f) (g : dk_dk pn L R B m (dk_ri pn m L R B s f) = dk_ri pn m L R B s f) : dk_ri pn m L R B t f = dk_ri pn m L R B s f := by
  rcases Nat.le_total t s with z | z
  · have := dk_ri_fix h (s - t)
    rw [show t + (s - t) = s by omega] at this; exact this.symm
  · have := dk_ri_fix g (t - s)
    rw [show s + (t - s) = t by omega] at this; exact this
def dk_f0 (P : Nat → Nat) : Nat → Nat := fun j => if (P (j / 6)).testBit (j % 6) = true then 0 else j / 6 + 1
theorem dk_f0_VS (P : Nat → Nat) {pn : Nat} (h : pn ≤ 4) : dk_VS pn (dk_f0 P) := by
  intro j hj
  unfold dk_f0
  split <;> omega
/-- some row knows all -/
def dk_KA (pn : Nat) (f : Nat → Nat) : Prop := ∃ p, p < pn ∧ ∀ c, c < 6 → f (6 * p + c) = 0
end
section
/-! the desk: lossless -/
theorem dk_mg_s {p c lo hi j : Nat} {f : Nat → Nat} (hc : c < 6) (h : j ≠ 6 * p + c) : dk_mg (p + 1) f c lo hi j = dk_mg p f c lo hi j := by
  unfold dk_mg
  by_cases e : j % 6 = c ∧ j < 6 * p ∧ f j = hi
  · rw [if_pos e, if_pos ⟨e.1, by omega, e.2.2⟩]
  · rw [if_neg e, if_neg (fun q => e ⟨q.1, by omega, q.2.2⟩)]
theorem dk_mg_h {p c lo hi : Nat} {f : Nat → Nat} (hc : c < 6) (h : f (6 * p + c) = hi) : dk_mg (p + 1) f c lo hi (6 * p + c) = lo := by
  unfold dk_mg
  rw [if_pos ⟨by omega, by omega, h⟩]
theorem dk_mg_n {p c lo hi : Nat} {f : Nat → Nat} (h : ¬ f (6 * p + c) = hi) : dk_mg (p + 1) f c lo hi (6 * p + c) = f (6 * p + c) := by
  unfold dk_mg
  rw [if_neg (fun q => h q.2.2)]
theorem dk_mg_o {p c lo hi : Nat} {f : Nat → Nat} : dk_mg p f c lo hi (6 * p + c) = f (6 * p + c) := by
  unfold dk_mg
  rw [if_neg (fun q => by omega)]
theorem dk_mg_z {c lo hi : Nat} {f : Nat → Nat} (j : Nat) : dk_mg 0 f c lo hi j = f j := by
  unfold dk_mg
  rw [if_neg (fun q => by omega)]
theorem dk_mg_step {pn p c lo hi v : Nat} {f : Nat → Nat} {sy : Nat → Int32} (hc : c < 6) (h : ∀ j, j < 6 * pn → sy j = nI (dk_mg p f c lo hi j)) (hv : v = dk_mg (p + 1) f c lo hi (6 * p + c)) :
    ∀ j, j < 6 * pn → upd sy (6 * p + c) (nI v) j = nI (dk_mg (p + 1) f c lo hi j) := by
  intro j hj
  by_cases e : j = 6 * p + c
  · subst e; rw [pk_us, hv]
  · rw [pk_un e, dk_mg_s hc e]; exact h j hj
section
variable {f_count f_counting f_blocks f_isStudied f_stemCount f_keyCount f_partCount f_rows : Int32} {a_leftSide a_rightSide a_isBundled a_block a_closureOf a_stemSet a_isStem a_keySet a_partSet a_symbol a_cells a_classOf a_classes a_agreement : Nat → Int32}
theorem dk_xjoinSymbols {post : Int32 → SX → Prop} {pn c a b : Nat} {f : Nat → Nat} (p4 : pn ≤ 4) (hc : c < 6) (ha : a < 5) (hb : b < 5) (hV : dk_VS pn f) (hR : dk_RS pn f a_symbol)
    (p0 : a = b → ∀ sy, dk_RS pn (dk_mg pn f c (min a b) (max a b)) sy → post 0 (f_count, f_counting, f_blocks, f_isStudied, f_stemCount, f_keyCount, nI pn, f_rows, a_leftSide, a_rightSide, a_isBundled, a_block, a_closureOf, a_stemSet, a_isStem, a_keySet, a_partSet, sy, a_cells, a_classOf, a_classes, a_agreement))
    (p1 : a ≠ b → ∀ sy, dk_RS pn (dk_mg pn f c (min a b) (max a b)) sy → post 1 (f_count, f_counting, f_blocks, f_isStudied, f_stemCount, f_keyCount, nI pn, f_rows, a_leftSide, a_rightSide, a_isBundled, a_block, a_closureOf, a_stemSet, a_isStem, a_keySet, a_partSet, sy, a_cells, a_classOf, a_classes, a_agreement)) :
    wpX_joinSymbols post (f_count, f_counting, f_blocks, f_isStudied, f_stemCount, f_keyCount, nI pn, f_rows, a_leftSide, a_rightSide, a_isBundled, a_block, a_closureOf, a_stemSet, a_isStem, a_keySet, a_partSet, a_symbol, a_cells, a_classOf, a_classes, a_agreement) (nI c) (nI a) (nI b) := by
  have lp : ∀ lo hi, lo = min a b → hi = max a b → ∀ e p sy, p + e = pn → (∀ j, j < 6 * pn → sy j = nI (dk_mg p f c lo hi j)) →
      wX_joinSymbols_27 post (nI c) (nI a) (nI b) (nI lo) (nI hi) f_count f_counting f_blocks f_isStudied f_stemCount f_keyCount (nI pn) f_rows (e + 1) (nI p) a_leftSide a_rightSide a_isBundled a_block a_closureOf a_stemSet a_isStem a_keySet a_partSet sy a_cells a_classOf a_classes a_agreement := by
    intro lo hi el eh e
    have l5 : lo < 5 := by omega
    have h5 : hi < 5 := by omega
    induction e with
    | zero =>
      intro p sy hp h
      have ep : p = pn := by omega
      subst ep
      refine br_t (nI_le (Nat.le_refl _) (by omega)) ?_
      rw [el, eh] at h
      exact dk_if (dk_e (by omega) (by omega)) (fun z => p0 z sy h) (fun z => p1 z sy h)
    | succ e ih =>
      intro p sy hp h
      have ij : 6 * p + c < 6 * pn := by omega
      have fj := hV _ ij
      have sj := h _ ij
      rw [dk_mg_o] at sj
      refine br_f (nI_ge (by omega) (by omega)) ?_
      rw [dk_ix, dk_cl (by omega : 6 * p + c < 1000), sj]
      have iin : vp_in (nI (6 * p + c)) 24 := vp_in_nI (by omega) (by decide)
      refine ⟨iin, dk_if (dk_e (by omega) (by omega)) (fun z => ⟨iin, nm_e (nm_r (nI_1 p) (ih (p + 1) _ (by omega) (dk_mg_step hc h (dk_mg_h hc z).symm)))⟩) (fun z => ⟨iin, iin, nm_e (nm_r (nI_1 p) (ih (p + 1) _ (by omega) (dk_mg_step hc h (dk_mg_n z).symm)))⟩)⟩
  have ini : ∀ lo hi, ∀ j, j < 6 * pn → a_symbol j = nI (dk_mg 0 f c lo hi j) := fun lo hi j hj => by rw [dk_mg_z]; exact hR j hj
  have h10 : ∀ lo, lo = min a b → wX_joinSymbols_10 post (nI c) (nI a) (nI b) (nI lo) f_count f_counting f_blocks f_isStudied f_stemCount f_keyCount (nI pn) f_rows a_leftSide a_rightSide a_isBundled a_block a_closureOf a_stemSet a_isStem a_keySet a_partSet a_symbol a_cells a_classOf a_classes a_agreement := by
    intro lo el
    exact dk_if (nI_leI (a := b) (b := a) (by omega) (by omega)) (fun z => ⟨_, lp lo a el (by omega) pn 0 a_symbol (by omega) (ini lo a)⟩) (fun z => ⟨_, lp lo b el (by omega) pn 0 a_symbol (by omega) (ini lo b)⟩)
  exact dk_if (nI_leI (a := b) (b := a) (by omega) (by omega)) (fun z => h10 b (by omega)) (fun z => h10 a (by omega))
theorem dk_xsameSymbols {post : Int32 → Prop} {pn p q x : Nat} {f : Nat → Nat} (p4 : pn ≤ 4) (hx : x < 64) (hp : p < pn) (hq : q < pn) (hV : dk_VS pn f) (hR : dk_RS pn f a_symbol)
    (p1 : dk_like f p q x → post 1) (p0 : ¬ dk_like f p q x → post 0) : wpX_sameSymbols post (f_count, f_counting, f_blocks, f_isStudied, f_stemCount, f_keyCount, f_partCount, f_rows, a_leftSide, a_rightSide, a_isBundled, a_block, a_closureOf, a_stemSet, a_isStem, a_keySet, a_partSet, a_symbol, a_cells, a_classOf, a_classes, a_agreement) (nI p) (nI q) (nI x) := by
  have lp : ∀ e c x4, c + e = 6 → ((x4 = 1 ∧ ∀ i, i < c → x.testBit i = true → f (6 * p + i) = f (6 * q + i)) ∨ (x4 = 0 ∧ ¬ dk_like f p q x)) → wX_sameSymbols_6 post (nI p) (nI q) (nI x) f_count f_counting f_blocks f_isStudied f_stemCount f_keyCount f_partCount f_rows a_leftSide a_rightSide a_isBundled a_block a_closureOf a_stemSet a_isStem a_keySet a_partSet a_symbol a_cells a_classOf a_classes a_agreement (e + 1) x4 (nI c) := by
    intro e
    induction e with
    | zero =>
      intro c x4 hc h
      have ec : c = 6 := by omega
      subst ec
      refine br_t (by decide) ?_
      rcases h with ⟨rfl, h⟩ | ⟨rfl, h⟩
      · exact ⟨rfl, p1 h⟩
      · exact ⟨rfl, p0 h⟩
    | succ e ih =>
      intro c x4 hc h
      refine br_f (nI_ge (b := 6) (by omega) (by decide)) ?_
      rcases h with ⟨rfl, h⟩ | ⟨rfl, h⟩
      · refine br_f (by decide) (dk_if (dk_b0 (by omega) (by omega)) (fun z => nm_r (nI_1 c) (ih (c + 1) 1 (by omega) (Or.inl ⟨rfl, lt_s h (fun q => absurd (z.symm.trans q) (by decide))⟩))) (fun z => ?_))
        have t : x.testBit c = true := by cases w : x.testBit c; exact absurd w z; rfl
        have v1 := hV (6 * p + c) (by omega)
        have v2 := hV (6 * q + c) (by omega)
        rw [dk_ix, dk_ix, dk_cl (by omega : 6 * p + c < 1000), dk_cl (by omega : 6 * q + c < 1000), hR (6 * p + c) (by omega), hR (6 * q + c) (by omega)]
        exact ⟨vp_in_nI (by omega) (by decide), vp_in_nI (by omega) (by decide), dk_if (dk_e (by omega) (by omega)) (fun w => nm_r (nI_1 c) (ih (c + 1) 1 (by omega) (Or.inl ⟨rfl, lt_s h (fun _ => w)⟩))) (fun w => nm_r (nI_1 c) (ih (c + 1) 0 (by omega) (Or.inr ⟨rfl, fun l => w (l c (by omega) t)⟩)))⟩
      · exact br_t rfl (nm_r (nI_1 c) (ih (c + 1) 0 (by omega) (Or.inr ⟨rfl, h⟩)))
  exact ⟨_, lp 6 0 1 (by omega) (Or.inl ⟨rfl, lt_0⟩)⟩
variable {L R : Nat → Nat} {B : Nat → Bool}
theorem dk_xjoinRows {post : Int32 → SX → Prop} {pn m p q d : Nat} {f : Nat → Nat} (p4 : pn ≤ 4) (hD : dk_DP m L R B a_leftSide a_rightSide a_isBundled) (hd : d < m) (hp : p < pn) (hq : q < pn) (hV : dk_VS pn f) (hR : dk_RS pn f a_symbol)
    (p1 : dk_like f p q (L d) → ∀ fl sy, dk_FL pn fl f (dk_jrow pn (R d) p q 6 f) → dk_RS pn (dk_jrow pn (R d) p q 6 f) sy → post fl (f_count, f_counting, f_blocks, f_isStudied, f_stemCount, f_keyCount, nI pn, f_rows, a_leftSide, a_rightSide, a_isBundled, a_block, a_closureOf, a_stemSet, a_isStem, a_keySet, a_partSet, sy, a_cells, a_classOf, a_classes, a_agreement))
    (p0 : ¬ dk_like f p q (L d) → post 0 (f_count, f_counting, f_blocks, f_isStudied, f_stemCount, f_keyCount, nI pn, f_rows, a_leftSide, a_rightSide, a_isBundled, a_block, a_closureOf, a_stemSet, a_isStem, a_keySet, a_partSet, a_symbol, a_cells, a_classOf, a_classes, a_agreement)) :
    wpX_joinRows post (f_count, f_counting, f_blocks, f_isStudied, f_stemCount, f_keyCount, nI pn, f_rows, a_leftSide, a_rightSide, a_isBundled, a_block, a_closureOf, a_stemSet, a_isStem, a_keySet, a_partSet, a_symbol, a_cells, a_classOf, a_classes, a_agreement) (nI p) (nI q) (nI d) := by
  have m10 := hD.1
  obtain ⟨e1, l1, e2, l2, e3⟩ := hD.2 d hd
  have din : vp_in (nI d) 10 := vp_in_nI (by omega) (by decide)
  have ed : (nI d).toNatClampNeg = d := dk_cl (by omega)
  refine ⟨din, ?_⟩
  rw [ed, e1]
  refine dk_xsameSymbols p4 l1 hp hq hV hR (fun z => br_f (by decide) ?_) (fun z => br_t rfl (p0 z))
  have lp : ∀ e c x4 sy, c + e = 6 → dk_FL pn x4 f (dk_jrow pn (R d) p q c f) → dk_RS pn (dk_jrow pn (R d) p q c f) sy → wX_joinRows_21 post (nI p) (nI q) (nI d) (e + 1) x4 (nI c) f_count f_counting f_blocks f_isStudied f_stemCount f_keyCount (nI pn) f_rows a_leftSide a_rightSide a_isBundled a_block a_closureOf a_stemSet a_isStem a_keySet a_partSet sy a_cells a_classOf a_classes a_agreement := by
    intro e
    induction e with
    | zero =>
      intro c x4 sy hc hF hS
      have ec : c = 6 := by omega
      subst ec
      refine br_t (by decide) ⟨?_, p1 z x4 sy hF hS⟩
      rcases hF with ⟨rfl, _⟩ | ⟨rfl, _⟩ <;> rfl
    | succ e ih =>
      intro c x4 sy hc hF hS
      have hV' := dk_jrow_VS (y := R d) hV hp hq c (by omega)
      have v1 := hV' (6 * p + c) (by omega)
      have v2 := hV' (6 * q + c) (by omega)
      -- behind the column's step: any flag
      have go : ∀ (z0 : Int32) sy', dk_FL pn z0 (dk_jrow pn (R d) p q c f) (dk_jrow pn (R d) p q (c + 1) f) → dk_RS pn (dk_jrow pn (R d) p q (c + 1) f) sy' →
          wX_joinRows_81 post (wX_joinRows_21 post (nI p) (nI q) (nI d) (e + 1)) (nI p) (nI q) (nI d) x4 (nI c) z0 f_count f_counting f_blocks f_isStudied f_stemCount f_keyCount (nI pn) f_rows a_leftSide a_rightSide a_isBundled a_block a_closureOf a_stemSet a_isStem a_keySet a_partSet sy' a_cells a_classOf a_classes a_agreement := by
        intro z0 sy' hF' hS'
        have hz : z0 = 0 ∨ z0 = 1 := by rcases hF' with ⟨h, _⟩ | ⟨h, _⟩; exact Or.inl h; exact Or.inr h
        have hx : x4 = 0 ∨ x4 = 1 := by rcases hF with ⟨h, _⟩ | ⟨h, _⟩; exact Or.inl h; exact Or.inr h
        rcases hx with rfl | rfl
        · rcases hz with rfl | rfl
          · exact br_t rfl (br_t rfl (nm_r (nI_1 c) (ih (c + 1) 0 sy' (by omega) (dk_FL_r hF hF') hS')))
          · exact br_t rfl (br_f (by decide) (nm_r (nI_1 c) (ih (c + 1) 1 sy' (by omega) (dk_FL_r hF hF') hS')))
        · exact br_f (by decide) (nm_r (nI_1 c) (ih (c + 1) 1 sy' (by omega) (dk_FL_l hF hF') hS'))
      refine br_f (nI_ge (b := 6) (by omega) (by decide)) ⟨din, ?_⟩
      rw [ed, e2, dk_ix, dk_ix, dk_cl (by omega : 6 * p + c < 1000), dk_cl (by omega : 6 * q + c < 1000), hS (6 * p + c) (by omega), hS (6 * q + c) (by omega)]
      refine dk_if (dk_b1 (by omega) (by omega)) (fun w => ⟨vp_in_nI (by omega) (by decide), vp_in_nI (by omega) (by decide), ?_⟩) (fun w => ?_)
      · have ej : dk_jrow pn (R d) p q (c + 1) f = dk_mg pn (dk_jrow pn (R d) p q c f) c (min (dk_jrow pn (R d) p q c f (6 * p + c)) (dk_jrow pn (R d) p q c f (6 * q + c))) (max (dk_jrow pn (R d) p q c f (6 * p + c)) (dk_jrow pn (R d) p q c f (6 * q + c))) := if_pos w
        refine dk_xjoinSymbols p4 (by omega) v1 v2 hV' hS (fun g sy' hS' => br_t rfl (go 0 sy' ?_ (by rw [ej]; exact hS'))) (fun g sy' hS' => br_f (by decide) (go 1 sy' (Or.inr ⟨rfl, by rw [ej]; exact dk_mg_mS hV' (by omega) hp hq g⟩) (by rw [ej]; exact hS')))
        refine Or.inl ⟨rfl, ?_⟩
        rw [ej, g, Nat.min_self, Nat.max_self]; exact dk_mg_e
      · have ej : dk_jrow pn (R d) p q (c + 1) f = dk_jrow pn (R d) p q c f := if_neg w
        exact go 0 sy (Or.inl ⟨rfl, ej⟩) (by rw [ej]; exact hS)
  exact ⟨_, lp 6 0 0 a_symbol (by omega) (dk_FL_0 pn f) hR⟩
theorem dk_xjoinAll {post : Int32 → SX → Prop} {pn m : Nat} {f : Nat → Nat} (p4 : pn ≤ 4) (hD : dk_DP m L R B a_leftSide a_rightSide a_isBundled) (hV : dk_VS pn f) (hR : dk_RS pn f a_symbol)
    (p : ∀ fl sy, dk_FL pn fl f (dk_dk pn L R B m f) → dk_RS pn (dk_dk pn L R B m f) sy → post fl (nI m, f_counting, f_blocks, f_isStudied, f_stemCount, f_keyCount, nI pn, f_rows, a_leftSide, a_rightSide, a_isBundled, a_block, a_closureOf, a_stemSet, a_isStem, a_keySet, a_partSet, sy, a_cells, a_classOf, a_classes, a_agreement)) :
    wpX_joinAll post (nI m, f_counting, f_blocks, f_isStudied, f_stemCount, f_keyCount, nI pn, f_rows, a_leftSide, a_rightSide, a_isBundled, a_block, a_closureOf, a_stemSet, a_isStem, a_keySet, a_partSet, a_symbol, a_cells, a_classOf, a_classes, a_agreement) := by
  have m10 := hD.1
  have lp14 : ∀ (J : Int32 → Int32 → Int32 → Int32 → Int32 → Int32 → Int32 → Int32 → Int32 → Int32 → (Nat → Int32) → (Nat → Int32) → (Nat → Int32) → (Nat → Int32) → (Nat → Int32) → (Nat → Int32) → (Nat → Int32) → (Nat → Int32) → (Nat → Int32) → (Nat → Int32) → (Nat → Int32) → (Nat → Int32) → (Nat → Int32) → (Nat → Int32) → Prop) (d : Nat) (g : Nat → Nat), d < m → dk_VS pn g →
      (∀ fl sy, dk_FL pn fl f (dk_pk pn L R B d 16 g) → dk_RS pn (dk_pk pn L R B d 16 g) sy → J fl (nI (d + 1)) (nI m) f_counting f_blocks f_isStudied f_stemCount f_keyCount (nI pn) f_rows a_leftSide a_rightSide a_isBundled a_block a_closureOf a_stemSet a_isStem a_keySet a_partSet sy a_cells a_classOf a_classes a_agreement) →
      ∀ e n x1 sy, n + e = 16 → dk_FL pn x1 f (dk_pk pn L R B d n g) → dk_RS pn (dk_pk pn L R B d n g) sy → wX_joinAll_14 post J (nI d) (e + 1) x1 (nI n) (nI m) f_counting f_blocks f_isStudied f_stemCount f_keyCount (nI pn) f_rows a_leftSide a_rightSide a_isBundled a_block a_closureOf a_stemSet a_isStem a_keySet a_partSet sy a_cells a_classOf a_classes a_agreement := by
    intro J d g hd hVg hJ e
    obtain ⟨e1, l1, e2, l2, e3⟩ := hD.2 d hd
    have din : vp_in (nI d) 10 := vp_in_nI (by omega) (by decide)
    have ed : (nI d).toNatClampNeg = d := dk_cl (by omega)
    induction e with
    | zero =>
      intro n x1 sy hn hF hS
      have en : n = 16 := by omega
      subst en
      exact br_t (by decide) (nm_r (nI_1 d) (hJ x1 sy hF hS))
    | succ e ih =>
      intro n x1 sy hn hF hS
      have hV' := dk_pk_VS (L := L) (R := R) (B := B) (d := d) hVg n
      have go : ∀ (z0 : Int32) sy', dk_FL pn z0 (dk_pk pn L R B d n g) (dk_pk pn L R B d (n + 1) g) → dk_RS pn (dk_pk pn L R B d (n + 1) g) sy' →
          wX_joinAll_72 post J (wX_joinAll_14 post J (nI d) (e + 1)) x1 (nI d) (nI n) z0 (nI m) f_counting f_blocks f_isStudied f_stemCount f_keyCount (nI pn) f_rows a_leftSide a_rightSide a_isBundled a_block a_closureOf a_stemSet a_isStem a_keySet a_partSet sy' a_cells a_classOf a_classes a_agreement := by
        intro z0 sy' hF' hS'
        have hz : z0 = 0 ∨ z0 = 1 := by rcases hF' with ⟨h, _⟩ | ⟨h, _⟩; exact Or.inl h; exact Or.inr h
        have hx : x1 = 0 ∨ x1 = 1 := by rcases hF with ⟨h, _⟩ | ⟨h, _⟩; exact Or.inl h; exact Or.inr h
        rcases hx with rfl | rfl
        · rcases hz with rfl | rfl
          · exact br_t rfl (br_t rfl (nm_r (nI_1 n) (ih (n + 1) 0 sy' (by omega) (dk_FL_r hF hF') hS')))
          · exact br_t rfl (br_f (by decide) (nm_r (nI_1 n) (ih (n + 1) 1 sy' (by omega) (dk_FL_r hF hF') hS')))
        · exact br_f (by decide) (nm_r (nI_1 n) (ih (n + 1) 1 sy' (by omega) (dk_FL_l hF hF') hS'))
      have no : ¬ (n / 4 < n % 4 ∧ n % 4 < pn ∧ B d = false ∧ dk_like (dk_pk pn L R B d n g) (n / 4) (n % 4) (L d)) → wX_joinAll_71 post J (wX_joinAll_14 post J (nI d) (e + 1)) x1 (nI d) (nI n) (nI m) f_counting f_blocks f_isStudied f_stemCount f_keyCount (nI pn) f_rows a_leftSide a_rightSide a_isBundled a_block a_closureOf a_stemSet a_isStem a_keySet a_partSet sy a_cells a_classOf a_classes a_agreement := by
        intro q
        have ej : dk_pk pn L R B d (n + 1) g = dk_pk pn L R B d n g := dk_pst_f q
        exact go 0 sy (Or.inl ⟨rfl, ej⟩) (by rw [ej]; exact hS)
      refine br_f (nI_ge (b := 16) (by omega) (by decide)) ⟨din, ?_⟩
      rw [ed, e3]
      refine dk_if dk_bI0 (fun hb => ⟨by decide, nm_r (e' := nI (n / 4)) (pk_div (d := 4) (by omega) (by decide) (by decide)) ⟨by decide, nm_r (e' := nI (n % 4)) (pk_rem (d := 4) (by omega) (by decide) (by decide)) ?_⟩⟩) (fun hb => nm_r (nI_1 d) (hJ x1 sy ?_ ?_))
      · refine dk_if (nI_leI (by omega) (by omega)) (fun z => no (fun q => by omega)) (fun z => dk_if (nI_leI (by omega) (by omega)) (fun w => no (fun q => by omega)) (fun w => ?_))
        refine dk_xjoinRows p4 hD hd (by omega) (by omega) hV' hS (fun v fl sy' hF' hS' => ?_) (fun v => br_t rfl (no (fun q => v q.2.2.2)))
        have ej : dk_pk pn L R B d (n + 1) g = dk_jrow pn (R d) (n / 4) (n % 4) 6 (dk_pk pn L R B d n g) := dk_pst_t ⟨by omega, by omega, hb, v⟩
        rw [← ej] at hF' hS'
        have hz : fl = 0 ∨ fl = 1 := by rcases hF' with ⟨h, _⟩ | ⟨h, _⟩; exact Or.inl h; exact Or.inr h
        rcases hz with rfl | rfl
        · exact br_t rfl (go 0 sy' hF' hS')
        · exact br_f (by decide) (go 1 sy' hF' hS')
      · rw [dk_pk_B hb] at hF ⊢; exact hF
      · rw [dk_pk_B hb] at hS ⊢; exact hS
  have lp4 : ∀ e d x1 sy, d + e = m → dk_FL pn x1 f (dk_dk pn L R B d f) → dk_RS pn (dk_dk pn L R B d f) sy → wX_joinAll_4 post (e + 1) x1 (nI d) (nI m) f_counting f_blocks f_isStudied f_stemCount f_keyCount (nI pn) f_rows a_leftSide a_rightSide a_isBundled a_block a_closureOf a_stemSet a_isStem a_keySet a_partSet sy a_cells a_classOf a_classes a_agreement := by
    intro e
    induction e with
    | zero =>
      intro d x1 sy hd hF hS
      have ed : d = m := by omega
      subst ed
      refine br_t (nI_le (Nat.le_refl _) (by omega)) ⟨?_, p x1 sy hF hS⟩
      rcases hF with ⟨rfl, _⟩ | ⟨rfl, _⟩ <;> rfl
    | succ e ih =>
      intro d x1 sy hd hF hS
      exact br_f (nI_ge (by omega) (by omega)) ⟨_, lp14 _ d _ (by omega) (dk_dk_VS hV d) (fun fl sy' hF' hS' => ih (d + 1) fl sy' (by omega) hF' hS') 16 0 x1 sy (by omega) hF hS⟩
  exact ⟨_, lp4 m 0 0 a_symbol (by omega) (dk_FL_0 pn f) hR⟩
theorem dk_xloss100 {post : Int32 → SX → Prop} {pn : Nat} {f : Nat → Nat} (p4 : pn ≤ 4) (hV : dk_VS pn f) (hR : dk_RS pn f a_symbol)
    (p1 : dk_KA pn f → post 1 (f_count, f_counting, f_blocks, f_isStudied, f_stemCount, f_keyCount, nI pn, f_rows, a_leftSide, a_rightSide, a_isBundled, a_block, a_closureOf, a_stemSet, a_isStem, a_keySet, a_partSet, a_symbol, a_cells, a_classOf, a_classes, a_agreement)) (p0 : ¬ dk_KA pn f → post 0 (f_count, f_counting, f_blocks, f_isStudied, f_stemCount, f_keyCount, nI pn, f_rows, a_leftSide, a_rightSide, a_isBundled, a_block, a_closureOf, a_stemSet, a_isStem, a_keySet, a_partSet, a_symbol, a_cells, a_classOf, a_classes, a_agreement)) : ∃ n, wX_lossless_100 post f_count f_counting f_blocks f_isStudied f_stemCount f_keyCount (nI pn) f_rows a_leftSide a_rightSide a_isBundled a_block a_closureOf a_stemSet a_isStem a_keySet a_partSet a_symbol a_cells a_classOf a_classes a_agreement n 0 0 := by
  have lp114 : ∀ (J : Int32 → Int32 → Prop) (x2 : Int32) (p : Nat), p < pn → (x2 = 0 ∨ x2 = 1) →
      ((x2 = 1 ∨ ∀ c, c < 6 → f (6 * p + c) = 0) → J 1 (nI (p + 1))) → ((x2 = 0 ∧ ¬ ∀ c, c < 6 → f (6 * p + c) = 0) → J 0 (nI (p + 1))) →
      ∀ e c x4, c + e = 6 → ((x4 = 1 ∧ ∀ i, i < c → f (6 * p + i) = 0) ∨ (x4 = 0 ∧ ¬ ∀ c, c < 6 → f (6 * p + c) = 0)) → wX_lossless_114 post J x2 (nI p) f_count f_counting f_blocks f_isStudied f_stemCount f_keyCount (nI pn) f_rows a_leftSide a_rightSide a_isBundled a_block a_closureOf a_stemSet a_isStem a_keySet a_partSet a_symbol a_cells a_classOf a_classes a_agreement (e + 1) x4 (nI c) := by
    intro J x2 p hp hx j1 j0 e
    induction e with
    | zero =>
      intro c x4 hc h
      have ec : c = 6 := by omega
      subst ec
      refine br_t (by decide) ?_
      rcases hx with rfl | rfl
      · refine br_t rfl ?_
        rcases h with ⟨rfl, h⟩ | ⟨rfl, h⟩
        · exact br_f (by decide) (nm_r (nI_1 p) (j1 (Or.inr h)))
        · exact br_t rfl (nm_r (nI_1 p) (j0 ⟨rfl, h⟩))
      · exact br_f (by decide) (nm_r (nI_1 p) (j1 (Or.inl rfl)))
    | succ e ih =>
      intro c x4 hc h
      refine br_f (nI_ge (b := 6) (by omega) (by decide)) ?_
      rcases h with ⟨rfl, h⟩ | ⟨rfl, h⟩
      · refine br_f (by decide) ?_
        have v := hV (6 * p + c) (by omega)
        rw [dk_ix, dk_cl (by omega : 6 * p + c < 1000), hR (6 * p + c) (by omega)]
        exact ⟨vp_in_nI (by omega) (by decide), dk_if (dk_z (by omega)) (fun z => nm_r (nI_1 c) (ih (c + 1) 1 (by omega) (Or.inl ⟨rfl, lt_s h z⟩))) (fun z => nm_r (nI_1 c) (ih (c + 1) 0 (by omega) (Or.inr ⟨rfl, fun q => z (q c (by omega))⟩)))⟩
      · exact br_t rfl (nm_r (nI_1 c) (ih (c + 1) 0 (by omega) (Or.inr ⟨rfl, h⟩)))
  have lp100 : ∀ e p x2, p + e = pn → ((x2 = 0 ∧ ∀ r, r < p → ¬ ∀ c, c < 6 → f (6 * r + c) = 0) ∨ (x2 = 1 ∧ dk_KA pn f)) → wX_lossless_100 post f_count f_counting f_blocks f_isStudied f_stemCount f_keyCount (nI pn) f_rows a_leftSide a_rightSide a_isBundled a_block a_closureOf a_stemSet a_isStem a_keySet a_partSet a_symbol a_cells a_classOf a_classes a_agreement (e + 1) x2 (nI p) := by
    intro e
    induction e with
    | zero =>
      intro p x2 hp h
      have ep : p = pn := by omega
      subst ep
      refine br_t (nI_le (Nat.le_refl _) (by omega)) ?_
      rcases h with ⟨rfl, h⟩ | ⟨rfl, h⟩
      · exact ⟨rfl, p0 (fun ⟨r, r1, r2⟩ => h r r1 r2)⟩
      · exact ⟨rfl, p1 h⟩
    | succ e ih =>
      intro p x2 hp h
      have hx : x2 = 0 ∨ x2 = 1 := by rcases h with ⟨h, _⟩ | ⟨h, _⟩; exact Or.inl h; exact Or.inr h
      refine br_f (nI_ge (by omega) (by omega)) ⟨_, lp114 _ x2 p (by omega) hx (fun q => ih (p + 1) 1 (by omega) (Or.inr ⟨rfl, ?_⟩)) (fun q => ih (p + 1) 0 (by omega) (Or.inl ⟨rfl, ?_⟩)) 6 0 1 (by omega) (Or.inl ⟨rfl, lt_0⟩)⟩
      · rcases q with q | q
        · rcases h with ⟨h, _⟩ | ⟨_, h⟩
          · rw [h] at q; exact absurd q (by decide)
          · exact h
        · exact ⟨p, by omega, q⟩
      · rcases h with ⟨_, h⟩ | ⟨h, _⟩
        · exact lt_s h q.2
        · rw [h] at q; exact absurd q.1 (by decide)
  exact ⟨_, lp100 pn 0 0 (by omega) (Or.inl ⟨rfl, lt_0⟩)⟩
theorem dk_xlossless {post : Int32 → SX → Prop} {pn m : Nat} {P : Nat → Nat} (h0 : 0 < pn) (hD : dk_DP m L R B a_leftSide a_rightSide a_isBundled) (hP : pn ≤ 4 ∧ ∀ j, j < pn → a_partSet j = nI (P j) ∧ P j < 64)
    (p1 : ∀ t, dk_dk pn L R B m (dk_ri pn m L R B t (dk_f0 P)) = dk_ri pn m L R B t (dk_f0 P) → dk_KA pn (dk_ri pn m L R B t (dk_f0 P)) → ∀ sy, post 1 (nI m, f_counting, f_blocks, f_isStudied, f_stemCount, f_keyCount, nI pn, f_rows, a_leftSide, a_rightSide, a_isBundled, a_block, a_closureOf, a_stemSet, a_isStem, a_keySet, a_partSet, sy, a_cells, a_classOf, a_classes, a_agreement))
    (p0 : ∀ t, dk_dk pn L R B m (dk_ri pn m L R B t (dk_f0 P)) = dk_ri pn m L R B t (dk_f0 P) → ¬ dk_KA pn (dk_ri pn m L R B t (dk_f0 P)) → ∀ sy, post 0 (nI m, f_counting, f_blocks, f_isStudied, f_stemCount, f_keyCount, nI pn, f_rows, a_leftSide, a_rightSide, a_isBundled, a_block, a_closureOf, a_stemSet, a_isStem, a_keySet, a_partSet, sy, a_cells, a_classOf, a_classes, a_agreement)) :
    wpX_lossless post (nI m, f_counting, f_blocks, f_isStudied, f_stemCount, f_keyCount, nI pn, f_rows, a_leftSide, a_rightSide, a_isBundled, a_block, a_closureOf, a_stemSet, a_isStem, a_keySet, a_partSet, a_symbol, a_cells, a_classOf, a_classes, a_agreement) := by
  obtain ⟨p4, hP⟩ := hP
  have fin : ∀ t sy, dk_dk pn L R B m (dk_ri pn m L R B t (dk_f0 P)) = dk_ri pn m L R B t (dk_f0 P) → dk_RS pn (dk_ri pn m L R B t (dk_f0 P)) sy → ∃ n, wX_lossless_100 post (nI m) f_counting f_blocks f_isStudied f_stemCount f_keyCount (nI pn) f_rows a_leftSide a_rightSide a_isBundled a_block a_closureOf a_stemSet a_isStem a_keySet a_partSet sy a_cells a_classOf a_classes a_agreement n 0 0 :=
    fun t sy ht hS => dk_xloss100 p4 (dk_ri_VS (dk_f0_VS P p4) t) hS (fun z => p1 t ht z sy) (fun z => p0 t ht z sy)
  have lp75 : ∀ e t x1 sy, t + e = 20 → dk_RS pn (dk_ri pn m L R B t (dk_f0 P)) sy → ((x1 = 0 ∧ dk_dk pn L R B m (dk_ri pn m L R B t (dk_f0 P)) = dk_ri pn m L R B t (dk_f0 P)) ∨ (x1 = 1 ∧ dk_mS pn (dk_ri pn m L R B t (dk_f0 P)) + t ≤ 24)) →
      wX_lossless_75 post (e + 1) x1 (nI t) (nI m) f_counting f_blocks f_isStudied f_stemCount f_keyCount (nI pn) f_rows a_leftSide a_rightSide a_isBundled a_block a_closureOf a_stemSet a_isStem a_keySet a_partSet sy a_cells a_classOf a_classes a_agreement := by
    intro e
    induction e with
    | zero =>
      intro t x1 sy ht hS h
      have et : t = 20 := by omega
      subst et
      refine br_t (by decide) ?_
      rcases h with ⟨rfl, h⟩ | ⟨rfl, h⟩
      · exact fin 20 sy h hS
      · have := dk_mS_ge (dk_ri_VS (m := m) (L := L) (R := R) (B := B) (dk_f0_VS P p4) 20) h0; omega
    | succ e ih =>
      intro t x1 sy ht hS h
      refine br_f (nI_ge (b := 20) (by omega) (by decide)) ?_
      rcases h with ⟨rfl, h⟩ | ⟨rfl, h⟩
      · exact br_t rfl (fin t sy h hS)
      · refine br_f (by decide) (dk_xjoinAll p4 hD (dk_ri_VS (dk_f0_VS P p4) t) hS (fun fl sy' hF hS' => nm_r (nI_1 t) (ih (t + 1) fl sy' (by omega) hS' ?_)))
        have es : dk_ri pn m L R B (t + 1) (dk_f0 P) = dk_dk pn L R B m (dk_ri pn m L R B t (dk_f0 P)) := rfl
        rcases hF with ⟨hf, he⟩ | ⟨hf, hl⟩
        · exact Or.inl ⟨hf, by rw [es, he, he]⟩
        · exact Or.inr ⟨hf, by rw [es]; omega⟩
  have lp21 : ∀ (J : Int32 → (Nat → Int32) → (Nat → Int32) → (Nat → Int32) → (Nat → Int32) → (Nat → Int32) → (Nat → Int32) → (Nat → Int32) → (Nat → Int32) → (Nat → Int32) → (Nat → Int32) → (Nat → Int32) → (Nat → Int32) → (Nat → Int32) → (Nat → Int32) → Prop) (p : Nat), p < pn →
      (∀ sy, (∀ j, j < 6 * (p + 1) → sy j = nI (dk_f0 P j)) → J (nI (p + 1)) a_leftSide a_rightSide a_isBundled a_block a_closureOf a_stemSet a_isStem a_keySet a_partSet sy a_cells a_classOf a_classes a_agreement) →
      ∀ e c sy, c + e = 6 → (∀ j, j < 6 * p + c → sy j = nI (dk_f0 P j)) → wX_lossless_21 post J (nI p) (nI m) f_counting f_blocks f_isStudied f_stemCount f_keyCount (nI pn) f_rows (e + 1) (nI c) a_leftSide a_rightSide a_isBundled a_block a_closureOf a_stemSet a_isStem a_keySet a_partSet sy a_cells a_classOf a_classes a_agreement := by
    intro J p hp hJ e
    obtain ⟨q1, q2⟩ := hP p hp
    induction e with
    | zero =>
      intro c sy hc h
      have ec : c = 6 := by omega
      subst ec
      exact br_t (by decide) (nm_r (nI_1 p) (hJ sy h))
    | succ e ih =>
      intro c sy hc h
      have iin : vp_in (nI (6 * p + c)) 24 := vp_in_nI (by omega) (by decide)
      refine br_f (nI_ge (b := 6) (by omega) (by decide)) ⟨vp_in_nI (by omega) (by decide), ?_⟩
      rw [dk_cl (by omega : p < 1000), q1, dk_ix, dk_cl (by omega : 6 * p + c < 1000)]
      have ef : dk_f0 P (6 * p + c) = if (P p).testBit c = true then 0 else p + 1 := by
        unfold dk_f0
        rw [show (6 * p + c) / 6 = p by omega, show (6 * p + c) % 6 = c by omega]
      refine dk_if (dk_b1 (by omega) (by omega)) (fun z => ⟨iin, nm_e (nm_r (nI_1 c) (ih (c + 1) _ (by omega) (fun j hj => ?_)))⟩) (fun z => ⟨iin, nm_e (nm_r (nI_1 c) (ih (c + 1) _ (by omega) (fun j hj => ?_)))⟩)
      · by_cases w : j = 6 * p + c
        · subst w; rw [pk_us, ef, if_pos z]; rfl
        · rw [pk_un w]; exact h j (by omega)
      · by_cases w : j = 6 * p + c
        · subst w; rw [pk_us, ef, if_neg z, nI_1]
        · rw [pk_un w]; exact h j (by omega)
  have lp11 : ∀ e p sy, p + e = pn → (∀ j, j < 6 * p → sy j = nI (dk_f0 P j)) → wX_lossless_11 post (nI m) f_counting f_blocks f_isStudied f_stemCount f_keyCount (nI pn) f_rows (e + 1) (nI p) a_leftSide a_rightSide a_isBundled a_block a_closureOf a_stemSet a_isStem a_keySet a_partSet sy a_cells a_classOf a_classes a_agreement := by
    intro e
    induction e with
    | zero =>
      intro p sy hp h
      have ep : p = pn := by omega
      subst ep
      have := dk_mS_le (f := dk_f0 P) p4
      exact br_t (nI_le (Nat.le_refl _) (by omega)) ⟨_, lp75 20 0 1 sy (by omega) h (Or.inr ⟨rfl, this⟩)⟩
    | succ e ih =>
      intro p sy hp h
      exact br_f (nI_ge (by omega) (by omega)) ⟨_, lp21 _ p (by omega) (fun sy' h' => ih (p + 1) sy' (by omega) h') 6 0 sy (by omega) (fun j hj => h j (by omega))⟩
  exact br_f (nI_ne0 h0 (by omega)) ⟨_, lp11 pn 0 a_symbol (by omega) (fun j hj => by omega)⟩
end
end
section
/-! the reference: lossless -/
section
variable {f_count f_partCount f_rowCount f_same : Int32} {a_lefts a_rights a_bundled a_parts a_cells a_known a_closures a_stemSets a_symbols : Nat → Int32} {f_made : Int64} {a_tables : Nat → Int64}
theorem dk_ylikeOn {post : Int32 → Prop} {pn p q x : Nat} {f : Nat → Nat} (p4 : pn ≤ 4) (hx : x < 64) (hp : p < pn) (hq : q < pn) (hV : dk_VS pn f) (hR : dk_RS pn f a_symbols)
    (p1 : dk_like f p q x → post 1) (p0 : ¬ dk_like f p q x → post 0) : wpY_likeOn post (f_count, f_partCount, f_rowCount, f_same, f_made, a_lefts, a_rights, a_bundled, a_parts, a_cells, a_known, a_closures, a_tables, a_stemSets, a_symbols) (nI p) (nI q) (nI x) := by
  have lp : ∀ e c, c + e = 6 → (∀ i, i < c → x.testBit i = true → f (6 * p + i) = f (6 * q + i)) → wY_likeOn_3 post (nI p) (nI q) (nI x) f_count f_partCount f_rowCount f_same f_made a_lefts a_rights a_bundled a_parts a_cells a_known a_closures a_tables a_stemSets a_symbols (e + 1) (nI c) := by
    intro e
    induction e with
    | zero =>
      intro c hc h
      have ec : c = 6 := by omega
      subst ec
      exact br_t (by decide) (p1 h)
    | succ e ih =>
      intro c hc h
      have v1 := hV (6 * p + c) (by omega)
      have v2 := hV (6 * q + c) (by omega)
      refine br_f (nI_ge (b := 6) (by omega) (by decide)) ?_
      rw [dk_ix, dk_ix, dk_cl (by omega : 6 * p + c < 1000), dk_cl (by omega : 6 * q + c < 1000), hR (6 * p + c) (by omega), hR (6 * q + c) (by omega)]
      refine dk_if (dk_b1 (by omega) (by omega)) (fun z => ⟨vp_in_nI (by omega) (by decide), vp_in_nI (by omega) (by decide), dk_if (dk_e (by omega) (by omega)) (fun w => nm_r (nI_1 c) (ih (c + 1) (by omega) (lt_s h (fun _ => w)))) (fun w => p0 (fun l => w (l c (by omega) z)))⟩) (fun z => nm_r (nI_1 c) (ih (c + 1) (by omega) (lt_s h (fun q => absurd q z))))
  exact ⟨_, lp 6 0 (by omega) lt_0⟩
theorem dk_ymerge {post : Int32 → SY → Prop} {pn p q y : Nat} {f : Nat → Nat} (p4 : pn ≤ 4) (hy : y < 64) (hp : p < pn) (hq : q < pn) (hV : dk_VS pn f) (hR : dk_RS pn f a_symbols)
    (p1 : ∀ fl sy, dk_FL pn fl f (dk_jrow pn y p q 6 f) → dk_RS pn (dk_jrow pn y p q 6 f) sy → post fl (f_count, nI pn, f_rowCount, f_same, f_made, a_lefts, a_rights, a_bundled, a_parts, a_cells, a_known, a_closures, a_tables, a_stemSets, sy)) :
    wpY_merge post (f_count, nI pn, f_rowCount, f_same, f_made, a_lefts, a_rights, a_bundled, a_parts, a_cells, a_known, a_closures, a_tables, a_stemSets, a_symbols) (nI p) (nI q) (nI y) := by
  have lp64 : ∀ (J : Int32 → Int32 → (Nat → Int32) → (Nat → Int32) → (Nat → Int32) → (Nat → Int32) → (Nat → Int32) → (Nat → Int32) → (Nat → Int32) → (Nat → Int64) → (Nat → Int32) → (Nat → Int32) → Prop) (c a b : Nat) (g : Nat → Nat), c < 6 → a < 5 → b < 5 → a ≠ b → dk_VS pn g →
      (∀ sy, dk_RS pn (dk_mg pn g c (min a b) (max a b)) sy → J 1 (nI (c + 1)) a_lefts a_rights a_bundled a_parts a_cells a_known a_closures a_tables a_stemSets sy) →
      ∀ e r sy, r + e = pn → (∀ j, j < 6 * pn → sy j = nI (dk_mg r g c (min a b) (max a b) j)) →
      wY_merge_64 post J (nI p) (nI q) (nI y) 1 (nI c) (nI a) (nI b) f_count (nI pn) f_rowCount f_same f_made (e + 1) (nI r) a_lefts a_rights a_bundled a_parts a_cells a_known a_closures a_tables a_stemSets sy := by
    intro J c a b g hc ha hb hab hVg hJ e
    induction e with
    | zero =>
      intro r sy hr h
      have er : r = pn := by omega
      subst er
      exact br_t (nI_le (Nat.le_refl _) (by omega)) (nm_r (nI_1 c) (hJ sy h))
    | succ e ih =>
      intro r sy hr h
      have ij : 6 * r + c < 6 * pn := by omega
      have fj := hVg _ ij
      have sj := h _ ij
      rw [dk_mg_o] at sj
      have iin : vp_in (nI (6 * r + c)) 24 := vp_in_nI (by omega) (by decide)
      have ecl : (nI (6 * r + c)).toNatClampNeg = 6 * r + c := dk_cl (by omega)
      have hit : (g (6 * r + c) = a ∨ g (6 * r + c) = b) → wY_merge_109 post J (wY_merge_64 post J (nI p) (nI q) (nI y) 1 (nI c) (nI a) (nI b) f_count (nI pn) f_rowCount f_same f_made (e + 1)) (nI p) (nI q) (nI y) 1 (nI c) (nI a) (nI b) (nI r) f_count (nI pn) f_rowCount f_same f_made a_lefts a_rights a_bundled a_parts a_cells a_known a_closures a_tables a_stemSets sy := by
        intro hg
        have val : min a b = dk_mg (r + 1) g c (min a b) (max a b) (6 * r + c) := by
          by_cases e1 : g (6 * r + c) = max a b
          · rw [dk_mg_h hc e1]
          · rw [dk_mg_n e1]; omega
        refine br_f (by decide) ?_
        rw [dk_ix, ecl]
        refine dk_if (nI_leI (a := b) (b := a) (by omega) (by omega)) (fun z => ⟨iin, nm_e (nm_r (nI_1 r) (ih (r + 1) _ (by omega) (dk_mg_step hc h ?_)))⟩) (fun z => ⟨iin, nm_e (nm_r (nI_1 r) (ih (r + 1) _ (by omega) (dk_mg_step hc h ?_)))⟩)
        · rw [← val]; omega
        · rw [← val]; omega
      refine br_f (nI_ge (by omega) (by omega)) ?_
      rw [dk_ix, ecl, sj]
      refine ⟨iin, dk_if (dk_e (by omega) (by omega)) (fun z => hit (Or.inl z)) (fun z => ⟨iin, dk_if (dk_e (by omega) (by omega)) (fun w => hit (Or.inr w)) (fun w => br_t rfl ?_)⟩)⟩
      rw [dk_ix, ecl, sj]
      exact ⟨iin, iin, nm_e (nm_r (nI_1 r) (ih (r + 1) _ (by omega) (dk_mg_step hc h (dk_mg_n (fun e1 => by omega)).symm)))⟩
  have lp6 : ∀ e c x4 sy, c + e = 6 → dk_FL pn x4 f (dk_jrow pn y p q c f) → dk_RS pn (dk_jrow pn y p q c f) sy → wY_merge_6 post (nI p) (nI q) (nI y) f_count (nI pn) f_rowCount f_same f_made (e + 1) x4 (nI c) a_lefts a_rights a_bundled a_parts a_cells a_known a_closures a_tables a_stemSets sy := by
    intro e
    induction e with
    | zero =>
      intro c x4 sy hc hF hS
      have ec : c = 6 := by omega
      subst ec
      refine br_t (by decide) ⟨?_, p1 x4 sy hF hS⟩
      rcases hF with ⟨rfl, _⟩ | ⟨rfl, _⟩ <;> rfl
    | succ e ih =>
      intro c x4 sy hc hF hS
      have hV' := dk_jrow_VS (y := y) hV hp hq c (by omega)
      have v1 := hV' (6 * p + c) (by omega)
      have v2 := hV' (6 * q + c) (by omega)
      refine br_f (nI_ge (b := 6) (by omega) (by decide)) ?_
      rw [dk_ix, dk_ix, dk_cl (by omega : 6 * p + c < 1000), dk_cl (by omega : 6 * q + c < 1000)]
      refine ⟨vp_in_nI (by omega) (by decide), nm_r (hS (6 * p + c) (by omega)) ⟨vp_in_nI (by omega) (by decide), nm_r (hS (6 * q + c) (by omega)) ?_⟩⟩
      refine dk_if (dk_b1 (by omega) (by omega)) (fun w => ?_) (fun w => ?_)
      · have ej : dk_jrow pn y p q (c + 1) f = dk_mg pn (dk_jrow pn y p q c f) c (min (dk_jrow pn y p q c f (6 * p + c)) (dk_jrow pn y p q c f (6 * q + c))) (max (dk_jrow pn y p q c f (6 * p + c)) (dk_jrow pn y p q c f (6 * q + c))) := if_pos w
        refine dk_if (dk_e (by omega) (by omega)) (fun g => nm_r (nI_1 c) ?_) (fun g => ⟨_, lp64 _ c _ _ _ (by omega) v1 v2 g hV' (fun sy' hS' => ih (c + 1) 1 sy' (by omega) ?_ (by rw [ej]; exact hS')) pn 0 sy (by omega) (fun j hj => by rw [dk_mg_z]; exact hS j hj)⟩)
        · have e2 : dk_jrow pn y p q (c + 1) f = dk_jrow pn y p q c f := by rw [ej, g, Nat.min_self, Nat.max_self]; exact dk_mg_e
          refine ih (c + 1) x4 sy (by omega) ?_ ?_
          · rw [e2]; exact hF
          · rw [e2]; exact hS
        · have hl : dk_FL pn 1 (dk_jrow pn y p q c f) (dk_jrow pn y p q (c + 1) f) := Or.inr ⟨rfl, by rw [ej]; exact dk_mg_mS hV' (by omega) hp hq g⟩
          have hx : x4 = 0 ∨ x4 = 1 := by rcases hF with ⟨h, _⟩ | ⟨h, _⟩; exact Or.inl h; exact Or.inr h
          rcases hx with rfl | rfl
          · exact dk_FL_r hF hl
          · exact dk_FL_l hF hl
      · have e2 : dk_jrow pn y p q (c + 1) f = dk_jrow pn y p q c f := if_neg w
        refine nm_r (nI_1 c) (ih (c + 1) x4 sy (by omega) ?_ ?_)
        · rw [e2]; exact hF
        · rw [e2]; exact hS
  exact ⟨_, lp6 6 0 0 a_symbols (by omega) (dk_FL_0 pn f) hR⟩
variable {L R : Nat → Nat} {B : Nat → Bool}
theorem dk_ymergeBy {post : Int32 → SY → Prop} {pn m d : Nat} {g : Nat → Nat} (p4 : pn ≤ 4) (hD : dk_DP m L R B a_lefts a_rights a_bundled) (hd : d < m) (hV : dk_VS pn g) (hR : dk_RS pn g a_symbols)
    (p : ∀ fl sy, dk_FL pn fl g (dk_pk pn L R B d 16 g) → dk_RS pn (dk_pk pn L R B d 16 g) sy → post fl (f_count, nI pn, f_rowCount, f_same, f_made, a_lefts, a_rights, a_bundled, a_parts, a_cells, a_known, a_closures, a_tables, a_stemSets, sy)) :
    wpY_mergeBy post (f_count, nI pn, f_rowCount, f_same, f_made, a_lefts, a_rights, a_bundled, a_parts, a_cells, a_known, a_closures, a_tables, a_stemSets, a_symbols) (nI d) := by
  have m10 := hD.1
  obtain ⟨e1, l1, e2, l2, e3⟩ := hD.2 d hd
  have din : vp_in (nI d) 10 := vp_in_nI (by omega) (by decide)
  have ed : (nI d).toNatClampNeg = d := dk_cl (by omega)
  have lp : ∀ e n x2 sy, n + e = 16 → dk_FL pn x2 g (dk_pk pn L R B d n g) → dk_RS pn (dk_pk pn L R B d n g) sy → wY_mergeBy_4 post (nI d) (e + 1) x2 (nI n) f_count (nI pn) f_rowCount f_same f_made a_lefts a_rights a_bundled a_parts a_cells a_known a_closures a_tables a_stemSets sy := by
    intro e
    induction e with
    | zero =>
      intro n x2 sy hn hF hS
      have en : n = 16 := by omega
      subst en
      refine br_t (by decide) ⟨?_, p x2 sy hF hS⟩
      rcases hF with ⟨rfl, _⟩ | ⟨rfl, _⟩ <;> rfl
    | succ e ih =>
      intro n x2 sy hn hF hS
      have hV' := dk_pk_VS (L := L) (R := R) (B := B) (d := d) hV n
      have no : ¬ (n / 4 < n % 4 ∧ n % 4 < pn ∧ B d = false ∧ dk_like (dk_pk pn L R B d n g) (n / 4) (n % 4) (L d)) → wY_mergeBy_4 post (nI d) (e + 1) x2 (nI (n + 1)) f_count (nI pn) f_rowCount f_same f_made a_lefts a_rights a_bundled a_parts a_cells a_known a_closures a_tables a_stemSets sy := by
        intro q
        have ej : dk_pk pn L R B d (n + 1) g = dk_pk pn L R B d n g := dk_pst_f q
        refine ih (n + 1) x2 sy (by omega) ?_ ?_
        · rw [ej]; exact hF
        · rw [ej]; exact hS
      refine br_f (nI_ge (b := 16) (by omega) (by decide)) ⟨by decide, nm_r (e' := nI (n / 4)) (pk_div (d := 4) (by omega) (by decide) (by decide)) ⟨by decide, nm_r (e' := nI (n % 4)) (pk_rem (d := 4) (by omega) (by decide) (by decide)) ?_⟩⟩
      refine dk_if (nI_leI (by omega) (by omega)) (fun z => nm_r (nI_1 n) (no (fun q => by omega))) (fun z => dk_if (nI_leI (by omega) (by omega)) (fun w => nm_r (nI_1 n) (no (fun q => by omega))) (fun w => ⟨din, ?_⟩))
      rw [ed, e3]
      refine dk_if dk_bI0 (fun hb => ⟨din, ?_⟩) (fun hb => nm_r (nI_1 n) (no (fun q => hb q.2.2.1)))
      rw [e1]
      refine dk_ylikeOn p4 l1 (by omega) (by omega) hV' hS (fun v => br_f (by decide) ⟨din, ?_⟩) (fun v => br_t rfl (nm_r (nI_1 n) (no (fun q => v q.2.2.2))))
      rw [e2]
      refine dk_ymerge p4 l2 (by omega) (by omega) hV' hS (fun fl sy' hF' hS' => ?_)
      have ej : dk_pk pn L R B d (n + 1) g = dk_jrow pn (R d) (n / 4) (n % 4) 6 (dk_pk pn L R B d n g) := dk_pst_t ⟨by omega, by omega, hb, v⟩
      rw [← ej] at hF' hS'
      have hz : fl = 0 ∨ fl = 1 := by rcases hF' with ⟨h, _⟩ | ⟨h, _⟩; exact Or.inl h; exact Or.inr h
      have hx : x2 = 0 ∨ x2 = 1 := by rcases hF with ⟨h, _⟩ | ⟨h, _⟩; exact Or.inl h; exact Or.inr h
      rcases hz with rfl | rfl
      · refine br_t rfl ?_
        rcases hx with rfl | rfl
        · exact br_t rfl (nm_r (nI_1 n) (ih (n + 1) 0 sy' (by omega) (dk_FL_r hF hF') hS'))
        · exact br_f (by decide) (nm_r (nI_1 n) (ih (n + 1) 1 sy' (by omega) (dk_FL_l hF hF') hS'))
      · refine br_f (by decide) (nm_r (nI_1 n) (ih (n + 1) 1 sy' (by omega) ?_ hS'))
        rcases hx with rfl | rfl
        · exact dk_FL_r hF hF'
        · exact dk_FL_l hF hF'
  exact ⟨_, lp 16 0 0 a_symbols (by omega) (dk_FL_0 pn g) hR⟩
theorem dk_yloss108 {post : Int32 → SY → Prop} {pn : Nat} {f : Nat → Nat} (p4 : pn ≤ 4) (hV : dk_VS pn f) (hR : dk_RS pn f a_symbols)
    (p1 : dk_KA pn f → post 1 (f_count, nI pn, f_rowCount, f_same, f_made, a_lefts, a_rights, a_bundled, a_parts, a_cells, a_known, a_closures, a_tables, a_stemSets, a_symbols)) (p0 : ¬ dk_KA pn f → post 0 (f_count, nI pn, f_rowCount, f_same, f_made, a_lefts, a_rights, a_bundled, a_parts, a_cells, a_known, a_closures, a_tables, a_stemSets, a_symbols)) : ∃ n, wY_lossless_108 post f_count (nI pn) f_rowCount f_same f_made a_lefts a_rights a_bundled a_parts a_cells a_known a_closures a_tables a_stemSets a_symbols n 0 := by
  have smz : ∀ p n, dk_sm (fun c => f (6 * p + c)) n = 0 ↔ ∀ c, c < n → f (6 * p + c) = 0 := by
    intro p n
    induction n with
    | zero => exact ⟨fun _ => lt_0, fun _ => rfl⟩
    | succ n ih =>
      simp only [dk_sm]
      constructor
      · intro h
        exact lt_s (ih.mp (by omega)) (by omega)
      · intro h
        have := ih.mpr (fun c hc => h c (by omega))
        have := h n (by omega)
        omega
  have lp121 : ∀ (J : Int32 → Prop) (p : Nat), p < pn → ((¬ ∀ c, c < 6 → f (6 * p + c) = 0) → J (nI (p + 1))) →
      ∀ e c, c + e = 6 → dk_sm (fun c => f (6 * p + c)) c ≤ 5 * c → wY_lossless_121 post J (nI p) f_count (nI pn) f_rowCount f_same f_made a_lefts a_rights a_bundled a_parts a_cells a_known a_closures a_tables a_stemSets a_symbols (e + 1) (nI (dk_sm (fun c => f (6 * p + c)) c)) (nI c) := by
    intro J p hp hJ e
    induction e with
    | zero =>
      intro c hc hb
      have ec : c = 6 := by omega
      subst ec
      exact br_t (by decide) (dk_if ((nI_eq (b := 0) (by omega) (by decide)).trans (smz p 6)) (fun z => p1 ⟨p, hp, z⟩) (fun z => nm_r (nI_1 p) (hJ z)))
    | succ e ih =>
      intro c hc hb
      have v := hV (6 * p + c) (by omega)
      refine br_f (nI_ge (b := 6) (by omega) (by decide)) ?_
      rw [dk_ix, dk_cl (by omega : 6 * p + c < 1000), hR (6 * p + c) (by omega)]
      refine ⟨vp_in_nI (by omega) (by decide), nm_r (by rw [nI_add]; rfl) (nm_r (nI_1 c) (ih (c + 1) (by omega) (by simp only [dk_sm]; omega)))⟩
  have lp108 : ∀ e p, p + e = pn → (∀ r, r < p → ¬ ∀ c, c < 6 → f (6 * r + c) = 0) → wY_lossless_108 post f_count (nI pn) f_rowCount f_same f_made a_lefts a_rights a_bundled a_parts a_cells a_known a_closures a_tables a_stemSets a_symbols (e + 1) (nI p) := by
    intro e
    induction e with
    | zero =>
      intro p hp h
      have ep : p = pn := by omega
      subst ep
      exact br_t (nI_le (Nat.le_refl _) (by omega)) (p0 (fun ⟨r, r1, r2⟩ => h r r1 r2))
    | succ e ih =>
      intro p hp h
      exact br_f (nI_ge (by omega) (by omega)) ⟨_, lp121 _ p (by omega) (fun q => ih (p + 1) (by omega) (lt_s h q)) 6 0 (by omega) (Nat.le_refl _)⟩
  exact ⟨_, lp108 pn 0 (by omega) lt_0⟩
theorem dk_ylossless {post : Int32 → SY → Prop} {pn m : Nat} {P : Nat → Nat} (hD : dk_DP m L R B a_lefts a_rights a_bundled) (hP : pn ≤ 4 ∧ ∀ j, j < pn → a_parts j = nI (P j) ∧ P j < 64)
    (p1 : ∀ t, dk_dk pn L R B m (dk_ri pn m L R B t (dk_f0 P)) = dk_ri pn m L R B t (dk_f0 P) → dk_KA pn (dk_ri pn m L R B t (dk_f0 P)) → ∀ sy, post 1 (nI m, nI pn, f_rowCount, f_same, f_made, a_lefts, a_rights, a_bundled, a_parts, a_cells, a_known, a_closures, a_tables, a_stemSets, sy))
    (p0 : ∀ t, dk_dk pn L R B m (dk_ri pn m L R B t (dk_f0 P)) = dk_ri pn m L R B t (dk_f0 P) → ¬ dk_KA pn (dk_ri pn m L R B t (dk_f0 P)) → ∀ sy, post 0 (nI m, nI pn, f_rowCount, f_same, f_made, a_lefts, a_rights, a_bundled, a_parts, a_cells, a_known, a_closures, a_tables, a_stemSets, sy)) :
    wpY_lossless post (nI m, nI pn, f_rowCount, f_same, f_made, a_lefts, a_rights, a_bundled, a_parts, a_cells, a_known, a_closures, a_tables, a_stemSets, a_symbols) := by
  have m10 := hD.1
  obtain ⟨p4, hP⟩ := hP
  have fin : ∀ t sy, dk_dk pn L R B m (dk_ri pn m L R B t (dk_f0 P)) = dk_ri pn m L R B t (dk_f0 P) → dk_RS pn (dk_ri pn m L R B t (dk_f0 P)) sy → ∃ n, wY_lossless_108 post (nI m) (nI pn) f_rowCount f_same f_made a_lefts a_rights a_bundled a_parts a_cells a_known a_closures a_tables a_stemSets sy n 0 :=
    fun t sy ht hS => dk_yloss108 p4 (dk_ri_VS (dk_f0_VS P p4) t) hS (fun z => p1 t ht z sy) (fun z => p0 t ht z sy)
  have lp71 : ∀ (J : Int32 → Int32 → Int32 → Int32 → Int32 → Int64 → (Nat → Int32) → (Nat → Int32) → (Nat → Int32) → (Nat → Int32) → (Nat → Int32) → (Nat → Int32) → (Nat → Int32) → (Nat → Int64) → (Nat → Int32) → (Nat → Int32) → Prop) (g : Nat → Nat), dk_VS pn g →
      (∀ fl sy, dk_FL pn fl g (dk_dk pn L R B m g) → dk_RS pn (dk_dk pn L R B m g) sy → J fl (nI m) (nI pn) f_rowCount f_same f_made a_lefts a_rights a_bundled a_parts a_cells a_known a_closures a_tables a_stemSets sy) →
      ∀ e d x1 sy, d + e = m → dk_FL pn x1 g (dk_dk pn L R B d g) → dk_RS pn (dk_dk pn L R B d g) sy → wY_lossless_71 post J (e + 1) x1 (nI d) (nI m) (nI pn) f_rowCount f_same f_made a_lefts a_rights a_bundled a_parts a_cells a_known a_closures a_tables a_stemSets sy := by
    intro J g hVg hJ e
    induction e with
    | zero =>
      intro d x1 sy hd hF hS
      have ed : d = m := by omega
      subst ed
      exact br_t (nI_le (Nat.le_refl _) (by omega)) (hJ x1 sy hF hS)
    | succ e ih =>
      intro d x1 sy hd hF hS
      refine br_f (nI_ge (by omega) (by omega)) (dk_ymergeBy p4 hD (by omega) (dk_dk_VS hVg d) hS (fun fl sy' hF' hS' => ?_))
      have hF'' : dk_FL pn fl (dk_dk pn L R B d g) (dk_dk pn L R B (d + 1) g) := hF'
      have hS'' : dk_RS pn (dk_dk pn L R B (d + 1) g) sy' := hS'
      have hz : fl = 0 ∨ fl = 1 := by rcases hF' with ⟨h, _⟩ | ⟨h, _⟩; exact Or.inl h; exact Or.inr h
      have hx : x1 = 0 ∨ x1 = 1 := by rcases hF with ⟨h, _⟩ | ⟨h, _⟩; exact Or.inl h; exact Or.inr h
      rcases hz with rfl | rfl
      · refine br_t rfl ?_
        rcases hx with rfl | rfl
        · exact br_t rfl (nm_r (nI_1 d) (ih (d + 1) 0 sy' (by omega) (dk_FL_r hF hF'') hS''))
        · exact br_f (by decide) (nm_r (nI_1 d) (ih (d + 1) 1 sy' (by omega) (dk_FL_l hF hF'') hS''))
      · refine br_f (by decide) (nm_r (nI_1 d) (ih (d + 1) 1 sy' (by omega) ?_ hS''))
        rcases hx with rfl | rfl
        · exact dk_FL_r hF hF''
        · exact dk_FL_l hF hF''
  have lp63 : ∀ n t x1 sy, dk_RS pn (dk_ri pn m L R B t (dk_f0 P)) sy → ((x1 = 0 ∧ dk_dk pn L R B m (dk_ri pn m L R B t (dk_f0 P)) = dk_ri pn m L R B t (dk_f0 P)) ∨ (x1 = 1 ∧ dk_mS pn (dk_ri pn m L R B t (dk_f0 P)) < n)) →
      wY_lossless_63 post (n + 1) x1 (nI m) (nI pn) f_rowCount f_same f_made a_lefts a_rights a_bundled a_parts a_cells a_known a_closures a_tables a_stemSets sy := by
    intro n
    induction n with
    | zero =>
      intro t x1 sy hS h
      rcases h with ⟨rfl, h⟩ | ⟨rfl, h⟩
      · exact br_t rfl (fin t sy h hS)
      · omega
    | succ n ih =>
      intro t x1 sy hS h
      rcases h with ⟨rfl, h⟩ | ⟨rfl, h⟩
      · exact br_t rfl (fin t sy h hS)
      · refine br_f (by decide) ⟨_, lp71 _ _ (dk_ri_VS (dk_f0_VS P p4) t) (fun fl sy' hF hS' => ih (t + 1) fl sy' hS' ?_) m 0 0 sy (by omega) (dk_FL_0 pn _) hS⟩
        have es : dk_ri pn m L R B (t + 1) (dk_f0 P) = dk_dk pn L R B m (dk_ri pn m L R B t (dk_f0 P)) := rfl
        rcases hF with ⟨hf, he⟩ | ⟨hf, hl⟩
        · exact Or.inl ⟨hf, by rw [es, he, he]⟩
        · exact Or.inr ⟨hf, by rw [es]; omega⟩
  have lp2 : ∀ e n sy, n + e = 24 → (∀ j, j < n → j < 6 * pn → sy j = nI (dk_f0 P j)) → wY_lossless_2 post (nI m) (nI pn) f_rowCount f_same f_made (e + 1) (nI n) a_lefts a_rights a_bundled a_parts a_cells a_known a_closures a_tables a_stemSets sy := by
    intro e
    induction e with
    | zero =>
      intro n sy hn h
      have en : n = 24 := by omega
      subst en
      exact br_t (by decide) ⟨_, lp63 _ 0 1 sy (fun j hj => h j (by omega) hj) (Or.inr ⟨rfl, Nat.lt_succ_self _⟩)⟩
    | succ e ih =>
      intro n sy hn h
      have iin : vp_in (nI n) 24 := vp_in_nI (by omega) (by decide)
      have en : (nI n).toNatClampNeg = n := dk_cl (by omega)
      have d6 : nI n / 6 = nI (n / 6) := pk_div (d := 6) (by omega) (by decide) (by decide)
      have r6 : nI n - nI n / 6 * 6 = nI (n % 6) := pk_rem (d := 6) (by omega) (by decide) (by decide)
      have other : (n < 6 * pn → ¬ (P (n / 6)).testBit (n % 6) = true) → wY_lossless_48 post (wY_lossless_2 post (nI m) (nI pn) f_rowCount f_same f_made (e + 1)) (nI n) (nI n) (nI m) (nI pn) f_rowCount f_same f_made a_lefts a_rights a_bundled a_parts a_cells a_known a_closures a_tables a_stemSets sy := by
        intro q
        refine ⟨by decide, iin, nm_r (by rw [en, d6, nI_1]) (nm_r (nI_1 n) (ih (n + 1) _ (by omega) (fun j hj hj' => ?_)))⟩
        by_cases w : j = n
        · subst w
          rw [pk_us]
          unfold dk_f0
          rw [if_neg (q hj')]
        · rw [pk_un w]; exact h j (by omega) hj'
      refine br_f (nI_ge (b := 24) (by omega) (by decide)) ⟨by decide, ?_⟩
      rw [r6, d6]
      refine dk_if (nI_leI (by omega) (by omega)) (fun z => other (fun q => by omega)) (fun z => ⟨by decide, vp_in_nI (by omega) (by decide), by decide, ?_⟩)
      obtain ⟨q1, q2⟩ := hP (n / 6) (by omega)
      rw [dk_cl (by omega : n / 6 < 1000), q1]
      refine dk_if (dk_b1 (by omega) (by omega)) (fun w => ⟨iin, nm_r (by rw [en]) (nm_r (nI_1 n) (ih (n + 1) _ (by omega) (fun j hj hj' => ?_)))⟩) (fun w => other (fun _ => w))
      by_cases v : j = n
      · subst v
        rw [pk_us]
        unfold dk_f0
        rw [if_pos w]; rfl
      · rw [pk_un v]; exact h j (by omega) hj'
  exact ⟨_, lp2 24 0 a_symbols (by omega) (fun j hj => by omega)⟩
end
theorem i_vc_lossless {k : Nat} {u : SX} {v : SY} (I : i_Rel k u v) (hk : k + 4 ≤ 2048) : wpX_lossless (fun r u' => wpY_lossless (fun r' v' => r' = r ∧ i_Rel (k + 4) u' v') v) u := by
  refine dk_el (Q := fun u v => wpX_lossless (fun r u' => wpY_lossless (fun r' v' => r' = r ∧ i_Rel (k + 4) u' v') v) u) ?_ I
  intro m pn rn L R P B co bo sd sc kc al ar abd ab clo ss ism ks ap sy ce cof cls agr sa ma kn cc tb sts sys hf
  have hf' := hf
  obtain ⟨hD, hP, hr, hS, hK⟩ := hf
  rcases Nat.eq_zero_or_pos pn with z | z
  · subst z
    refine br_t (by decide) ?_
    exact dk_ylossless hD hP (fun t _ k => by obtain ⟨r, r1, _⟩ := k; omega) (fun t _ _ sy => ⟨rfl, dk_mk ⟨hD, hP, hr, hS, hK⟩⟩)
  · refine dk_xlossless z hD hP (fun t ht hk sy => ?_) (fun t ht hk sy => ?_)
    · exact dk_ylossless hD hP (fun _ _ _ sy => ⟨rfl, dk_mk ⟨hD, hP, hr, hS, hK⟩⟩) (fun s hs hn => absurd (by rw [dk_ri_u hs ht]; exact hk) hn)
    · exact dk_ylossless hD hP (fun s hs hn => absurd (by rw [dk_ri_u ht hs]; exact hn) hk) (fun _ _ _ sy => ⟨rfl, dk_mk ⟨hD, hP, hr, hS, hK⟩⟩)
end
