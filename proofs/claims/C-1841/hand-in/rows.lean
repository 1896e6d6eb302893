section
/-! pure rows to paste: stores, nI and lN arithmetic, masks, shifts, narrowing, branches by naturals (pk_le, pk_lt, pk_eq), loops (lp1 .. lp16: the measure of the state; rp1 ..: recursion), negatives. Take what you need -/
theorem pk_us {f : Nat → Int32} {k : Nat} {x : Int32} : upd f k x k = x := if_pos rfl
theorem pk_un {f : Nat → Int32} {k j : Nat} {x : Int32} (h : j ≠ k) : upd f k x j = f j := if_neg h
theorem pk_uLs {f : Nat → Int64} {k : Nat} {x : Int64} : vp_updL f k x k = x := if_pos rfl
theorem pk_uLn {f : Nat → Int64} {k j : Nat} {x : Int64} (h : j ≠ k) : vp_updL f k x j = f j := if_neg h
theorem pk_sub {a b : Nat} (h : b ≤ a) : nI a - nI b = nI (a - b) := by
  obtain ⟨c, rfl⟩ : ∃ c, a = c + b := ⟨a - b, by omega⟩
  rw [← nI_add, Int32.add_sub_cancel, Nat.add_sub_cancel]
theorem pk_m1 (n : Nat) : nI (n + 1) + (-1) = nI n := by
  rw [← nI_1, Int32.add_assoc, show (1 : Int32) + (-1) = 0 from rfl, Int32.add_zero]
theorem pk_mul (a b : Nat) : nI a * nI b = nI (a * b) := (Int32.ofNat_mul a b).symm
theorem pk_div {a d : Nat} (ha : a < 2 ^ 31) (h0 : 0 < d) (hd : d < 2 ^ 31) : nI a / nI d = nI (a / d) := by
  apply Int32.toInt_inj.mp
  rw [lg_idiv_nonneg (by rw [nI_toInt ha]; omega) (by rw [nI_toInt hd]; omega), nI_toInt ha, nI_toInt hd, nI_toInt (Nat.lt_of_le_of_lt (Nat.div_le_self a d) ha)]
  first | rfl | exact (Int.natCast_ediv _ _).symm
theorem pk_rem {a d : Nat} (ha : a < 2 ^ 31) (h0 : 0 < d) (hd : d < 2 ^ 31) : nI a - nI a / nI d * nI d = nI (a % d) := by
  rw [pk_div ha h0 hd, pk_mul, pk_sub (Nat.div_mul_le_self a d)]
  exact congrArg nI (by have := Nat.div_add_mod' a d; omega)
theorem pk_sub_toInt {a b : Nat} (ha : a < 2 ^ 30) (hb : b < 2 ^ 30) : (nI a - nI b).toInt = (a : Int) - b := by
  rw [Int32.toInt_sub, nI_toInt (by omega), nI_toInt (by omega)]
  exact Int.bmod_eq_of_le (by omega) (by omega)
theorem pk_sneg {a b : Nat} (hb : b < 2 ^ 30) (h : a < b) : nI a - nI b < 0 := by
  rw [Int32.lt_iff_toInt_lt, pk_sub_toInt (by omega) hb, show (0 : Int32).toInt = 0 from by decide]
  omega
theorem pk_ix (x : Int32) {n : Nat} (hn : n < 2 ^ 31) : x < 0 ∨ nI n ≤ x ∨ ∃ j : Nat, j < n ∧ x = nI j := by
  by_cases h : x < 0
  · exact Or.inl h
  · obtain ⟨j, hj, rfl⟩ := nI_of h
    by_cases h2 : j < n
    · exact Or.inr (Or.inr ⟨j, h2, rfl⟩)
    · exact Or.inr (Or.inl (nI_le (by omega) hj))
theorem pk_le {x y : Int32} {A B : Prop} (a b : Nat) (f : a ≤ b → A) (g : b < a → B) (hx : x = nI a := by rfl) (hy : y = nI b := by rfl) (ha : a < 2 ^ 31 := by omega) (hb : b < 2 ^ 31 := by omega) : (x ≤ y → A) ∧ (¬ x ≤ y → B) := by
  subst hx hy
  rw [nI_leI ha hb]
  exact ⟨f, fun z => g (by omega)⟩
theorem pk_lt {x y : Int32} {A B : Prop} (a b : Nat) (f : a < b → A) (g : b ≤ a → B) (hx : x = nI a := by rfl) (hy : y = nI b := by rfl) (ha : a < 2 ^ 31 := by omega) (hb : b < 2 ^ 31 := by omega) : (x < y → A) ∧ (¬ x < y → B) := by
  subst hx hy
  rw [nI_ltI ha hb]
  exact ⟨f, fun z => g (by omega)⟩
theorem pk_eq {x y : Int32} {A B : Prop} (a b : Nat) (f : a = b → A) (g : a ≠ b → B) (hx : x = nI a := by rfl) (hy : y = nI b := by rfl) (ha : a < 2 ^ 31 := by omega) (hb : b < 2 ^ 31 := by omega) : (x = y → A) ∧ (¬ x = y → B) := by
  subst hx hy
  rw [nI_eq ha hb]
  exact ⟨f, g⟩
theorem pk_in {x : Int32} (n N : Nat) (h : n < N) (hx : x = nI n := by rfl) (hN : N < 2 ^ 31 := by omega) : vp_in x N := by
  subst hx
  exact vp_in_nI h hN
theorem pk_cl {x : Int32} (n : Nat) (hx : x = nI n := by rfl) (h : n < 2 ^ 31 := by omega) : x.toNatClampNeg = n := by
  subst hx
  exact nI_clamp h
theorem pk_tn {n : Nat} (h : n < 2 ^ 32) : (nI n).toBitVec.toNat = n := Nat.mod_eq_of_lt h
theorem pk_and (x : Int32) {m : Int32} (k : Nat) (hm : m.toBitVec.toNat = 2 ^ k - 1) : x &&& m = nI (x.toBitVec.toNat % 2 ^ k) := by
  apply Int32.toBitVec_inj.mp
  apply BitVec.eq_of_toNat_eq
  rw [Int32.toBitVec_and, BitVec.toNat_and, hm, Nat.and_two_pow_sub_one_eq_mod]
  show _ = (BitVec.ofNat 32 _).toNat
  rw [BitVec.toNat_ofNat]
  exact (Nat.mod_eq_of_lt (Nat.lt_of_le_of_lt (Nat.mod_le _ _) x.toBitVec.isLt)).symm
theorem pk_andN {n : Nat} (h : n < 2 ^ 32) {m : Int32} (k : Nat) (hm : m.toBitVec.toNat = 2 ^ k - 1) : nI n &&& m = nI (n % 2 ^ k) := by
  rw [pk_and _ k hm, pk_tn h]
theorem pk_andE (x : Int32) {m : Int32} (k : Nat) (hm : m.toBitVec.toNat = 2 ^ k - 1) : ∃ j : Nat, j < 2 ^ k ∧ x &&& m = nI j := ⟨_, Nat.mod_lt _ (Nat.two_pow_pos k), pk_and x k hm⟩
theorem pk_andIn (x : Int32) {m : Int32} (k : Nat) (hm : m.toBitVec.toNat = 2 ^ k - 1) (hk : k ≤ 30) : vp_in (x &&& m) (2 ^ k) := by
  obtain ⟨j, hj, e⟩ := pk_andE x k hm
  rw [e]
  exact vp_in_nI hj (Nat.lt_of_le_of_lt (Nat.pow_le_pow_right (by decide) hk) (by decide))
theorem pk_shl (a s : Int32) (k : Nat) (hs : (s.toBitVec.smod 32).toNat = k) : (a <<< s).toBitVec.toNat = a.toBitVec.toNat * 2 ^ k % 2 ^ 32 := by
  show (a.toBitVec <<< (s.toBitVec.smod 32).toNat).toNat = _
  rw [hs, BitVec.toNat_shiftLeft, Nat.shiftLeft_eq]
theorem pk_shlN {n : Nat} (s : Int32) (k : Nat) (hs : (s.toBitVec.smod 32).toNat = k) (h : n * 2 ^ k < 2 ^ 32) : nI n <<< s = nI (n * 2 ^ k) := by
  apply Int32.toBitVec_inj.mp
  apply BitVec.eq_of_toNat_eq
  have hn : n < 2 ^ 32 := Nat.lt_of_le_of_lt (Nat.le_mul_of_pos_right n (Nat.two_pow_pos k)) h
  rw [pk_shl _ _ k hs, pk_tn hn, pk_tn h, Nat.mod_eq_of_lt h]
theorem pk_shr (a s : Int32) (k : Nat) (hs : (s.toBitVec.smod 32).toNat = k) : (a >>> s).toInt = a.toInt >>> k := by
  show (a.toBitVec.sshiftRight (s.toBitVec.smod 32).toNat).toInt = _
  rw [hs, BitVec.toInt_sshiftRight]
  rfl
theorem pk_shrN {n : Nat} (h : n < 2 ^ 31) (s : Int32) (k : Nat) (hs : (s.toBitVec.smod 32).toNat = k) : nI n >>> s = nI (n / 2 ^ k) := by
  apply Int32.toInt_inj.mp
  have h2 : n / 2 ^ k ≤ n := Nat.div_le_self _ _
  rw [pk_shr _ _ k hs, nI_toInt h, nI_toInt (by omega), Int.shiftRight_eq_div_pow]
  rfl
theorem pk_ushr (x s : Int32) (k : Nat) (hs : ((s.toUInt32 &&& Int32.toUInt32 31).toBitVec % 32).toNat = k) : (x.toUInt32 >>> (s.toUInt32 &&& Int32.toUInt32 31)).toInt32.toBitVec.toNat = x.toBitVec.toNat / 2 ^ k := by
  have e : (x.toUInt32 >>> (s.toUInt32 &&& Int32.toUInt32 31)).toInt32.toBitVec = x.toBitVec >>> k := by
    rw [← hs]
    exact UInt32.toBitVec_shiftRight _ _
  rw [e, BitVec.toNat_ushiftRight, Nat.shiftRight_eq_div_pow]
theorem pk_ushrN {n : Nat} (hn : n < 2 ^ 32) (s : Int32) (k : Nat) (hs : ((s.toUInt32 &&& Int32.toUInt32 31).toBitVec % 32).toNat = k) : ((nI n).toUInt32 >>> (s.toUInt32 &&& Int32.toUInt32 31)).toInt32 = nI (n / 2 ^ k) := by
  apply Int32.toBitVec_inj.mp
  apply BitVec.eq_of_toNat_eq
  rw [pk_ushr _ s k hs, pk_tn hn, pk_tn (Nat.lt_of_le_of_lt (Nat.div_le_self _ _) hn)]
theorem pk_nb (z : Int32) : narrow .byte (.int z.toInt8.toInt32) = .int z.toInt8.toInt32 := congrArg Value.int (by simp)
theorem pk_ns (z : Int32) : narrow .short (.int z.toInt16.toInt32) = .int z.toInt16.toInt32 := congrArg Value.int (by simp)
theorem pk_fb (r : Int32) : fits .byte (.int r.toInt8.toInt32) = true := by
  have ⟨a, b⟩ := lg_i2b_range r
  have h1 : (-128 : Int32).toInt = -128 := by decide
  have h2 : (127 : Int32).toInt = 127 := by decide
  simp only [fits, Bool.and_eq_true, decide_eq_true_eq, Int32.le_iff_toInt_le, h1, h2]
  omega
theorem pk_fs (r : Int32) : fits .short (.int r.toInt16.toInt32) = true := by
  have ⟨a, b⟩ := lg_i2s_range r
  have h1 : (-32768 : Int32).toInt = -32768 := by decide
  have h2 : (32767 : Int32).toInt = 32767 := by decide
  simp only [fits, Bool.and_eq_true, decide_eq_true_eq, Int32.le_iff_toInt_le, h1, h2]
  omega
theorem pk_charN {q : Nat} (hq : q < 65536) : narrow .char (.int (nI q)) = .int (nI q) ∧ fits .char (.int (nI q)) = true := by
  constructor
  · have e : (nI q).toUInt32.toUInt16.toUInt32.toInt32 = nI q := by
      apply Int32.toBitVec_inj.mp
      apply BitVec.eq_of_toNat_eq
      show (nI q).toUInt32.toUInt16.toUInt32.toNat = q % 2 ^ 32
      rw [UInt16.toNat_toUInt32, UInt32.toNat_toUInt16, show (nI q).toUInt32.toNat = q % 2 ^ 32 from rfl]
      omega
    exact congrArg Value.int e
  · have a : (0 : Int32) ≤ nI q := nI_pos' (by omega)
    have b : nI q ≤ 65535 := nI_le (b := 65535) (by omega) (by decide)
    show (decide ((0 : Int32) ≤ nI q) && decide (nI q ≤ 65535)) = true
    rw [decide_eq_true a, decide_eq_true b]
    rfl
theorem pk_char (x : Int32) : (x.toUInt32 % 65536).toInt32 = nI (x.toBitVec.toNat % 65536) := by
  apply Int32.toBitVec_inj.mp
  apply BitVec.eq_of_toNat_eq
  rw [pk_tn (by omega)]
  show (x.toUInt32 % 65536).toNat = _
  rw [UInt32.toNat_mod]
  rfl
theorem pk_nc (x : Int32) : narrow .char (.int (x.toUInt32 % 65536).toInt32) = .int (x.toUInt32 % 65536).toInt32 := by
  rw [pk_char]
  exact (pk_charN (Nat.mod_lt _ (by decide))).1
theorem pk_fc (x : Int32) : fits .char (.int (x.toUInt32 % 65536).toInt32) = true := by
  rw [pk_char]
  exact (pk_charN (Nat.mod_lt _ (by decide))).2
theorem pk_vb (z : Int32) : vp_nar .byte z.toInt8.toInt32 = z.toInt8.toInt32 := by rw [vp_nar_byte]; simp
theorem pk_vs (z : Int32) : vp_nar .short z.toInt16.toInt32 = z.toInt16.toInt32 := by rw [vp_nar_short]; simp
theorem pk_vc (z : Int32) : vp_nar .char (z.toUInt32 % 65536).toInt32 = (z.toUInt32 % 65536).toInt32 := Value.int.inj (pk_nc z)
theorem pk_lT {n : Nat} (h : n < 2 ^ 63) : (lN n).toInt = (n : Int) := lg_ofNat_toInt h
theorem pk_lLT {a b : Nat} (ha : a < 2 ^ 63) (hb : b < 2 ^ 63) : lN a < lN b ↔ a < b := by
  rw [Int64.lt_iff_toInt_lt, pk_lT ha, pk_lT hb]; omega
theorem pk_lLE {a b : Nat} (ha : a < 2 ^ 63) (hb : b < 2 ^ 63) : lN a ≤ lN b ↔ a ≤ b := by
  rw [Int64.le_iff_toInt_le, pk_lT ha, pk_lT hb]; omega
theorem pk_lEQ {a b : Nat} (ha : a < 2 ^ 63) (hb : b < 2 ^ 63) : lN a = lN b ↔ a = b := by
  rw [← Int64.toInt_inj, pk_lT ha, pk_lT hb]; omega
theorem pk_lOf {x : Int64} (h : ¬ x < 0) : ∃ k : Nat, k < 2 ^ 63 ∧ x = lN k := by
  rw [Int64.lt_iff_toInt_lt] at h
  have h0 : (0 : Int64).toInt = 0 := by decide
  have hx := Int64.toInt_lt x
  refine ⟨x.toInt.toNat, by omega, Int64.toInt_inj.mp ?_⟩
  rw [pk_lT (by omega)]
  omega
theorem pk_lDiv {a b : Nat} (ha : a < 2 ^ 63) (h0 : 0 < b) (hb : b < 2 ^ 63) : lN a / lN b = lN (a / b) := by
  apply Int64.toInt_inj.mp
  rw [lg_ldiv_nonneg (by rw [pk_lT ha]; omega) (by rw [pk_lT hb]; omega), pk_lT ha, pk_lT hb, pk_lT (Nat.lt_of_le_of_lt (Nat.div_le_self a b) ha)]
  rfl
theorem pk_lRem {a b : Nat} (ha : a < 2 ^ 63) (h0 : 0 < b) (hb : b < 2 ^ 63) : lN a - lN a / lN b * lN b = lN (a % b) := by
  rw [pk_lDiv ha h0 hb, lN_mul, lN_sub (Nat.div_mul_le_self a b)]
  exact congrArg lN (by have := Nat.div_add_mod' a b; omega)
theorem pk_loop {σ : Type} (W : Nat → Nat → σ → Prop) (I : Nat → σ → Prop) (e i0 : Nat) (s : σ) (hi : i0 ≤ e) (h0 : I i0 s) (hx : ∀ n s, I e s → W (n + 1) e s)
    (hs : ∀ n i s, i < e → I i s → (∀ s', I (i + 1) s' → W n (i + 1) s') → W (n + 1) i s) : ∃ n, W n i0 s :=
  ⟨e + 1, loop_i W I e hx hs (e + 1) i0 s hi (by omega) h0⟩
theorem pk_loopD {σ : Type} (W : Nat → Nat → σ → Prop) (I : Nat → σ → Prop) (hx : ∀ n s, I 0 s → W (n + 1) 0 s)
    (hs : ∀ n i s, I (i + 1) s → (∀ s', I i s' → W n i s') → W (n + 1) (i + 1) s) : ∀ (e : Nat) (s : σ), I e s → W (e + 1) e s := by
  intro e
  induction e with
  | zero => exact fun s h => hx 0 s h
  | succ e ih => exact fun s h => hs (e + 1) e s h (fun s' h' => ih s' h')
theorem lp1 {A1 : Type} (W : Nat → A1 → Prop) (I : A1 → Prop) (μ : A1 → Nat) (hs : ∀ (n : Nat) (a1 : A1), I a1 → (∀ (b1 : A1), I b1 → μ b1 < μ a1 → W n b1) → W (n + 1) a1) (a1 : A1) (h : I a1) : ∃ n, W n a1 :=
  loop_m (σ := A1) (fun n s => W n s) (fun s => I s) (fun s => μ s) (fun n s hI hk => hs n s hI (fun b1 h9 hm => hk b1 h9 hm)) a1 h
theorem lp2 {A1 A2 : Type} (W : Nat → A1 → A2 → Prop) (I : A1 → A2 → Prop) (μ : A1 → A2 → Nat) (hs : ∀ (n : Nat) (a1 : A1) (a2 : A2), I a1 a2 → (∀ (b1 : A1) (b2 : A2), I b1 b2 → μ b1 b2 < μ a1 a2 → W n b1 b2) → W (n + 1) a1 a2) (a1 : A1) (a2 : A2) (h : I a1 a2) : ∃ n, W n a1 a2 :=
  loop_m (σ := A1 × A2) (fun n s => W n s.1 s.2) (fun s => I s.1 s.2) (fun s => μ s.1 s.2) (fun n s hI hk => hs n s.1 s.2 hI (fun b1 b2 h9 hm => hk (b1, b2) h9 hm)) (a1, a2) h
theorem lp3 {A1 A2 A3 : Type} (W : Nat → A1 → A2 → A3 → Prop) (I : A1 → A2 → A3 → Prop) (μ : A1 → A2 → A3 → Nat) (hs : ∀ (n : Nat) (a1 : A1) (a2 : A2) (a3 : A3), I a1 a2 a3 → (∀ (b1 : A1) (b2 : A2) (b3 : A3), I b1 b2 b3 → μ b1 b2 b3 < μ a1 a2 a3 → W n b1 b2 b3) → W (n + 1) a1 a2 a3) (a1 : A1) (a2 : A2) (a3 : A3) (h : I a1 a2 a3) : ∃ n, W n a1 a2 a3 :=
  loop_m (σ := A1 × A2 × A3) (fun n s => W n s.1 s.2.1 s.2.2) (fun s => I s.1 s.2.1 s.2.2) (fun s => μ s.1 s.2.1 s.2.2) (fun n s hI hk => hs n s.1 s.2.1 s.2.2 hI (fun b1 b2 b3 h9 hm => hk (b1, b2, b3) h9 hm)) (a1, a2, a3) h
theorem lp4 {A1 A2 A3 A4 : Type} (W : Nat → A1 → A2 → A3 → A4 → Prop) (I : A1 → A2 → A3 → A4 → Prop) (μ : A1 → A2 → A3 → A4 → Nat) (hs : ∀ (n : Nat) (a1 : A1) (a2 : A2) (a3 : A3) (a4 : A4), I a1 a2 a3 a4 → (∀ (b1 : A1) (b2 : A2) (b3 : A3) (b4 : A4), I b1 b2 b3 b4 → μ b1 b2 b3 b4 < μ a1 a2 a3 a4 → W n b1 b2 b3 b4) → W (n + 1) a1 a2 a3 a4) (a1 : A1) (a2 : A2) (a3 : A3) (a4 : A4) (h : I a1 a2 a3 a4) : ∃ n, W n a1 a2 a3 a4 :=
  loop_m (σ := A1 × A2 × A3 × A4) (fun n s => W n s.1 s.2.1 s.2.2.1 s.2.2.2) (fun s => I s.1 s.2.1 s.2.2.1 s.2.2.2) (fun s => μ s.1 s.2.1 s.2.2.1 s.2.2.2) (fun n s hI hk => hs n s.1 s.2.1 s.2.2.1 s.2.2.2 hI (fun b1 b2 b3 b4 h9 hm => hk (b1, b2, b3, b4) h9 hm)) (a1, a2, a3, a4) h
theorem lp5 {A1 A2 A3 A4 A5 : Type} (W : Nat → A1 → A2 → A3 → A4 → A5 → Prop) (I : A1 → A2 → A3 → A4 → A5 → Prop) (μ : A1 → A2 → A3 → A4 → A5 → Nat) (hs : ∀ (n : Nat) (a1 : A1) (a2 : A2) (a3 : A3) (a4 : A4) (a5 : A5), I a1 a2 a3 a4 a5 → (∀ (b1 : A1) (b2 : A2) (b3 : A3) (b4 : A4) (b5 : A5), I b1 b2 b3 b4 b5 → μ b1 b2 b3 b4 b5 < μ a1 a2 a3 a4 a5 → W n b1 b2 b3 b4 b5) → W (n + 1) a1 a2 a3 a4 a5) (a1 : A1) (a2 : A2) (a3 : A3) (a4 : A4) (a5 : A5) (h : I a1 a2 a3 a4 a5) : ∃ n, W n a1 a2 a3 a4 a5 :=
  loop_m (σ := A1 × A2 × A3 × A4 × A5) (fun n s => W n s.1 s.2.1 s.2.2.1 s.2.2.2.1 s.2.2.2.2) (fun s => I s.1 s.2.1 s.2.2.1 s.2.2.2.1 s.2.2.2.2) (fun s => μ s.1 s.2.1 s.2.2.1 s.2.2.2.1 s.2.2.2.2) (fun n s hI hk => hs n s.1 s.2.1 s.2.2.1 s.2.2.2.1 s.2.2.2.2 hI (fun b1 b2 b3 b4 b5 h9 hm => hk (b1, b2, b3, b4, b5) h9 hm)) (a1, a2, a3, a4, a5) h
theorem lp6 {A1 A2 A3 A4 A5 A6 : Type} (W : Nat → A1 → A2 → A3 → A4 → A5 → A6 → Prop) (I : A1 → A2 → A3 → A4 → A5 → A6 → Prop) (μ : A1 → A2 → A3 → A4 → A5 → A6 → Nat) (hs : ∀ (n : Nat) (a1 : A1) (a2 : A2) (a3 : A3) (a4 : A4) (a5 : A5) (a6 : A6), I a1 a2 a3 a4 a5 a6 → (∀ (b1 : A1) (b2 : A2) (b3 : A3) (b4 : A4) (b5 : A5) (b6 : A6), I b1 b2 b3 b4 b5 b6 → μ b1 b2 b3 b4 b5 b6 < μ a1 a2 a3 a4 a5 a6 → W n b1 b2 b3 b4 b5 b6) → W (n + 1) a1 a2 a3 a4 a5 a6) (a1 : A1) (a2 : A2) (a3 : A3) (a4 : A4) (a5 : A5) (a6 : A6) (h : I a1 a2 a3 a4 a5 a6) : ∃ n, W n a1 a2 a3 a4 a5 a6 :=
  loop_m (σ := A1 × A2 × A3 × A4 × A5 × A6) (fun n s => W n s.1 s.2.1 s.2.2.1 s.2.2.2.1 s.2.2.2.2.1 s.2.2.2.2.2) (fun s => I s.1 s.2.1 s.2.2.1 s.2.2.2.1 s.2.2.2.2.1 s.2.2.2.2.2) (fun s => μ s.1 s.2.1 s.2.2.1 s.2.2.2.1 s.2.2.2.2.1 s.2.2.2.2.2) (fun n s hI hk => hs n s.1 s.2.1 s.2.2.1 s.2.2.2.1 s.2.2.2.2.1 s.2.2.2.2.2 hI (fun b1 b2 b3 b4 b5 b6 h9 hm => hk (b1, b2, b3, b4, b5, b6) h9 hm)) (a1, a2, a3, a4, a5, a6) h
theorem lp7 {A1 A2 A3 A4 A5 A6 A7 : Type} (W : Nat → A1 → A2 → A3 → A4 → A5 → A6 → A7 → Prop) (I : A1 → A2 → A3 → A4 → A5 → A6 → A7 → Prop) (μ : A1 → A2 → A3 → A4 → A5 → A6 → A7 → Nat) (hs : ∀ (n : Nat) (a1 : A1) (a2 : A2) (a3 : A3) (a4 : A4) (a5 : A5) (a6 : A6) (a7 : A7), I a1 a2 a3 a4 a5 a6 a7 → (∀ (b1 : A1) (b2 : A2) (b3 : A3) (b4 : A4) (b5 : A5) (b6 : A6) (b7 : A7), I b1 b2 b3 b4 b5 b6 b7 → μ b1 b2 b3 b4 b5 b6 b7 < μ a1 a2 a3 a4 a5 a6 a7 → W n b1 b2 b3 b4 b5 b6 b7) → W (n + 1) a1 a2 a3 a4 a5 a6 a7) (a1 : A1) (a2 : A2) (a3 : A3) (a4 : A4) (a5 : A5) (a6 : A6) (a7 : A7) (h : I a1 a2 a3 a4 a5 a6 a7) : ∃ n, W n a1 a2 a3 a4 a5 a6 a7 :=
  loop_m (σ := A1 × A2 × A3 × A4 × A5 × A6 × A7) (fun n s => W n s.1 s.2.1 s.2.2.1 s.2.2.2.1 s.2.2.2.2.1 s.2.2.2.2.2.1 s.2.2.2.2.2.2) (fun s => I s.1 s.2.1 s.2.2.1 s.2.2.2.1 s.2.2.2.2.1 s.2.2.2.2.2.1 s.2.2.2.2.2.2) (fun s => μ s.1 s.2.1 s.2.2.1 s.2.2.2.1 s.2.2.2.2.1 s.2.2.2.2.2.1 s.2.2.2.2.2.2) (fun n s hI hk => hs n s.1 s.2.1 s.2.2.1 s.2.2.2.1 s.2.2.2.2.1 s.2.2.2.2.2.1 s.2.2.2.2.2.2 hI (fun b1 b2 b3 b4 b5 b6 b7 h9 hm => hk (b1, b2, b3, b4, b5, b6, b7) h9 hm)) (a1, a2, a3, a4, a5, a6, a7) h
theorem lp8 {A1 A2 A3 A4 A5 A6 A7 A8 : Type} (W : Nat → A1 → A2 → A3 → A4 → A5 → A6 → A7 → A8 → Prop) (I : A1 → A2 → A3 → A4 → A5 → A6 → A7 → A8 → Prop) (μ : A1 → A2 → A3 → A4 → A5 → A6 → A7 → A8 → Nat) (hs : ∀ (n : Nat) (a1 : A1) (a2 : A2) (a3 : A3) (a4 : A4) (a5 : A5) (a6 : A6) (a7 : A7) (a8 : A8), I a1 a2 a3 a4 a5 a6 a7 a8 → (∀ (b1 : A1) (b2 : A2) (b3 : A3) (b4 : A4) (b5 : A5) (b6 : A6) (b7 : A7) (b8 : A8), I b1 b2 b3 b4 b5 b6 b7 b8 → μ b1 b2 b3 b4 b5 b6 b7 b8 < μ a1 a2 a3 a4 a5 a6 a7 a8 → W n b1 b2 b3 b4 b5 b6 b7 b8) → W (n + 1) a1 a2 a3 a4 a5 a6 a7 a8) (a1 : A1) (a2 : A2) (a3 : A3) (a4 : A4) (a5 : A5) (a6 : A6) (a7 : A7) (a8 : A8) (h : I a1 a2 a3 a4 a5 a6 a7 a8) : ∃ n, W n a1 a2 a3 a4 a5 a6 a7 a8 :=
  loop_m (σ := A1 × A2 × A3 × A4 × A5 × A6 × A7 × A8) (fun n s => W n s.1 s.2.1 s.2.2.1 s.2.2.2.1 s.2.2.2.2.1 s.2.2.2.2.2.1 s.2.2.2.2.2.2.1 s.2.2.2.2.2.2.2) (fun s => I s.1 s.2.1 s.2.2.1 s.2.2.2.1 s.2.2.2.2.1 s.2.2.2.2.2.1 s.2.2.2.2.2.2.1 s.2.2.2.2.2.2.2) (fun s => μ s.1 s.2.1 s.2.2.1 s.2.2.2.1 s.2.2.2.2.1 s.2.2.2.2.2.1 s.2.2.2.2.2.2.1 s.2.2.2.2.2.2.2) (fun n s hI hk => hs n s.1 s.2.1 s.2.2.1 s.2.2.2.1 s.2.2.2.2.1 s.2.2.2.2.2.1 s.2.2.2.2.2.2.1 s.2.2.2.2.2.2.2 hI (fun b1 b2 b3 b4 b5 b6 b7 b8 h9 hm => hk (b1, b2, b3, b4, b5, b6, b7, b8) h9 hm)) (a1, a2, a3, a4, a5, a6, a7, a8) h
theorem lp9 {A1 A2 A3 A4 A5 A6 A7 A8 A9 : Type} (W : Nat → A1 → A2 → A3 → A4 → A5 → A6 → A7 → A8 → A9 → Prop) (I : A1 → A2 → A3 → A4 → A5 → A6 → A7 → A8 → A9 → Prop) (μ : A1 → A2 → A3 → A4 → A5 → A6 → A7 → A8 → A9 → Nat) (hs : ∀ (n : Nat) (a1 : A1) (a2 : A2) (a3 : A3) (a4 : A4) (a5 : A5) (a6 : A6) (a7 : A7) (a8 : A8) (a9 : A9), I a1 a2 a3 a4 a5 a6 a7 a8 a9 → (∀ (b1 : A1) (b2 : A2) (b3 : A3) (b4 : A4) (b5 : A5) (b6 : A6) (b7 : A7) (b8 : A8) (b9 : A9), I b1 b2 b3 b4 b5 b6 b7 b8 b9 → μ b1 b2 b3 b4 b5 b6 b7 b8 b9 < μ a1 a2 a3 a4 a5 a6 a7 a8 a9 → W n b1 b2 b3 b4 b5 b6 b7 b8 b9) → W (n + 1) a1 a2 a3 a4 a5 a6 a7 a8 a9) (a1 : A1) (a2 : A2) (a3 : A3) (a4 : A4) (a5 : A5) (a6 : A6) (a7 : A7) (a8 : A8) (a9 : A9) (h : I a1 a2 a3 a4 a5 a6 a7 a8 a9) : ∃ n, W n a1 a2 a3 a4 a5 a6 a7 a8 a9 :=
  loop_m (σ := A1 × A2 × A3 × A4 × A5 × A6 × A7 × A8 × A9) (fun n s => W n s.1 s.2.1 s.2.2.1 s.2.2.2.1 s.2.2.2.2.1 s.2.2.2.2.2.1 s.2.2.2.2.2.2.1 s.2.2.2.2.2.2.2.1 s.2.2.2.2.2.2.2.2) (fun s => I s.1 s.2.1 s.2.2.1 s.2.2.2.1 s.2.2.2.2.1 s.2.2.2.2.2.1 s.2.2.2.2.2.2.1 s.2.2.2.2.2.2.2.1 s.2.2.2.2.2.2.2.2) (fun s => μ s.1 s.2.1 s.2.2.1 s.2.2.2.1 s.2.2.2.2.1 s.2.2.2.2.2.1 s.2.2.2.2.2.2.1 s.2.2.2.2.2.2.2.1 s.2.2.2.2.2.2.2.2) (fun n s hI hk => hs n s.1 s.2.1 s.2.2.1 s.2.2.2.1 s.2.2.2.2.1 s.2.2.2.2.2.1 s.2.2.2.2.2.2.1 s.2.2.2.2.2.2.2.1 s.2.2.2.2.2.2.2.2 hI (fun b1 b2 b3 b4 b5 b6 b7 b8 b9 h9 hm => hk (b1, b2, b3, b4, b5, b6, b7, b8, b9) h9 hm)) (a1, a2, a3, a4, a5, a6, a7, a8, a9) h
theorem lp10 {A1 A2 A3 A4 A5 A6 A7 A8 A9 A10 : Type} (W : Nat → A1 → A2 → A3 → A4 → A5 → A6 → A7 → A8 → A9 → A10 → Prop) (I : A1 → A2 → A3 → A4 → A5 → A6 → A7 → A8 → A9 → A10 → Prop) (μ : A1 → A2 → A3 → A4 → A5 → A6 → A7 → A8 → A9 → A10 → Nat) (hs : ∀ (n : Nat) (a1 : A1) (a2 : A2) (a3 : A3) (a4 : A4) (a5 : A5) (a6 : A6) (a7 : A7) (a8 : A8) (a9 : A9) (a10 : A10), I a1 a2 a3 a4 a5 a6 a7 a8 a9 a10 → (∀ (b1 : A1) (b2 : A2) (b3 : A3) (b4 : A4) (b5 : A5) (b6 : A6) (b7 : A7) (b8 : A8) (b9 : A9) (b10 : A10), I b1 b2 b3 b4 b5 b6 b7 b8 b9 b10 → μ b1 b2 b3 b4 b5 b6 b7 b8 b9 b10 < μ a1 a2 a3 a4 a5 a6 a7 a8 a9 a10 → W n b1 b2 b3 b4 b5 b6 b7 b8 b9 b10) → W (n + 1) a1 a2 a3 a4 a5 a6 a7 a8 a9 a10) (a1 : A1) (a2 : A2) (a3 : A3) (a4 : A4) (a5 : A5) (a6 : A6) (a7 : A7) (a8 : A8) (a9 : A9) (a10 : A10) (h : I a1 a2 a3 a4 a5 a6 a7 a8 a9 a10) : ∃ n, W n a1 a2 a3 a4 a5 a6 a7 a8 a9 a10 :=
  loop_m (σ := A1 × A2 × A3 × A4 × A5 × A6 × A7 × A8 × A9 × A10) (fun n s => W n s.1 s.2.1 s.2.2.1 s.2.2.2.1 s.2.2.2.2.1 s.2.2.2.2.2.1 s.2.2.2.2.2.2.1 s.2.2.2.2.2.2.2.1 s.2.2.2.2.2.2.2.2.1 s.2.2.2.2.2.2.2.2.2) (fun s => I s.1 s.2.1 s.2.2.1 s.2.2.2.1 s.2.2.2.2.1 s.2.2.2.2.2.1 s.2.2.2.2.2.2.1 s.2.2.2.2.2.2.2.1 s.2.2.2.2.2.2.2.2.1 s.2.2.2.2.2.2.2.2.2) (fun s => μ s.1 s.2.1 s.2.2.1 s.2.2.2.1 s.2.2.2.2.1 s.2.2.2.2.2.1 s.2.2.2.2.2.2.1 s.2.2.2.2.2.2.2.1 s.2.2.2.2.2.2.2.2.1 s.2.2.2.2.2.2.2.2.2) (fun n s hI hk => hs n s.1 s.2.1 s.2.2.1 s.2.2.2.1 s.2.2.2.2.1 s.2.2.2.2.2.1 s.2.2.2.2.2.2.1 s.2.2.2.2.2.2.2.1 s.2.2.2.2.2.2.2.2.1 s.2.2.2.2.2.2.2.2.2 hI (fun b1 b2 b3 b4 b5 b6 b7 b8 b9 b10 h9 hm => hk (b1, b2, b3, b4, b5, b6, b7, b8, b9, b10) h9 hm)) (a1, a2, a3, a4, a5, a6, a7, a8, a9, a10) h
theorem lp11 {A1 A2 A3 A4 A5 A6 A7 A8 A9 A10 A11 : Type} (W : Nat → A1 → A2 → A3 → A4 → A5 → A6 → A7 → A8 → A9 → A10 → A11 → Prop) (I : A1 → A2 → A3 → A4 → A5 → A6 → A7 → A8 → A9 → A10 → A11 → Prop) (μ : A1 → A2 → A3 → A4 → A5 → A6 → A7 → A8 → A9 → A10 → A11 → Nat) (hs : ∀ (n : Nat) (a1 : A1) (a2 : A2) (a3 : A3) (a4 : A4) (a5 : A5) (a6 : A6) (a7 : A7) (a8 : A8) (a9 : A9) (a10 : A10) (a11 : A11), I a1 a2 a3 a4 a5 a6 a7 a8 a9 a10 a11 → (∀ (b1 : A1) (b2 : A2) (b3 : A3) (b4 : A4) (b5 : A5) (b6 : A6) (b7 : A7) (b8 : A8) (b9 : A9) (b10 : A10) (b11 : A11), I b1 b2 b3 b4 b5 b6 b7 b8 b9 b10 b11 → μ b1 b2 b3 b4 b5 b6 b7 b8 b9 b10 b11 < μ a1 a2 a3 a4 a5 a6 a7 a8 a9 a10 a11 → W n b1 b2 b3 b4 b5 b6 b7 b8 b9 b10 b11) → W (n + 1) a1 a2 a3 a4 a5 a6 a7 a8 a9 a10 a11) (a1 : A1) (a2 : A2) (a3 : A3) (a4 : A4) (a5 : A5) (a6 : A6) (a7 : A7) (a8 : A8) (a9 : A9) (a10 : A10) (a11 : A11) (h : I a1 a2 a3 a4 a5 a6 a7 a8 a9 a10 a11) : ∃ n, W n a1 a2 a3 a4 a5 a6 a7 a8 a9 a10 a11 :=
  loop_m (σ := A1 × A2 × A3 × A4 × A5 × A6 × A7 × A8 × A9 × A10 × A11) (fun n s => W n s.1 s.2.1 s.2.2.1 s.2.2.2.1 s.2.2.2.2.1 s.2.2.2.2.2.1 s.2.2.2.2.2.2.1 s.2.2.2.2.2.2.2.1 s.2.2.2.2.2.2.2.2.1 s.2.2.2.2.2.2.2.2.2.1 s.2.2.2.2.2.2.2.2.2.2) (fun s => I s.1 s.2.1 s.2.2.1 s.2.2.2.1 s.2.2.2.2.1 s.2.2.2.2.2.1 s.2.2.2.2.2.2.1 s.2.2.2.2.2.2.2.1 s.2.2.2.2.2.2.2.2.1 s.2.2.2.2.2.2.2.2.2.1 s.2.2.2.2.2.2.2.2.2.2) (fun s => μ s.1 s.2.1 s.2.2.1 s.2.2.2.1 s.2.2.2.2.1 s.2.2.2.2.2.1 s.2.2.2.2.2.2.1 s.2.2.2.2.2.2.2.1 s.2.2.2.2.2.2.2.2.1 s.2.2.2.2.2.2.2.2.2.1 s.2.2.2.2.2.2.2.2.2.2) (fun n s hI hk => hs n s.1 s.2.1 s.2.2.1 s.2.2.2.1 s.2.2.2.2.1 s.2.2.2.2.2.1 s.2.2.2.2.2.2.1 s.2.2.2.2.2.2.2.1 s.2.2.2.2.2.2.2.2.1 s.2.2.2.2.2.2.2.2.2.1 s.2.2.2.2.2.2.2.2.2.2 hI (fun b1 b2 b3 b4 b5 b6 b7 b8 b9 b10 b11 h9 hm => hk (b1, b2, b3, b4, b5, b6, b7, b8, b9, b10, b11) h9 hm)) (a1, a2, a3, a4, a5, a6, a7, a8, a9, a10, a11) h
theorem lp12 {A1 A2 A3 A4 A5 A6 A7 A8 A9 A10 A11 A12 : Type} (W : Nat → A1 → A2 → A3 → A4 → A5 → A6 → A7 → A8 → A9 → A10 → A11 → A12 → Prop) (I : A1 → A2 → A3 → A4 → A5 → A6 → A7 → A8 → A9 → A10 → A11 → A12 → Prop) (μ : A1 → A2 → A3 → A4 → A5 → A6 → A7 → A8 → A9 → A10 → A11 → A12 → Nat) (hs : ∀ (n : Nat) (a1 : A1) (a2 : A2) (a3 : A3) (a4 : A4) (a5 : A5) (a6 : A6) (a7 : A7) (a8 : A8) (a9 : A9) (a10 : A10) (a11 : A11) (a12 : A12), I a1 a2 a3 a4 a5 a6 a7 a8 a9 a10 a11 a12 → (∀ (b1 : A1) (b2 : A2) (b3 : A3) (b4 : A4) (b5 : A5) (b6 : A6) (b7 : A7) (b8 : A8) (b9 : A9) (b10 : A10) (b11 : A11) (b12 : A12), I b1 b2 b3 b4 b5 b6 b7 b8 b9 b10 b11 b12 → μ b1 b2 b3 b4 b5 b6 b7 b8 b9 b10 b11 b12 < μ a1 a2 a3 a4 a5 a6 a7 a8 a9 a10 a11 a12 → W n b1 b2 b3 b4 b5 b6 b7 b8 b9 b10 b11 b12) → W (n + 1) a1 a2 a3 a4 a5 a6 a7 a8 a9 a10 a11 a12) (a1 : A1) (a2 : A2) (a3 : A3) (a4 : A4) (a5 : A5) (a6 : A6) (a7 : A7) (a8 : A8) (a9 : A9) (a10 : A10) (a11 : A11) (a12 : A12) (h : I a1 a2 a3 a4 a5 a6 a7 a8 a9 a10 a11 a12) : ∃ n, W n a1 a2 a3 a4 a5 a6 a7 a8 a9 a10 a11 a12 :=
  loop_m (σ := A1 × A2 × A3 × A4 × A5 × A6 × A7 × A8 × A9 × A10 × A11 × A12) (fun n s => W n s.1 s.2.1 s.2.2.1 s.2.2.2.1 s.2.2.2.2.1 s.2.2.2.2.2.1 s.2.2.2.2.2.2.1 s.2.2.2.2.2.2.2.1 s.2.2.2.2.2.2.2.2.1 s.2.2.2.2.2.2.2.2.2.1 s.2.2.2.2.2.2.2.2.2.2.1 s.2.2.2.2.2.2.2.2.2.2.2) (fun s => I s.1 s.2.1 s.2.2.1 s.2.2.2.1 s.2.2.2.2.1 s.2.2.2.2.2.1 s.2.2.2.2.2.2.1 s.2.2.2.2.2.2.2.1 s.2.2.2.2.2.2.2.2.1 s.2.2.2.2.2.2.2.2.2.1 s.2.2.2.2.2.2.2.2.2.2.1 s.2.2.2.2.2.2.2.2.2.2.2) (fun s => μ s.1 s.2.1 s.2.2.1 s.2.2.2.1 s.2.2.2.2.1 s.2.2.2.2.2.1 s.2.2.2.2.2.2.1 s.2.2.2.2.2.2.2.1 s.2.2.2.2.2.2.2.2.1 s.2.2.2.2.2.2.2.2.2.1 s.2.2.2.2.2.2.2.2.2.2.1 s.2.2.2.2.2.2.2.2.2.2.2) (fun n s hI hk => hs n s.1 s.2.1 s.2.2.1 s.2.2.2.1 s.2.2.2.2.1 s.2.2.2.2.2.1 s.2.2.2.2.2.2.1 s.2.2.2.2.2.2.2.1 s.2.2.2.2.2.2.2.2.1 s.2.2.2.2.2.2.2.2.2.1 s.2.2.2.2.2.2.2.2.2.2.1 s.2.2.2.2.2.2.2.2.2.2.2 hI (fun b1 b2 b3 b4 b5 b6 b7 b8 b9 b10 b11 b12 h9 hm => hk (b1, b2, b3, b4, b5, b6, b7, b8, b9, b10, b11, b12) h9 hm)) (a1, a2, a3, a4, a5, a6, a7, a8, a9, a10, a11, a12) h
theorem lp13 {A1 A2 A3 A4 A5 A6 A7 A8 A9 A10 A11 A12 A13 : Type} (W : Nat → A1 → A2 → A3 → A4 → A5 → A6 → A7 → A8 → A9 → A10 → A11 → A12 → A13 → Prop) (I : A1 → A2 → A3 → A4 → A5 → A6 → A7 → A8 → A9 → A10 → A11 → A12 → A13 → Prop) (μ : A1 → A2 → A3 → A4 → A5 → A6 → A7 → A8 → A9 → A10 → A11 → A12 → A13 → Nat) (hs : ∀ (n : Nat) (a1 : A1) (a2 : A2) (a3 : A3) (a4 : A4) (a5 : A5) (a6 : A6) (a7 : A7) (a8 : A8) (a9 : A9) (a10 : A10) (a11 : A11) (a12 : A12) (a13 : A13), I a1 a2 a3 a4 a5 a6 a7 a8 a9 a10 a11 a12 a13 → (∀ (b1 : A1) (b2 : A2) (b3 : A3) (b4 : A4) (b5 : A5) (b6 : A6) (b7 : A7) (b8 : A8) (b9 : A9) (b10 : A10) (b11 : A11) (b12 : A12) (b13 : A13), I b1 b2 b3 b4 b5 b6 b7 b8 b9 b10 b11 b12 b13 → μ b1 b2 b3 b4 b5 b6 b7 b8 b9 b10 b11 b12 b13 < μ a1 a2 a3 a4 a5 a6 a7 a8 a9 a10 a11 a12 a13 → W n b1 b2 b3 b4 b5 b6 b7 b8 b9 b10 b11 b12 b13) → W (n + 1) a1 a2 a3 a4 a5 a6 a7 a8 a9 a10 a11 a12 a13) (a1 : A1) (a2 : A2) (a3 : A3) (a4 : A4) (a5 : A5) (a6 : A6) (a7 : A7) (a8 : A8) (a9 : A9) (a10 : A10) (a11 : A11) (a12 : A12) (a13 : A13) (h : I a1 a2 a3 a4 a5 a6 a7 a8 a9 a10 a11 a12 a13) : ∃ n, W n a1 a2 a3 a4 a5 a6 a7 a8 a9 a10 a11 a12 a13 :=
  loop_m (σ := A1 × A2 × A3 × A4 × A5 × A6 × A7 × A8 × A9 × A10 × A11 × A12 × A13) (fun n s => W n s.1 s.2.1 s.2.2.1 s.2.2.2.1 s.2.2.2.2.1 s.2.2.2.2.2.1 s.2.2.2.2.2.2.1 s.2.2.2.2.2.2.2.1 s.2.2.2.2.2.2.2.2.1 s.2.2.2.2.2.2.2.2.2.1 s.2.2.2.2.2.2.2.2.2.2.1 s.2.2.2.2.2.2.2.2.2.2.2.1 s.2.2.2.2.2.2.2.2.2.2.2.2) (fun s => I s.1 s.2.1 s.2.2.1 s.2.2.2.1 s.2.2.2.2.1 s.2.2.2.2.2.1 s.2.2.2.2.2.2.1 s.2.2.2.2.2.2.2.1 s.2.2.2.2.2.2.2.2.1 s.2.2.2.2.2.2.2.2.2.1 s.2.2.2.2.2.2.2.2.2.2.1 s.2.2.2.2.2.2.2.2.2.2.2.1 s.2.2.2.2.2.2.2.2.2.2.2.2) (fun s => μ s.1 s.2.1 s.2.2.1 s.2.2.2.1 s.2.2.2.2.1 s.2.2.2.2.2.1 s.2.2.2.2.2.2.1 s.2.2.2.2.2.2.2.1 s.2.2.2.2.2.2.2.2.1 s.2.2.2.2.2.2.2.2.2.1 s.2.2.2.2.2.2.2.2.2.2.1 s.2.2.2.2.2.2.2.2.2.2.2.1 s.2.2.2.2.2.2.2.2.2.2.2.2) (fun n s hI hk => hs n s.1 s.2.1 s.2.2.1 s.2.2.2.1 s.2.2.2.2.1 s.2.2.2.2.2.1 s.2.2.2.2.2.2.1 s.2.2.2.2.2.2.2.1 s.2.2.2.2.2.2.2.2.1 s.2.2.2.2.2.2.2.2.2.1 s.2.2.2.2.2.2.2.2.2.2.1 s.2.2.2.2.2.2.2.2.2.2.2.1 s.2.2.2.2.2.2.2.2.2.2.2.2 hI (fun b1 b2 b3 b4 b5 b6 b7 b8 b9 b10 b11 b12 b13 h9 hm => hk (b1, b2, b3, b4, b5, b6, b7, b8, b9, b10, b11, b12, b13) h9 hm)) (a1, a2, a3, a4, a5, a6, a7, a8, a9, a10, a11, a12, a13) h
theorem lp14 {A1 A2 A3 A4 A5 A6 A7 A8 A9 A10 A11 A12 A13 A14 : Type} (W : Nat → A1 → A2 → A3 → A4 → A5 → A6 → A7 → A8 → A9 → A10 → A11 → A12 → A13 → A14 → Prop) (I : A1 → A2 → A3 → A4 → A5 → A6 → A7 → A8 → A9 → A10 → A11 → A12 → A13 → A14 → Prop) (μ : A1 → A2 → A3 → A4 → A5 → A6 → A7 → A8 → A9 → A10 → A11 → A12 → A13 → A14 → Nat) (hs : ∀ (n : Nat) (a1 : A1) (a2 : A2) (a3 : A3) (a4 : A4) (a5 : A5) (a6 : A6) (a7 : A7) (a8 : A8) (a9 : A9) (a10 : A10) (a11 : A11) (a12 : A12) (a13 : A13) (a14 : A14), I a1 a2 a3 a4 a5 a6 a7 a8 a9 a10 a11 a12 a13 a14 → (∀ (b1 : A1) (b2 : A2) (b3 : A3) (b4 : A4) (b5 : A5) (b6 : A6) (b7 : A7) (b8 : A8) (b9 : A9) (b10 : A10) (b11 : A11) (b12 : A12) (b13 : A13) (b14 : A14), I b1 b2 b3 b4 b5 b6 b7 b8 b9 b10 b11 b12 b13 b14 → μ b1 b2 b3 b4 b5 b6 b7 b8 b9 b10 b11 b12 b13 b14 < μ a1 a2 a3 a4 a5 a6 a7 a8 a9 a10 a11 a12 a13 a14 → W n b1 b2 b3 b4 b5 b6 b7 b8 b9 b10 b11 b12 b13 b14) → W (n + 1) a1 a2 a3 a4 a5 a6 a7 a8 a9 a10 a11 a12 a13 a14) (a1 : A1) (a2 : A2) (a3 : A3) (a4 : A4) (a5 : A5) (a6 : A6) (a7 : A7) (a8 : A8) (a9 : A9) (a10 : A10) (a11 : A11) (a12 : A12) (a13 : A13) (a14 : A14) (h : I a1 a2 a3 a4 a5 a6 a7 a8 a9 a10 a11 a12 a13 a14) : ∃ n, W n a1 a2 a3 a4 a5 a6 a7 a8 a9 a10 a11 a12 a13 a14 :=
  loop_m (σ := A1 × A2 × A3 × A4 × A5 × A6 × A7 × A8 × A9 × A10 × A11 × A12 × A13 × A14) (fun n s => W n s.1 s.2.1 s.2.2.1 s.2.2.2.1 s.2.2.2.2.1 s.2.2.2.2.2.1 s.2.2.2.2.2.2.1 s.2.2.2.2.2.2.2.1 s.2.2.2.2.2.2.2.2.1 s.2.2.2.2.2.2.2.2.2.1 s.2.2.2.2.2.2.2.2.2.2.1 s.2.2.2.2.2.2.2.2.2.2.2.1 s.2.2.2.2.2.2.2.2.2.2.2.2.1 s.2.2.2.2.2.2.2.2.2.2.2.2.2) (fun s => I s.1 s.2.1 s.2.2.1 s.2.2.2.1 s.2.2.2.2.1 s.2.2.2.2.2.1 s.2.2.2.2.2.2.1 s.2.2.2.2.2.2.2.1 s.2.2.2.2.2.2.2.2.1 s.2.2.2.2.2.2.2.2.2.1 s.2.2.2.2.2.2.2.2.2.2.1 s.2.2.2.2.2.2.2.2.2.2.2.1 s.2.2.2.2.2.2.2.2.2.2.2.2.1 s.2.2.2.2.2.2.2.2.2.2.2.2.2) (fun s => μ s.1 s.2.1 s.2.2.1 s.2.2.2.1 s.2.2.2.2.1 s.2.2.2.2.2.1 s.2.2.2.2.2.2.1 s.2.2.2.2.2.2.2.1 s.2.2.2.2.2.2.2.2.1 s.2.2.2.2.2.2.2.2.2.1 s.2.2.2.2.2.2.2.2.2.2.1 s.2.2.2.2.2.2.2.2.2.2.2.1 s.2.2.2.2.2.2.2.2.2.2.2.2.1 s.2.2.2.2.2.2.2.2.2.2.2.2.2) (fun n s hI hk => hs n s.1 s.2.1 s.2.2.1 s.2.2.2.1 s.2.2.2.2.1 s.2.2.2.2.2.1 s.2.2.2.2.2.2.1 s.2.2.2.2.2.2.2.1 s.2.2.2.2.2.2.2.2.1 s.2.2.2.2.2.2.2.2.2.1 s.2.2.2.2.2.2.2.2.2.2.1 s.2.2.2.2.2.2.2.2.2.2.2.1 s.2.2.2.2.2.2.2.2.2.2.2.2.1 s.2.2.2.2.2.2.2.2.2.2.2.2.2 hI (fun b1 b2 b3 b4 b5 b6 b7 b8 b9 b10 b11 b12 b13 b14 h9 hm => hk (b1, b2, b3, b4, b5, b6, b7, b8, b9, b10, b11, b12, b13, b14) h9 hm)) (a1, a2, a3, a4, a5, a6, a7, a8, a9, a10, a11, a12, a13, a14) h
theorem lp15 {A1 A2 A3 A4 A5 A6 A7 A8 A9 A10 A11 A12 A13 A14 A15 : Type} (W : Nat → A1 → A2 → A3 → A4 → A5 → A6 → A7 → A8 → A9 → A10 → A11 → A12 → A13 → A14 → A15 → Prop) (I : A1 → A2 → A3 → A4 → A5 → A6 → A7 → A8 → A9 → A10 → A11 → A12 → A13 → A14 → A15 → Prop) (μ : A1 → A2 → A3 → A4 → A5 → A6 → A7 → A8 → A9 → A10 → A11 → A12 → A13 → A14 → A15 → Nat) (hs : ∀ (n : Nat) (a1 : A1) (a2 : A2) (a3 : A3) (a4 : A4) (a5 : A5) (a6 : A6) (a7 : A7) (a8 : A8) (a9 : A9) (a10 : A10) (a11 : A11) (a12 : A12) (a13 : A13) (a14 : A14) (a15 : A15), I a1 a2 a3 a4 a5 a6 a7 a8 a9 a10 a11 a12 a13 a14 a15 → (∀ (b1 : A1) (b2 : A2) (b3 : A3) (b4 : A4) (b5 : A5) (b6 : A6) (b7 : A7) (b8 : A8) (b9 : A9) (b10 : A10) (b11 : A11) (b12 : A12) (b13 : A13) (b14 : A14) (b15 : A15), I b1 b2 b3 b4 b5 b6 b7 b8 b9 b10 b11 b12 b13 b14 b15 → μ b1 b2 b3 b4 b5 b6 b7 b8 b9 b10 b11 b12 b13 b14 b15 < μ a1 a2 a3 a4 a5 a6 a7 a8 a9 a10 a11 a12 a13 a14 a15 → W n b1 b2 b3 b4 b5 b6 b7 b8 b9 b10 b11 b12 b13 b14 b15) → W (n + 1) a1 a2 a3 a4 a5 a6 a7 a8 a9 a10 a11 a12 a13 a14 a15) (a1 : A1) (a2 : A2) (a3 : A3) (a4 : A4) (a5 : A5) (a6 : A6) (a7 : A7) (a8 : A8) (a9 : A9) (a10 : A10) (a11 : A11) (a12 : A12) (a13 : A13) (a14 : A14) (a15 : A15) (h : I a1 a2 a3 a4 a5 a6 a7 a8 a9 a10 a11 a12 a13 a14 a15) : ∃ n, W n a1 a2 a3 a4 a5 a6 a7 a8 a9 a10 a11 a12 a13 a14 a15 :=
  loop_m (σ := A1 × A2 × A3 × A4 × A5 × A6 × A7 × A8 × A9 × A10 × A11 × A12 × A13 × A14 × A15) (fun n s => W n s.1 s.2.1 s.2.2.1 s.2.2.2.1 s.2.2.2.2.1 s.2.2.2.2.2.1 s.2.2.2.2.2.2.1 s.2.2.2.2.2.2.2.1 s.2.2.2.2.2.2.2.2.1 s.2.2.2.2.2.2.2.2.2.1 s.2.2.2.2.2.2.2.2.2.2.1 s.2.2.2.2.2.2.2.2.2.2.2.1 s.2.2.2.2.2.2.2.2.2.2.2.2.1 s.2.2.2.2.2.2.2.2.2.2.2.2.2.1 s.2.2.2.2.2.2.2.2.2.2.2.2.2.2) (fun s => I s.1 s.2.1 s.2.2.1 s.2.2.2.1 s.2.2.2.2.1 s.2.2.2.2.2.1 s.2.2.2.2.2.2.1 s.2.2.2.2.2.2.2.1 s.2.2.2.2.2.2.2.2.1 s.2.2.2.2.2.2.2.2.2.1 s.2.2.2.2.2.2.2.2.2.2.1 s.2.2.2.2.2.2.2.2.2.2.2.1 s.2.2.2.2.2.2.2.2.2.2.2.2.1 s.2.2.2.2.2.2.2.2.2.2.2.2.2.1 s.2.2.2.2.2.2.2.2.2.2.2.2.2.2) (fun s => μ s.1 s.2.1 s.2.2.1 s.2.2.2.1 s.2.2.2.2.1 s.2.2.2.2.2.1 s.2.2.2.2.2.2.1 s.2.2.2.2.2.2.2.1 s.2.2.2.2.2.2.2.2.1 s.2.2.2.2.2.2.2.2.2.1 s.2.2.2.2.2.2.2.2.2.2.1 s.2.2.2.2.2.2.2.2.2.2.2.1 s.2.2.2.2.2.2.2.2.2.2.2.2.1 s.2.2.2.2.2.2.2.2.2.2.2.2.2.1 s.2.2.2.2.2.2.2.2.2.2.2.2.2.2) (fun n s hI hk => hs n s.1 s.2.1 s.2.2.1 s.2.2.2.1 s.2.2.2.2.1 s.2.2.2.2.2.1 s.2.2.2.2.2.2.1 s.2.2.2.2.2.2.2.1 s.2.2.2.2.2.2.2.2.1 s.2.2.2.2.2.2.2.2.2.1 s.2.2.2.2.2.2.2.2.2.2.1 s.2.2.2.2.2.2.2.2.2.2.2.1 s.2.2.2.2.2.2.2.2.2.2.2.2.1 s.2.2.2.2.2.2.2.2.2.2.2.2.2.1 s.2.2.2.2.2.2.2.2.2.2.2.2.2.2 hI (fun b1 b2 b3 b4 b5 b6 b7 b8 b9 b10 b11 b12 b13 b14 b15 h9 hm => hk (b1, b2, b3, b4, b5, b6, b7, b8, b9, b10, b11, b12, b13, b14, b15) h9 hm)) (a1, a2, a3, a4, a5, a6, a7, a8, a9, a10, a11, a12, a13, a14, a15) h
theorem lp16 {A1 A2 A3 A4 A5 A6 A7 A8 A9 A10 A11 A12 A13 A14 A15 A16 : Type} (W : Nat → A1 → A2 → A3 → A4 → A5 → A6 → A7 → A8 → A9 → A10 → A11 → A12 → A13 → A14 → A15 → A16 → Prop) (I : A1 → A2 → A3 → A4 → A5 → A6 → A7 → A8 → A9 → A10 → A11 → A12 → A13 → A14 → A15 → A16 → Prop) (μ : A1 → A2 → A3 → A4 → A5 → A6 → A7 → A8 → A9 → A10 → A11 → A12 → A13 → A14 → A15 → A16 → Nat) (hs : ∀ (n : Nat) (a1 : A1) (a2 : A2) (a3 : A3) (a4 : A4) (a5 : A5) (a6 : A6) (a7 : A7) (a8 : A8) (a9 : A9) (a10 : A10) (a11 : A11) (a12 : A12) (a13 : A13) (a14 : A14) (a15 : A15) (a16 : A16), I a1 a2 a3 a4 a5 a6 a7 a8 a9 a10 a11 a12 a13 a14 a15 a16 → (∀ (b1 : A1) (b2 : A2) (b3 : A3) (b4 : A4) (b5 : A5) (b6 : A6) (b7 : A7) (b8 : A8) (b9 : A9) (b10 : A10) (b11 : A11) (b12 : A12) (b13 : A13) (b14 : A14) (b15 : A15) (b16 : A16), I b1 b2 b3 b4 b5 b6 b7 b8 b9 b10 b11 b12 b13 b14 b15 b16 → μ b1 b2 b3 b4 b5 b6 b7 b8 b9 b10 b11 b12 b13 b14 b15 b16 < μ a1 a2 a3 a4 a5 a6 a7 a8 a9 a10 a11 a12 a13 a14 a15 a16 → W n b1 b2 b3 b4 b5 b6 b7 b8 b9 b10 b11 b12 b13 b14 b15 b16) → W (n + 1) a1 a2 a3 a4 a5 a6 a7 a8 a9 a10 a11 a12 a13 a14 a15 a16) (a1 : A1) (a2 : A2) (a3 : A3) (a4 : A4) (a5 : A5) (a6 : A6) (a7 : A7) (a8 : A8) (a9 : A9) (a10 : A10) (a11 : A11) (a12 : A12) (a13 : A13) (a14 : A14) (a15 : A15) (a16 : A16) (h : I a1 a2 a3 a4 a5 a6 a7 a8 a9 a10 a11 a12 a13 a14 a15 a16) : ∃ n, W n a1 a2 a3 a4 a5 a6 a7 a8 a9 a10 a11 a12 a13 a14 a15 a16 :=
  loop_m (σ := A1 × A2 × A3 × A4 × A5 × A6 × A7 × A8 × A9 × A10 × A11 × A12 × A13 × A14 × A15 × A16) (fun n s => W n s.1 s.2.1 s.2.2.1 s.2.2.2.1 s.2.2.2.2.1 s.2.2.2.2.2.1 s.2.2.2.2.2.2.1 s.2.2.2.2.2.2.2.1 s.2.2.2.2.2.2.2.2.1 s.2.2.2.2.2.2.2.2.2.1 s.2.2.2.2.2.2.2.2.2.2.1 s.2.2.2.2.2.2.2.2.2.2.2.1 s.2.2.2.2.2.2.2.2.2.2.2.2.1 s.2.2.2.2.2.2.2.2.2.2.2.2.2.1 s.2.2.2.2.2.2.2.2.2.2.2.2.2.2.1 s.2.2.2.2.2.2.2.2.2.2.2.2.2.2.2) (fun s => I s.1 s.2.1 s.2.2.1 s.2.2.2.1 s.2.2.2.2.1 s.2.2.2.2.2.1 s.2.2.2.2.2.2.1 s.2.2.2.2.2.2.2.1 s.2.2.2.2.2.2.2.2.1 s.2.2.2.2.2.2.2.2.2.1 s.2.2.2.2.2.2.2.2.2.2.1 s.2.2.2.2.2.2.2.2.2.2.2.1 s.2.2.2.2.2.2.2.2.2.2.2.2.1 s.2.2.2.2.2.2.2.2.2.2.2.2.2.1 s.2.2.2.2.2.2.2.2.2.2.2.2.2.2.1 s.2.2.2.2.2.2.2.2.2.2.2.2.2.2.2) (fun s => μ s.1 s.2.1 s.2.2.1 s.2.2.2.1 s.2.2.2.2.1 s.2.2.2.2.2.1 s.2.2.2.2.2.2.1 s.2.2.2.2.2.2.2.1 s.2.2.2.2.2.2.2.2.1 s.2.2.2.2.2.2.2.2.2.1 s.2.2.2.2.2.2.2.2.2.2.1 s.2.2.2.2.2.2.2.2.2.2.2.1 s.2.2.2.2.2.2.2.2.2.2.2.2.1 s.2.2.2.2.2.2.2.2.2.2.2.2.2.1 s.2.2.2.2.2.2.2.2.2.2.2.2.2.2.1 s.2.2.2.2.2.2.2.2.2.2.2.2.2.2.2) (fun n s hI hk => hs n s.1 s.2.1 s.2.2.1 s.2.2.2.1 s.2.2.2.2.1 s.2.2.2.2.2.1 s.2.2.2.2.2.2.1 s.2.2.2.2.2.2.2.1 s.2.2.2.2.2.2.2.2.1 s.2.2.2.2.2.2.2.2.2.1 s.2.2.2.2.2.2.2.2.2.2.1 s.2.2.2.2.2.2.2.2.2.2.2.1 s.2.2.2.2.2.2.2.2.2.2.2.2.1 s.2.2.2.2.2.2.2.2.2.2.2.2.2.1 s.2.2.2.2.2.2.2.2.2.2.2.2.2.2.1 s.2.2.2.2.2.2.2.2.2.2.2.2.2.2.2 hI (fun b1 b2 b3 b4 b5 b6 b7 b8 b9 b10 b11 b12 b13 b14 b15 b16 h9 hm => hk (b1, b2, b3, b4, b5, b6, b7, b8, b9, b10, b11, b12, b13, b14, b15, b16) h9 hm)) (a1, a2, a3, a4, a5, a6, a7, a8, a9, a10, a11, a12, a13, a14, a15, a16) h
theorem pk_least (P : Nat → Prop) (h : ∃ k, P k) : ∃ k, P k ∧ ∀ j, j < k → ¬ P j := by
  obtain ⟨k, hk⟩ := h
  induction k using Nat.strongRecOn with
  | ind k ih =>
    by_cases e : ∃ j, j < k ∧ P j
    · obtain ⟨j, hj, pj⟩ := e
      exact ih j hj pj
    · exact ⟨k, hk, fun j hj pj => e ⟨j, hj, pj⟩⟩
theorem rp1 {ρ A1 : Type} (W : Nat → (ρ → Prop) → A1 → Prop) (ok : A1 → Prop) (μ : A1 → Nat) (val : A1 → ρ)
    (hs : ∀ (d : Nat) (post : ρ → Prop) (a1 : A1), ok a1 → post (val a1) → (∀ (post' : ρ → Prop) (b1 : A1), ok b1 → μ b1 < μ a1 → post' (val b1) → W d post' b1) → W (d + 1) post a1) :
    ∀ (d : Nat) (post : ρ → Prop) (a1 : A1), ok a1 → μ a1 < d → post (val a1) → W d post a1 := by
  intro d
  induction d with
  | zero => intro post a1 _ h; omega
  | succ d ih =>
    intro post a1 ho hm hp
    exact hs d post a1 ho hp (fun post' b1 ho' hm' hp' => ih post' b1 ho' (by omega) hp')
theorem rp2 {ρ A1 A2 : Type} (W : Nat → (ρ → Prop) → A1 → A2 → Prop) (ok : A1 → A2 → Prop) (μ : A1 → A2 → Nat) (val : A1 → A2 → ρ)
    (hs : ∀ (d : Nat) (post : ρ → Prop) (a1 : A1) (a2 : A2), ok a1 a2 → post (val a1 a2) → (∀ (post' : ρ → Prop) (b1 : A1) (b2 : A2), ok b1 b2 → μ b1 b2 < μ a1 a2 → post' (val b1 b2) → W d post' b1 b2) → W (d + 1) post a1 a2) :
    ∀ (d : Nat) (post : ρ → Prop) (a1 : A1) (a2 : A2), ok a1 a2 → μ a1 a2 < d → post (val a1 a2) → W d post a1 a2 := by
  intro d
  induction d with
  | zero => intro post a1 a2 _ h; omega
  | succ d ih =>
    intro post a1 a2 ho hm hp
    exact hs d post a1 a2 ho hp (fun post' b1 b2 ho' hm' hp' => ih post' b1 b2 ho' (by omega) hp')
theorem rp3 {ρ A1 A2 A3 : Type} (W : Nat → (ρ → Prop) → A1 → A2 → A3 → Prop) (ok : A1 → A2 → A3 → Prop) (μ : A1 → A2 → A3 → Nat) (val : A1 → A2 → A3 → ρ)
    (hs : ∀ (d : Nat) (post : ρ → Prop) (a1 : A1) (a2 : A2) (a3 : A3), ok a1 a2 a3 → post (val a1 a2 a3) → (∀ (post' : ρ → Prop) (b1 : A1) (b2 : A2) (b3 : A3), ok b1 b2 b3 → μ b1 b2 b3 < μ a1 a2 a3 → post' (val b1 b2 b3) → W d post' b1 b2 b3) → W (d + 1) post a1 a2 a3) :
    ∀ (d : Nat) (post : ρ → Prop) (a1 : A1) (a2 : A2) (a3 : A3), ok a1 a2 a3 → μ a1 a2 a3 < d → post (val a1 a2 a3) → W d post a1 a2 a3 := by
  intro d
  induction d with
  | zero => intro post a1 a2 a3 _ h; omega
  | succ d ih =>
    intro post a1 a2 a3 ho hm hp
    exact hs d post a1 a2 a3 ho hp (fun post' b1 b2 b3 ho' hm' hp' => ih post' b1 b2 b3 ho' (by omega) hp')
theorem rp4 {ρ A1 A2 A3 A4 : Type} (W : Nat → (ρ → Prop) → A1 → A2 → A3 → A4 → Prop) (ok : A1 → A2 → A3 → A4 → Prop) (μ : A1 → A2 → A3 → A4 → Nat) (val : A1 → A2 → A3 → A4 → ρ)
    (hs : ∀ (d : Nat) (post : ρ → Prop) (a1 : A1) (a2 : A2) (a3 : A3) (a4 : A4), ok a1 a2 a3 a4 → post (val a1 a2 a3 a4) → (∀ (post' : ρ → Prop) (b1 : A1) (b2 : A2) (b3 : A3) (b4 : A4), ok b1 b2 b3 b4 → μ b1 b2 b3 b4 < μ a1 a2 a3 a4 → post' (val b1 b2 b3 b4) → W d post' b1 b2 b3 b4) → W (d + 1) post a1 a2 a3 a4) :
    ∀ (d : Nat) (post : ρ → Prop) (a1 : A1) (a2 : A2) (a3 : A3) (a4 : A4), ok a1 a2 a3 a4 → μ a1 a2 a3 a4 < d → post (val a1 a2 a3 a4) → W d post a1 a2 a3 a4 := by
  intro d
  induction d with
  | zero => intro post a1 a2 a3 a4 _ h; omega
  | succ d ih =>
    intro post a1 a2 a3 a4 ho hm hp
    exact hs d post a1 a2 a3 a4 ho hp (fun post' b1 b2 b3 b4 ho' hm' hp' => ih post' b1 b2 b3 b4 ho' (by omega) hp')
theorem rp5 {ρ A1 A2 A3 A4 A5 : Type} (W : Nat → (ρ → Prop) → A1 → A2 → A3 → A4 → A5 → Prop) (ok : A1 → A2 → A3 → A4 → A5 → Prop) (μ : A1 → A2 → A3 → A4 → A5 → Nat) (val : A1 → A2 → A3 → A4 → A5 → ρ)
    (hs : ∀ (d : Nat) (post : ρ → Prop) (a1 : A1) (a2 : A2) (a3 : A3) (a4 : A4) (a5 : A5), ok a1 a2 a3 a4 a5 → post (val a1 a2 a3 a4 a5) → (∀ (post' : ρ → Prop) (b1 : A1) (b2 : A2) (b3 : A3) (b4 : A4) (b5 : A5), ok b1 b2 b3 b4 b5 → μ b1 b2 b3 b4 b5 < μ a1 a2 a3 a4 a5 → post' (val b1 b2 b3 b4 b5) → W d post' b1 b2 b3 b4 b5) → W (d + 1) post a1 a2 a3 a4 a5) :
    ∀ (d : Nat) (post : ρ → Prop) (a1 : A1) (a2 : A2) (a3 : A3) (a4 : A4) (a5 : A5), ok a1 a2 a3 a4 a5 → μ a1 a2 a3 a4 a5 < d → post (val a1 a2 a3 a4 a5) → W d post a1 a2 a3 a4 a5 := by
  intro d
  induction d with
  | zero => intro post a1 a2 a3 a4 a5 _ h; omega
  | succ d ih =>
    intro post a1 a2 a3 a4 a5 ho hm hp
    exact hs d post a1 a2 a3 a4 a5 ho hp (fun post' b1 b2 b3 b4 b5 ho' hm' hp' => ih post' b1 b2 b3 b4 b5 ho' (by omega) hp')
theorem rp6 {ρ A1 A2 A3 A4 A5 A6 : Type} (W : Nat → (ρ → Prop) → A1 → A2 → A3 → A4 → A5 → A6 → Prop) (ok : A1 → A2 → A3 → A4 → A5 → A6 → Prop) (μ : A1 → A2 → A3 → A4 → A5 → A6 → Nat) (val : A1 → A2 → A3 → A4 → A5 → A6 → ρ)
    (hs : ∀ (d : Nat) (post : ρ → Prop) (a1 : A1) (a2 : A2) (a3 : A3) (a4 : A4) (a5 : A5) (a6 : A6), ok a1 a2 a3 a4 a5 a6 → post (val a1 a2 a3 a4 a5 a6) → (∀ (post' : ρ → Prop) (b1 : A1) (b2 : A2) (b3 : A3) (b4 : A4) (b5 : A5) (b6 : A6), ok b1 b2 b3 b4 b5 b6 → μ b1 b2 b3 b4 b5 b6 < μ a1 a2 a3 a4 a5 a6 → post' (val b1 b2 b3 b4 b5 b6) → W d post' b1 b2 b3 b4 b5 b6) → W (d + 1) post a1 a2 a3 a4 a5 a6) :
    ∀ (d : Nat) (post : ρ → Prop) (a1 : A1) (a2 : A2) (a3 : A3) (a4 : A4) (a5 : A5) (a6 : A6), ok a1 a2 a3 a4 a5 a6 → μ a1 a2 a3 a4 a5 a6 < d → post (val a1 a2 a3 a4 a5 a6) → W d post a1 a2 a3 a4 a5 a6 := by
  intro d
  induction d with
  | zero => intro post a1 a2 a3 a4 a5 a6 _ h; omega
  | succ d ih =>
    intro post a1 a2 a3 a4 a5 a6 ho hm hp
    exact hs d post a1 a2 a3 a4 a5 a6 ho hp (fun post' b1 b2 b3 b4 b5 b6 ho' hm' hp' => ih post' b1 b2 b3 b4 b5 b6 ho' (by omega) hp')
theorem rec_p {σ ρ : Type} (W : Nat → (ρ → Prop) → σ → Prop) (ok : σ → Prop) (μ : σ → Nat) (val : σ → ρ)
    (hs : ∀ d s post, ok s → post (val s) → (∀ s' post', ok s' → μ s' < μ s → post' (val s') → W d post' s') → W (d + 1) post s) :
    ∀ d s post, ok s → μ s < d → post (val s) → W d post s := by
  intro d
  induction d with
  | zero => intro s post _ h; omega
  | succ d ih =>
    intro s post ho hm hp
    exact hs d s post ho hp (fun s' post' ho' hm' hp' => ih s' post' ho' (by omega) hp')
theorem rec_q {σ ρ : Type} (W : Nat → (ρ → Prop) → σ → Prop) (ok : σ → Prop) (μ : σ → Nat) (Q : σ → ρ → Prop)
    (hs : ∀ d s post, ok s → (∀ r, Q s r → post r) → (∀ s' post', ok s' → μ s' < μ s → (∀ r, Q s' r → post' r) → W d post' s') → W (d + 1) post s) :
    ∀ d s post, ok s → μ s < d → (∀ r, Q s r → post r) → W d post s := by
  intro d
  induction d with
  | zero => intro s post _ h; omega
  | succ d ih =>
    intro s post ho hm hp
    exact hs d s post ho hp (fun s' post' ho' hm' hp' => ih s' post' ho' (by omega) hp')
def bx_sum (f : Nat → Int32) : Nat → Int32
  | 0 => 0
  | n + 1 => bx_sum f n + f n
theorem ek_u {A : Prop} {B : Nat → Prop} {k N : Nat} (hk : k < N) (h : B k) : (some k = none → A) ∧ (∀ y : Nat, some k = some y → (y < N ∧ B y)) :=
  ⟨fun z => absurd z (Option.some_ne_none k), fun _ e => (by cases e; exact ⟨hk, h⟩)⟩
theorem ek_nu {A : Prop} {B : Nat → Prop} (h : A) : ((none : Option Nat) = none → A) ∧ (∀ y : Nat, (none : Option Nat) = some y → B y) :=
  ⟨fun _ => h, fun _ e => (by cases e)⟩
theorem ek_if {c d A B : Prop} (e : c ↔ d) (f : d → A) (g : ¬ d → B) : (c → A) ∧ (¬ c → B) :=
  ⟨fun z => f (e.mp z), fun z => g (fun y => z (e.mpr y))⟩
theorem ek_v {α : Sort _} {P : α → Prop} {a b : α} (e : a = b) (h : P b) : P a := e ▸ h
theorem co_some {x : Option Nat} {A : Prop} {B : Nat → Prop} (i : Nat) (h : B i) (hx : x = some i := by rfl) : (x = none → A) ∧ (∀ y : Nat, x = some y → B y) := by
  subst hx
  exact ⟨fun e => (nomatch e), fun y e => Option.some.inj e ▸ h⟩
theorem co_none {x : Option Nat} {A : Prop} {B : Nat → Prop} (h : A) (hx : x = none := by rfl) : (x = none → A) ∧ (∀ y : Nat, x = some y → B y) := by
  subst hx
  exact ⟨fun _ => h, fun y e => (nomatch e)⟩
theorem co_any {x : Option Nat} {A : Prop} {B : Nat → Prop} (hn : x = none → A) (hs : ∀ i : Nat, x = some i → B i) : (x = none → A) ∧ (∀ y : Nat, x = some y → B y) := ⟨hn, hs⟩
theorem co_2 {P : Nat → Prop} (h0 : P 0) (h1 : P 1) {i : Nat} (hi : i < 2) : P i :=
  match i, hi with
  | 0, _ => h0
  | 1, _ => h1
theorem co_3 {P : Nat → Prop} (h0 : P 0) (h1 : P 1) (h2 : P 2) {i : Nat} (hi : i < 3) : P i :=
  match i, hi with
  | 0, _ => h0
  | 1, _ => h1
  | 2, _ => h2
theorem co_4 {P : Nat → Prop} (h0 : P 0) (h1 : P 1) (h2 : P 2) (h3 : P 3) {i : Nat} (hi : i < 4) : P i :=
  match i, hi with
  | 0, _ => h0
  | 1, _ => h1
  | 2, _ => h2
  | 3, _ => h3
theorem co_dec {N : Nat} {P : Nat → Prop} [DecidablePred P] (h : (List.range N).all (fun i => decide (P i)) = true) {i : Nat} (hi : i < N) : P i := by
  have := List.all_eq_true.mp h i (List.mem_range.mpr hi)
  exact of_decide_eq_true this
theorem co_tab {α : Type} {l : List α} {d : α} {P : α → Prop} (h : ∀ a, a ∈ l → P a) {i : Nat} (hi : i < l.length) : P (l.getD i d) := by
  rw [List.getD_eq_getElem?_getD, List.getElem?_eq_getElem hi]
  exact h _ (List.getElem_mem hi)
theorem pk_mu {x : Int32} {L : Nat} (h0 : ¬ x < 0) (h : ¬ nI L ≤ x) (hL : L < 2 ^ 31) : ∃ j : Nat, j < L ∧ x = nI j ∧ x + 1 = nI (j + 1) ∧ x.toNatClampNeg = j ∧ L - (x + 1).toNatClampNeg < L - x.toNatClampNeg := by
  obtain ⟨j, hj, rfl⟩ := nI_of h0
  have hl : j < L := Nat.not_le.mp fun q => h (nI_le q hj)
  refine ⟨j, hl, rfl, nI_1 j, nI_clamp hj, ?_⟩
  rw [nI_1, nI_clamp (by omega), nI_clamp hj]
  omega
theorem op_s {α : Type} {r : Option α} {A : Prop} {B : α → Prop} {y : α} (h : r = some y) (b : B y) : (r = none → A) ∧ ∀ z, r = some z → B z :=
  ⟨fun e => (by rw [h] at e; cases e), fun z e => (by rw [h] at e; cases e; exact b)⟩
def l_holds {α : Type} (a : Nat → Option Nat) (LP : List Nat) (p : Nat → α) (c : Nat) (b : Nat → α) : Prop :=
  ∀ j, j < c → ∃ y, a j = some y ∧ y ∈ LP ∧ p y = b j
theorem l_holds_0 {α : Type} {a : Nat → Option Nat} {LP : List Nat} {p b : Nat → α} : l_holds a LP p 0 b := fun j h => absurd h (Nat.not_lt_zero j)
theorem l_in_new (LP : List Nat) (q : Nat) : q ∈ LP ++ [q] := List.mem_append.mpr (Or.inr (List.mem_singleton.mpr rfl))
def l_sum (b : Nat → Int32) : Nat → Int32
  | 0 => 0
  | k + 1 => l_sum b k + b k
theorem sb_shr0 (x : Int32) : x >>> ((0 : Int32) &&& 31) = x := by
  rw [show ((0 : Int32) &&& 31) = 0 by decide]
  simp
theorem sb_shl0 (x : Int32) : x <<< ((0 : Int32) &&& 31) = x := by
  rw [show ((0 : Int32) &&& 31) = 0 by decide]
  simp
theorem sb_cl0 : (0 : Int32).toNatClampNeg = 0 := by decide
theorem sb_m1 {p : Nat} (h : 0 < p) : nI p + (-1) = nI (p - 1) := by
  obtain ⟨q, rfl⟩ : ∃ q, p = q + 1 := ⟨p - 1, by omega⟩
  exact pk_m1 q
def sb_b (c : Nat) : Int32 := (nI c).toInt8.toInt32
theorem sb_byte : ∀ c, c < 256 → sb_b c &&& 255 = nI c ∧ ((nI c).toUInt32 % 65536).toInt32 = nI c ∧ nI c ≤ 255 := by decide +kernel
def sb_Fit (a : Nat → Int32) : Prop := ∀ j, fits .byte (.int (a j)) = true
def sb_Lat (t : Nat → Nat) (n : Nat) (a : Nat → Int32) : Prop := ∀ j, j < n → t j < 256 ∧ a j = sb_b (t j)
theorem sb_fitB (c : Nat) : fits .byte (.int (sb_b c)) = true := pk_fb _
theorem sb_fit0 : sb_Fit (fun _ => 0) := fun _ => by
  show fits .byte (.int 0) = true
  decide
theorem sb_fitU {a : Nat → Int32} {k : Nat} {x : Int32} (h : sb_Fit a) (hx : fits .byte (.int x) = true) : sb_Fit (upd a k x) := by
  intro j
  by_cases e : j = k
  · subst e
    rw [pk_us]
    exact hx
  · rw [pk_un e]
    exact h j
def sb_cat (t : Nat → Nat) (n : Nat) (s : Nat → Nat) : Nat → Nat := fun j => if j < n then t j else s (j - n)
theorem sb_cat_lo {t s : Nat → Nat} {n j : Nat} (h : j < n) : sb_cat t n s j = t j := if_pos h
theorem sb_cat_hi {t s : Nat → Nat} {n j : Nat} : sb_cat t n s (n + j) = s j := by
  show (if n + j < n then t (n + j) else s (n + j - n)) = s j
  rw [if_neg (by omega), Nat.add_sub_cancel_left]
theorem sb_latPut {t s : Nat → Nat} {n w : Nat} {a a' : Nat → Int32} (h : sb_Lat t n a) (hk : ∀ j, j < n → a' j = a j) (hs : ∀ i, i < w → s i < 256 ∧ a' (n + i) = sb_b (s i)) : sb_Lat (sb_cat t n s) (n + w) a' := by
  intro j hj
  by_cases e : j < n
  · rw [sb_cat_lo e, hk j e]
    exact h j e
  · obtain ⟨i, rfl⟩ : ∃ i, j = n + i := ⟨j - n, by omega⟩
    rw [sb_cat_hi]
    exact hs i (by omega)
theorem sb_latKeep {t : Nat → Nat} {n : Nat} {a a' : Nat → Int32} (h : sb_Lat t n a) (hk : ∀ j, j < n → a' j = a j) : sb_Lat t n a' := fun j hj => by
  rw [hk j hj]
  exact h j hj
def sb_cap (q m : Nat) : Nat := if q ≤ m then m else if 2 * m + 2 < q then q else 2 * m + 2
def sb_Room (q m mc ms : Nat) : Prop := q ≤ m ∨ (1 ≤ mc ∧ sb_cap q m ≤ ms ∧ sb_cap q m ≤ 65536)
theorem sb_cap_ge (q m : Nat) : q ≤ sb_cap q m := by
  unfold sb_cap
  split
  · omega
  · split <;> omega
theorem sb_cap_gem (q m : Nat) : m ≤ sb_cap q m := by
  unfold sb_cap
  split
  · omega
  · split <;> omega
theorem sb_cap_le {q m mc ms : Nat} (hm : m ≤ 65536) (hr : sb_Room q m mc ms) : sb_cap q m ≤ 65536 := by
  rcases hr with h | h
  · rw [sb_cap, if_pos h]
    exact hm
  · exact h.2.2
theorem sb_at {P : Int32 → Prop} {x y : Int32} (e : x = y) (h : P y) : P x := e ▸ h
def sb_dg (w : Nat) : Nat := if w < 10 then 1 else if w < 100 then 2 else if w < 1000 then 3 else if w < 10000 then 4 else if w < 100000 then 5 else if w < 1000000 then 6 else if w < 10000000 then 7 else if w < 100000000 then 8 else if w < 1000000000 then 9 else 10
def sb_dec (v : Nat) : Nat → Nat := fun i => 48 + v / 10 ^ (sb_dg v - 1 - i) % 10
theorem sb_dg_in (w : Nat) : 1 ≤ sb_dg w ∧ sb_dg w ≤ 10 := by
  unfold sb_dg
  constructor <;> (repeat' split) <;> omega
theorem sb_dg100 {w : Nat} (h : 100 ≤ w) (hw : w < 2 ^ 31) : sb_dg w = sb_dg (w / 100) + 2 := by
  rw [sb_dg, sb_dg, if_neg (show ¬ w < 10 by omega), if_neg (show ¬ w < 100 by omega)]
  by_cases h3 : w < 1000
  · rw [if_pos h3, if_pos (show w / 100 < 10 by omega)]
  rw [if_neg h3, if_neg (show ¬ w / 100 < 10 by omega)]
  by_cases h4 : w < 10000
  · rw [if_pos h4, if_pos (show w / 100 < 100 by omega)]
  rw [if_neg h4, if_neg (show ¬ w / 100 < 100 by omega)]
  by_cases h5 : w < 100000
  · rw [if_pos h5, if_pos (show w / 100 < 1000 by omega)]
  rw [if_neg h5, if_neg (show ¬ w / 100 < 1000 by omega)]
  by_cases h6 : w < 1000000
  · rw [if_pos h6, if_pos (show w / 100 < 10000 by omega)]
  rw [if_neg h6, if_neg (show ¬ w / 100 < 10000 by omega)]
  by_cases h7 : w < 10000000
  · rw [if_pos h7, if_pos (show w / 100 < 100000 by omega)]
  rw [if_neg h7, if_neg (show ¬ w / 100 < 100000 by omega)]
  by_cases h8 : w < 100000000
  · rw [if_pos h8, if_pos (show w / 100 < 1000000 by omega)]
  rw [if_neg h8, if_neg (show ¬ w / 100 < 1000000 by omega)]
  by_cases h9 : w < 1000000000
  · rw [if_pos h9, if_pos (show w / 100 < 10000000 by omega)]
  rw [if_neg h9, if_neg (show ¬ w / 100 < 10000000 by omega)]
  rw [if_pos (show w / 100 < 100000000 by omega)]
theorem sb_negT {w : Nat} (h : w < 2 ^ 31) : (-nI w).toInt = -(w : Int) := by
  rw [Int32.toInt_neg, nI_toInt h]
  exact Int.bmod_eq_of_le (by omega) (by omega)
theorem sb_nle {a b : Nat} (ha : a < 2 ^ 31) (hb : b < 2 ^ 31) : -nI a ≤ -nI b ↔ b ≤ a := by
  rw [Int32.le_iff_toInt_le, sb_negT ha, sb_negT hb]
  omega
theorem sb_nlt {a b : Nat} (ha : a < 2 ^ 31) (hb : b < 2 ^ 31) : -nI a < -nI b ↔ b < a := by
  rw [Int32.lt_iff_toInt_lt, sb_negT ha, sb_negT hb]
  omega
theorem sb_cmp {A B : Prop} {x : Int32} (v c : Nat) (f : c ≤ v → A) (g : v < c → B) (hv : v < 2 ^ 31) (hx : x = -nI c := by rfl) (hc : c < 2 ^ 31 := by omega) : (-nI v ≤ x → A) ∧ (¬ -nI v ≤ x → B) := by
  subst hx
  rw [sb_nle hv hc]
  exact ⟨f, fun z => g (by omega)⟩
theorem sb_ndiv {w : Nat} (hw : w < 2 ^ 31) : (-nI w) / 100 = -nI (w / 100) := by
  apply Int32.toInt_inj.mp
  have h100 : (100 : Int32).toInt = 100 := by decide
  rw [Int32.toInt_div, sb_negT hw, h100, sb_negT (by omega), Int.neg_tdiv, Int.tdiv_eq_ediv_of_nonneg (by omega), Int.bmod_eq_of_le (by omega) (by omega)]
  omega
theorem sb_nrem {w : Nat} (hw : w < 2 ^ 31) : (-nI (w / 100)) * 100 - (-nI w) = nI (w % 100) := by
  have h := pk_rem (a := w) (d := 100) hw (by decide) (by decide)
  rw [pk_div hw (by decide) (by decide)] at h
  rw [← h]
  show (-nI (w / 100)) * nI 100 - (-nI w) = nI w - nI (w / 100) * nI 100
  rw [Int32.neg_mul, Int32.sub_neg, Int32.add_comm, ← Int32.sub_eq_add_neg]
end
section
/-! ===== Int32 by its bits: bt x i ===== -/
def bt (x : Int32) (i : Nat) : Bool := x.toBitVec.getLsbD i
theorem b_ext {x y : Int32} (h : ∀ i, i < 32 → bt x i = bt y i) : x = y := Int32.toBitVec_inj.mp (BitVec.eq_of_getLsbD_eq (fun i hi => h i hi))
theorem b_or (x y : Int32) (i : Nat) : bt (x ||| y) i = (bt x i || bt y i) := by unfold bt; rw [Int32.toBitVec_or, BitVec.getLsbD_or]
theorem b_and (x y : Int32) (i : Nat) : bt (x &&& y) i = (bt x i && bt y i) := by unfold bt; rw [Int32.toBitVec_and, BitVec.getLsbD_and]
theorem b_xor (x y : Int32) (i : Nat) : bt (x ^^^ y) i = (bt x i ^^ bt y i) := by unfold bt; rw [Int32.toBitVec_xor, BitVec.getLsbD_xor]
theorem b_big {x : Int32} {i : Nat} (h : 32 ≤ i) : bt x i = false := BitVec.getLsbD_of_ge _ _ h
theorem b_255 (i : Nat) : bt 255 i = decide (i < 8) := by
  rcases Nat.lt_or_ge i 32 with h | h
  · exact (by decide +kernel : ∀ i, i < 32 → bt 255 i = decide (i < 8)) i h
  · rw [b_big h, decide_eq_false (by omega)]
theorem b_65535 (i : Nat) : bt 65535 i = decide (i < 16) := by
  rcases Nat.lt_or_ge i 32 with h | h
  · exact (by decide +kernel : ∀ i, i < 32 → bt 65535 i = decide (i < 16)) i h
  · rw [b_big h, decide_eq_false (by omega)]
theorem b_m1 : ∀ i, i < 32 → bt (-1) i = true := by decide +kernel
theorem b_0 (i : Nat) : bt 0 i = false := BitVec.getLsbD_zero
theorem s_l : ∀ n, n < 32 → ((nI n &&& 31).toBitVec.smod 32).toNat = n := by decide +kernel
theorem s_u : ∀ n, n < 32 → (((nI n).toUInt32 &&& Int32.toUInt32 31).toBitVec % 32).toNat = n := by decide +kernel
theorem b_shl (n : Nat) (hn : n < 32) (x : Int32) {i : Nat} (hi : i < 32) : bt (x <<< (nI n &&& 31)) i = (decide (n ≤ i) && bt x (i - n)) := by
  unfold bt
  rw [Int32.toBitVec_shiftLeft]
  show (x.toBitVec <<< ((nI n &&& 31).toBitVec.smod 32).toNat).getLsbD i = _
  rw [s_l n hn, BitVec.getLsbD_shiftLeft]
  rcases Nat.lt_or_ge i n with h | h
  · simp [h, Nat.not_le.mpr h]
  · simp [hi, h, Nat.not_lt.mpr h]
theorem b_ushr (n : Nat) (hn : n < 32) (x : Int32) (i : Nat) : bt ((x.toUInt32 >>> ((nI n).toUInt32 &&& Int32.toUInt32 31)).toInt32) i = bt x (n + i) := by
  show (x.toUInt32 >>> ((nI n).toUInt32 &&& Int32.toUInt32 31)).toBitVec.getLsbD i = x.toUInt32.toBitVec.getLsbD (n + i)
  rw [UInt32.toBitVec_shiftRight]
  show (x.toUInt32.toBitVec >>> (((nI n).toUInt32 &&& Int32.toUInt32 31).toBitVec % 32).toNat).getLsbD i = _
  rw [s_u n hn, BitVec.getLsbD_ushiftRight]
theorem b_sshr (n : Nat) (hn : n < 32) (x : Int32) {i : Nat} (hi : i < 32) : bt (x >>> (nI n &&& 31)) i = if n + i < 32 then bt x (n + i) else bt x 31 := by
  unfold bt
  rw [Int32.toBitVec_shiftRight]
  show (x.toBitVec.sshiftRight ((nI n &&& 31).toBitVec.smod 32).toNat).getLsbD i = _
  rw [s_l n hn, BitVec.getLsbD_sshiftRight, BitVec.msb_eq_getLsbD_last]
  simp [hi]
theorem b_shl8 (x : Int32) {i : Nat} (hi : i < 32) : bt (x <<< ((8 : Int32) &&& 31)) i = (decide (8 ≤ i) && bt x (i - 8)) := b_shl 8 (by omega) x hi
theorem b_shl16 (x : Int32) {i : Nat} (hi : i < 32) : bt (x <<< ((16 : Int32) &&& 31)) i = (decide (16 ≤ i) && bt x (i - 16)) := b_shl 16 (by omega) x hi
theorem b_shl24 (x : Int32) {i : Nat} (hi : i < 32) : bt (x <<< ((24 : Int32) &&& 31)) i = (decide (24 ≤ i) && bt x (i - 24)) := b_shl 24 (by omega) x hi
theorem b_sshr8 (x : Int32) {i : Nat} (hi : i < 32) : bt (x >>> ((8 : Int32) &&& 31)) i = if 8 + i < 32 then bt x (8 + i) else bt x 31 := b_sshr 8 (by omega) x hi
end
section
/-! the forest and the places, by numbers: count, text, parent (24: none), index, size, kid, letter, a place's node, a place's offset -/
abbrev fo_S : Type := Nat × (Nat → Bool) × (Nat → Nat) × (Nat → Nat) × (Nat → Nat) × (Nat → Nat → Nat) × (Nat → Nat → Nat) × (Nat → Nat) × (Nat → Nat)
def fo_c (A : fo_S) : Nat := A.1
def fo_t (A : fo_S) : Nat → Bool := A.2.1
def fo_p (A : fo_S) : Nat → Nat := A.2.2.1
def fo_x (A : fo_S) : Nat → Nat := A.2.2.2.1
def fo_s (A : fo_S) : Nat → Nat := A.2.2.2.2.1
def fo_k (A : fo_S) : Nat → Nat → Nat := A.2.2.2.2.2.1
def fo_l (A : fo_S) : Nat → Nat → Nat := A.2.2.2.2.2.2.1
def fo_n (A : fo_S) : Nat → Nat := A.2.2.2.2.2.2.2.1
def fo_o (A : fo_S) : Nat → Nat := A.2.2.2.2.2.2.2.2
/-- the forest is well made -/
def fo_F (A : fo_S) : Prop :=
  fo_c A ≤ 24 ∧ (∀ n, fo_p A n ≤ 24) ∧ (∀ n, fo_c A ≤ n → fo_p A n = 24) ∧
  (∀ n, n < fo_c A → fo_p A n < 24 → fo_p A n < fo_c A ∧ fo_t A (fo_p A n) = false ∧ fo_x A n < fo_s A (fo_p A n) ∧ fo_k A (fo_p A n) (fo_x A n) = n) ∧
  (∀ p i, p < fo_c A → fo_t A p = false → i < fo_s A p → fo_k A p i < fo_c A ∧ fo_p A (fo_k A p i) = p ∧ fo_x A (fo_k A p i) = i) ∧
  (∃ rk : Nat → Nat, ∀ n, n < fo_c A → fo_p A n < 24 → rk (fo_p A n) < rk n)
theorem fo_up {A : fo_S} (F : fo_F A) {n : Nat} (hn : n < fo_c A) (hp : fo_p A n < 24) : fo_p A n < fo_c A ∧ fo_t A (fo_p A n) = false ∧ fo_x A n < fo_s A (fo_p A n) ∧ fo_k A (fo_p A n) (fo_x A n) = n := F.2.2.2.1 n hn hp
theorem fo_dn {A : fo_S} (F : fo_F A) {p i : Nat} (hp : p < fo_c A) (ht : fo_t A p = false) (hi : i < fo_s A p) : fo_k A p i < fo_c A ∧ fo_p A (fo_k A p i) = p ∧ fo_x A (fo_k A p i) = i := F.2.2.2.2.1 p i hp ht hi
theorem fo_lt24 {A : fo_S} (F : fo_F A) {n : Nat} (hn : n < fo_c A) : n < 24 := Nat.lt_of_lt_of_le hn F.1
/-- m different numbers below N -/
theorem fo_pig : ∀ (N m : Nat) (f : Nat → Nat), (∀ i, i < m → f i < N) → (∀ i j, i < m → j < m → f i = f j → i = j) → m ≤ N := by
  intro N
  induction N with
  | zero =>
    intro m f h _
    cases m with
    | zero => exact Nat.le_refl 0
    | succ m => exact absurd (h 0 (Nat.succ_pos m)) (Nat.not_lt_zero _)
  | succ N ih =>
    intro m f h hi
    cases m with
    | zero => exact Nat.zero_le _
    | succ m =>
      have hm := h m (by omega)
      refine Nat.succ_le_succ (ih m (fun i => if f i = N then f m else f i) ?_ ?_)
      · intro i hi'
        have h1 := h i (by omega)
        show (if f i = N then f m else f i) < N
        by_cases e : f i = N
        · rw [if_pos e]
          have : f m ≠ N := fun e2 => by
            have := hi i m (by omega) (by omega) (e.trans e2.symm)
            omega
          omega
        · rw [if_neg e]; omega
      · intro i j h1 h2 e
        have e : (if f i = N then f m else f i) = (if f j = N then f m else f j) := e
        by_cases e1 : f i = N
        · by_cases e2 : f j = N
          · exact hi i j (by omega) (by omega) (e1.trans e2.symm)
          · rw [if_pos e1, if_neg e2] at e
            have := hi m j (by omega) (by omega) e
            omega
        · by_cases e2 : f j = N
          · rw [if_neg e1, if_pos e2] at e
            have := hi i m (by omega) (by omega) e
            omega
          · rw [if_neg e1, if_neg e2] at e
            exact hi i j (by omega) (by omega) e
/-- k steps up -/
def fo_u (A : fo_S) : Nat → Nat → Nat
  | 0, n => n
  | k + 1, n => fo_u A k (fo_p A n)
/-- x is y or above it -/
def fo_A (A : fo_S) (x y : Nat) : Prop := ∃ k, fo_u A k y = x
theorem fo_us (A : fo_S) : ∀ k n, fo_u A (k + 1) n = fo_p A (fo_u A k n) := by
  intro k
  induction k with
  | zero => intro n; rfl
  | succ k ih => intro n; exact ih (fo_p A n)
theorem fo_ua (A : fo_S) (j : Nat) : ∀ k n, fo_u A (j + k) n = fo_u A j (fo_u A k n) := by
  intro k
  induction k with
  | zero => intro n; rfl
  | succ k ih => intro n; exact ih (fo_p A n)
theorem fo_p24 {A : fo_S} (F : fo_F A) : fo_p A 24 = 24 := F.2.2.1 24 F.1
theorem fo_u24 {A : fo_S} (F : fo_F A) : ∀ k, fo_u A k 24 = 24 := by
  intro k
  induction k with
  | zero => rfl
  | succ k ih => rw [fo_us, ih, fo_p24 F]
theorem fo_ule {A : fo_S} (F : fo_F A) {n : Nat} (hn : n ≤ 24) : ∀ k, fo_u A k n ≤ 24 := by
  intro k
  cases k with
  | zero => exact hn
  | succ k => rw [fo_us]; exact F.2.1 _
theorem fo_uc {A : fo_S} (F : fo_F A) {n : Nat} (hn : n < fo_c A) : ∀ k, fo_u A k n < 24 → fo_u A k n < fo_c A := by
  intro k
  induction k with
  | zero => intro _; exact hn
  | succ k ih =>
    intro h
    rw [fo_us] at h ⊢
    have h1 : fo_u A k n < 24 := by
      have := fo_ule F (Nat.le_of_lt (fo_lt24 F hn)) k
      rcases Nat.lt_or_ge (fo_u A k n) 24 with z | z
      · exact z
      · have e : fo_u A k n = 24 := by omega
        rw [e, fo_p24 F] at h
        omega
    exact (fo_up F (ih h1) h).1
theorem fo_end {A : fo_S} (F : fo_F A) {n : Nat} (hn : n < fo_c A) : fo_u A 24 n = 24 := by
  have hle := fo_ule F (Nat.le_of_lt (fo_lt24 F hn))
  rcases Nat.lt_or_ge (fo_u A 24 n) 24 with z | z
  · exfalso
    have all : ∀ k, k ≤ 24 → fo_u A k n < 24 := by
      intro k hk
      rcases Nat.lt_or_ge (fo_u A k n) 24 with y | y
      · exact y
      · have e : fo_u A k n = 24 := by have := hle k; omega
        have e2 := fo_ua A (24 - k) k n
        rw [e, fo_u24 F, show 24 - k + k = 24 by omega] at e2
        omega
    obtain ⟨rk, hr⟩ := F.2.2.2.2.2
    have dec : ∀ k, k < 24 → rk (fo_u A (k + 1) n) < rk (fo_u A k n) := by
      intro k hk
      rw [fo_us]
      refine hr _ (fo_uc F hn k (all k (by omega))) ?_
      rw [← fo_us]
      exact all (k + 1) (by omega)
    have dec2 : ∀ d k, k + d + 1 ≤ 24 → rk (fo_u A (k + d + 1) n) < rk (fo_u A k n) := by
      intro d
      induction d with
      | zero => intro k hk; exact dec k (by omega)
      | succ d ih =>
        intro k hk
        have h1 := ih k (by omega)
        have h2 := dec (k + d + 1) (by omega)
        exact Nat.lt_trans h2 h1
    have := fo_pig 24 25 (fun k => fo_u A k n) (fun i hi => all i (by omega)) (by
      intro i j hi hj e
      have e : fo_u A i n = fo_u A j n := e
      rcases Nat.lt_trichotomy i j with y | y | y
      · have := dec2 (j - i - 1) i (by omega)
        rw [show i + (j - i - 1) + 1 = j by omega, e] at this
        omega
      · exact y
      · have := dec2 (i - j - 1) j (by omega)
        rw [show j + (i - j - 1) + 1 = i by omega, e] at this
        omega)
    omega
  · have := hle 24; omega
/-! depth, root -/
def fo_dd (A : fo_S) : Nat → Nat → Nat
  | 0, _ => 0
  | f + 1, n => if fo_p A n < 24 then fo_dd A f (fo_p A n) + 1 else 0
def fo_d (A : fo_S) (n : Nat) : Nat := fo_dd A 24 n
def fo_rr (A : fo_S) : Nat → Nat → Nat
  | 0, n => n
  | f + 1, n => if fo_p A n < 24 then fo_rr A f (fo_p A n) else n
def fo_r (A : fo_S) (n : Nat) : Nat := fo_rr A 24 n
theorem fo_dds (A : fo_S) : ∀ f n, n < 24 → fo_u A f n = 24 → fo_dd A (f + 1) n = fo_dd A f n := by
  intro f
  induction f with
  | zero => intro n hn h; have h : n = 24 := h; omega
  | succ f ih =>
    intro n hn h
    have h : fo_u A f (fo_p A n) = 24 := h
    show (if fo_p A n < 24 then fo_dd A (f + 1) (fo_p A n) + 1 else 0) = (if fo_p A n < 24 then fo_dd A f (fo_p A n) + 1 else 0)
    by_cases z : fo_p A n < 24
    · rw [if_pos z, if_pos z, ih _ z h]
    · rw [if_neg z, if_neg z]
theorem fo_rrs (A : fo_S) : ∀ f n, n < 24 → fo_u A f n = 24 → fo_rr A (f + 1) n = fo_rr A f n := by
  intro f
  induction f with
  | zero => intro n hn h; have h : n = 24 := h; omega
  | succ f ih =>
    intro n hn h
    have h : fo_u A f (fo_p A n) = 24 := h
    show (if fo_p A n < 24 then fo_rr A (f + 1) (fo_p A n) else n) = (if fo_p A n < 24 then fo_rr A f (fo_p A n) else n)
    by_cases z : fo_p A n < 24
    · rw [if_pos z, if_pos z, ih _ z h]
    · rw [if_neg z, if_neg z]
theorem fo_ddl (A : fo_S) : ∀ f n, n < 24 → fo_u A f n = 24 → fo_dd A f n < f := by
  intro f
  induction f with
  | zero => intro n hn h; have h : n = 24 := h; omega
  | succ f ih =>
    intro n hn h
    have h : fo_u A f (fo_p A n) = 24 := h
    show (if fo_p A n < 24 then fo_dd A f (fo_p A n) + 1 else 0) < f + 1
    by_cases z : fo_p A n < 24
    · rw [if_pos z]; have := ih _ z h; omega
    · rw [if_neg z]; omega
theorem fo_d_lt {A : fo_S} (F : fo_F A) {n : Nat} (hn : n < fo_c A) : fo_d A n < 24 := fo_ddl A 24 n (fo_lt24 F hn) (fo_end F hn)
theorem fo_d_up {A : fo_S} (F : fo_F A) {n : Nat} (hn : n < fo_c A) (hp : fo_p A n < 24) : fo_d A n = fo_d A (fo_p A n) + 1 := by
  have h : fo_u A 23 (fo_p A n) = 24 := fo_end F hn
  have e : fo_d A n = fo_dd A 23 (fo_p A n) + 1 := if_pos hp
  rw [e, ← fo_dds A 23 _ hp h]
  rfl
theorem fo_d_0 {A : fo_S} {n : Nat} (hp : ¬ fo_p A n < 24) : fo_d A n = 0 := if_neg hp
theorem fo_r_up {A : fo_S} (F : fo_F A) {n : Nat} (hn : n < fo_c A) (hp : fo_p A n < 24) : fo_r A n = fo_r A (fo_p A n) := by
  have h : fo_u A 23 (fo_p A n) = 24 := fo_end F hn
  have e : fo_r A n = fo_rr A 23 (fo_p A n) := if_pos hp
  rw [e, ← fo_rrs A 23 _ hp h]
  rfl
theorem fo_r_0 {A : fo_S} {n : Nat} (hp : ¬ fo_p A n < 24) : fo_r A n = n := if_neg hp
/-- from the roots down -/
theorem fo_ind {A : fo_S} (F : fo_F A) {P : Nat → Prop} (h : ∀ n, n < fo_c A → (fo_p A n < 24 → P (fo_p A n)) → P n) : ∀ n, n < fo_c A → P n := by
  have k : ∀ d n, n < fo_c A → fo_d A n < d → P n := by
    intro d
    induction d with
    | zero => intro n _ z; omega
    | succ d ih =>
      intro n hn hd
      refine h n hn fun hp => ih _ (fo_up F hn hp).1 ?_
      have := fo_d_up F hn hp
      omega
  intro n hn
  exact k (fo_d A n + 1) n hn (by omega)
/-- from the leaves up: P of all kids gives P -/
theorem fo_ind2 {A : fo_S} (F : fo_F A) {P : Nat → Prop} (h : ∀ n, n < fo_c A → (fo_t A n = false → ∀ i, i < fo_s A n → P (fo_k A n i)) → P n) : ∀ n, n < fo_c A → P n := by
  have k : ∀ d n, n < fo_c A → 24 - fo_d A n < d → P n := by
    intro d
    induction d with
    | zero => intro n _ z; omega
    | succ d ih =>
      intro n hn hd
      refine h n hn fun ht i hi => ?_
      obtain ⟨h1, h2, h3⟩ := fo_dn F hn ht hi
      refine ih _ h1 ?_
      have e := fo_d_up F h1 (by rw [h2]; exact fo_lt24 F hn)
      rw [h2] at e
      have := fo_d_lt F h1
      omega
  intro n hn
  exact k (24 - fo_d A n + 1) n hn (by omega)
/-! above -/
theorem fo_A_r (A : fo_S) (x : Nat) : fo_A A x x := ⟨0, rfl⟩
theorem fo_A_s {A : fo_S} {x y : Nat} (h : fo_A A x (fo_p A y)) : fo_A A x y := by
  obtain ⟨k, h⟩ := h
  exact ⟨k + 1, h⟩
theorem fo_A_t {A : fo_S} {x y z : Nat} (h : fo_A A x y) (h2 : fo_A A y z) : fo_A A x z := by
  obtain ⟨k, rfl⟩ := h2
  obtain ⟨j, rfl⟩ := h
  exact ⟨j + k, fo_ua A j k z⟩
theorem fo_A_c {A : fo_S} {x y : Nat} (h : fo_A A x y) : x = y ∨ fo_A A x (fo_p A y) := by
  obtain ⟨k, h⟩ := h
  cases k with
  | zero => exact Or.inl h.symm
  | succ k => exact Or.inr ⟨k, h⟩
theorem fo_A_p {A : fo_S} (F : fo_F A) {x y : Nat} (hx : x < 24) (h : fo_A A x (fo_p A y)) : fo_p A y < 24 := by
  obtain ⟨k, h⟩ := h
  rcases Nat.lt_or_ge (fo_p A y) 24 with z | z
  · exact z
  · have e : fo_p A y = 24 := by have := F.2.1 y; omega
    rw [e, fo_u24 F] at h
    omega
/-- what is above: a property that goes up -/
theorem fo_A_i {A : fo_S} (F : fo_F A) {P : Nat → Prop} {x y : Nat} (hy : y < fo_c A) (hx : x < 24) (h : fo_A A x y) (h0 : P y) (hs : ∀ n, n < fo_c A → fo_p A n < 24 → P n → P (fo_p A n)) : P x := by
  obtain ⟨k, hk⟩ := h
  induction k generalizing y with
  | zero => have hk : y = x := hk; rw [← hk]; exact h0
  | succ k ih =>
    have hk : fo_u A k (fo_p A y) = x := hk
    have z := fo_A_p F hx ⟨k, hk⟩
    exact ih (fo_up F hy z).1 (hs y hy z h0) hk
theorem fo_A_lt {A : fo_S} (F : fo_F A) {x y : Nat} (hy : y < fo_c A) (hx : x < 24) (h : fo_A A x y) : x < fo_c A :=
  fo_A_i F (P := fun n => n < fo_c A) hy hx h hy fun n hn hp _ => (fo_up F hn hp).1
theorem fo_A_rt {A : fo_S} (F : fo_F A) {x y : Nat} (hy : y < fo_c A) (hx : x < 24) (h : fo_A A x y) : fo_r A x = fo_r A y :=
  fo_A_i F (P := fun n => fo_r A n = fo_r A y) hy hx h rfl fun n hn hp e => (fo_r_up F hn hp).symm.trans e
theorem fo_A_d {A : fo_S} (F : fo_F A) {x y : Nat} (hy : y < fo_c A) (hx : x < 24) (h : fo_A A x y) : fo_d A x ≤ fo_d A y :=
  fo_A_i F (P := fun n => fo_d A n ≤ fo_d A y) hy hx h (Nat.le_refl _) fun n hn hp e => by have := fo_d_up F hn hp; omega
theorem fo_A_dn {A : fo_S} (F : fo_F A) {x y : Nat} (hy : y < fo_c A) (hx : x < 24) (h : fo_A A x y) (hxy : x ≠ y) : fo_d A x < fo_d A y := by
  rcases fo_A_c h with e | e
  · exact absurd e hxy
  · have hp := fo_A_p F hx e
    have := fo_A_d F (fo_up F hy hp).1 hx e
    have := fo_d_up F hy hp
    omega
theorem fo_A_as {A : fo_S} (F : fo_F A) {x y : Nat} (hy : y < fo_c A) (hx : x < fo_c A) (h : fo_A A x y) (h2 : fo_A A y x) : x = y := by
  rcases Nat.decEq x y with e | e
  · have h1 := fo_A_dn F hy (fo_lt24 F hx) h e
    have h3 := fo_A_d F hx (fo_lt24 F hy) h2
    omega
  · exact e
theorem fo_r_in {A : fo_S} (F : fo_F A) : ∀ n, n < fo_c A → fo_r A n < fo_c A ∧ fo_p A (fo_r A n) = 24 ∧ fo_A A (fo_r A n) n :=
  fo_ind F fun n hn ih => by
    by_cases hp : fo_p A n < 24
    · rw [fo_r_up F hn hp]
      obtain ⟨a, b, c⟩ := ih hp
      exact ⟨a, b, fo_A_s c⟩
    · rw [fo_r_0 hp]
      exact ⟨hn, by have := F.2.1 n; omega, fo_A_r A n⟩
theorem fo_rr_r {A : fo_S} (F : fo_F A) {n : Nat} (hn : n < fo_c A) : fo_r A (fo_r A n) = fo_r A n := fo_r_0 (by have := (fo_r_in F n hn).2.1; omega)
/-- two that lie above a third: one is above the other -/
theorem fo_A_2 {A : fo_S} {x y n : Nat} (h : fo_A A x n) (h2 : fo_A A y n) : fo_A A x y ∨ fo_A A y x := by
  obtain ⟨k, rfl⟩ := h
  obtain ⟨j, rfl⟩ := h2
  rcases Nat.le_total k j with z | z
  · right
    refine ⟨j - k, ?_⟩
    rw [← fo_ua, Nat.sub_add_cancel z]
  · left
    refine ⟨k - j, ?_⟩
    rw [← fo_ua, Nat.sub_add_cancel z]
theorem fo_A_k {A : fo_S} (F : fo_F A) {x y : Nat} (hy : y < fo_c A) (hx : x < 24) (h : fo_A A x y) : x = y ∨ (fo_t A x = false ∧ ∃ i, i < fo_s A x ∧ fo_A A (fo_k A x i) y) := by
  obtain ⟨k, hk⟩ := h
  induction k generalizing y with
  | zero => exact Or.inl hk.symm
  | succ k ih =>
    have hk : fo_u A k (fo_p A y) = x := hk
    have z := fo_A_p F hx ⟨k, hk⟩
    obtain ⟨u1, u2, u3, u4⟩ := fo_up F hy z
    right
    rcases ih u1 hk with e | ⟨e1, i, e2, e3⟩
    · rw [e]
      exact ⟨u2, fo_x A y, u3, by rw [u4]; exact fo_A_r A y⟩
    · exact ⟨e1, i, e2, fo_A_s e3⟩
theorem fo_A_kid {A : fo_S} (F : fo_F A) {p i : Nat} (hp : p < fo_c A) (ht : fo_t A p = false) (hi : i < fo_s A p) : fo_A A p (fo_k A p i) :=
  fo_A_s (by rw [(fo_dn F hp ht hi).2.1]; exact fo_A_r A p)
/-- how two nodes of one tree lie -/
def fo_T (A : fo_S) (x y : Nat) : Prop := x = y ∨ (fo_t A x = false ∧ ∃ i, i < fo_s A x ∧ fo_A A (fo_k A x i) y) ∨ (fo_t A y = false ∧ ∃ j, j < fo_s A y ∧ fo_A A (fo_k A y j) x) ∨
  ∃ q i j, q < fo_c A ∧ fo_t A q = false ∧ i < fo_s A q ∧ j < fo_s A q ∧ i ≠ j ∧ fo_A A (fo_k A q i) x ∧ fo_A A (fo_k A q j) y
theorem fo_tri {A : fo_S} (F : fo_F A) {y : Nat} (hy : y < fo_c A) : ∀ x, x < fo_c A → fo_r A x = fo_r A y → fo_T A x y :=
  fo_ind F (P := fun x => fo_r A x = fo_r A y → fo_T A x y) fun x hx ih hr => by
    by_cases ha : fo_A A x y
    · rcases fo_A_k F hy (fo_lt24 F hx) ha with e | e
      · exact Or.inl e
      · exact Or.inr (Or.inl e)
    · by_cases hp : fo_p A x < 24
      · obtain ⟨u1, u2, u3, u4⟩ := fo_up F hx hp
        rcases ih hp ((fo_r_up F hx hp).symm.trans hr) with e | ⟨e1, i, e2, e3⟩ | ⟨e1, j, e2, e3⟩ | ⟨q, i, j, e1, e2, e3, e4, e5, e6, e7⟩
        · refine Or.inr (Or.inr (Or.inl ⟨by rw [← e]; exact u2, fo_x A x, by rw [← e]; exact u3, ?_⟩))
          rw [← e, u4]
          exact fo_A_r A x
        · refine Or.inr (Or.inr (Or.inr ⟨fo_p A x, fo_x A x, i, u1, u2, u3, e2, ?_, by rw [u4]; exact fo_A_r A x, e3⟩))
          intro z
          apply ha
          rw [← z, u4] at e3
          exact e3
        · exact Or.inr (Or.inr (Or.inl ⟨e1, j, e2, fo_A_s e3⟩))
        · exact Or.inr (Or.inr (Or.inr ⟨q, i, j, e1, e2, e3, e4, e5, fo_A_s e6, e7⟩))
      · exfalso
        apply ha
        rw [fo_r_0 hp] at hr
        rw [hr]
        exact (fo_r_in F y hy).2.2
end
section
/-! markings: an opening and a closing number for every node, growing along the row of each tree -/
def fo_L (A : fo_S) (op cl : Nat → Nat) : Prop := ∀ n, n < fo_c A →
  (fo_t A n = true → op n + fo_s A n < cl n) ∧
  (fo_t A n = false → op n < cl n ∧ (∀ i, i < fo_s A n → op n < op (fo_k A n i) ∧ cl (fo_k A n i) < cl n) ∧ (∀ i, i + 1 < fo_s A n → cl (fo_k A n i) < op (fo_k A n (i + 1))))
/-- the tight one: without holes, from 0 at each root -/
def fo_M (A : fo_S) (op cl : Nat → Nat) : Prop := ∀ n, n < fo_c A →
  (fo_p A n = 24 → op n = 0) ∧ op n < cl n ∧ (fo_t A n = true → cl n = op n + fo_s A n + 1) ∧
  (fo_t A n = false → (fo_s A n = 0 → cl n = op n + 1) ∧ (0 < fo_s A n → op (fo_k A n 0) = op n + 1 ∧ cl n = cl (fo_k A n (fo_s A n - 1)) + 1) ∧ (∀ i, i + 1 < fo_s A n → op (fo_k A n (i + 1)) = cl (fo_k A n i) + 1))
/-- the number of the mark behind which a place is -/
def fo_g (A : fo_S) (op cl : Nat → Nat) (n o : Nat) : Nat := if o = 0 then op n else if fo_t A n = true then op n + o else cl (fo_k A n (o - 1))
theorem fo_g0 {A : fo_S} {op cl : Nat → Nat} {n : Nat} : fo_g A op cl n 0 = op n := if_pos rfl
theorem fo_gt {A : fo_S} {op cl : Nat → Nat} {n o : Nat} (h : fo_t A n = true) : fo_g A op cl n o = op n + o := by
  unfold fo_g
  by_cases z : o = 0
  · rw [if_pos z]; omega
  · rw [if_neg z, if_pos h]
theorem fo_gs {A : fo_S} {op cl : Nat → Nat} {n o : Nat} (h : fo_t A n = false) : fo_g A op cl n (o + 1) = cl (fo_k A n o) := by
  unfold fo_g
  rw [if_neg (by omega), if_neg (by rw [h]; exact Bool.false_ne_true)]
  rfl
theorem fo_ft (b : Bool) : b = true ∨ b = false := by cases b <;> simp
section
variable {A : fo_S} {op cl : Nat → Nat}
theorem fo_ML (F : fo_F A) (M : fo_M A op cl) : fo_L A op cl := by
  intro n hn
  obtain ⟨-, m1, m2, m3⟩ := M n hn
  refine ⟨fun ht => by have := m2 ht; omega, fun ht => ⟨m1, fun i hi => ?_, fun i hi => ?_⟩⟩
  · obtain ⟨k0, k1, k2⟩ := m3 ht
    obtain ⟨k3, k4⟩ := k1 (by omega)
    have lo : ∀ i, i < fo_s A n → op n < op (fo_k A n i) := by
      intro i
      induction i with
      | zero => intro _; omega
      | succ i ih =>
        intro hi
        have h1 := ih (by omega)
        have h2 := k2 i hi
        have h3 := (M _ (fo_dn F hn ht (show i < fo_s A n by omega)).1).2.1
        omega
    have hi2 : ∀ d i, i + d + 1 = fo_s A n → cl (fo_k A n i) < cl n := by
      intro d
      induction d with
      | zero =>
        intro i hi
        rw [show fo_s A n - 1 = i by omega] at k4
        omega
      | succ d ih =>
        intro i hi
        have h1 := ih (i + 1) (by omega)
        have h2 := k2 i (by omega)
        have h3 := (M _ (fo_dn F hn ht (show i + 1 < fo_s A n by omega)).1).2.1
        omega
    exact ⟨lo i hi, hi2 (fo_s A n - i - 1) i (by omega)⟩
  · have := (m3 ht).2.2 i hi
    omega
theorem fo_L_lt (L : fo_L A op cl) {n : Nat} (hn : n < fo_c A) : op n < cl n := by
  rcases fo_ft (fo_t A n) with ht | ht
  · have := (L n hn).1 ht; omega
  · exact ((L n hn).2 ht).1
theorem fo_L_up (F : fo_F A) (L : fo_L A op cl) {n : Nat} (hn : n < fo_c A) (hp : fo_p A n < 24) : op (fo_p A n) < op n ∧ cl n < cl (fo_p A n) := by
  obtain ⟨u1, u2, u3, u4⟩ := fo_up F hn hp
  have := ((L _ u1).2 u2).2.1 _ u3
  rw [u4] at this
  exact this
theorem fo_L_A (F : fo_F A) (L : fo_L A op cl) {x y : Nat} (hy : y < fo_c A) (hx : x < 24) (h : fo_A A x y) : op x ≤ op y ∧ cl y ≤ cl x :=
  fo_A_i F (P := fun n => op n ≤ op y ∧ cl y ≤ cl n) hy hx h ⟨Nat.le_refl _, Nat.le_refl _⟩ fun n hn hp e => by
    have := fo_L_up F L hn hp
    omega
theorem fo_L_An (F : fo_F A) (L : fo_L A op cl) {x y : Nat} (hy : y < fo_c A) (hx : x < 24) (h : fo_A A x y) (hn : x ≠ y) : op x < op y ∧ cl y < cl x := by
  rcases fo_A_c h with e | e
  · exact absurd e hn
  · have hp := fo_A_p F hx e
    have h1 := fo_L_A F L (fo_up F hy hp).1 hx e
    have h2 := fo_L_up F L hy hp
    omega
theorem fo_L_kk (F : fo_F A) (L : fo_L A op cl) {q i : Nat} (hq : q < fo_c A) (ht : fo_t A q = false) : ∀ j, i < j → j < fo_s A q → cl (fo_k A q i) < op (fo_k A q j) := by
  intro j
  induction j with
  | zero => intro h; omega
  | succ j ih =>
    intro h hj
    have h1 := ((L q hq).2 ht).2.2 j hj
    rcases Nat.lt_or_ge i j with z | z
    · have h2 := ih z (by omega)
      have h3 := fo_L_lt L (fo_dn F hq ht (show j < fo_s A q by omega)).1
      omega
    · rw [show i = j by omega]
      exact h1
theorem fo_L_g (F : fo_F A) (L : fo_L A op cl) {n o : Nat} (hn : n < fo_c A) (ho : o ≤ fo_s A n) : op n ≤ fo_g A op cl n o ∧ fo_g A op cl n o < cl n := by
  rcases fo_ft (fo_t A n) with ht | ht
  · rw [fo_gt ht]
    have := (L n hn).1 ht
    omega
  · obtain ⟨l1, l2, l3⟩ := (L n hn).2 ht
    cases o with
    | zero => rw [fo_g0]; omega
    | succ o =>
      rw [fo_gs ht]
      have h1 := l2 o (by omega)
      have h2 := fo_L_lt L (fo_dn F hn ht (show o < fo_s A n by omega)).1
      omega
theorem fo_L_gk (F : fo_F A) (L : fo_L A op cl) {n i : Nat} (hn : n < fo_c A) (ht : fo_t A n = false) (hi : i < fo_s A n) : fo_g A op cl n i < op (fo_k A n i) := by
  obtain ⟨l1, l2, l3⟩ := (L n hn).2 ht
  cases i with
  | zero => rw [fo_g0]; exact (l2 0 hi).1
  | succ i => rw [fo_gs ht]; exact l3 i hi
theorem fo_L_gm (F : fo_F A) (L : fo_L A op cl) {n a : Nat} (hn : n < fo_c A) : ∀ b, a < b → b ≤ fo_s A n → fo_g A op cl n a < fo_g A op cl n b := by
  rcases fo_ft (fo_t A n) with ht | ht
  · intro b h _
    rw [fo_gt ht, fo_gt ht]
    omega
  · intro b
    induction b with
    | zero => intro h; omega
    | succ b ih =>
      intro h hb
      have h1 := fo_L_gk F L hn ht (show b < fo_s A n by omega)
      have h2 := fo_L_lt L (fo_dn F hn ht (show b < fo_s A n by omega)).1
      have h3 : fo_g A op cl n b < fo_g A op cl n (b + 1) := by rw [fo_gs ht]; omega
      rcases Nat.lt_or_ge a b with z | z
      · have := ih z (by omega)
        omega
      · rw [show a = b by omega]
        exact h3
theorem fo_L_gm' (F : fo_F A) (L : fo_L A op cl) {n a b : Nat} (hn : n < fo_c A) (h : a ≤ b) (hb : b ≤ fo_s A n) : fo_g A op cl n a ≤ fo_g A op cl n b := by
  rcases Nat.lt_or_ge a b with z | z
  · exact Nat.le_of_lt (fo_L_gm F L hn b z hb)
  · rw [show a = b by omega]
    exact Nat.le_refl _
/-- a place within a node's kid, or the node itself -/
theorem fo_L_gA (F : fo_F A) (L : fo_L A op cl) {x n o : Nat} (hn : n < fo_c A) (ho : o ≤ fo_s A n) (hx : x < 24) (h : fo_A A x n) : op x ≤ fo_g A op cl n o ∧ fo_g A op cl n o < cl x := by
  have h1 := fo_L_g F L hn ho
  have h2 := fo_L_A F L hn hx h
  omega
/-- the order of two places of one tree is the same in all markings -/
theorem fo_tra (F : fo_F A) (L : fo_L A op cl) {op' cl' : Nat → Nat} (L' : fo_L A op' cl') {s a e b : Nat} (hs : s < fo_c A) (ha : a ≤ fo_s A s) (he : e < fo_c A) (hb : b ≤ fo_s A e) (hr : fo_r A s = fo_r A e) (h : fo_g A op cl s a ≤ fo_g A op cl e b) : fo_g A op' cl' s a ≤ fo_g A op' cl' e b := by
  rcases fo_tri F he s hs hr with z | ⟨z1, i, z2, z3⟩ | ⟨z1, j, z2, z3⟩ | ⟨q, i, j, z1, z2, z3, z4, z5, z6, z7⟩
  · subst z
    rcases Nat.lt_or_ge b a with y | y
    · have := fo_L_gm F L hs a y ha
      omega
    · exact fo_L_gm' F L' hs y hb
  · have hk := fo_lt24 F (fo_dn F hs z1 z2).1
    have k1 := fo_L_gA F L he hb hk z3
    have k2 := fo_L_gA F L' he hb hk z3
    rcases Nat.lt_or_ge i a with y | y
    · have h1 := fo_L_gm' F L hs (show i + 1 ≤ a by omega) ha
      rw [fo_gs z1] at h1
      omega
    · have h1 := fo_L_gm' F L' hs y (by omega)
      have h2 := fo_L_gk F L' hs z1 z2
      omega
  · have hk := fo_lt24 F (fo_dn F he z1 z2).1
    have k1 := fo_L_gA F L hs ha hk z3
    have k2 := fo_L_gA F L' hs ha hk z3
    rcases Nat.lt_or_ge j b with y | y
    · have h1 := fo_L_gm' F L' he (show j + 1 ≤ b by omega) hb
      rw [fo_gs z1] at h1
      omega
    · have h1 := fo_L_gm' F L he y (by omega)
      have h2 := fo_L_gk F L he z1 z2
      omega
  · have hk := fo_lt24 F (fo_dn F z1 z2 z3).1
    have hk2 := fo_lt24 F (fo_dn F z1 z2 z4).1
    have k1 := fo_L_gA F L hs ha hk z6
    have k2 := fo_L_gA F L he hb hk2 z7
    have k3 := fo_L_gA F L' hs ha hk z6
    have k4 := fo_L_gA F L' he hb hk2 z7
    rcases Nat.lt_or_ge i j with y | y
    · have := fo_L_kk F L' z1 z2 j y z4
      omega
    · have := fo_L_kk F L z1 z2 i (show j < i by omega) z3
      omega
end
/-! the tight marking is there -/
def fo_sum (f : Nat → Nat) : Nat → Nat
  | 0 => 0
  | n + 1 => fo_sum f n + f n
theorem fo_sum_c {f g : Nat → Nat} : ∀ n, (∀ i, i < n → f i = g i) → fo_sum f n = fo_sum g n := by
  intro n
  induction n with
  | zero => intro _; rfl
  | succ n ih =>
    intro h
    show fo_sum f n + f n = fo_sum g n + g n
    rw [ih (fun i hi => h i (by omega)), h n (by omega)]
def fo_ww (A : fo_S) : Nat → Nat → Nat
  | 0, _ => 0
  | f + 1, n => if fo_t A n = true then fo_s A n + 2 else 2 + fo_sum (fun i => fo_ww A f (fo_k A n i)) (fo_s A n)
def fo_w (A : fo_S) (n : Nat) : Nat := fo_ww A 24 n
theorem fo_wws {A : fo_S} (F : fo_F A) : ∀ f n, n < fo_c A → 24 ≤ f + fo_d A n → fo_ww A (f + 1) n = fo_ww A f n := by
  intro f
  induction f with
  | zero => intro n hn h; have := fo_d_lt F hn; omega
  | succ f ih =>
    intro n hn h
    show (if fo_t A n = true then fo_s A n + 2 else 2 + fo_sum (fun i => fo_ww A (f + 1) (fo_k A n i)) (fo_s A n)) = (if fo_t A n = true then fo_s A n + 2 else 2 + fo_sum (fun i => fo_ww A f (fo_k A n i)) (fo_s A n))
    rcases fo_ft (fo_t A n) with ht | ht
    · rw [if_pos ht, if_pos ht]
    · rw [if_neg (by rw [ht]; exact Bool.false_ne_true), if_neg (by rw [ht]; exact Bool.false_ne_true)]
      refine congrArg (fun z => 2 + z) (fo_sum_c _ fun i hi => ?_)
      obtain ⟨h1, h2, h3⟩ := fo_dn F hn ht hi
      refine ih _ h1 ?_
      have e := fo_d_up F h1 (by rw [h2]; exact fo_lt24 F hn)
      rw [h2] at e
      omega
theorem fo_w_t {A : fo_S} {n : Nat} (ht : fo_t A n = true) : fo_w A n = fo_s A n + 2 := if_pos ht
theorem fo_w_e {A : fo_S} (F : fo_F A) {n : Nat} (hn : n < fo_c A) (ht : fo_t A n = false) : fo_w A n = 2 + fo_sum (fun i => fo_w A (fo_k A n i)) (fo_s A n) := by
  have e : fo_w A n = 2 + fo_sum (fun i => fo_ww A 23 (fo_k A n i)) (fo_s A n) := if_neg (by rw [ht]; exact Bool.false_ne_true)
  refine e.trans (congrArg (fun z => 2 + z) (fo_sum_c _ fun i hi => ?_))
  obtain ⟨h1, h2, h3⟩ := fo_dn F hn ht hi
  have e := fo_d_up F h1 (by rw [h2]; exact fo_lt24 F hn)
  exact (fo_wws F 23 _ h1 (by omega)).symm
theorem fo_w_2 {A : fo_S} (F : fo_F A) {n : Nat} (hn : n < fo_c A) : 2 ≤ fo_w A n := by
  rcases fo_ft (fo_t A n) with ht | ht
  · rw [fo_w_t ht]; omega
  · rw [fo_w_e F hn ht]; omega
def fo_oo (A : fo_S) : Nat → Nat → Nat
  | 0, _ => 0
  | f + 1, n => if fo_p A n < 24 then fo_oo A f (fo_p A n) + 1 + fo_sum (fun j => fo_w A (fo_k A (fo_p A n) j)) (fo_x A n) else 0
def fo_op (A : fo_S) (n : Nat) : Nat := fo_oo A 24 n
def fo_cl (A : fo_S) (n : Nat) : Nat := fo_op A n + fo_w A n - 1
theorem fo_oos (A : fo_S) : ∀ f n, n < 24 → fo_u A f n = 24 → fo_oo A (f + 1) n = fo_oo A f n := by
  intro f
  induction f with
  | zero => intro n hn h; have h : n = 24 := h; omega
  | succ f ih =>
    intro n hn h
    have h : fo_u A f (fo_p A n) = 24 := h
    show (if fo_p A n < 24 then fo_oo A (f + 1) (fo_p A n) + 1 + fo_sum (fun j => fo_w A (fo_k A (fo_p A n) j)) (fo_x A n) else 0) = (if fo_p A n < 24 then fo_oo A f (fo_p A n) + 1 + fo_sum (fun j => fo_w A (fo_k A (fo_p A n) j)) (fo_x A n) else 0)
    by_cases z : fo_p A n < 24
    · rw [if_pos z, if_pos z, ih _ z h]
    · rw [if_neg z, if_neg z]
theorem fo_op_k {A : fo_S} (F : fo_F A) {n i : Nat} (hn : n < fo_c A) (ht : fo_t A n = false) (hi : i < fo_s A n) : fo_op A (fo_k A n i) = fo_op A n + 1 + fo_sum (fun j => fo_w A (fo_k A n j)) i := by
  obtain ⟨h1, h2, h3⟩ := fo_dn F hn ht hi
  have hp : fo_p A (fo_k A n i) < 24 := by rw [h2]; exact fo_lt24 F hn
  have h : fo_u A 23 (fo_p A (fo_k A n i)) = 24 := fo_end F h1
  have e : fo_op A (fo_k A n i) = fo_oo A 23 (fo_p A (fo_k A n i)) + 1 + fo_sum (fun j => fo_w A (fo_k A (fo_p A (fo_k A n i)) j)) (fo_x A (fo_k A n i)) := if_pos hp
  rw [e, ← fo_oos A 23 _ hp h, h2, h3]
  rfl
theorem fo_M_ex {A : fo_S} (F : fo_F A) : fo_M A (fo_op A) (fo_cl A) := by
  intro n hn
  have hw := fo_w_2 F hn
  refine ⟨fun h => if_neg (by omega), ?_, fun ht => ?_, fun ht => ⟨fun h0 => ?_, fun h0 => ⟨?_, ?_⟩, fun i hi => ?_⟩⟩
  · unfold fo_cl; omega
  · unfold fo_cl; rw [fo_w_t ht]; omega
  · unfold fo_cl
    rw [fo_w_e F hn ht, h0]
    show fo_op A n + (2 + 0) - 1 = fo_op A n + 1
    omega
  · rw [fo_op_k F hn ht h0]
    rfl
  · obtain ⟨m, hm⟩ : ∃ m, fo_s A n = m + 1 := ⟨fo_s A n - 1, by omega⟩
    have hk := fo_w_2 F (fo_dn F hn ht (show m < fo_s A n by omega)).1
    unfold fo_cl
    rw [fo_w_e F hn ht, hm, show m + 1 - 1 = m by omega, fo_op_k F hn ht (show m < fo_s A n by omega)]
    show fo_op A n + (2 + (fo_sum (fun j => fo_w A (fo_k A n j)) m + fo_w A (fo_k A n m))) - 1 = _
    omega
  · have hk := fo_w_2 F (fo_dn F hn ht (show i < fo_s A n by omega)).1
    unfold fo_cl
    rw [fo_op_k F hn ht hi, fo_op_k F hn ht (show i < fo_s A n by omega)]
    show fo_op A n + 1 + (fo_sum (fun j => fo_w A (fo_k A n j)) i + fo_w A (fo_k A n i)) = _
    omega
end
section
/-! one tree under a marking -/
section
variable {A : fo_S} {op cl : Nat → Nat}
theorem fo_lam (F : fo_F A) (L : fo_L A op cl) {x y : Nat} (hx : x < fo_c A) (hy : y < fo_c A) (hr : fo_r A x = fo_r A y) :
    x = y ∨ (fo_A A x y ∧ fo_t A x = false ∧ op x < op y ∧ cl y < cl x) ∨ (fo_A A y x ∧ fo_t A y = false ∧ op y < op x ∧ cl x < cl y) ∨ cl x < op y ∨ cl y < op x := by
  rcases fo_tri F hy x hx hr with z | ⟨z1, i, z2, z3⟩ | ⟨z1, j, z2, z3⟩ | ⟨q, i, j, z1, z2, z3, z4, z5, z6, z7⟩
  · exact Or.inl z
  · have hk := fo_lt24 F (fo_dn F hx z1 z2).1
    have h1 := fo_L_A F L hy hk z3
    have h2 := ((L x hx).2 z1).2.1 i z2
    exact Or.inr (Or.inl ⟨fo_A_t (fo_A_kid F hx z1 z2) z3, z1, by omega, by omega⟩)
  · have hk := fo_lt24 F (fo_dn F hy z1 z2).1
    have h1 := fo_L_A F L hx hk z3
    have h2 := ((L y hy).2 z1).2.1 j z2
    exact Or.inr (Or.inr (Or.inl ⟨fo_A_t (fo_A_kid F hy z1 z2) z3, z1, by omega, by omega⟩))
  · have hk := fo_lt24 F (fo_dn F z1 z2 z3).1
    have hk2 := fo_lt24 F (fo_dn F z1 z2 z4).1
    have h1 := fo_L_A F L hx hk z6
    have h2 := fo_L_A F L hy hk2 z7
    rcases Nat.lt_or_ge i j with y' | y'
    · have := fo_L_kk F L z1 z2 j y' z4
      exact Or.inr (Or.inr (Or.inr (Or.inl (by omega))))
    · have := fo_L_kk F L z1 z2 i (show j < i by omega) z3
      exact Or.inr (Or.inr (Or.inr (Or.inr (by omega))))
theorem fo_I1 (F : fo_F A) (L : fo_L A op cl) {x y : Nat} (hx : x < fo_c A) (hy : y < fo_c A) (hr : fo_r A x = fo_r A y) (e : op x = op y) : x = y := by
  have h1 := fo_L_lt L hx
  have h2 := fo_L_lt L hy
  rcases fo_lam F L hx hy hr with z | ⟨-, -, z, -⟩ | ⟨-, -, z, -⟩ | z | z
  · exact z
  all_goals omega
theorem fo_I2 (F : fo_F A) (L : fo_L A op cl) {x y : Nat} (hx : x < fo_c A) (hy : y < fo_c A) (hr : fo_r A x = fo_r A y) : op x ≠ cl y := by
  have h1 := fo_L_lt L hx
  have h2 := fo_L_lt L hy
  intro e
  rcases fo_lam F L hx hy hr with z | ⟨-, -, z, z2⟩ | ⟨-, -, z, z2⟩ | z | z
  · subst z; omega
  all_goals omega
theorem fo_I3 (F : fo_F A) (L : fo_L A op cl) {x y : Nat} (hx : x < fo_c A) (hy : y < fo_c A) (hr : fo_r A x = fo_r A y) (e : cl x = cl y) : x = y := by
  have h1 := fo_L_lt L hx
  have h2 := fo_L_lt L hy
  rcases fo_lam F L hx hy hr with z | ⟨-, -, -, z⟩ | ⟨-, -, -, z⟩ | z | z
  · exact z
  all_goals omega
theorem fo_I4 (F : fo_F A) (L : fo_L A op cl) {t x : Nat} (ht : t < fo_c A) (hx : x < fo_c A) (hr : fo_r A t = fo_r A x) (tt : fo_t A t = true) (hn : x ≠ t) : (op x < op t ∨ cl t < op x) ∧ (cl x < op t ∨ cl t < cl x) := by
  have h1 := fo_L_lt L hx
  have h2 := fo_L_lt L ht
  rcases fo_lam F L ht hx hr with z | ⟨-, z, -, -⟩ | ⟨-, -, z, z2⟩ | z | z
  · exact absurd z.symm hn
  · rw [tt] at z; exact absurd z (by decide)
  all_goals omega
/-- m is the next one that is begun behind n; none is -/
def fo_N (A : fo_S) (op : Nat → Nat) (n m : Nat) : Prop := m < fo_c A ∧ fo_r A m = fo_r A n ∧ op n < op m ∧ ∀ x, x < fo_c A → fo_r A x = fo_r A n → op n < op x → op m ≤ op x
def fo_E (A : fo_S) (op : Nat → Nat) (n : Nat) : Prop := ∀ x, x < fo_c A → fo_r A x = fo_r A n → op x ≤ op n
/-- on the way up from n -/
def fo_U (A : fo_S) (op cl : Nat → Nat) (n w : Nat) : Prop := w < fo_c A ∧ fo_A A w n ∧ ∀ x, x < fo_c A → fo_r A x = fo_r A n → op n < op x → cl w < op x
def fo_lf (A : fo_S) (n : Nat) : Prop := fo_t A n = true ∨ fo_s A n = 0
theorem fo_rk {A : fo_S} (F : fo_F A) {n i : Nat} (hn : n < fo_c A) (ht : fo_t A n = false) (hi : i < fo_s A n) : fo_r A (fo_k A n i) = fo_r A n := by
  obtain ⟨h1, h2, h3⟩ := fo_dn F hn ht hi
  have := fo_r_up F h1 (by rw [h2]; exact fo_lt24 F hn)
  rw [this, h2]
theorem fo_N_k (F : fo_F A) (M : fo_M A op cl) {n : Nat} (hn : n < fo_c A) (ht : fo_t A n = false) (hs : 0 < fo_s A n) : fo_N A op n (fo_k A n 0) := by
  have h := ((M n hn).2.2.2 ht).2.1 hs
  exact ⟨(fo_dn F hn ht hs).1, fo_rk F hn ht hs, by omega, fun x _ _ hx => by omega⟩
theorem fo_U_0 (F : fo_F A) (L : fo_L A op cl) {n : Nat} (hn : n < fo_c A) (hl : fo_lf A n) : fo_U A op cl n n := by
  refine ⟨hn, fo_A_r A n, fun x hx hr ho => ?_⟩
  have h1 := fo_L_lt L hx
  rcases fo_tri F hx n hn hr.symm with z | ⟨z1, i, z2, z3⟩ | ⟨z1, j, z2, z3⟩ | z
  · subst z; omega
  · rcases hl with y | y
    · rw [z1] at y; exact absurd y (by decide)
    · omega
  · have hk := fo_lt24 F (fo_dn F hx z1 z2).1
    have h1 := fo_L_A F L hn hk z3
    have h2 := ((L x hx).2 z1).2.1 j z2
    omega
  · rcases fo_lam F L hn hx hr.symm with y | ⟨y1, y2, y3, y4⟩ | ⟨-, -, y, -⟩ | y | y
    · subst y; omega
    · rcases fo_A_k F hx (fo_lt24 F hn) y1 with w | ⟨w1, i, w2, -⟩
      · subst w; omega
      · rcases hl with y | y
        · rw [w1] at y; exact absurd y (by decide)
        · omega
    all_goals omega
theorem fo_U_s (F : fo_F A) (M : fo_M A op cl) {n w : Nat} (hn : n < fo_c A) (U : fo_U A op cl n w) (hp : fo_p A w < 24) (hi : fo_s A (fo_p A w) ≤ fo_x A w + 1) : fo_U A op cl n (fo_p A w) := by
  obtain ⟨hw, ha, hx⟩ := U
  obtain ⟨u1, u2, u3, u4⟩ := fo_up F hw hp
  have e := (((M _ u1).2.2.2 u2).2.1 (by omega)).2
  rw [show fo_s A (fo_p A w) - 1 = fo_x A w by omega, u4] at e
  have ha2 : fo_A A (fo_p A w) n := fo_A_t (fo_A_s (fo_A_r A _)) ha
  refine ⟨u1, ha2, fun x h1 h2 h3 => ?_⟩
  have h4 := hx x h1 h2 h3
  have h5 := fo_I2 F (fo_ML F M) h1 u1 (h2.trans (fo_A_rt F hn hp ha2).symm)
  omega
theorem fo_U_n (F : fo_F A) (M : fo_M A op cl) {n w : Nat} (hn : n < fo_c A) (U : fo_U A op cl n w) (hp : fo_p A w < 24) (hi : fo_x A w + 1 < fo_s A (fo_p A w)) : fo_N A op n (fo_k A (fo_p A w) (fo_x A w + 1)) := by
  obtain ⟨hw, ha, hx⟩ := U
  obtain ⟨u1, u2, u3, u4⟩ := fo_up F hw hp
  have e := ((M _ u1).2.2.2 u2).2.2 _ hi
  rw [u4] at e
  have ha2 : fo_A A (fo_p A w) n := fo_A_t (fo_A_s (fo_A_r A _)) ha
  have h1 := fo_L_A F (fo_ML F M) hn (fo_lt24 F hw) ha
  have h2 := fo_L_lt (fo_ML F M) hn
  refine ⟨(fo_dn F u1 u2 hi).1, (fo_rk F u1 u2 hi).trans (fo_A_rt F hn hp ha2), by omega, fun x h1 h2 h3 => ?_⟩
  have := hx x h1 h2 h3
  omega
theorem fo_U_e (F : fo_F A) (L : fo_L A op cl) {n w : Nat} (hn : n < fo_c A) (U : fo_U A op cl n w) (hp : ¬ fo_p A w < 24) : fo_E A op n := by
  obtain ⟨hw, ha, hx⟩ := U
  intro x h1 h2
  rcases Nat.lt_or_ge (op n) (op x) with z | z
  · exfalso
    have h3 := hx x h1 h2 z
    have e : fo_r A n = w := (fo_A_rt F hn (fo_lt24 F hw) ha).symm.trans (fo_r_0 hp)
    have h4 := (fo_r_in F x h1).2.2
    rw [h2, e] at h4
    have h5 := fo_L_A F L h1 (fo_lt24 F hw) h4
    have h6 := fo_L_lt L h1
    omega
  · exact z
theorem fo_N_p (M : fo_M A op cl) (F : fo_F A) {n m : Nat} (N : fo_N A op n m) : fo_p A m < 24 := by
  rcases Nat.lt_or_ge (fo_p A m) 24 with z | z
  · exact z
  · have h := (M m N.1).1 (by have := F.2.1 m; omega)
    have := N.2.2.1
    omega
/-- closing upwards from a leaf n, m next: down to m's level is just what closes ahead of m -/
theorem fo_CF (F : fo_F A) (M : fo_M A op cl) {n m w : Nat} (hn : n < fo_c A) (hl : fo_lf A n) (N : fo_N A op n m) (hw : w < fo_c A) (ha : fo_A A w n) : fo_d A m ≤ fo_d A w ↔ cl w < op m := by
  have L := fo_ML F M
  have hp := fo_N_p M F N
  obtain ⟨hm, hmr, hno, hnx⟩ := N
  obtain ⟨u1, u2, u3, u4⟩ := fo_up F hm hp
  have hq := fo_L_up F L hm hp
  have hmm := fo_L_lt L hm
  have hnn := fo_L_lt L hn
  have hqr : fo_r A (fo_p A m) = fo_r A n := (fo_r_up F hm hp).symm.trans hmr
  have hqo : op (fo_p A m) ≤ op n := by
    rcases Nat.lt_or_ge (op n) (op (fo_p A m)) with z | z
    · have := hnx _ u1 hqr z
      omega
    · exact z
  have hd := fo_d_up F hm hp
  have haq : fo_A A (fo_p A m) n := by
    rcases fo_lam F L u1 hn hqr with z | z | ⟨-, -, z, -⟩ | z | z
    · rw [z]; exact fo_A_r A n
    · exact z.1
    all_goals omega
  have hne : fo_p A m ≠ n := by
    intro z
    rw [z] at u2 u3
    rcases hl with y | y
    · rw [u2] at y; exact absurd y (by decide)
    · omega
  rcases fo_A_2 ha haq with z | z
  · have h1 := fo_L_A F L u1 (fo_lt24 F hw) z
    have h2 := fo_A_d F u1 (fo_lt24 F hw) z
    constructor
    · intro; omega
    · intro; omega
  · rcases fo_A_k F hw (fo_lt24 F u1) z with e | ⟨e1, i, e2, e3⟩
    · rw [← e]
      constructor
      · intro; omega
      · intro; omega
    · obtain ⟨k1, k2, k3⟩ := fo_dn F u1 e1 e2
      have h1 := fo_L_A F L hw (fo_lt24 F k1) e3
      have h2 := fo_A_d F hw (fo_lt24 F k1) e3
      have h3 := fo_d_up F k1 (by rw [k2]; exact hp)
      rw [k2] at h3
      have h4 := fo_L_A F L hn (fo_lt24 F hw) ha
      have h5 : i < fo_x A m := by
        rcases Nat.lt_trichotomy i (fo_x A m) with y | y | y
        · exact y
        · rw [y, u4] at h1
          omega
        · have := fo_L_kk F L u1 u2 i y e2
          rw [u4] at this
          omega
      have h6 := fo_L_kk F L u1 u2 (fo_x A m) h5 u3
      rw [u4] at h6
      constructor
      · intro; omega
      · intro; omega
theorem fo_CS (F : fo_F A) (M : fo_M A op cl) {n m w : Nat} (hn : n < fo_c A) (N : fo_N A op n m) (hw : w < fo_c A) (ha : fo_A A w n) (hc : cl w < op m) : fo_p A w < 24 ∧ ((cl (fo_p A w) < op m ∧ cl (fo_p A w) = cl w + 1) ∨ (¬ cl (fo_p A w) < op m ∧ op m = cl w + 1)) := by
  have L := fo_ML F M
  obtain ⟨hm, hmr, hno, hnx⟩ := N
  have hmm := fo_L_lt L hm
  have hnn := fo_L_lt L hn
  have hwn := fo_L_A F L hn (fo_lt24 F hw) ha
  have hp : fo_p A w < 24 := by
    rcases Nat.lt_or_ge (fo_p A w) 24 with z | z
    · exact z
    · exfalso
      have e : fo_r A n = w := (fo_A_rt F hn (fo_lt24 F hw) ha).symm.trans (fo_r_0 (by omega))
      have h4 := (fo_r_in F m hm).2.2
      rw [hmr, e] at h4
      have := fo_L_A F L hm (fo_lt24 F hw) h4
      omega
  refine ⟨hp, ?_⟩
  obtain ⟨u1, u2, u3, u4⟩ := fo_up F hw hp
  have ha2 : fo_A A (fo_p A w) n := fo_A_t (fo_A_s (fo_A_r A _)) ha
  have hr := fo_A_rt F hn hp ha2
  rcases Nat.lt_or_ge (fo_x A w + 1) (fo_s A (fo_p A w)) with z | z
  · have e := ((M _ u1).2.2.2 u2).2.2 _ z
    rw [u4] at e
    obtain ⟨k1, k2, k3⟩ := fo_dn F u1 u2 z
    have h1 := hnx _ k1 ((fo_rk F u1 u2 z).trans hr) (by omega)
    have h2 := ((L _ u1).2 u2).2.1 _ z
    have h3 := fo_L_lt L k1
    right
    constructor <;> omega
  · have e := (((M _ u1).2.2.2 u2).2.1 (by omega)).2
    rw [show fo_s A (fo_p A w) - 1 = fo_x A w by omega, u4] at e
    have := fo_I2 F L hm u1 (hmr.trans hr.symm)
    left
    constructor <;> omega
theorem fo_CE (F : fo_F A) (M : fo_M A op cl) {n w : Nat} (hn : n < fo_c A) (E : fo_E A op n) (hw : w < fo_c A) (ha : fo_A A w n) (hp : fo_p A w < 24) : cl (fo_p A w) = cl w + 1 := by
  have L := fo_ML F M
  have hnn := fo_L_lt L hn
  have hwn := fo_L_A F L hn (fo_lt24 F hw) ha
  obtain ⟨u1, u2, u3, u4⟩ := fo_up F hw hp
  have ha2 : fo_A A (fo_p A w) n := fo_A_t (fo_A_s (fo_A_r A _)) ha
  have hr := fo_A_rt F hn hp ha2
  rcases Nat.lt_or_ge (fo_x A w + 1) (fo_s A (fo_p A w)) with z | z
  · have e := ((M _ u1).2.2.2 u2).2.2 _ z
    rw [u4] at e
    obtain ⟨k1, k2, k3⟩ := fo_dn F u1 u2 z
    have h1 := E _ k1 ((fo_rk F u1 u2 z).trans hr)
    omega
  · have e := (((M _ u1).2.2.2 u2).2.1 (by omega)).2
    rw [show fo_s A (fo_p A w) - 1 = fo_x A w by omega, u4] at e
    exact e
/-- every number up to the root's closing one is a mark's -/
theorem fo_sur (F : fo_F A) (M : fo_M A op cl) {r : Nat} (hr : r < fo_c A) (h0 : fo_p A r = 24) : ∀ p, p ≤ cl r → ∃ x, x < fo_c A ∧ fo_r A x = r ∧ (p = op x ∨ p = cl x ∨ (fo_t A x = true ∧ op x < p ∧ p < cl x)) := by
  intro p
  induction p with
  | zero => intro _; exact ⟨r, hr, fo_r_0 (by omega), Or.inl ((M r hr).1 h0).symm⟩
  | succ p ih =>
    intro hp
    obtain ⟨x, hx, hxr, h⟩ := ih (by omega)
    obtain ⟨m0, m1, m2, m3⟩ := M x hx
    rcases h with h | h | ⟨ht, h1, h2⟩
    · rcases fo_ft (fo_t A x) with ht | ht
      · have e := m2 ht
        rcases Nat.eq_or_lt_of_le (show p + 1 ≤ cl x by omega) with z | z
        · exact ⟨x, hx, hxr, Or.inr (Or.inl z)⟩
        · exact ⟨x, hx, hxr, Or.inr (Or.inr ⟨ht, by omega, z⟩)⟩
      · obtain ⟨k0, k1, k2⟩ := m3 ht
        rcases Nat.eq_zero_or_pos (fo_s A x) with z | z
        · exact ⟨x, hx, hxr, Or.inr (Or.inl (by have := k0 z; omega))⟩
        · exact ⟨fo_k A x 0, (fo_dn F hx ht z).1, (fo_rk F hx ht z).trans hxr, Or.inl (by have := (k1 z).1; omega)⟩
    · by_cases hpx : fo_p A x < 24
      · obtain ⟨u1, u2, u3, u4⟩ := fo_up F hx hpx
        obtain ⟨k0, k1, k2⟩ := (M _ u1).2.2.2 u2
        have hrp := (fo_r_up F hx hpx).symm.trans hxr
        rcases Nat.lt_or_ge (fo_x A x + 1) (fo_s A (fo_p A x)) with z | z
        · have e := k2 _ z
          rw [u4] at e
          exact ⟨_, (fo_dn F u1 u2 z).1, (fo_rk F u1 u2 z).trans hrp, Or.inl (by omega)⟩
        · have e := (k1 (by omega)).2
          rw [show fo_s A (fo_p A x) - 1 = fo_x A x by omega, u4] at e
          exact ⟨_, u1, hrp, Or.inr (Or.inl (by omega))⟩
      · rw [fo_r_0 hpx] at hxr
        subst hxr
        omega
    · rcases Nat.eq_or_lt_of_le (show p + 1 ≤ cl x by omega) with z | z
      · exact ⟨x, hx, hxr, Or.inr (Or.inl z)⟩
      · exact ⟨x, hx, hxr, Or.inr (Or.inr ⟨ht, by omega, z⟩)⟩
/-- so a row is short -/
theorem fo_len (F : fo_F A) (M : fo_M A op cl) {B : Nat} (hB : ∀ n, n < fo_c A → fo_t A n = true → fo_s A n ≤ B) {r : Nat} (hr : r < fo_c A) (h0 : fo_p A r = 24) : cl r + 1 ≤ 24 * (B + 2) := by
  have h : ∀ p, ∃ v, p ≤ cl r → v < 24 * (B + 2) ∧ (if v % (B + 2) = 0 then op (v / (B + 2)) else if v % (B + 2) = 1 then cl (v / (B + 2)) else op (v / (B + 2)) + (v % (B + 2) - 1)) = p := by
    intro p
    by_cases hp : p ≤ cl r
    · obtain ⟨x, hx, -, h⟩ := fo_sur F M hr h0 p hp
      have hx24 := fo_lt24 F hx
      have key : ∀ j, j < B + 2 → (x * (B + 2) + j) / (B + 2) = x ∧ (x * (B + 2) + j) % (B + 2) = j ∧ x * (B + 2) + j < 24 * (B + 2) := by
        intro j hj
        refine ⟨?_, ?_, ?_⟩
        · rw [Nat.mul_comm, Nat.mul_add_div (by omega), Nat.div_eq_of_lt hj]; rfl
        · rw [Nat.mul_comm, Nat.mul_add_mod, Nat.mod_eq_of_lt hj]
        · have : (x + 1) * (B + 2) ≤ 24 * (B + 2) := Nat.mul_le_mul_right _ hx24
          rw [Nat.add_mul] at this
          omega
      rcases h with h | h | ⟨ht, h1, h2⟩
      · obtain ⟨k1, k2, k3⟩ := key 0 (by omega)
        refine ⟨x * (B + 2) + 0, fun _ => ⟨k3, ?_⟩⟩
        rw [k1, k2, if_pos rfl]; exact h.symm
      · obtain ⟨k1, k2, k3⟩ := key 1 (by omega)
        refine ⟨x * (B + 2) + 1, fun _ => ⟨k3, ?_⟩⟩
        rw [k1, k2, if_neg (by omega), if_pos rfl]; exact h.symm
      · have e := (M x hx).2.2.1 ht
        have hb := hB x hx ht
        obtain ⟨k1, k2, k3⟩ := key (p - op x + 1) (by omega)
        refine ⟨x * (B + 2) + (p - op x + 1), fun _ => ⟨k3, ?_⟩⟩
        rw [k1, k2, if_neg (by omega), if_neg (by omega)]; omega
    · exact ⟨0, fun z => absurd z hp⟩
  obtain ⟨g, hg⟩ := Classical.axiomOfChoice h
  refine fo_pig _ _ g (fun i hi => (hg i (by omega)).1) fun i j hi hj e => ?_
  have h1 := (hg i (by omega)).2
  have h2 := (hg j (by omega)).2
  rw [e, h2] at h1
  exact h1.symm
end
end
section
/-! the changes of a forest -/
def fo_bb (A : fo_S) (x : Nat) : Nat → Nat → Bool
  | 0, _ => false
  | f + 1, y => if y < 24 then (if y = x then true else fo_bb A x f (fo_p A y)) else false
/-- x is y or above it, as a program sees it -/
def fo_b (A : fo_S) (x y : Nat) : Bool := fo_bb A x 24 y
theorem fo_bb_1 {A : fo_S} {x : Nat} : ∀ f y, fo_bb A x f y = true → fo_A A x y := by
  intro f
  induction f with
  | zero => intro y h; exact absurd h Bool.false_ne_true
  | succ f ih =>
    intro y h
    have h : (if y < 24 then (if y = x then true else fo_bb A x f (fo_p A y)) else false) = true := h
    by_cases z : y < 24
    · rw [if_pos z] at h
      by_cases e : y = x
      · rw [e]; exact fo_A_r A x
      · rw [if_neg e] at h
        exact fo_A_s (ih _ h)
    · rw [if_neg z] at h
      exact absurd h (by decide)
theorem fo_bb_2 {A : fo_S} (F : fo_F A) {x : Nat} (hx : x < 24) : ∀ f y, y < 24 → fo_u A f y = 24 → fo_A A x y → fo_bb A x f y = true := by
  intro f
  induction f with
  | zero => intro y hy h; have h : y = 24 := h; omega
  | succ f ih =>
    intro y hy h ha
    show (if y < 24 then (if y = x then true else fo_bb A x f (fo_p A y)) else false) = true
    rw [if_pos hy]
    by_cases e : y = x
    · rw [if_pos e]
    · rw [if_neg e]
      rcases fo_A_c ha with z | z
      · exact absurd z.symm e
      · exact ih _ (fo_A_p F hx z) h z
theorem fo_b_i {A : fo_S} (F : fo_F A) {x y : Nat} (hx : x < 24) (hy : y < fo_c A) : fo_b A x y = true ↔ fo_A A x y :=
  ⟨fo_bb_1 24 y, fo_bb_2 F hx 24 y (fo_lt24 F hy) (fo_end F hy)⟩
theorem fo_b_n {A : fo_S} (F : fo_F A) {x y : Nat} (hx : x < 24) (hy : y < fo_c A) (h : ¬ fo_A A x y) : fo_b A x y = false := by
  rcases fo_ft (fo_b A x y) with z | z
  · exact absurd ((fo_b_i F hx hy).mp z) h
  · exact z
theorem fo_cb (P : Nat → Prop) : ∃ f : Nat → Bool, ∀ x, f x = true ↔ P x :=
  ⟨fun x => @decide (P x) (Classical.propDecidable _), fun x => @decide_eq_true_iff (P x) (Classical.propDecidable _)⟩
def fo_mk (A : fo_S) (b : Bool) : fo_S := (fo_c A + 1, fun n => if n = fo_c A then b else fo_t A n, fo_p A, fo_x A, fo_s A, fo_k A, fo_l A, fo_n A, fo_o A)
def fo_tk (A : fo_S) (n : Nat) : fo_S :=
  (fo_c A, fo_t A, fun m => if m = n then 24 else fo_p A m,
   fun m => if fo_p A m = fo_p A n ∧ fo_x A n < fo_x A m then fo_x A m - 1 else fo_x A m,
   fun q => if q = fo_p A n then fo_s A q - 1 else fo_s A q,
   fun q j => if q = fo_p A n ∧ fo_x A n ≤ j then fo_k A q (j + 1) else fo_k A q j, fo_l A,
   fun k => if fo_b A n (fo_n A k) = true then fo_p A n else fo_n A k,
   fun k => if fo_b A n (fo_n A k) = true then fo_x A n else if fo_n A k = fo_p A n ∧ fo_x A n < fo_o A k then fo_o A k - 1 else fo_o A k)
def fo_pt (A : fo_S) (p n i : Nat) : fo_S :=
  (fo_c A, fo_t A, fun m => if m = n then p else fo_p A m,
   fun m => if m = n then i else if fo_p A m = p ∧ i ≤ fo_x A m then fo_x A m + 1 else fo_x A m,
   fun q => if q = p then fo_s A q + 1 else fo_s A q,
   fun q j => if q = p then (if j < i then fo_k A q j else if j = i then n else fo_k A q (j - 1)) else fo_k A q j, fo_l A,
   fo_n A, fun k => if fo_n A k = p ∧ i < fo_o A k then fo_o A k + 1 else fo_o A k)
/-- sizes of texts alone have changed -/
theorem fo_F_s {A B : fo_S} (F : fo_F A) (hc : fo_c B = fo_c A) (ht : fo_t B = fo_t A) (hp : fo_p B = fo_p A) (hx : fo_x B = fo_x A) (hk : fo_k B = fo_k A) (hs : ∀ q, q < fo_c A → fo_t A q = false → fo_s B q = fo_s A q) : fo_F B := by
  obtain ⟨f1, f2, f3, f4, f5, f6⟩ := F
  unfold fo_F
  rw [hc, ht, hp, hx, hk]
  refine ⟨f1, f2, f3, fun n hn h => ?_, fun p i h1 h2 h3 => ?_, f6⟩
  · obtain ⟨u1, u2, u3, u4⟩ := f4 n hn h
    rw [hs _ u1 u2]
    exact ⟨u1, u2, u3, u4⟩
  · rw [hs p h1 h2] at h3
    exact f5 p i h1 h2 h3
theorem fo_F_mk {A : fo_S} (F : fo_F A) (h : fo_c A < 24) (h0 : fo_s A (fo_c A) = 0) (b : Bool) : fo_F (fo_mk A b) := by
  obtain ⟨f1, f2, f3, f4, f5, rk, f6⟩ := F
  refine ⟨h, f2, fun n hn => f3 n (Nat.le_of_succ_le hn), fun n hn hp => ?_, fun p i hp ht hi => ?_, rk, fun n hn hp => ?_⟩
  · have hn : n < fo_c A + 1 := hn
    have hp : fo_p A n < 24 := hp
    have hn2 : n < fo_c A := by
      rcases Nat.lt_or_ge n (fo_c A) with z | z
      · exact z
      · have := f3 n z; omega
    obtain ⟨u1, u2, u3, u4⟩ := f4 n hn2 hp
    refine ⟨Nat.lt_succ_of_lt u1, ?_, u3, u4⟩
    show (if fo_p A n = fo_c A then b else fo_t A (fo_p A n)) = false
    rw [if_neg (by omega)]
    exact u2
  · have hp : p < fo_c A + 1 := hp
    have hi : i < fo_s A p := hi
    have hp2 : p < fo_c A := by
      rcases Nat.lt_or_ge p (fo_c A) with z | z
      · exact z
      · rw [show p = fo_c A by omega] at hi; omega
    have ht : (if p = fo_c A then b else fo_t A p) = false := ht
    rw [if_neg (by omega)] at ht
    obtain ⟨u1, u2, u3⟩ := f5 p i hp2 ht hi
    exact ⟨Nat.lt_succ_of_lt u1, u2, u3⟩
  · have hn : n < fo_c A + 1 := hn
    have hp : fo_p A n < 24 := hp
    refine f6 n ?_ hp
    rcases Nat.lt_or_ge n (fo_c A) with z | z
    · exact z
    · have := f3 n z; omega
theorem fo_F_tk {A : fo_S} (F : fo_F A) {n : Nat} (hn : n < fo_c A) (hpn : fo_p A n < 24) : fo_F (fo_tk A n) := by
  obtain ⟨v1, v2, v3, v4⟩ := fo_up F hn hpn
  obtain ⟨f1, f2, f3, f4, f5, rk, f6⟩ := F
  refine ⟨f1, fun m => ?_, fun m hm => ?_, fun m hm hp => ?_, fun q j hq ht hj => ?_, rk, fun m hm hp => ?_⟩
  · show (if m = n then 24 else fo_p A m) ≤ 24
    by_cases e : m = n
    · rw [if_pos e]; exact Nat.le_refl _
    · rw [if_neg e]; exact f2 m
  · show (if m = n then 24 else fo_p A m) = 24
    by_cases e : m = n
    · rw [if_pos e]
    · rw [if_neg e]; exact f3 m hm
  · have hm : m < fo_c A := hm
    have hp : (if m = n then 24 else fo_p A m) < 24 := hp
    have e : m ≠ n := fun e => by rw [if_pos e] at hp; omega
    show (if m = n then 24 else fo_p A m) < fo_c A ∧ fo_t A (if m = n then 24 else fo_p A m) = false ∧ (if fo_p A m = fo_p A n ∧ fo_x A n < fo_x A m then fo_x A m - 1 else fo_x A m) < (if (if m = n then 24 else fo_p A m) = fo_p A n then fo_s A (if m = n then 24 else fo_p A m) - 1 else fo_s A (if m = n then 24 else fo_p A m)) ∧
      (if (if m = n then 24 else fo_p A m) = fo_p A n ∧ fo_x A n ≤ (if fo_p A m = fo_p A n ∧ fo_x A n < fo_x A m then fo_x A m - 1 else fo_x A m) then fo_k A (if m = n then 24 else fo_p A m) ((if fo_p A m = fo_p A n ∧ fo_x A n < fo_x A m then fo_x A m - 1 else fo_x A m) + 1) else fo_k A (if m = n then 24 else fo_p A m) (if fo_p A m = fo_p A n ∧ fo_x A n < fo_x A m then fo_x A m - 1 else fo_x A m)) = m
    rw [if_neg e] at hp
    rw [if_neg e]
    obtain ⟨u1, u2, u3, u4⟩ := f4 m hm hp
    refine ⟨u1, u2, ?_⟩
    by_cases ep : fo_p A m = fo_p A n
    · have hne : fo_x A m ≠ fo_x A n := by
        intro z
        rw [ep, z, v4] at u4
        exact e u4.symm
      rw [ep] at u3 u4 ⊢
      rw [if_pos rfl]
      by_cases z : fo_x A n < fo_x A m
      · rw [if_pos ⟨rfl, z⟩, if_pos ⟨rfl, by omega⟩, show fo_x A m - 1 + 1 = fo_x A m by omega]
        exact ⟨by omega, u4⟩
      · rw [if_neg (fun y => z y.2), if_neg (fun y => by have := y.2; omega)]
        exact ⟨by omega, u4⟩
    · rw [if_neg (fun y => ep y.1), if_neg ep, if_neg (fun y => ep y.1)]
      exact ⟨u3, u4⟩
  · have hj : j < (if q = fo_p A n then fo_s A q - 1 else fo_s A q) := hj
    show (if q = fo_p A n ∧ fo_x A n ≤ j then fo_k A q (j + 1) else fo_k A q j) < fo_c A ∧ (if (if q = fo_p A n ∧ fo_x A n ≤ j then fo_k A q (j + 1) else fo_k A q j) = n then 24 else fo_p A (if q = fo_p A n ∧ fo_x A n ≤ j then fo_k A q (j + 1) else fo_k A q j)) = q ∧
      (if fo_p A (if q = fo_p A n ∧ fo_x A n ≤ j then fo_k A q (j + 1) else fo_k A q j) = fo_p A n ∧ fo_x A n < fo_x A (if q = fo_p A n ∧ fo_x A n ≤ j then fo_k A q (j + 1) else fo_k A q j) then fo_x A (if q = fo_p A n ∧ fo_x A n ≤ j then fo_k A q (j + 1) else fo_k A q j) - 1 else fo_x A (if q = fo_p A n ∧ fo_x A n ≤ j then fo_k A q (j + 1) else fo_k A q j)) = j
    by_cases eq : q = fo_p A n
    · rw [if_pos eq] at hj
      by_cases z : fo_x A n ≤ j
      · rw [if_pos ⟨eq, z⟩]
        obtain ⟨u1, u2, u3⟩ := f5 q (j + 1) hq ht (by omega)
        have e : fo_k A q (j + 1) ≠ n := fun e => by rw [e] at u3; omega
        refine ⟨u1, by rw [if_neg e]; exact u2, ?_⟩
        rw [u2, u3, if_pos ⟨eq, by omega⟩]
        omega
      · rw [if_neg (fun y => z y.2)]
        obtain ⟨u1, u2, u3⟩ := f5 q j hq ht (by omega)
        have e : fo_k A q j ≠ n := fun e => by rw [e] at u3; omega
        refine ⟨u1, by rw [if_neg e]; exact u2, ?_⟩
        rw [u2, u3, if_neg (fun y => by have := y.2; omega)]
    · rw [if_neg eq] at hj
      rw [if_neg (fun y => eq y.1)]
      obtain ⟨u1, u2, u3⟩ := f5 q j hq ht hj
      have e : fo_k A q j ≠ n := fun e => by rw [e] at u2; exact eq u2.symm
      refine ⟨u1, by rw [if_neg e]; exact u2, ?_⟩
      rw [u2, u3, if_neg (fun y => eq y.1)]
  · have hm : m < fo_c A := hm
    have hp : (if m = n then 24 else fo_p A m) < 24 := hp
    show rk (if m = n then 24 else fo_p A m) < rk m
    have e : m ≠ n := fun e => by rw [if_pos e] at hp; omega
    rw [if_neg e] at hp ⊢
    exact f6 m hm hp
theorem fo_F_pt {A : fo_S} (F : fo_F A) {p n i : Nat} (hn : n < fo_c A) (hpn : fo_p A n = 24) (hp : p < fo_c A) (htp : fo_t A p = false) (ha : ¬ fo_A A n p) (hi : i ≤ fo_s A p) : fo_F (fo_pt A p n i) := by
  have hp24 := fo_lt24 F hp
  have hn24 := fo_lt24 F hn
  have F0 := F
  obtain ⟨f1, f2, f3, f4, f5, rk, f6⟩ := F
  obtain ⟨fb, hfb⟩ := fo_cb (fun m => fo_A A n m)
  refine ⟨f1, fun m => ?_, fun m hm => ?_, fun m hm hq => ?_, fun q j hq ht hj => ?_, fun m => if fb m = true then rk m + rk p + 1 else rk m, fun m hm hq => ?_⟩
  · show (if m = n then p else fo_p A m) ≤ 24
    by_cases e : m = n
    · rw [if_pos e]; omega
    · rw [if_neg e]; exact f2 m
  · have hm : fo_c A ≤ m := hm
    show (if m = n then p else fo_p A m) = 24
    rw [if_neg (by omega)]; exact f3 m hm
  · have hm : m < fo_c A := hm
    have hq : (if m = n then p else fo_p A m) < 24 := hq
    show (if m = n then p else fo_p A m) < fo_c A ∧ fo_t A (if m = n then p else fo_p A m) = false ∧ (if m = n then i else if fo_p A m = p ∧ i ≤ fo_x A m then fo_x A m + 1 else fo_x A m) < (if (if m = n then p else fo_p A m) = p then fo_s A (if m = n then p else fo_p A m) + 1 else fo_s A (if m = n then p else fo_p A m)) ∧
      (if (if m = n then p else fo_p A m) = p then (if (if m = n then i else if fo_p A m = p ∧ i ≤ fo_x A m then fo_x A m + 1 else fo_x A m) < i then fo_k A (if m = n then p else fo_p A m) (if m = n then i else if fo_p A m = p ∧ i ≤ fo_x A m then fo_x A m + 1 else fo_x A m) else if (if m = n then i else if fo_p A m = p ∧ i ≤ fo_x A m then fo_x A m + 1 else fo_x A m) = i then n else fo_k A (if m = n then p else fo_p A m) ((if m = n then i else if fo_p A m = p ∧ i ≤ fo_x A m then fo_x A m + 1 else fo_x A m) - 1)) else fo_k A (if m = n then p else fo_p A m) (if m = n then i else if fo_p A m = p ∧ i ≤ fo_x A m then fo_x A m + 1 else fo_x A m)) = m
    by_cases e : m = n
    · rw [if_pos e, if_pos e, if_pos rfl, if_pos rfl, if_neg (by omega), if_pos rfl]
      exact ⟨hp, htp, by omega, e.symm⟩
    · rw [if_neg e] at hq
      rw [if_neg e, if_neg e]
      obtain ⟨u1, u2, u3, u4⟩ := f4 m hm hq
      refine ⟨u1, u2, ?_⟩
      by_cases ep : fo_p A m = p
      · rw [ep] at u3 u4 ⊢
        rw [if_pos rfl, if_pos rfl]
        by_cases z : i ≤ fo_x A m
        · rw [if_pos ⟨rfl, z⟩, if_neg (by omega), if_neg (by omega), show fo_x A m + 1 - 1 = fo_x A m by omega]
          exact ⟨by omega, u4⟩
        · rw [if_neg (fun y => z y.2), if_pos (by omega)]
          exact ⟨by omega, u4⟩
      · rw [if_neg ep, if_neg ep, if_neg (fun y => ep y.1)]
        exact ⟨u3, u4⟩
  · have hj : j < (if q = p then fo_s A q + 1 else fo_s A q) := hj
    show (if q = p then (if j < i then fo_k A q j else if j = i then n else fo_k A q (j - 1)) else fo_k A q j) < fo_c A ∧ (if (if q = p then (if j < i then fo_k A q j else if j = i then n else fo_k A q (j - 1)) else fo_k A q j) = n then p else fo_p A (if q = p then (if j < i then fo_k A q j else if j = i then n else fo_k A q (j - 1)) else fo_k A q j)) = q ∧
      (if (if q = p then (if j < i then fo_k A q j else if j = i then n else fo_k A q (j - 1)) else fo_k A q j) = n then i else if fo_p A (if q = p then (if j < i then fo_k A q j else if j = i then n else fo_k A q (j - 1)) else fo_k A q j) = p ∧ i ≤ fo_x A (if q = p then (if j < i then fo_k A q j else if j = i then n else fo_k A q (j - 1)) else fo_k A q j) then fo_x A (if q = p then (if j < i then fo_k A q j else if j = i then n else fo_k A q (j - 1)) else fo_k A q j) + 1 else fo_x A (if q = p then (if j < i then fo_k A q j else if j = i then n else fo_k A q (j - 1)) else fo_k A q j)) = j
    have nn : ∀ j', j' < fo_s A q → fo_k A q j' ≠ n := fun j' h e => by
      have := (f5 q j' hq ht h).2.1
      rw [e, hpn] at this
      have : q < fo_c A := hq
      omega
    by_cases eq : q = p
    · rw [if_pos eq] at hj
      rw [if_pos eq]
      by_cases z : j < i
      · rw [if_pos z]
        have hjs : j < fo_s A q := by rw [eq]; omega
        obtain ⟨u1, u2, u3⟩ := f5 q j hq ht hjs
        rw [if_neg (nn j hjs), if_neg (nn j hjs), u2, u3, if_neg (fun y => by have := y.2; omega)]
        exact ⟨u1, rfl, rfl⟩
      · rw [if_neg z]
        by_cases z2 : j = i
        · rw [if_pos z2, if_pos rfl, if_pos rfl]
          exact ⟨hn, eq.symm, z2.symm⟩
        · rw [if_neg z2]
          have hjs : j - 1 < fo_s A q := by omega
          obtain ⟨u1, u2, u3⟩ := f5 q (j - 1) hq ht hjs
          rw [if_neg (nn _ hjs), if_neg (nn _ hjs), u2, u3, if_pos ⟨eq, by omega⟩]
          exact ⟨u1, rfl, by omega⟩
    · rw [if_neg eq] at hj
      rw [if_neg eq]
      obtain ⟨u1, u2, u3⟩ := f5 q j hq ht hj
      rw [if_neg (nn j hj), if_neg (nn j hj), u2, u3, if_neg (fun y => eq y.1)]
      exact ⟨u1, rfl, rfl⟩
  · have hm : m < fo_c A := hm
    have hq : (if m = n then p else fo_p A m) < 24 := hq
    show (if fb (if m = n then p else fo_p A m) = true then rk (if m = n then p else fo_p A m) + rk p + 1 else rk (if m = n then p else fo_p A m)) < (if fb m = true then rk m + rk p + 1 else rk m)
    by_cases e : m = n
    · rw [if_pos e, if_neg (fun y => ha ((hfb p).mp y)), if_pos ((hfb m).mpr (by rw [e]; exact fo_A_r A n))]
      omega
    · rw [if_neg e] at hq ⊢
      have h1 := f6 m hm hq
      by_cases y : fo_A A n m
      · have y2 : fo_A A n (fo_p A m) := by
          rcases fo_A_c y with w | w
          · exact absurd w.symm e
          · exact w
        rw [if_pos ((hfb _).mpr y2), if_pos ((hfb _).mpr y)]
        omega
      · rw [if_neg (fun w => y (fo_A_s ((hfb _).mp w))), if_neg (fun w => y ((hfb _).mp w))]
        exact h1
/-! roots -/
theorem fo_r_c {A B : fo_S} (hp : fo_p B = fo_p A) : fo_r B = fo_r A := by
  have h : ∀ f n, fo_rr B f n = fo_rr A f n := by
    intro f
    induction f with
    | zero => intro n; rfl
    | succ f ih =>
      intro n
      show (if fo_p B n < 24 then fo_rr B f (fo_p B n) else n) = (if fo_p A n < 24 then fo_rr A f (fo_p A n) else n)
      rw [hp, ih]
  funext n
  exact h 24 n
theorem fo_r_tk {A : fo_S} (F : fo_F A) {n : Nat} (hn : n < fo_c A) (hpn : fo_p A n < 24) : ∀ x, x < fo_c A → (fo_A A n x → fo_r (fo_tk A n) x = n) ∧ (¬ fo_A A n x → fo_r (fo_tk A n) x = fo_r A x) := by
  have F' := fo_F_tk F hn hpn
  refine fo_ind F fun x hx ih => ?_
  by_cases e : x = n
  · rw [e]
    refine ⟨fun _ => fo_r_0 ?_, fun h => absurd (fo_A_r A n) h⟩
    show ¬ (if n = n then 24 else fo_p A n) < 24
    rw [if_pos rfl]; omega
  · have ep : fo_p (fo_tk A n) x = fo_p A x := if_neg e
    by_cases hp : fo_p A x < 24
    · have er := fo_r_up F' (n := x) hx (by rw [ep]; exact hp)
      rw [er, ep, fo_r_up F hx hp]
      obtain ⟨i1, i2⟩ := ih hp
      refine ⟨fun h => i1 ?_, fun h => i2 fun w => h (fo_A_s w)⟩
      rcases fo_A_c h with w | w
      · exact absurd w.symm e
      · exact w
    · have er : fo_r (fo_tk A n) x = x := fo_r_0 (by rw [ep]; exact hp)
      rw [er, fo_r_0 hp]
      refine ⟨fun h => ?_, fun _ => rfl⟩
      rcases fo_A_c h with w | w
      · exact w.symm
      · exact absurd (fo_A_p F (fo_lt24 F hn) w) hp
theorem fo_r_pt {A : fo_S} (F : fo_F A) {p n i : Nat} (hn : n < fo_c A) (hpn : fo_p A n = 24) (hp : p < fo_c A) (htp : fo_t A p = false) (ha : ¬ fo_A A n p) (hi : i ≤ fo_s A p) : ∀ x, x < fo_c A → (fo_r A x = n → fo_r (fo_pt A p n i) x = fo_r A p) ∧ (fo_r A x ≠ n → fo_r (fo_pt A p n i) x = fo_r A x) := by
  have F' := fo_F_pt F hn hpn hp htp ha hi
  have k : ∀ x, x < fo_c A → fo_r A x ≠ n → fo_r (fo_pt A p n i) x = fo_r A x := by
    refine fo_ind F fun x hx ih hr => ?_
    have e : x ≠ n := fun e => hr (by rw [e]; exact fo_r_0 (by omega))
    have ep : fo_p (fo_pt A p n i) x = fo_p A x := if_neg e
    by_cases hq : fo_p A x < 24
    · rw [fo_r_up F' (n := x) hx (by rw [ep]; exact hq), ep, fo_r_up F hx hq]
      refine ih hq ?_
      rw [← fo_r_up F hx hq]; exact hr
    · rw [fo_r_0 (A := fo_pt A p n i) (by rw [ep]; exact hq), fo_r_0 hq]
  have hrp : fo_r A p ≠ n := fun z => by
    have := (fo_r_in F p hp).2.2
    rw [z] at this
    exact ha this
  refine fo_ind F fun x hx ih => ⟨fun hr => ?_, k x hx⟩
  by_cases e : x = n
  · have ep : fo_p (fo_pt A p n i) x = p := if_pos e
    rw [fo_r_up F' (n := x) hx (by rw [ep]; exact fo_lt24 F hp), ep]
    exact k p hp hrp
  · have ep : fo_p (fo_pt A p n i) x = fo_p A x := if_neg e
    by_cases hq : fo_p A x < 24
    · rw [fo_r_up F' (n := x) hx (by rw [ep]; exact hq), ep]
      refine (ih hq).1 ?_
      rw [← fo_r_up F hx hq]; exact hr
    · rw [fo_r_0 hq] at hr
      exact absurd hr e
end
section
/-! what is kept: sizes and letters, places, the order of each range's two places -/
def fo_Z (A : fo_S) : Prop := 1 ≤ fo_c A ∧ (∀ n, n < fo_c A → fo_t A n = true → fo_s A n ≤ 12 ∧ ∀ i, i < fo_s A n → fo_l A n i < 10) ∧ (∀ n, fo_c A ≤ n → fo_s A n = 0)
def fo_Q (A : fo_S) : Prop := ∀ k, k < 8 → fo_n A k < fo_c A ∧ fo_o A k ≤ fo_s A (fo_n A k)
def fo_gg (A : fo_S) (k : Nat) : Nat := fo_g A (fo_op A) (fo_cl A) (fo_n A k) (fo_o A k)
def fo_R (A : fo_S) : Prop := ∀ r, r < 4 → fo_r A (fo_n A (2 * r)) = fo_r A (fo_n A (2 * r + 1)) ∧ fo_gg A (2 * r) ≤ fo_gg A (2 * r + 1)
def fo_I (A : fo_S) : Prop := fo_F A ∧ fo_Z A ∧ fo_Q A ∧ fo_R A
theorem fo_R_of {B : fo_S} (F : fo_F B) (Q : fo_Q B) {op cl : Nat → Nat} (L : fo_L B op cl) (h : ∀ r, r < 4 → fo_r B (fo_n B (2 * r)) = fo_r B (fo_n B (2 * r + 1)) ∧ fo_g B op cl (fo_n B (2 * r)) (fo_o B (2 * r)) ≤ fo_g B op cl (fo_n B (2 * r + 1)) (fo_o B (2 * r + 1))) : fo_R B := by
  intro r hr
  obtain ⟨h1, h2⟩ := h r hr
  obtain ⟨q1, q2⟩ := Q (2 * r) (by omega)
  obtain ⟨q3, q4⟩ := Q (2 * r + 1) (by omega)
  exact ⟨h1, fo_tra F L (fo_ML F (fo_M_ex F)) q1 q2 q3 q4 h1 h2⟩
theorem fo_M_g {A : fo_S} {op cl : Nat → Nat} (M : fo_M A op cl) {p i : Nat} (hp : p < fo_c A) (ht : fo_t A p = false) (hi : i < fo_s A p) : op (fo_k A p i) = fo_g A op cl p i + 1 := by
  obtain ⟨k0, k1, k2⟩ := (M p hp).2.2.2 ht
  cases i with
  | zero => rw [fo_g0]; exact (k1 hi).1
  | succ i => rw [fo_gs ht]; exact k2 i hi
/-! taking out -/
section
variable {A : fo_S} {op cl : Nat → Nat}
theorem fo_tk_L (F : fo_F A) (L : fo_L A op cl) {n : Nat} (hn : n < fo_c A) (hpn : fo_p A n < 24) : fo_L (fo_tk A n) op cl := by
  obtain ⟨v1, v2, v3, v4⟩ := fo_up F hn hpn
  intro x hx
  have hx : x < fo_c A := hx
  have es : fo_s (fo_tk A n) x = if x = fo_p A n then fo_s A x - 1 else fo_s A x := rfl
  refine ⟨fun ht => ?_, fun ht => ?_⟩
  · have ht : fo_t A x = true := ht
    rw [es, if_neg (fun e => by rw [e, v2] at ht; exact absurd ht (by decide))]
    exact (L x hx).1 ht
  · have ht : fo_t A x = false := ht
    obtain ⟨l1, l2, l3⟩ := (L x hx).2 ht
    by_cases e : x = fo_p A n
    · rw [es, if_pos e]
      refine ⟨l1, fun i hi => ?_, fun i hi => ?_⟩
      · show op x < op (if x = fo_p A n ∧ fo_x A n ≤ i then fo_k A x (i + 1) else fo_k A x i) ∧ cl (if x = fo_p A n ∧ fo_x A n ≤ i then fo_k A x (i + 1) else fo_k A x i) < cl x
        by_cases z : fo_x A n ≤ i
        · rw [if_pos ⟨e, z⟩]; exact l2 (i + 1) (by omega)
        · rw [if_neg (fun y => z y.2)]; exact l2 i (by omega)
      · show cl (if x = fo_p A n ∧ fo_x A n ≤ i then fo_k A x (i + 1) else fo_k A x i) < op (if x = fo_p A n ∧ fo_x A n ≤ i + 1 then fo_k A x (i + 1 + 1) else fo_k A x (i + 1))
        by_cases z : fo_x A n ≤ i
        · rw [if_pos ⟨e, z⟩, if_pos ⟨e, by omega⟩]; exact fo_L_kk F L hx ht _ (by omega) (by omega)
        · rw [if_neg (fun y => z y.2)]
          by_cases z2 : fo_x A n ≤ i + 1
          · rw [if_pos ⟨e, z2⟩]; exact fo_L_kk F L hx ht _ (by omega) (by omega)
          · rw [if_neg (fun y => z2 y.2)]; exact fo_L_kk F L hx ht _ (by omega) (by omega)
    · rw [es, if_neg e]
      refine ⟨l1, fun i hi => ?_, fun i hi => ?_⟩
      · show op x < op (if x = fo_p A n ∧ fo_x A n ≤ i then fo_k A x (i + 1) else fo_k A x i) ∧ cl (if x = fo_p A n ∧ fo_x A n ≤ i then fo_k A x (i + 1) else fo_k A x i) < cl x
        rw [if_neg (fun y => e y.1)]; exact l2 i hi
      · show cl (if x = fo_p A n ∧ fo_x A n ≤ i then fo_k A x (i + 1) else fo_k A x i) < op (if x = fo_p A n ∧ fo_x A n ≤ i + 1 then fo_k A x (i + 1 + 1) else fo_k A x (i + 1))
        rw [if_neg (fun y => e y.1), if_neg (fun y => e y.1)]; exact l3 i hi
theorem fo_tk_go {n x o : Nat} (e : x ≠ fo_p A n) : fo_g (fo_tk A n) op cl x o = fo_g A op cl x o := by
  show (if o = 0 then op x else if fo_t A x = true then op x + o else cl (if x = fo_p A n ∧ fo_x A n ≤ o - 1 then fo_k A x (o - 1 + 1) else fo_k A x (o - 1))) = _
  rw [if_neg (c := x = fo_p A n ∧ fo_x A n ≤ o - 1) (fun y => e y.1)]
  rfl
theorem fo_tk_gl {n o : Nat} (h : o ≤ fo_x A n) : fo_g (fo_tk A n) op cl (fo_p A n) o = fo_g A op cl (fo_p A n) o := by
  show (if o = 0 then op (fo_p A n) else if fo_t A (fo_p A n) = true then op (fo_p A n) + o else cl (if fo_p A n = fo_p A n ∧ fo_x A n ≤ o - 1 then fo_k A (fo_p A n) (o - 1 + 1) else fo_k A (fo_p A n) (o - 1))) = _
  unfold fo_g
  by_cases z : o = 0
  · rw [if_pos z, if_pos z]
  · rw [if_neg (c := fo_p A n = fo_p A n ∧ fo_x A n ≤ o - 1) (fun y => by have := y.2; omega)]
theorem fo_tk_gh {n o : Nat} (ht : fo_t A (fo_p A n) = false) (h : fo_x A n + 1 ≤ o) : fo_g (fo_tk A n) op cl (fo_p A n) o = fo_g A op cl (fo_p A n) (o + 1) := by
  show (if o = 0 then op (fo_p A n) else if fo_t A (fo_p A n) = true then op (fo_p A n) + o else cl (if fo_p A n = fo_p A n ∧ fo_x A n ≤ o - 1 then fo_k A (fo_p A n) (o - 1 + 1) else fo_k A (fo_p A n) (o - 1))) = _
  rw [fo_gs ht, if_neg (by omega), if_neg (by rw [ht]; exact Bool.false_ne_true), if_pos ⟨rfl, by omega⟩, show o - 1 + 1 = o by omega]
/-- how a place's number falls when n goes -/
def fo_fi (op cl : Nat → Nat) (n v : Nat) : Nat := if v < op n then v else if v ≤ cl n then op n - 1 else v
theorem fo_fi_m {n v w : Nat} (h : v ≤ w) : fo_fi op cl n v ≤ fo_fi op cl n w := by
  unfold fo_fi
  repeat' split
  all_goals omega
theorem fo_tk_g (F : fo_F A) (M : fo_M A op cl) {n : Nat} (hn : n < fo_c A) (hpn : fo_p A n < 24) {x o : Nat} (hx : x < fo_c A) (ho : o ≤ fo_s A x) :
    fo_g (fo_tk A n) op cl (if fo_b A n x = true then fo_p A n else x) (if fo_b A n x = true then fo_x A n else if x = fo_p A n ∧ fo_x A n < o then o - 1 else o) = if fo_r A x = fo_r A n then fo_fi op cl n (fo_g A op cl x o) else fo_g A op cl x o := by
  have L := fo_ML F M
  have hn24 := fo_lt24 F hn
  obtain ⟨v1, v2, v3, v4⟩ := fo_up F hn hpn
  have hrp := fo_r_up F hn hpn
  have hg := fo_M_g M v1 v2 v3
  rw [v4] at hg
  have hnn := fo_L_lt L hn
  by_cases ha : fo_A A n x
  · rw [if_pos ((fo_b_i F hn24 hx).mpr ha), if_pos ((fo_b_i F hn24 hx).mpr ha), if_pos (fo_A_rt F hx hn24 ha).symm, fo_tk_gl (Nat.le_refl _)]
    have h1 := fo_L_gA F L hx ho hn24 ha
    unfold fo_fi
    rw [if_neg (by omega), if_pos (by omega)]
    omega
  · have hb := fo_b_n F hn24 hx ha
    rw [if_neg (by rw [hb]; exact Bool.false_ne_true), if_neg (by rw [hb]; exact Bool.false_ne_true)]
    by_cases e : x = fo_p A n
    · subst e
      rw [if_pos hrp.symm]
      by_cases z : fo_x A n < o
      · rw [if_pos ⟨rfl, z⟩]
        rcases Nat.eq_or_lt_of_le (show fo_x A n + 1 ≤ o from z) with w | w
        · rw [← w, show fo_x A n + 1 - 1 = fo_x A n by omega, fo_tk_gl (Nat.le_refl _), fo_gs v2, v4]
          unfold fo_fi
          rw [if_neg (by omega), if_pos (Nat.le_refl _)]
          omega
        · rw [fo_tk_gh v2 (by omega), show o - 1 + 1 = o by omega]
          have h1 := fo_L_gm F L v1 (a := fo_x A n + 1) o w ho
          rw [fo_gs v2, v4] at h1
          unfold fo_fi
          rw [if_neg (by omega), if_neg (by omega)]
      · rw [if_neg (fun y => z y.2), fo_tk_gl (by omega)]
        have h1 := fo_L_gm' F L v1 (show o ≤ fo_x A n by omega) (by omega)
        unfold fo_fi
        rw [if_pos (by omega)]
    · rw [if_neg (fun y => e y.1), fo_tk_go e]
      by_cases hr : fo_r A x = fo_r A n
      · rw [if_pos hr]
        have h1 := fo_L_g F L hx ho
        have h2 : fo_g A op cl x o < op n ∨ cl n < fo_g A op cl x o := by
          rcases fo_tri F hn x hx hr with z | ⟨z1, i, z2, z3⟩ | ⟨z1, j, z2, z3⟩ | ⟨q, i, j, z1, z2, z3, z4, z5, z6, z7⟩
          · exact absurd (by rw [z]; exact fo_A_r A n) ha
          · obtain ⟨k1, k2, k3⟩ := fo_dn F hx z1 z2
            have hne : fo_k A x i ≠ n := fun w => by rw [w] at k2; exact e k2.symm
            have h3 := fo_L_An F L hn (fo_lt24 F k1) z3 hne
            rcases Nat.lt_or_ge i o with w | w
            · have h4 := fo_L_gm' F L hx (show i + 1 ≤ o from w) ho
              rw [fo_gs z1] at h4
              right; omega
            · have h4 := fo_L_gm' F L hx w (by omega)
              have h5 := fo_L_gk F L hx z1 z2
              left; omega
          · exact absurd (fo_A_t (fo_A_kid F hn z1 z2) z3) ha
          · have hk := fo_lt24 F (fo_dn F z1 z2 z3).1
            have hk2 := fo_lt24 F (fo_dn F z1 z2 z4).1
            have h3 := fo_L_gA F L hx ho hk z6
            have h4 := fo_L_A F L hn hk2 z7
            rcases Nat.lt_or_ge i j with w | w
            · have := fo_L_kk F L z1 z2 j w z4
              left; omega
            · have := fo_L_kk F L z1 z2 i (show j < i by omega) z3
              right; omega
        unfold fo_fi
        rcases h2 with h2 | h2
        · rw [if_pos h2]
        · rw [if_neg (by omega), if_neg (by omega)]
      · rw [if_neg hr]
end
theorem fo_Q_tk {A : fo_S} (F : fo_F A) (Q : fo_Q A) {n : Nat} (hn : n < fo_c A) (hpn : fo_p A n < 24) : fo_Q (fo_tk A n) := by
  obtain ⟨v1, v2, v3, v4⟩ := fo_up F hn hpn
  intro k hk
  obtain ⟨q1, q2⟩ := Q k hk
  show (if fo_b A n (fo_n A k) = true then fo_p A n else fo_n A k) < fo_c A ∧ (if fo_b A n (fo_n A k) = true then fo_x A n else if fo_n A k = fo_p A n ∧ fo_x A n < fo_o A k then fo_o A k - 1 else fo_o A k) ≤ (if (if fo_b A n (fo_n A k) = true then fo_p A n else fo_n A k) = fo_p A n then fo_s A (if fo_b A n (fo_n A k) = true then fo_p A n else fo_n A k) - 1 else fo_s A (if fo_b A n (fo_n A k) = true then fo_p A n else fo_n A k))
  by_cases b : fo_b A n (fo_n A k) = true
  · rw [if_pos b, if_pos b, if_pos rfl]
    exact ⟨v1, by omega⟩
  · rw [if_neg b, if_neg b]
    refine ⟨q1, ?_⟩
    by_cases e : fo_n A k = fo_p A n
    · rw [if_pos e]
      rw [e] at q2
      by_cases z : fo_x A n < fo_o A k
      · rw [if_pos ⟨e, z⟩, e]; omega
      · rw [if_neg (fun y => z y.2), e]; omega
    · rw [if_neg e, if_neg (fun y => e y.1)]
      exact q2
theorem fo_R_tk {A : fo_S} (F : fo_F A) (Q : fo_Q A) (R : fo_R A) {n : Nat} (hn : n < fo_c A) (hpn : fo_p A n < 24) : fo_R (fo_tk A n) := by
  have M := fo_M_ex F
  have hr : ∀ k, k < 8 → fo_r (fo_tk A n) (fo_n (fo_tk A n) k) = fo_r A (fo_n A k) := by
    intro k hk
    obtain ⟨q1, q2⟩ := Q k hk
    show fo_r (fo_tk A n) (if fo_b A n (fo_n A k) = true then fo_p A n else fo_n A k) = _
    have hn24 := fo_lt24 F hn
    by_cases ha : fo_A A n (fo_n A k)
    · rw [if_pos ((fo_b_i F hn24 q1).mpr ha)]
      have hna : ¬ fo_A A n (fo_p A n) := fun w => by
        have h1 := fo_A_d F (fo_up F hn hpn).1 hn24 w
        have h2 := fo_d_up F hn hpn
        omega
      rw [(fo_r_tk F hn hpn _ (fo_up F hn hpn).1).2 hna, ← fo_r_up F hn hpn]
      exact fo_A_rt F q1 hn24 ha
    · rw [if_neg (by rw [fo_b_n F hn24 q1 ha]; exact Bool.false_ne_true)]
      exact (fo_r_tk F hn hpn _ q1).2 ha
  refine fo_R_of (fo_F_tk F hn hpn) (fo_Q_tk F Q hn hpn) (fo_tk_L F (fo_ML F M) hn hpn) fun r hr4 => ⟨?_, ?_⟩
  · rw [hr _ (by omega), hr _ (by omega)]
    exact (R r hr4).1
  · obtain ⟨q1, q2⟩ := Q (2 * r) (by omega)
    obtain ⟨q3, q4⟩ := Q (2 * r + 1) (by omega)
    obtain ⟨r1, r2⟩ := R r hr4
    have e1 := fo_tk_g F M hn hpn q1 q2
    have e2 := fo_tk_g F M hn hpn q3 q4
    refine Nat.le_trans (Nat.le_of_eq e1) (Nat.le_trans ?_ (Nat.le_of_eq e2.symm))
    rw [r1]
    by_cases z : fo_r A (fo_n A (2 * r + 1)) = fo_r A n
    · rw [if_pos z, if_pos z]; exact fo_fi_m r2
    · rw [if_neg z, if_neg z]; exact r2
theorem fo_Z_tk {A : fo_S} (F : fo_F A) (Z : fo_Z A) {n : Nat} (hn : n < fo_c A) (hpn : fo_p A n < 24) : fo_Z (fo_tk A n) := by
  obtain ⟨v1, v2, v3, v4⟩ := fo_up F hn hpn
  obtain ⟨z1, z2, z3⟩ := Z
  refine ⟨z1, fun x hx ht => ?_, fun x hx => ?_⟩
  · have ht : fo_t A x = true := ht
    have e : fo_s (fo_tk A n) x = fo_s A x := if_neg (fun e => by rw [e, v2] at ht; exact absurd ht (by decide))
    rw [e]
    exact z2 x hx ht
  · have hx : fo_c A ≤ x := hx
    show (if x = fo_p A n then fo_s A x - 1 else fo_s A x) = 0
    rw [if_neg (by omega)]
    exact z3 x hx
theorem fo_I_tk {A : fo_S} (I : fo_I A) {n : Nat} (hn : n < fo_c A) (hpn : fo_p A n < 24) : fo_I (fo_tk A n) :=
  ⟨fo_F_tk I.1 hn hpn, fo_Z_tk I.1 I.2.1 hn hpn, fo_Q_tk I.1 I.2.2.1 hn hpn, fo_R_tk I.1 I.2.2.1 I.2.2.2 hn hpn⟩
end
section
/-! putting in -/
/-- the numbers move: n's tree behind g0, what is behind g0 in p's tree by D -/
def fo_ta (A : fo_S) (p n g0 D x v : Nat) : Nat := if fo_r A x = n then v + g0 + 1 else if fo_r A x = fo_r A p ∧ g0 < v then v + D else v
theorem fo_ta_m {A : fo_S} {p n g0 D x y v w d : Nat} (hr : fo_r A x = fo_r A y) (h : v + d < w) : fo_ta A p n g0 D x v + d < fo_ta A p n g0 D y w := by
  unfold fo_ta
  rw [hr]
  by_cases a : fo_r A y = n
  · rw [if_pos a, if_pos a]; omega
  · rw [if_neg a, if_neg a]
    by_cases b : fo_r A y = fo_r A p
    · by_cases c : g0 < v
      · rw [if_pos ⟨b, c⟩, if_pos ⟨b, by omega⟩]; omega
      · rw [if_neg (fun z => c z.2)]
        by_cases e : g0 < w
        · rw [if_pos ⟨b, e⟩]; omega
        · rw [if_neg (fun z => e z.2)]; omega
    · rw [if_neg (fun z => b z.1), if_neg (fun z => b z.1)]; omega
theorem fo_ta_l {A : fo_S} {p n g0 D x y v w : Nat} (hr : fo_r A x = fo_r A y) (h : v ≤ w) : fo_ta A p n g0 D x v ≤ fo_ta A p n g0 D y w := by
  rcases Nat.eq_or_lt_of_le h with z | z
  · unfold fo_ta; rw [hr, z]; exact Nat.le_refl _
  · exact Nat.le_of_lt (fo_ta_m (d := 0) hr z)
section
variable {A : fo_S} {op cl : Nat → Nat}
theorem fo_pt_L (F : fo_F A) (M : fo_M A op cl) {p n i : Nat} (hn : n < fo_c A) (hpn : fo_p A n = 24) (hp : p < fo_c A) (htp : fo_t A p = false) (ha : ¬ fo_A A n p) (hi : i ≤ fo_s A p) :
    fo_L (fo_pt A p n i) (fun x => fo_ta A p n (fo_g A op cl p i) (cl n + 2) x (op x)) (fun x => fo_ta A p n (fo_g A op cl p i) (cl n + 2) x (cl x)) := by
  have L := fo_ML F M
  have hrn : fo_r A n = n := fo_r_0 (by omega)
  have hrp : fo_r A p ≠ n := fun z => by
    have := (fo_r_in F p hp).2.2
    rw [z] at this
    exact ha this
  have tn : ∀ v, fo_ta A p n (fo_g A op cl p i) (cl n + 2) n v = v + fo_g A op cl p i + 1 := fun v => if_pos hrn
  have tl : ∀ x v, fo_r A x = fo_r A p → v ≤ fo_g A op cl p i → fo_ta A p n (fo_g A op cl p i) (cl n + 2) x v = v := fun x v h1 h2 => by
    unfold fo_ta; rw [h1, if_neg hrp, if_neg (fun z => by have := z.2; omega)]
  have th : ∀ x v, fo_r A x = fo_r A p → fo_g A op cl p i < v → fo_ta A p n (fo_g A op cl p i) (cl n + 2) x v = v + (cl n + 2) := fun x v h1 h2 => by
    unfold fo_ta; rw [h1, if_neg hrp, if_pos ⟨rfl, h2⟩]
  intro x hx
  have hx : x < fo_c A := hx
  have es : fo_s (fo_pt A p n i) x = if x = p then fo_s A x + 1 else fo_s A x := rfl
  have ek : ∀ j, fo_k (fo_pt A p n i) x j = if x = p then (if j < i then fo_k A x j else if j = i then n else fo_k A x (j - 1)) else fo_k A x j := fun j => rfl
  refine ⟨fun ht => ?_, fun ht => ?_⟩
  · have ht : fo_t A x = true := ht
    rw [es, if_neg (fun e => by rw [e, htp] at ht; exact absurd ht (by decide))]
    exact fo_ta_m rfl ((L x hx).1 ht)
  · have ht : fo_t A x = false := ht
    obtain ⟨l1, l2, l3⟩ := (L x hx).2 ht
    refine ⟨fo_ta_m (d := 0) rfl l1, fun j hj => ?_, fun j hj => ?_⟩
    · rw [es] at hj
      rw [ek]
      by_cases e : x = p
      · rw [if_pos e] at hj
        rw [if_pos e]
        by_cases z : j < i
        · rw [if_pos z]
          have hjs : j < fo_s A x := by rw [e]; omega
          exact ⟨fo_ta_m (d := 0) (fo_rk F hx ht hjs).symm (l2 j hjs).1, fo_ta_m (d := 0) (fo_rk F hx ht hjs) (l2 j hjs).2⟩
        · rw [if_neg z]
          by_cases z2 : j = i
          · rw [if_pos z2]
            have hg := fo_L_g F L hp hi
            try dsimp only
            rw [tn, tn, tl x _ (by rw [e]) (by rw [e]; omega), th x _ (by rw [e]) (by rw [e]; omega), e]
            omega
          · rw [if_neg z2]
            have hjs : j - 1 < fo_s A x := by omega
            exact ⟨fo_ta_m (d := 0) (fo_rk F hx ht hjs).symm (l2 _ hjs).1, fo_ta_m (d := 0) (fo_rk F hx ht hjs) (l2 _ hjs).2⟩
      · rw [if_neg e] at hj
        rw [if_neg e]
        exact ⟨fo_ta_m (d := 0) (fo_rk F hx ht hj).symm (l2 j hj).1, fo_ta_m (d := 0) (fo_rk F hx ht hj) (l2 j hj).2⟩
    · rw [es] at hj
      rw [ek, ek]
      by_cases e : x = p
      · subst e
        rw [if_pos rfl] at hj
        rw [if_pos rfl, if_pos rfl]
        by_cases z : j + 1 < i
        · rw [if_pos (show j < i by omega), if_pos z]
          have a1 : j < fo_s A x := by omega
          have a2 : j + 1 < fo_s A x := by omega
          exact fo_ta_m (d := 0) ((fo_rk F hx ht a1).trans (fo_rk F hx ht a2).symm) (l3 j a2)
        · by_cases z2 : j + 1 = i
          · have a1 : j < fo_s A x := by omega
            rw [if_pos (show j < i by omega), if_neg z, if_pos z2]
            try dsimp only
            have e2 : fo_g A op cl x i = cl (fo_k A x j) := by rw [← z2, fo_gs htp]
            rw [tn, tl _ _ (fo_rk F hx ht a1) (by omega)]
            omega
          · rw [if_neg (show ¬ j < i by omega), if_neg z, if_neg z2]
            by_cases z3 : j = i
            · rw [if_pos z3, show j + 1 - 1 = j by omega]
              have a1 : j < fo_s A x := by omega
              have h1 := fo_L_gk F L hx ht a1
              try dsimp only
              rw [tn, th _ _ (fo_rk F hx ht a1) (by rw [← z3]; exact h1), ← z3]
              omega
            · rw [if_neg z3]
              have a1 : j - 1 < fo_s A x := by omega
              have a2 : j + 1 - 1 < fo_s A x := by omega
              exact fo_ta_m (d := 0) ((fo_rk F hx ht a1).trans (fo_rk F hx ht a2).symm) (fo_L_kk F L hx ht _ (by omega) a2)
      · rw [if_neg e] at hj
        rw [if_neg e, if_neg e]
        have a1 : j < fo_s A x := by omega
        exact fo_ta_m (d := 0) ((fo_rk F hx ht a1).trans (fo_rk F hx ht hj).symm) (l3 j hj)
theorem fo_pt_g (F : fo_F A) (M : fo_M A op cl) {p n i : Nat} (hn : n < fo_c A) (hpn : fo_p A n = 24) (hp : p < fo_c A) (htp : fo_t A p = false) (ha : ¬ fo_A A n p) (hi : i ≤ fo_s A p) {x o : Nat} (hx : x < fo_c A) (ho : o ≤ fo_s A x) :
    fo_g (fo_pt A p n i) (fun x => fo_ta A p n (fo_g A op cl p i) (cl n + 2) x (op x)) (fun x => fo_ta A p n (fo_g A op cl p i) (cl n + 2) x (cl x)) x (if x = p ∧ i < o then o + 1 else o) = fo_ta A p n (fo_g A op cl p i) (cl n + 2) x (fo_g A op cl x o) := by
  have L := fo_ML F M
  have hrp : fo_r A p ≠ n := fun z => by
    have := (fo_r_in F p hp).2.2
    rw [z] at this
    exact ha this
  have tt : ∀ v y, fo_r A y = fo_r A x → fo_ta A p n (fo_g A op cl p i) (cl n + 2) y v = fo_ta A p n (fo_g A op cl p i) (cl n + 2) x v := fun v y h => by unfold fo_ta; rw [h]
  rcases fo_ft (fo_t A x) with ht | ht
  · have ht' : fo_t (fo_pt A p n i) x = true := ht
    have e : x ≠ p := fun e => by rw [e, htp] at ht; exact absurd ht (by decide)
    rw [if_neg (fun z => e z.1), fo_gt ht', fo_gt ht]
    try dsimp only
    have hs := (M x hx).2.2.1 ht
    by_cases hr : fo_r A x = n
    · unfold fo_ta; rw [if_pos hr, if_pos hr]; omega
    · by_cases hr2 : fo_r A x = fo_r A p
      · have key : fo_g A op cl p i < op x ∨ op x + o ≤ fo_g A op cl p i := by
          have hg := fo_L_g F L hp hi
          rcases fo_tri F hp x hx hr2 with z | ⟨z1, -⟩ | ⟨z1, j, z2, z3⟩ | ⟨q, a, b, z1, z2, z3, z4, z5, z6, z7⟩
          · exact absurd z e
          · rw [z1] at ht; exact absurd ht (by decide)
          · have hk := fo_lt24 F (fo_dn F hp z1 z2).1
            have h1 := fo_L_A F L hx hk z3
            rcases Nat.lt_or_ge j i with w | w
            · have h2 := fo_L_gm' F L hp (show j + 1 ≤ i from w) hi
              rw [fo_gs htp] at h2
              right; omega
            · have h2 := fo_L_gm' F L hp w (by omega)
              have h3 := fo_L_gk F L hp htp z2
              left; omega
          · have hk := fo_lt24 F (fo_dn F z1 z2 z3).1
            have hk2 := fo_lt24 F (fo_dn F z1 z2 z4).1
            have h1 := fo_L_A F L hx hk z6
            have h2 := fo_L_A F L hp hk2 z7
            rcases Nat.lt_or_ge a b with w | w
            · have := fo_L_kk F L z1 z2 b w z4
              right; omega
            · have := fo_L_kk F L z1 z2 a (show b < a by omega) z3
              left; omega
        unfold fo_ta
        rw [if_neg hr, if_neg hr]
        rcases key with w | w
        · rw [if_pos ⟨hr2, w⟩, if_pos ⟨hr2, by omega⟩]; omega
        · rw [if_neg (fun z => by have := z.2; omega), if_neg (fun z => by have := z.2; omega)]
      · unfold fo_ta
        rw [if_neg hr, if_neg hr, if_neg (fun z => hr2 z.1), if_neg (fun z => hr2 z.1)]
  · have ht' : fo_t (fo_pt A p n i) x = false := ht
    have ek : ∀ j, fo_k (fo_pt A p n i) x j = if x = p then (if j < i then fo_k A x j else if j = i then n else fo_k A x (j - 1)) else fo_k A x j := fun j => rfl
    cases o with
    | zero =>
      rw [if_neg (fun z => by have := z.2; omega), fo_g0, fo_g0]
    | succ o =>
      have a1 : o < fo_s A x := by omega
      by_cases e : x = p
      · by_cases z : i < o + 1
        · rw [if_pos ⟨e, z⟩, fo_gs ht', fo_gs ht, ek, if_pos e, if_neg (by omega), if_neg (by omega), show o + 1 - 1 = o by omega]
          exact tt _ _ (fo_rk F hx ht a1)
        · rw [if_neg (fun w => z w.2), fo_gs ht', fo_gs ht, ek, if_pos e, if_pos (by omega)]
          exact tt _ _ (fo_rk F hx ht a1)
      · rw [if_neg (fun w => e w.1), fo_gs ht', fo_gs ht, ek, if_neg e]
        exact tt _ _ (fo_rk F hx ht a1)
end
theorem fo_Q_pt {A : fo_S} (Q : fo_Q A) {p n i : Nat} : fo_Q (fo_pt A p n i) := by
  intro k hk
  obtain ⟨q1, q2⟩ := Q k hk
  refine ⟨q1, ?_⟩
  show (if fo_n A k = p ∧ i < fo_o A k then fo_o A k + 1 else fo_o A k) ≤ (if fo_n A k = p then fo_s A (fo_n A k) + 1 else fo_s A (fo_n A k))
  by_cases e : fo_n A k = p
  · rw [if_pos e]
    by_cases z : i < fo_o A k
    · rw [if_pos ⟨e, z⟩]; omega
    · rw [if_neg (fun y => z y.2)]; omega
  · rw [if_neg e, if_neg (fun y => e y.1)]; exact q2
theorem fo_R_pt {A : fo_S} (F : fo_F A) (Q : fo_Q A) (R : fo_R A) {p n i : Nat} (hn : n < fo_c A) (hpn : fo_p A n = 24) (hp : p < fo_c A) (htp : fo_t A p = false) (ha : ¬ fo_A A n p) (hi : i ≤ fo_s A p) : fo_R (fo_pt A p n i) := by
  have M := fo_M_ex F
  refine fo_R_of (fo_F_pt F hn hpn hp htp ha hi) (fo_Q_pt Q) (fo_pt_L F M hn hpn hp htp ha hi) fun r hr4 => ?_
  obtain ⟨q1, q2⟩ := Q (2 * r) (by omega)
  obtain ⟨q3, q4⟩ := Q (2 * r + 1) (by omega)
  obtain ⟨r1, r2⟩ := R r hr4
  constructor
  · show fo_r (fo_pt A p n i) (fo_n A (2 * r)) = fo_r (fo_pt A p n i) (fo_n A (2 * r + 1))
    have h1 := fo_r_pt F hn hpn hp htp ha hi _ q1
    have h2 := fo_r_pt F hn hpn hp htp ha hi _ q3
    by_cases z : fo_r A (fo_n A (2 * r + 1)) = n
    · rw [h1.1 (r1.trans z), h2.1 z]
    · rw [h1.2 (by rw [r1]; exact z), h2.2 z, r1]
  · have e1 := fo_pt_g F M hn hpn hp htp ha hi q1 q2
    have e2 := fo_pt_g F M hn hpn hp htp ha hi q3 q4
    exact Nat.le_trans (Nat.le_of_eq e1) (Nat.le_trans (fo_ta_l r1 r2) (Nat.le_of_eq e2.symm))
theorem fo_Z_pt {A : fo_S} (Z : fo_Z A) {p n i : Nat} (hp : p < fo_c A) (htp : fo_t A p = false) : fo_Z (fo_pt A p n i) := by
  obtain ⟨z1, z2, z3⟩ := Z
  refine ⟨z1, fun x hx ht => ?_, fun x hx => ?_⟩
  · have ht : fo_t A x = true := ht
    have e : fo_s (fo_pt A p n i) x = fo_s A x := if_neg (fun e => by rw [e, htp] at ht; exact absurd ht (by decide))
    rw [e]
    exact z2 x hx ht
  · have hx : fo_c A ≤ x := hx
    show (if x = p then fo_s A x + 1 else fo_s A x) = 0
    rw [if_neg (by omega)]
    exact z3 x hx
theorem fo_I_pt {A : fo_S} (I : fo_I A) {p n i : Nat} (hn : n < fo_c A) (hpn : fo_p A n = 24) (hp : p < fo_c A) (htp : fo_t A p = false) (ha : ¬ fo_A A n p) (hi : i ≤ fo_s A p) : fo_I (fo_pt A p n i) :=
  ⟨fo_F_pt I.1 hn hpn hp htp ha hi, fo_Z_pt I.2.1 hp htp, fo_Q_pt I.2.2.1, fo_R_pt I.1 I.2.2.1 I.2.2.2 hn hpn hp htp ha hi⟩
/-! a new node -/
theorem fo_I_mk {A : fo_S} (I : fo_I A) (h : fo_c A < 24) (b : Bool) : fo_I (fo_mk A b) := by
  obtain ⟨F, ⟨z1, z2, z3⟩, Q, R⟩ := I
  have h0 := z3 (fo_c A) (Nat.le_refl _)
  have F' := fo_F_mk F h h0 b
  have et : ∀ x, x < fo_c A → fo_t (fo_mk A b) x = fo_t A x := fun x hx => if_neg (by omega)
  have Q' : fo_Q (fo_mk A b) := fun k hk => ⟨Nat.lt_succ_of_lt (Q k hk).1, (Q k hk).2⟩
  refine ⟨F', ⟨Nat.le_succ_of_le z1, fun n hn ht => ?_, fun n hn => z3 n (Nat.le_of_succ_le hn)⟩, Q', ?_⟩
  · have hn : n < fo_c A + 1 := hn
    rcases Nat.lt_or_ge n (fo_c A) with z | z
    · rw [et n z] at ht
      exact z2 n z ht
    · have e : fo_s (fo_mk A b) n = 0 := by
        show fo_s A n = 0
        exact z3 n z
      rw [e]
      exact ⟨Nat.zero_le _, fun i hi => absurd hi (Nat.not_lt_zero _)⟩
  · have L := fo_ML F (fo_M_ex F)
    have L' : fo_L (fo_mk A b) (fun x => if x = fo_c A then 0 else fo_op A x) (fun x => if x = fo_c A then 1 else fo_cl A x) := by
      intro x hx
      have hx : x < fo_c A + 1 := hx
      try dsimp only
      rcases Nat.lt_or_ge x (fo_c A) with z | z
      · rw [et x z, if_neg (by omega), if_neg (by omega)]
        refine ⟨(L x z).1, fun ht => ?_⟩
        obtain ⟨l1, l2, l3⟩ := (L x z).2 ht
        have kn : ∀ i, i < fo_s A x → fo_k A x i ≠ fo_c A := fun i hi e => by have := (fo_dn F z ht hi).1; omega
        refine ⟨l1, fun i hi => ?_, fun i hi => ?_⟩
        · have hi : i < fo_s A x := hi
          show fo_op A x < (if fo_k A x i = fo_c A then 0 else fo_op A (fo_k A x i)) ∧ (if fo_k A x i = fo_c A then 1 else fo_cl A (fo_k A x i)) < fo_cl A x
          rw [if_neg (kn i hi), if_neg (kn i hi)]
          exact l2 i hi
        · have hi : i + 1 < fo_s A x := hi
          show (if fo_k A x i = fo_c A then 1 else fo_cl A (fo_k A x i)) < (if fo_k A x (i + 1) = fo_c A then 0 else fo_op A (fo_k A x (i + 1)))
          rw [if_neg (kn i (by omega)), if_neg (kn _ hi)]
          exact l3 i hi
      · have e : fo_s (fo_mk A b) x = 0 := by
          show fo_s A x = 0
          exact z3 x z
        rw [e, if_pos (by omega), if_pos (by omega)]
        exact ⟨fun _ => by omega, fun _ => ⟨by omega, fun i hi => absurd hi (Nat.not_lt_zero _), fun i hi => absurd hi (Nat.not_lt_zero _)⟩⟩
    refine fo_R_of F' Q' L' fun r hr4 => ?_
    have er : fo_r (fo_mk A b) = fo_r A := fo_r_c rfl
    obtain ⟨q1, q2⟩ := Q (2 * r) (by omega)
    obtain ⟨q3, q4⟩ := Q (2 * r + 1) (by omega)
    obtain ⟨r1, r2⟩ := R r hr4
    have eg : ∀ x o, x < fo_c A → o ≤ fo_s A x → fo_g (fo_mk A b) (fun x => if x = fo_c A then 0 else fo_op A x) (fun x => if x = fo_c A then 1 else fo_cl A x) x o = fo_g A (fo_op A) (fo_cl A) x o := by
      intro x o hx ho
      rcases fo_ft (fo_t A x) with ht | ht
      · rw [fo_gt ht, fo_gt (by rw [et x hx]; exact ht)]
        try dsimp only
        rw [if_neg (by omega)]
      · cases o with
        | zero =>
          rw [fo_g0, fo_g0]
          try dsimp only
          rw [if_neg (by omega)]
        | succ o =>
          rw [fo_gs ht, fo_gs (by rw [et x hx]; exact ht)]
          show (if fo_k A x o = fo_c A then 1 else fo_cl A (fo_k A x o)) = _
          rw [if_neg (by have := (fo_dn F hx ht (show o < fo_s A x by omega)).1; omega)]
    refine ⟨by rw [er]; exact r1, ?_⟩
    exact Nat.le_trans (Nat.le_of_eq (eg _ _ q1 q2)) (Nat.le_trans r2 (Nat.le_of_eq (eg _ _ q3 q4).symm))
end
section
/-! letters exchanged -/
def fo_ex (A : fo_S) (t a c k : Nat) (dg : Nat → Nat) : fo_S :=
  (fo_c A, fo_t A, fo_p A, fo_x A, fun q => if q = t then fo_s A q + k - c else fo_s A q, fo_k A,
   fun q j => if q = t ∧ a ≤ j then (if j < a + k then dg (j - a) else fo_l A q (j + c - k)) else fo_l A q j,
   fo_n A, fun q => if fo_n A q = t ∧ a < fo_o A q then (if fo_o A q ≤ a + c then a else fo_o A q + k - c) else fo_o A q)
def fo_te (A : fo_S) (g t k x v : Nat) : Nat := if fo_r A x = fo_r A t ∧ g < v then v + k else v
theorem fo_te_m {A : fo_S} {g t k x y v w d : Nat} (hr : fo_r A x = fo_r A y) (h : v + d < w) : fo_te A g t k x v + d < fo_te A g t k y w := by
  unfold fo_te
  rw [hr]
  by_cases b : fo_r A y = fo_r A t
  · by_cases c : g < v
    · rw [if_pos ⟨b, c⟩, if_pos ⟨b, by omega⟩]; omega
    · rw [if_neg (fun z => c z.2)]
      by_cases e : g < w
      · rw [if_pos ⟨b, e⟩]; omega
      · rw [if_neg (fun z => e z.2)]; omega
  · rw [if_neg (fun z => b z.1), if_neg (fun z => b z.1)]; omega
def fo_th (g a c k s v : Nat) : Nat := if v ≤ g + a then v else if v ≤ g + a + c then g + a else if v ≤ g + s then v + k - c else v + k
theorem fo_th_m {g a c k s v w : Nat} (h : v ≤ w) : fo_th g a c k s v ≤ fo_th g a c k s w := by
  unfold fo_th
  repeat' split
  all_goals omega
section
variable {A : fo_S} {op cl : Nat → Nat}
theorem fo_ex_L (F : fo_F A) (L : fo_L A op cl) {t a c k : Nat} {dg : Nat → Nat} (ht : t < fo_c A) (tt : fo_t A t = true) (hc : a + c ≤ fo_s A t) :
    fo_L (fo_ex A t a c k dg) (fun x => fo_te A (op t) t k x (op x)) (fun x => fo_te A (op t) t k x (cl x)) := by
  intro x hx
  have hx : x < fo_c A := hx
  have es : fo_s (fo_ex A t a c k dg) x = if x = t then fo_s A x + k - c else fo_s A x := rfl
  refine ⟨fun htx => ?_, fun htx => ?_⟩
  · have htx : fo_t A x = true := htx
    have l := (L x hx).1 htx
    rw [es]
    by_cases e : x = t
    · subst e
      rw [if_pos rfl]
      show fo_te A (op x) x k x (op x) + (fo_s A x + k - c) < fo_te A (op x) x k x (cl x)
      unfold fo_te
      rw [if_neg (fun z => Nat.lt_irrefl _ z.2), if_pos ⟨rfl, by omega⟩]
      omega
    · rw [if_neg e]
      exact fo_te_m rfl l
  · have htx : fo_t A x = false := htx
    obtain ⟨l1, l2, l3⟩ := (L x hx).2 htx
    rw [es, if_neg (fun e => by rw [e, tt] at htx; exact absurd htx (by decide))]
    refine ⟨fo_te_m (d := 0) rfl l1, fun i hi => ⟨fo_te_m (d := 0) (fo_rk F hx htx hi).symm (l2 i hi).1, fo_te_m (d := 0) (fo_rk F hx htx hi) (l2 i hi).2⟩, fun i hi => ?_⟩
    exact fo_te_m (d := 0) ((fo_rk F hx htx (show i < fo_s A x by omega)).trans (fo_rk F hx htx hi).symm) (l3 i hi)
theorem fo_ex_g (F : fo_F A) (M : fo_M A op cl) {t a c k : Nat} {dg : Nat → Nat} (ht : t < fo_c A) (tt : fo_t A t = true) (hc : a + c ≤ fo_s A t) {x o : Nat} (hx : x < fo_c A) (ho : o ≤ fo_s A x) :
    fo_g (fo_ex A t a c k dg) (fun x => fo_te A (op t) t k x (op x)) (fun x => fo_te A (op t) t k x (cl x)) x (if x = t ∧ a < o then (if o ≤ a + c then a else o + k - c) else o) = if fo_r A x = fo_r A t then fo_th (op t) a c k (fo_s A t) (fo_g A op cl x o) else fo_g A op cl x o := by
  have L := fo_ML F M
  have hct := (M t ht).2.2.1 tt
  by_cases e : x = t
  · subst e
    have tt' : fo_t (fo_ex A x a c k dg) x = true := tt
    rw [fo_gt tt', fo_gt tt, if_pos rfl]
    have e0 : fo_te A (op x) x k x (op x) = op x := if_neg (fun z => Nat.lt_irrefl _ z.2)
    try dsimp only
    rw [e0]
    unfold fo_th
    repeat' split
    all_goals omega
  · rw [if_neg (fun y => e y.1)]
    by_cases hr : fo_r A x = fo_r A t
    · rw [if_pos hr]
      have key : ∀ v y, fo_r A y = fo_r A t → (v < op t ∨ op t + fo_s A t < v) → fo_te A (op t) t k y v = fo_th (op t) a c k (fo_s A t) v := by
        intro v y hy h
        unfold fo_te fo_th
        rcases h with h | h
        · rw [if_neg (fun z => by have := z.2; omega), if_pos (by omega)]
        · rw [if_pos ⟨hy, by omega⟩, if_neg (by omega), if_neg (by omega), if_neg (by omega)]
      rcases fo_ft (fo_t A x) with htx | htx
      · have htx' : fo_t (fo_ex A t a c k dg) x = true := htx
        rw [fo_gt htx', fo_gt htx]
        have hcx := (M x hx).2.2.1 htx
        have i1 := fo_I4 F L ht hx hr.symm tt e
        have i2 := fo_I4 F L hx ht hr htx (fun z => e z.symm)
        have hxx := fo_L_lt L hx
        have htt := fo_L_lt L ht
        try dsimp only
        rw [key (op x) x hr (by omega)]
        unfold fo_th
        repeat' split
        all_goals omega
      · have htx' : fo_t (fo_ex A t a c k dg) x = false := htx
        cases o with
        | zero =>
          rw [fo_g0, fo_g0]
          have i1 := fo_I4 F L ht hx hr.symm tt e
          exact key (op x) x hr (by omega)
        | succ o =>
          rw [fo_gs htx', fo_gs htx]
          have a1 : o < fo_s A x := by omega
          have hk := (fo_dn F hx htx a1).1
          have hrk := (fo_rk F hx htx a1).trans hr
          refine key (cl (fo_k A x o)) (fo_k A x o) hrk ?_
          by_cases e2 : fo_k A x o = t
          · rw [e2]; omega
          · have i1 := fo_I4 F L ht hk hrk.symm tt e2
            omega
    · rw [if_neg hr]
      have key : ∀ v y, fo_r A y = fo_r A x → fo_te A (op t) t k y v = v := fun v y h => if_neg (fun z => hr (h.symm.trans z.1))
      rcases fo_ft (fo_t A x) with htx | htx
      · have htx' : fo_t (fo_ex A t a c k dg) x = true := htx
        rw [fo_gt htx', fo_gt htx]
        try dsimp only
        rw [key _ x rfl]
      · have htx' : fo_t (fo_ex A t a c k dg) x = false := htx
        cases o with
        | zero => rw [fo_g0, fo_g0]; exact key _ x rfl
        | succ o =>
          rw [fo_gs htx', fo_gs htx]
          exact key _ _ (fo_rk F hx htx (show o < fo_s A x by omega))
end
theorem fo_I_ex {A : fo_S} (I : fo_I A) {t a c k : Nat} {dg : Nat → Nat} (ht : t < fo_c A) (tt : fo_t A t = true) (hc : a + c ≤ fo_s A t) (h12 : fo_s A t + k - c ≤ 12) (hdg : ∀ j, j < k → dg j < 10) : fo_I (fo_ex A t a c k dg) := by
  obtain ⟨F, ⟨z1, z2, z3⟩, Q, R⟩ := I
  have es : ∀ x, fo_s (fo_ex A t a c k dg) x = if x = t then fo_s A x + k - c else fo_s A x := fun x => rfl
  have F' : fo_F (fo_ex A t a c k dg) := fo_F_s F rfl rfl rfl rfl rfl fun q hq htq => by
    rw [es, if_neg (fun e => by rw [e, tt] at htq; exact absurd htq (by decide))]
  have Q' : fo_Q (fo_ex A t a c k dg) := by
    intro q hq
    obtain ⟨q1, q2⟩ := Q q hq
    refine ⟨q1, ?_⟩
    show (if fo_n A q = t ∧ a < fo_o A q then (if fo_o A q ≤ a + c then a else fo_o A q + k - c) else fo_o A q) ≤ (if fo_n A q = t then fo_s A (fo_n A q) + k - c else fo_s A (fo_n A q))
    by_cases e : fo_n A q = t
    · rw [if_pos e]
      rw [e] at q2 ⊢
      by_cases z : a < fo_o A q
      · rw [if_pos ⟨rfl, z⟩]
        by_cases z2 : fo_o A q ≤ a + c
        · rw [if_pos z2]; omega
        · rw [if_neg z2]; omega
      · rw [if_neg (fun y => z y.2)]; omega
    · rw [if_neg e, if_neg (fun y => e y.1)]; exact q2
  refine ⟨F', ⟨z1, fun x hx htx => ?_, fun x hx => ?_⟩, Q', ?_⟩
  · have hx : x < fo_c A := hx
    have htx : fo_t A x = true := htx
    have el : ∀ i, fo_l (fo_ex A t a c k dg) x i = if x = t ∧ a ≤ i then (if i < a + k then dg (i - a) else fo_l A x (i + c - k)) else fo_l A x i := fun i => rfl
    obtain ⟨y1, y2⟩ := z2 x hx htx
    rw [es]
    by_cases e : x = t
    · subst e
      rw [if_pos rfl]
      refine ⟨h12, fun i hi => ?_⟩
      rw [el]
      by_cases z : a ≤ i
      · rw [if_pos ⟨rfl, z⟩]
        by_cases w : i < a + k
        · rw [if_pos w]; exact hdg _ (by omega)
        · rw [if_neg w]; exact y2 _ (by omega)
      · rw [if_neg (fun y => z y.2)]; exact y2 _ (by omega)
    · rw [if_neg e]
      refine ⟨y1, fun i hi => ?_⟩
      rw [el, if_neg (fun y => e y.1)]; exact y2 i hi
  · have hx : fo_c A ≤ x := hx
    rw [es, if_neg (by omega)]; exact z3 x hx
  · have M := fo_M_ex F
    refine fo_R_of F' Q' (fo_ex_L F (fo_ML F M) ht tt hc) fun r hr4 => ?_
    obtain ⟨q1, q2⟩ := Q (2 * r) (by omega)
    obtain ⟨q3, q4⟩ := Q (2 * r + 1) (by omega)
    obtain ⟨r1, r2⟩ := R r hr4
    have er : fo_r (fo_ex A t a c k dg) = fo_r A := fo_r_c rfl
    refine ⟨by rw [er]; exact r1, ?_⟩
    have e1 := fo_ex_g (k := k) (dg := dg) F M ht tt hc q1 q2
    have e2 := fo_ex_g (k := k) (dg := dg) F M ht tt hc q3 q4
    refine Nat.le_trans (Nat.le_of_eq e1) (Nat.le_trans ?_ (Nat.le_of_eq e2.symm))
    rw [r1]
    by_cases z : fo_r A (fo_n A (2 * r + 1)) = fo_r A t
    · rw [if_pos z, if_pos z]; exact fo_th_m r2
    · rw [if_neg z, if_neg z]; exact r2
/-! a place set -/
def fo_st (A : fo_S) (k n o : Nat) : fo_S := (fo_c A, fo_t A, fo_p A, fo_x A, fo_s A, fo_k A, fo_l A, fun j => if j = k then n else fo_n A j, fun j => if j = k then o else fo_o A j)
theorem fo_F_st {A : fo_S} (F : fo_F A) (k n o : Nat) : fo_F (fo_st A k n o) := fo_F_s F rfl rfl rfl rfl rfl fun _ _ _ => rfl
theorem fo_Z_st {A : fo_S} (Z : fo_Z A) (k n o : Nat) : fo_Z (fo_st A k n o) := Z
theorem fo_Q_st {A : fo_S} (Q : fo_Q A) {k n o : Nat} (hn : n < fo_c A) (ho : o ≤ fo_s A n) : fo_Q (fo_st A k n o) := by
  intro j hj
  obtain ⟨q1, q2⟩ := Q j hj
  show (if j = k then n else fo_n A j) < fo_c A ∧ (if j = k then o else fo_o A j) ≤ fo_s A (if j = k then n else fo_n A j)
  by_cases e : j = k
  · rw [if_pos e, if_pos e]; exact ⟨hn, ho⟩
  · rw [if_neg e, if_neg e]; exact ⟨q1, q2⟩
end
section
/-! texts joined, texts split: the places move, sizes of texts change, no link does -/
section
variable {A B : fo_S} {op cl : Nat → Nat}
theorem fo_te_L (F : fo_F A) (L : fo_L A op cl) {g t k : Nat} (hc : fo_c B = fo_c A) (ht : fo_t B = fo_t A) (hk : fo_k B = fo_k A) (hs : ∀ q, q < fo_c A → fo_t A q = false → fo_s B q = fo_s A q)
    (hx : ∀ x, x < fo_c A → fo_t A x = true → fo_te A g t k x (op x) + fo_s B x < fo_te A g t k x (cl x)) : fo_L B (fun x => fo_te A g t k x (op x)) (fun x => fo_te A g t k x (cl x)) := by
  intro x hxc
  rw [hc] at hxc
  rw [ht, hk]
  refine ⟨fun h => hx x hxc h, fun htx => ?_⟩
  obtain ⟨l1, l2, l3⟩ := (L x hxc).2 htx
  rw [hs x hxc htx]
  refine ⟨fo_te_m (d := 0) rfl l1, fun i hi => ⟨fo_te_m (d := 0) (fo_rk F hxc htx hi).symm (l2 i hi).1, fo_te_m (d := 0) (fo_rk F hxc htx hi) (l2 i hi).2⟩, fun i hi => ?_⟩
  exact fo_te_m (d := 0) ((fo_rk F hxc htx (show i < fo_s A x by omega)).trans (fo_rk F hxc htx hi).symm) (l3 i hi)
theorem fo_te_g (F : fo_F A) {g t k : Nat} (ht : fo_t B = fo_t A) (hk : fo_k B = fo_k A) {x w : Nat} (hx : x < fo_c A) (htx : fo_t A x = false) (hw : w ≤ fo_s A x) :
    fo_g B (fun x => fo_te A g t k x (op x)) (fun x => fo_te A g t k x (cl x)) x w = fo_te A g t k x (fo_g A op cl x w) := by
  cases w with
  | zero => rw [fo_g0, fo_g0]
  | succ w =>
    rw [fo_gs htx, fo_gs (by rw [ht]; exact htx), hk]
    show fo_te A g t k (fo_k A x w) _ = _
    unfold fo_te
    rw [fo_rk F hx htx (show w < fo_s A x by omega)]
theorem fo_te_i {g t k x v : Nat} (h : fo_r A x = fo_r A t → v ≤ g) : fo_te A g t k x v = v := if_neg fun z => by
  have h1 := h z.1
  have h2 := z.2
  omega
theorem fo_te_u {g t k x v : Nat} (hr : fo_r A x = fo_r A t) (h : g < v) : fo_te A g t k x v = v + k := if_pos ⟨hr, h⟩
end
/-- the letters and places of s go to t -/
def fo_jl (A : fo_S) (t s : Nat) : fo_S :=
  (fo_c A, fo_t A, fo_p A, fo_x A, fun q => if q = s then 0 else if q = t then fo_s A t + fo_s A s else fo_s A q, fo_k A,
   fun q j => if q = t ∧ fo_s A t ≤ j then fo_l A s (j - fo_s A t) else fo_l A q j,
   fun k => if fo_n A k = s ∨ (fo_n A k = fo_p A t ∧ fo_o A k = fo_x A s) then t else fo_n A k,
   fun k => if fo_n A k = s then fo_o A k + fo_s A t else if fo_n A k = fo_p A t ∧ fo_o A k = fo_x A s then fo_s A t else fo_o A k)
def fo_tj (a m b e v : Nat) : Nat := if v ≤ a + m then v else if v < b then a + m else if v ≤ b + e then a + m + (v - b) else v + e
theorem fo_tj_m {a m b e v w : Nat} (hb : a + m ≤ b) (h : v ≤ w) : fo_tj a m b e v ≤ fo_tj a m b e w := by
  unfold fo_tj
  repeat' split
  all_goals omega
theorem fo_I_jl {A : fo_S} (I : fo_I A) {t s : Nat} (ht : t < fo_c A) (tt : fo_t A t = true) (hs : s < fo_c A) (ts : fo_t A s = true) (hp : fo_p A t < 24) (hps : fo_p A s = fo_p A t) (hx : fo_x A s = fo_x A t + 1) (h12 : fo_s A t + fo_s A s ≤ 12) : fo_I (fo_jl A t s) := by
  obtain ⟨F, ⟨z1, z2, z3⟩, Q, R⟩ := I
  have M := fo_M_ex F
  have L := fo_ML F M
  have hts : t ≠ s := fun e => by rw [e] at hx; omega
  obtain ⟨v1, v2, v3, v4⟩ := fo_up F ht hp
  obtain ⟨w1, w2, w3, w4⟩ := fo_up F hs (by rw [hps]; exact hp)
  rw [hps] at w1 w2 w3 w4
  have hrt : fo_r A t = fo_r A (fo_p A t) := fo_r_up F ht hp
  have hrs : fo_r A s = fo_r A (fo_p A t) := by rw [fo_r_up F hs (by rw [hps]; exact hp), hps]
  have es : ∀ x, fo_s (fo_jl A t s) x = if x = s then 0 else if x = t then fo_s A t + fo_s A s else fo_s A x := fun x => rfl
  have ese : ∀ q, q < fo_c A → fo_t A q = false → fo_s (fo_jl A t s) q = fo_s A q := fun q hq htq => by
    rw [es, if_neg (fun e => by rw [e, ts] at htq; exact absurd htq (by decide)), if_neg (fun e => by rw [e, tt] at htq; exact absurd htq (by decide))]
  have F' : fo_F (fo_jl A t s) := fo_F_s F rfl rfl rfl rfl rfl ese
  have ep : fo_p A t ≠ s := fun e => by rw [e] at v2; rw [v2] at ts; exact absurd ts (by decide)
  have ept : fo_p A t ≠ t := fun e => by rw [e] at v2; rw [v2] at tt; exact absurd tt (by decide)
  have Q' : fo_Q (fo_jl A t s) := by
    intro k hk
    obtain ⟨q1, q2⟩ := Q k hk
    show (if fo_n A k = s ∨ (fo_n A k = fo_p A t ∧ fo_o A k = fo_x A s) then t else fo_n A k) < fo_c A ∧ (if fo_n A k = s then fo_o A k + fo_s A t else if fo_n A k = fo_p A t ∧ fo_o A k = fo_x A s then fo_s A t else fo_o A k) ≤ fo_s (fo_jl A t s) (if fo_n A k = s ∨ (fo_n A k = fo_p A t ∧ fo_o A k = fo_x A s) then t else fo_n A k)
    by_cases e : fo_n A k = s
    · rw [if_pos (Or.inl e), if_pos e, es, if_neg hts, if_pos rfl]
      rw [e] at q2
      exact ⟨ht, by omega⟩
    · by_cases e2 : fo_n A k = fo_p A t ∧ fo_o A k = fo_x A s
      · rw [if_pos (Or.inr e2), if_neg e, if_pos e2, es, if_neg hts, if_pos rfl]
        exact ⟨ht, by omega⟩
      · rw [if_neg (fun y => y.elim e e2), if_neg e, if_neg e2, es, if_neg e]
        refine ⟨q1, ?_⟩
        by_cases e3 : fo_n A k = t
        · rw [if_pos e3]; rw [e3] at q2; omega
        · rw [if_neg e3]; exact q2
  refine ⟨F', ⟨z1, fun x hxc htx => ?_, fun x hxc => ?_⟩, Q', ?_⟩
  · have hxc : x < fo_c A := hxc
    have htx : fo_t A x = true := htx
    obtain ⟨y1, y2⟩ := z2 x hxc htx
    have el : ∀ i, fo_l (fo_jl A t s) x i = if x = t ∧ fo_s A t ≤ i then fo_l A s (i - fo_s A t) else fo_l A x i := fun i => rfl
    rw [es]
    by_cases e : x = s
    · rw [if_pos e]
      exact ⟨Nat.zero_le _, fun i hi => absurd hi (Nat.not_lt_zero _)⟩
    · rw [if_neg e]
      by_cases e2 : x = t
      · rw [if_pos e2]
        refine ⟨h12, fun i hi => ?_⟩
        rw [el]
        by_cases z : fo_s A t ≤ i
        · rw [if_pos ⟨e2, z⟩]; exact (z2 s hs ts).2 _ (by omega)
        · rw [if_neg (fun y => z y.2)]; exact y2 i (by rw [e2]; omega)
      · rw [if_neg e2]
        refine ⟨y1, fun i hi => ?_⟩
        rw [el, if_neg (fun y => e2 y.1)]; exact y2 i hi
  · have hxc : fo_c A ≤ x := hxc
    rw [es, if_neg (by omega), if_neg (by omega)]; exact z3 x hxc
  · have ct := (M t ht).2.2.1 tt
    have cs := (M s hs).2.2.1 ts
    have os : fo_op A s = fo_cl A t + 1 := by
      have := ((M _ v1).2.2.2 v2).2.2 (fo_x A t) (by omega)
      rw [v4, ← hx, w4] at this
      exact this
    have er : fo_r (fo_jl A t s) = fo_r A := fo_r_c rfl
    have L' : fo_L (fo_jl A t s) (fun x => fo_te A (fo_op A t) t (fo_s A s) x (fo_op A x)) (fun x => fo_te A (fo_op A t) t (fo_s A s) x (fo_cl A x)) := by
      refine fo_te_L F L rfl rfl rfl ese fun x hxc htx => ?_
      rw [es]
      by_cases e : x = s
      · rw [if_pos e]; exact fo_te_m rfl (by have := fo_L_lt L hxc; omega)
      · rw [if_neg e]
        by_cases e2 : x = t
        · subst e2
          rw [if_pos rfl, fo_te_i (fun _ => Nat.le_refl _), fo_te_u rfl (by omega)]; omega
        · rw [if_neg e2]; exact fo_te_m rfl ((L x hxc).1 htx)
    have key : ∀ x w, x < fo_c A → w ≤ fo_s A x → fo_g (fo_jl A t s) (fun x => fo_te A (fo_op A t) t (fo_s A s) x (fo_op A x)) (fun x => fo_te A (fo_op A t) t (fo_s A s) x (fo_cl A x)) (if x = s ∨ (x = fo_p A t ∧ w = fo_x A s) then t else x) (if x = s then w + fo_s A t else if x = fo_p A t ∧ w = fo_x A s then fo_s A t else w) = if fo_r A x = fo_r A t then fo_tj (fo_op A t) (fo_s A t) (fo_op A s) (fo_s A s) (fo_g A (fo_op A) (fo_cl A) x w) else fo_g A (fo_op A) (fo_cl A) x w := by
      intro x w hxc hw
      have tt' : fo_t (fo_jl A t s) t = true := tt
      have e0 : fo_te A (fo_op A t) t (fo_s A s) t (fo_op A t) = fo_op A t := fo_te_i (fun _ => Nat.le_refl _)
      by_cases e : x = s
      · rw [if_pos (Or.inl e), if_pos e, if_pos (by rw [e, hrs, hrt]), fo_gt tt']
        try dsimp only
        rw [e0, e, fo_gt ts]
        rw [e] at hw
        unfold fo_tj
        rw [if_neg (by omega), if_neg (by omega), if_pos (by omega)]; omega
      · by_cases e2 : x = fo_p A t ∧ w = fo_x A s
        · rw [if_pos (Or.inr e2), if_neg e, if_pos e2, if_pos (by rw [e2.1, hrt]), fo_gt tt']
          try dsimp only
          rw [e0, e2.1, e2.2, hx, fo_gs v2, v4]
          unfold fo_tj
          rw [if_neg (by omega), if_pos (by omega)]
        · rw [if_neg (fun y => y.elim e e2), if_neg e, if_neg e2]
          by_cases hr : fo_r A x = fo_r A t
          · rw [if_pos hr]
            have tej : ∀ v, (v < fo_op A t ∨ fo_cl A s ≤ v) → fo_te A (fo_op A t) t (fo_s A s) x v = fo_tj (fo_op A t) (fo_s A t) (fo_op A s) (fo_s A s) v := by
              intro v h
              unfold fo_tj
              rcases h with h | h
              · rw [fo_te_i (fun _ => by omega), if_pos (by omega)]
              · rw [fo_te_u hr (by omega), if_neg (by omega), if_neg (by omega), if_neg (by omega)]
            rcases fo_ft (fo_t A x) with htx | htx
            · have htx' : fo_t (fo_jl A t s) x = true := htx
              rw [fo_gt htx', fo_gt htx]
              try dsimp only
              by_cases e3 : x = t
              · rw [e3, e0]
                rw [e3] at hw
                unfold fo_tj
                rw [if_pos (by omega)]
              · have i1 := fo_I4 F L ht hxc hr.symm tt e3
                have i2 := fo_I4 F L hs hxc (hrs.trans (hrt.symm.trans hr.symm)) ts e
                have i3 := fo_I4 F L hxc ht hr htx (fun z => e3 z.symm)
                have cx := (M x hxc).2.2.1 htx
                by_cases y : fo_op A x < fo_op A t
                · rw [tej _ (Or.inl y)]
                  unfold fo_tj
                  repeat' split
                  all_goals omega
                · rw [tej _ (Or.inr (by omega))]
                  unfold fo_tj
                  repeat' split
                  all_goals omega
            · rw [fo_te_g (B := fo_jl A t s) F rfl rfl hxc htx hw]
              refine tej _ ?_
              cases w with
              | zero =>
                rw [fo_g0]
                have i1 := fo_I4 F L ht hxc hr.symm tt (fun z => by rw [z, tt] at htx; exact absurd htx (by decide))
                have i2 := fo_I4 F L hs hxc (hrs.trans (hrt.symm.trans hr.symm)) ts e
                omega
              | succ w =>
                rw [fo_gs htx]
                have a1 : w < fo_s A x := by omega
                obtain ⟨k1, k2, k3⟩ := fo_dn F hxc htx a1
                have hrk := (fo_rk F hxc htx a1).trans hr
                by_cases e4 : fo_k A x w = t
                · exfalso
                  apply e2
                  rw [e4] at k2 k3
                  exact ⟨k2.symm, by omega⟩
                · by_cases e5 : fo_k A x w = s
                  · rw [e5]; right; exact Nat.le_refl _
                  · have i1 := fo_I4 F L ht k1 hrk.symm tt e4
                    have i2 := fo_I4 F L hs k1 (hrs.trans (hrt.symm.trans hrk.symm)) ts e5
                    omega
          · rw [if_neg hr]
            rcases fo_ft (fo_t A x) with htx | htx
            · have htx' : fo_t (fo_jl A t s) x = true := htx
              rw [fo_gt htx', fo_gt htx]
              try dsimp only
              rw [fo_te_i (fun z => absurd z hr)]
            · rw [fo_te_g (B := fo_jl A t s) F rfl rfl hxc htx hw, fo_te_i (fun z => absurd z hr)]
    have hr' : ∀ k, k < 8 → fo_r (fo_jl A t s) (fo_n (fo_jl A t s) k) = fo_r A (fo_n A k) := by
      intro k hk
      rw [er]
      show fo_r A (if fo_n A k = s ∨ (fo_n A k = fo_p A t ∧ fo_o A k = fo_x A s) then t else fo_n A k) = _
      by_cases e : fo_n A k = s
      · rw [if_pos (Or.inl e), e, hrs, hrt]
      · by_cases e2 : fo_n A k = fo_p A t ∧ fo_o A k = fo_x A s
        · rw [if_pos (Or.inr e2), e2.1, hrt]
        · rw [if_neg (fun y => y.elim e e2)]
    refine fo_R_of F' Q' L' fun r hr4 => ?_
    obtain ⟨q1, q2⟩ := Q (2 * r) (by omega)
    obtain ⟨q3, q4⟩ := Q (2 * r + 1) (by omega)
    obtain ⟨r1, r2⟩ := R r hr4
    refine ⟨by rw [hr' _ (by omega), hr' _ (by omega)]; exact r1, ?_⟩
    refine Nat.le_trans (Nat.le_of_eq (key _ _ q1 q2)) (Nat.le_trans ?_ (Nat.le_of_eq (key _ _ q3 q4).symm))
    rw [r1]
    by_cases z : fo_r A (fo_n A (2 * r + 1)) = fo_r A t
    · rw [if_pos z, if_pos z]; exact fo_tj_m (by omega) r2
    · rw [if_neg z, if_neg z]; exact r2
end
section
/-- places that are one place become another one -/
def fo_mv (A : fo_S) (n o m q : Nat) : fo_S :=
  (fo_c A, fo_t A, fo_p A, fo_x A, fo_s A, fo_k A, fo_l A, fun k => if fo_n A k = n ∧ fo_o A k = o then m else fo_n A k, fun k => if fo_n A k = n ∧ fo_o A k = o then q else fo_o A k)
/-- the letters of t from o on go to f -/
def fo_sl (A : fo_S) (t f o : Nat) : fo_S :=
  (fo_c A, fo_t A, fo_p A, fo_x A, fun q => if q = t then o else if q = f then fo_s A t - o else fo_s A q, fo_k A,
   fun q j => if q = f then fo_l A t (o + j) else fo_l A q j,
   fun k => if fo_n A k = t ∧ o < fo_o A k then (if fo_p A t < 24 then f else t) else fo_n A k,
   fun k => if fo_n A k = t ∧ o < fo_o A k then (if fo_p A t < 24 then fo_o A k - o else o) else fo_o A k)
/-- a text that is a root -/
theorem fo_I_s0 {A : fo_S} (I : fo_I A) {t f o : Nat} (ht : t < fo_c A) (tt : fo_t A t = true) (hf : f < fo_c A) (tf : fo_t A f = true) (hft : f ≠ t) (sf : fo_s A f = 0) (nf : ∀ k, k < 8 → fo_n A k ≠ f) (hp : fo_p A t = 24) (hpf : fo_p A f = 24) (ho : o ≤ fo_s A t) : fo_I (fo_sl A t f o) := by
  obtain ⟨F, ⟨z1, z2, z3⟩, Q, R⟩ := I
  have M := fo_M_ex F
  have L := fo_ML F M
  have es : ∀ x, fo_s (fo_sl A t f o) x = if x = t then o else if x = f then fo_s A t - o else fo_s A x := fun x => rfl
  have en : ∀ k, fo_n (fo_sl A t f o) k = fo_n A k := by
    intro k
    show (if fo_n A k = t ∧ o < fo_o A k then (if fo_p A t < 24 then f else t) else fo_n A k) = fo_n A k
    by_cases e : fo_n A k = t ∧ o < fo_o A k
    · rw [if_pos e, if_neg (by omega)]; exact e.1.symm
    · rw [if_neg e]
  have eo : ∀ k, fo_o (fo_sl A t f o) k = if fo_n A k = t ∧ o < fo_o A k then o else fo_o A k := by
    intro k
    show (if fo_n A k = t ∧ o < fo_o A k then (if fo_p A t < 24 then fo_o A k - o else o) else fo_o A k) = _
    rw [if_neg (c := fo_p A t < 24) (by omega)]
  have ese : ∀ q, q < fo_c A → fo_t A q = false → fo_s (fo_sl A t f o) q = fo_s A q := fun q hq htq => by
    rw [es, if_neg (fun e => by rw [e, tt] at htq; exact absurd htq (by decide)), if_neg (fun e => by rw [e, tf] at htq; exact absurd htq (by decide))]
  have F' : fo_F (fo_sl A t f o) := fo_F_s F rfl rfl rfl rfl rfl ese
  have Q' : fo_Q (fo_sl A t f o) := by
    intro k hk
    obtain ⟨q1, q2⟩ := Q k hk
    rw [en, eo, es]
    refine ⟨q1, ?_⟩
    by_cases e : fo_n A k = t
    · rw [if_pos e]
      by_cases w : o < fo_o A k
      · rw [if_pos ⟨e, w⟩]; exact Nat.le_refl _
      · rw [if_neg (fun y => w y.2)]; omega
    · rw [if_neg e, if_neg (nf k hk), if_neg (fun y => e y.1)]; exact q2
  refine ⟨F', ⟨z1, fun x hxc htx => ?_, fun x hxc => ?_⟩, Q', ?_⟩
  · have hxc : x < fo_c A := hxc
    have htx : fo_t A x = true := htx
    obtain ⟨y1, y2⟩ := z2 x hxc htx
    have el : ∀ i, fo_l (fo_sl A t f o) x i = if x = f then fo_l A t (o + i) else fo_l A x i := fun i => rfl
    have yt := z2 t ht tt
    rw [es]
    by_cases e : x = t
    · rw [if_pos e]
      refine ⟨by omega, fun i hi => ?_⟩
      rw [el, if_neg (fun y => hft (y.symm.trans e))]
      exact y2 i (by rw [e]; omega)
    · rw [if_neg e]
      by_cases e2 : x = f
      · rw [if_pos e2]
        refine ⟨by omega, fun i hi => ?_⟩
        rw [el, if_pos e2]; exact yt.2 _ (by omega)
      · rw [if_neg e2]
        refine ⟨y1, fun i hi => ?_⟩
        rw [el, if_neg e2]; exact y2 i hi
  · have hxc : fo_c A ≤ x := hxc
    rw [es, if_neg (by omega), if_neg (by omega)]; exact z3 x hxc
  · have er : fo_r (fo_sl A t f o) = fo_r A := fo_r_c rfl
    have L' : fo_L (fo_sl A t f o) (fo_op A) (fun x => if x = f then fo_op A f + fo_s A t + 1 else fo_cl A x) := by
      intro x hxc
      have hxc : x < fo_c A := hxc
      try dsimp only
      refine ⟨fun htx => ?_, fun htx => ?_⟩
      · have htx : fo_t A x = true := htx
        have l := (L x hxc).1 htx
        rw [es]
        by_cases e : x = t
        · rw [if_pos e, if_neg (fun y => hft (y.symm.trans e))]; rw [e] at l ⊢; omega
        · rw [if_neg e]
          by_cases e2 : x = f
          · rw [if_pos e2, if_pos e2, e2]; omega
          · rw [if_neg e2, if_neg e2]; exact l
      · have htx : fo_t A x = false := htx
        obtain ⟨l1, l2, l3⟩ := (L x hxc).2 htx
        rw [ese x hxc htx, if_neg (fun e => by rw [e, tf] at htx; exact absurd htx (by decide))]
        have kn : ∀ i, i < fo_s A x → fo_k A x i ≠ f := fun i hi e => by
          have := (fo_dn F hxc htx hi).2.1
          rw [e, hpf] at this
          have := fo_lt24 F hxc
          omega
        refine ⟨l1, fun i hi => ?_, fun i hi => ?_⟩
        · show fo_op A x < fo_op A (fo_k A x i) ∧ (if fo_k A x i = f then fo_op A f + fo_s A t + 1 else fo_cl A (fo_k A x i)) < fo_cl A x
          rw [if_neg (kn i hi)]; exact l2 i hi
        · show (if fo_k A x i = f then fo_op A f + fo_s A t + 1 else fo_cl A (fo_k A x i)) < fo_op A (fo_k A x (i + 1))
          rw [if_neg (kn i (by omega))]; exact l3 i hi
    refine fo_R_of F' Q' L' fun r hr4 => ?_
    obtain ⟨q1, q2⟩ := Q (2 * r) (by omega)
    obtain ⟨q3, q4⟩ := Q (2 * r + 1) (by omega)
    obtain ⟨r1, r2⟩ := R r hr4
    have rt : fo_r A t = t := fo_r_0 (by omega)
    have one : ∀ x, x < fo_c A → fo_r A x = t → x = t := by
      intro x hxc h
      have h1 := (fo_r_in F x hxc).2.2
      rw [h] at h1
      rcases fo_A_k F hxc (fo_lt24 F ht) h1 with y | ⟨y, -⟩
      · exact y.symm
      · rw [y] at tt; exact absurd tt (by decide)
    have key : ∀ k, k < 8 → fo_g (fo_sl A t f o) (fo_op A) (fun x => if x = f then fo_op A f + fo_s A t + 1 else fo_cl A x) (fo_n (fo_sl A t f o) k) (fo_o (fo_sl A t f o) k) = if fo_n A k = t ∧ o < fo_o A k then fo_op A t + o else fo_gg A k := by
      intro k hk
      obtain ⟨q1, q2⟩ := Q k hk
      rw [en, eo]
      by_cases e : fo_n A k = t ∧ o < fo_o A k
      · have tt' : fo_t (fo_sl A t f o) (fo_n A k) = true := by rw [e.1]; exact tt
        rw [if_pos e, if_pos e, fo_gt tt', e.1]
      · rw [if_neg e, if_neg e]
        unfold fo_gg
        rcases fo_ft (fo_t A (fo_n A k)) with htx | htx
        · have htx' : fo_t (fo_sl A t f o) (fo_n A k) = true := htx
          rw [fo_gt htx, fo_gt htx']
        · have htx' : fo_t (fo_sl A t f o) (fo_n A k) = false := htx
          generalize hw : fo_o A k = w
          rw [hw] at q2
          cases w with
          | zero => rw [fo_g0, fo_g0]
          | succ w =>
            rw [fo_gs htx, fo_gs htx']
            show (if fo_k A (fo_n A k) w = f then fo_op A f + fo_s A t + 1 else fo_cl A (fo_k A (fo_n A k) w)) = _
            rw [if_neg]
            intro e2
            have := (fo_dn F q1 htx (show w < fo_s A (fo_n A k) by omega)).2.1
            rw [e2, hpf] at this
            have := fo_lt24 F q1
            omega
    rw [key _ (by omega), key _ (by omega), er, en, en]
    refine ⟨r1, ?_⟩
    by_cases e : fo_n A (2 * r) = t
    · have e2 : fo_n A (2 * r + 1) = t := one _ q3 (by rw [← r1, e, rt])
      have g1 : fo_gg A (2 * r) = fo_op A t + fo_o A (2 * r) := by unfold fo_gg; rw [e, fo_gt tt]
      have g2 : fo_gg A (2 * r + 1) = fo_op A t + fo_o A (2 * r + 1) := by unfold fo_gg; rw [e2, fo_gt tt]
      rw [g1, g2] at r2
      rw [g1, g2]
      by_cases y1 : o < fo_o A (2 * r)
      · rw [if_pos ⟨e, y1⟩, if_pos ⟨e2, by omega⟩]; exact Nat.le_refl _
      · rw [if_neg (fun y => y1 y.2)]
        by_cases y2 : o < fo_o A (2 * r + 1)
        · rw [if_pos ⟨e2, y2⟩]; omega
        · rw [if_neg (fun y => y2 y.2)]; exact r2
    · have e2 : fo_n A (2 * r + 1) ≠ t := fun e2 => e (one _ q1 (by rw [r1, e2, rt]))
      rw [if_neg (fun y => e y.1), if_neg (fun y => e2 y.1)]; exact r2
def fo_ts (a o s b c v : Nat) : Nat := if v ≤ a + o then v else if v ≤ a + s then b + (v - a - o) else if v ≤ c then c + (s - o) else v + (s - o)
theorem fo_ts_m {a o s b c v w : Nat} (h1 : a + s < b) (h2 : b < c) (ho : o ≤ s) (h : v ≤ w) : fo_ts a o s b c v ≤ fo_ts a o s b c w := by
  unfold fo_ts
  repeat' split
  all_goals omega
/-- a text with a parent: f is the new one, empty, behind it -/
theorem fo_I_s1 {A : fo_S} (I : fo_I A) {t f o : Nat} (ht : t < fo_c A) (tt : fo_t A t = true) (hf : f < fo_c A) (tf : fo_t A f = true) (sf : fo_s A f = 0) (nf : ∀ k, k < 8 → fo_n A k ≠ f) (hp : fo_p A t < 24) (hpf : fo_p A f = fo_p A t) (hxf : fo_x A f = fo_x A t + 1) (ho : o ≤ fo_s A t) : fo_I (fo_sl (fo_mv A (fo_p A t) (fo_x A f) (fo_p A t) (fo_x A f + 1)) t f o) := by
  obtain ⟨F, ⟨z1, z2, z3⟩, Q, R⟩ := I
  have M := fo_M_ex F
  have L := fo_ML F M
  have hft : f ≠ t := fun e => by rw [e] at hxf; omega
  obtain ⟨v1, v2, v3, v4⟩ := fo_up F ht hp
  obtain ⟨w1, w2, w3, w4⟩ := fo_up F hf (by rw [hpf]; exact hp)
  rw [hpf] at w1 w2 w3 w4
  have hrt : fo_r A t = fo_r A (fo_p A t) := fo_r_up F ht hp
  have hrf : fo_r A f = fo_r A (fo_p A t) := by rw [fo_r_up F hf (by rw [hpf]; exact hp), hpf]
  have ept : fo_p A t ≠ t := fun e => by rw [e] at v2; rw [v2] at tt; exact absurd tt (by decide)
  generalize hB : fo_sl (fo_mv A (fo_p A t) (fo_x A f) (fo_p A t) (fo_x A f + 1)) t f o = B
  have eBc : fo_c B = fo_c A := by rw [← hB]; rfl
  have eBt : fo_t B = fo_t A := by rw [← hB]; rfl
  have eBp : fo_p B = fo_p A := by rw [← hB]; rfl
  have eBx : fo_x B = fo_x A := by rw [← hB]; rfl
  have eBk : fo_k B = fo_k A := by rw [← hB]; rfl
  have es : ∀ x, fo_s B x = if x = t then o else if x = f then fo_s A t - o else fo_s A x := fun x => by rw [← hB]; rfl
  have el : ∀ x i, fo_l B x i = if x = f then fo_l A t (o + i) else fo_l A x i := fun x i => by rw [← hB]; rfl
  have en : ∀ k, fo_n B k = if fo_n A k = t ∧ o < fo_o A k then f else fo_n A k := by
    intro k
    rw [← hB]
    show (if (if fo_n A k = fo_p A t ∧ fo_o A k = fo_x A f then fo_p A t else fo_n A k) = t ∧ o < (if fo_n A k = fo_p A t ∧ fo_o A k = fo_x A f then fo_x A f + 1 else fo_o A k) then (if fo_p A t < 24 then f else t) else (if fo_n A k = fo_p A t ∧ fo_o A k = fo_x A f then fo_p A t else fo_n A k)) = _
    rw [if_pos (c := fo_p A t < 24) hp]
    by_cases e : fo_n A k = fo_p A t ∧ fo_o A k = fo_x A f
    · rw [if_pos e, if_pos e, if_neg (fun y => ept y.1), if_neg (fun y => ept (e.1.symm.trans y.1)), e.1]
    · rw [if_neg e, if_neg e]
  have eo : ∀ k, fo_o B k = if fo_n A k = t ∧ o < fo_o A k then fo_o A k - o else if fo_n A k = fo_p A t ∧ fo_o A k = fo_x A f then fo_x A f + 1 else fo_o A k := by
    intro k
    rw [← hB]
    show (if (if fo_n A k = fo_p A t ∧ fo_o A k = fo_x A f then fo_p A t else fo_n A k) = t ∧ o < (if fo_n A k = fo_p A t ∧ fo_o A k = fo_x A f then fo_x A f + 1 else fo_o A k) then (if fo_p A t < 24 then (if fo_n A k = fo_p A t ∧ fo_o A k = fo_x A f then fo_x A f + 1 else fo_o A k) - o else o) else (if fo_n A k = fo_p A t ∧ fo_o A k = fo_x A f then fo_x A f + 1 else fo_o A k)) = _
    rw [if_pos (c := fo_p A t < 24) hp]
    by_cases e : fo_n A k = fo_p A t ∧ fo_o A k = fo_x A f
    · rw [if_pos e, if_pos e, if_neg (fun y => ept y.1), if_neg (fun y => ept (e.1.symm.trans y.1))]
    · rw [if_neg e, if_neg e]
  clear hB
  have ese : ∀ q, q < fo_c A → fo_t A q = false → fo_s B q = fo_s A q := fun q hq htq => by
    rw [es, if_neg (fun e => by rw [e, tt] at htq; exact absurd htq (by decide)), if_neg (fun e => by rw [e, tf] at htq; exact absurd htq (by decide))]
  have F' : fo_F B := fo_F_s F eBc eBt eBp eBx eBk ese
  have Q' : fo_Q B := by
    intro k hk
    obtain ⟨q1, q2⟩ := Q k hk
    rw [eBc, en, eo]
    by_cases e : fo_n A k = t ∧ o < fo_o A k
    · rw [if_pos e, if_pos e, es, if_neg hft, if_pos rfl]
      rw [e.1] at q2
      exact ⟨hf, by omega⟩
    · rw [if_neg e, if_neg e, es, if_neg (nf k hk)]
      refine ⟨q1, ?_⟩
      by_cases e1 : fo_n A k = t
      · rw [if_pos e1, if_neg (fun y => ept (y.1.symm.trans e1))]
        exact Nat.le_of_not_lt fun y => e ⟨e1, y⟩
      · rw [if_neg e1]
        by_cases e2 : fo_n A k = fo_p A t ∧ fo_o A k = fo_x A f
        · rw [if_pos e2, e2.1]; omega
        · rw [if_neg e2]; exact q2
  refine ⟨F', ⟨by rw [eBc]; exact z1, fun x hxc htx => ?_, fun x hxc => ?_⟩, Q', ?_⟩
  · rw [eBc] at hxc
    rw [eBt] at htx
    obtain ⟨y1, y2⟩ := z2 x hxc htx
    have yt := z2 t ht tt
    rw [es]
    by_cases e : x = t
    · rw [if_pos e]
      refine ⟨by omega, fun i hi => ?_⟩
      rw [el, if_neg (fun y => hft (y.symm.trans e))]
      exact y2 i (by rw [e]; omega)
    · rw [if_neg e]
      by_cases e2 : x = f
      · rw [if_pos e2]
        refine ⟨by omega, fun i hi => ?_⟩
        rw [el, if_pos e2]; exact yt.2 _ (by omega)
      · rw [if_neg e2]
        refine ⟨y1, fun i hi => ?_⟩
        rw [el, if_neg e2]; exact y2 i hi
  · rw [eBc] at hxc
    rw [es, if_neg (by omega), if_neg (by omega)]; exact z3 x hxc
  · have ct := (M t ht).2.2.1 tt
    have cf := (M f hf).2.2.1 tf
    have of : fo_op A f = fo_cl A t + 1 := by
      have := ((M _ v1).2.2.2 v2).2.2 (fo_x A t) (by omega)
      rw [v4, ← hxf, w4] at this
      exact this
    have er : fo_r B = fo_r A := fo_r_c eBp
    have L' : fo_L B (fun x => fo_te A (fo_op A f) t (fo_s A t - o) x (fo_op A x)) (fun x => fo_te A (fo_op A f) t (fo_s A t - o) x (fo_cl A x)) := by
      refine fo_te_L F L eBc eBt eBk ese fun x hxc htx => ?_
      rw [es]
      by_cases e : x = t
      · rw [if_pos e, e, fo_te_i (fun _ => by omega), fo_te_i (fun _ => by omega)]; omega
      · rw [if_neg e]
        by_cases e2 : x = f
        · rw [if_pos e2, e2, fo_te_i (fun _ => Nat.le_refl _), fo_te_u (by rw [hrf, hrt]) (by omega)]; omega
        · rw [if_neg e2]; exact fo_te_m rfl ((L x hxc).1 htx)
    have key : ∀ k, k < 8 → fo_g B (fun x => fo_te A (fo_op A f) t (fo_s A t - o) x (fo_op A x)) (fun x => fo_te A (fo_op A f) t (fo_s A t - o) x (fo_cl A x)) (fo_n B k) (fo_o B k) = if fo_r A (fo_n A k) = fo_r A t then fo_ts (fo_op A t) o (fo_s A t) (fo_op A f) (fo_cl A f) (fo_gg A k) else fo_gg A k := by
      intro k hk
      obtain ⟨hxc, hw⟩ := Q k hk
      have hnf := nf k hk
      rw [en, eo]
      unfold fo_gg
      generalize fo_n A k = x at *
      generalize fo_o A k = w at *
      have tf' : fo_t B f = true := by rw [eBt]; exact tf
      by_cases e : x = t ∧ o < w
      · rw [if_pos e, if_pos e, fo_gt tf', if_pos (by rw [e.1])]
        try dsimp only
        rw [fo_te_i (fun _ => Nat.le_refl _), e.1, fo_gt tt]
        rw [e.1] at hw
        have := e.2
        unfold fo_ts
        rw [if_neg (by omega), if_pos (by omega)]; omega
      · rw [if_neg e, if_neg e]
        by_cases e2 : x = fo_p A t ∧ w = fo_x A f
        · rw [if_pos e2, if_pos (by rw [e2.1, hrt])]
          have v2' : fo_t B x = false := by rw [eBt, e2.1]; exact v2
          rw [fo_gs v2', eBk, e2.1, w4]
          try dsimp only
          rw [fo_te_u (by rw [hrf, hrt]) (by omega), e2.2, hxf, fo_gs v2, v4]
          unfold fo_ts
          rw [if_neg (by omega), if_neg (by omega), if_pos (by omega)]
        · rw [if_neg e2]
          by_cases hr : fo_r A x = fo_r A t
          · rw [if_pos hr]
            have tej : ∀ v, (v < fo_op A t ∨ fo_cl A f ≤ v) → fo_te A (fo_op A f) t (fo_s A t - o) x v = fo_ts (fo_op A t) o (fo_s A t) (fo_op A f) (fo_cl A f) v := by
              intro v h
              unfold fo_ts
              rcases h with h | h
              · rw [fo_te_i (fun _ => by omega), if_pos (by omega)]
              · rw [fo_te_u hr (by omega), if_neg (by omega), if_neg (by omega)]
                by_cases y : v ≤ fo_cl A f
                · rw [if_pos y]; omega
                · rw [if_neg y]
            rcases fo_ft (fo_t A x) with htx | htx
            · have htx' : fo_t B x = true := by rw [eBt]; exact htx
              rw [fo_gt htx', fo_gt htx]
              try dsimp only
              by_cases e3 : x = t
              · have : w ≤ o := Nat.le_of_not_lt fun y => e ⟨e3, y⟩
                rw [e3, fo_te_i (fun _ => by omega)]
                unfold fo_ts
                rw [if_pos (by omega)]
              · have i1 := fo_I4 F L ht hxc hr.symm tt e3
                have i2 := fo_I4 F L hf hxc (hrf.trans (hrt.symm.trans hr.symm)) tf hnf
                have i3 := fo_I4 F L hxc ht hr htx (fun z => e3 z.symm)
                have cx := (M x hxc).2.2.1 htx
                by_cases y : fo_op A x < fo_op A t
                · rw [tej _ (Or.inl y)]
                  unfold fo_ts
                  repeat' split
                  all_goals omega
                · rw [tej _ (Or.inr (by omega))]
                  unfold fo_ts
                  repeat' split
                  all_goals omega
            · rw [fo_te_g (B := B) F eBt eBk hxc htx hw]
              refine tej _ ?_
              cases w with
              | zero =>
                rw [fo_g0]
                have i1 := fo_I4 F L ht hxc hr.symm tt (fun z => by rw [z, tt] at htx; exact absurd htx (by decide))
                have i2 := fo_I4 F L hf hxc (hrf.trans (hrt.symm.trans hr.symm)) tf hnf
                omega
              | succ w =>
                rw [fo_gs htx]
                have a1 : w < fo_s A x := by omega
                obtain ⟨k1, k2, k3⟩ := fo_dn F hxc htx a1
                have hrk := (fo_rk F hxc htx a1).trans hr
                by_cases e4 : fo_k A x w = t
                · exfalso
                  apply e2
                  rw [e4] at k2 k3
                  exact ⟨k2.symm, by omega⟩
                · by_cases e5 : fo_k A x w = f
                  · rw [e5]; right; exact Nat.le_refl _
                  · have i1 := fo_I4 F L ht k1 hrk.symm tt e4
                    have i2 := fo_I4 F L hf k1 (hrf.trans (hrt.symm.trans hrk.symm)) tf e5
                    omega
          · rw [if_neg hr]
            rcases fo_ft (fo_t A x) with htx | htx
            · have htx' : fo_t B x = true := by rw [eBt]; exact htx
              rw [fo_gt htx', fo_gt htx]
              try dsimp only
              rw [fo_te_i (fun z => absurd z hr)]
            · rw [fo_te_g (B := B) F eBt eBk hxc htx hw, fo_te_i (fun z => absurd z hr)]
    have hr' : ∀ k, k < 8 → fo_r B (fo_n B k) = fo_r A (fo_n A k) := by
      intro k hk
      rw [er, en]
      by_cases e : fo_n A k = t ∧ o < fo_o A k
      · rw [if_pos e, e.1, hrf, hrt]
      · rw [if_neg e]
    refine fo_R_of F' Q' L' fun r hr4 => ?_
    obtain ⟨r1, r2⟩ := R r hr4
    refine ⟨by rw [hr' _ (by omega), hr' _ (by omega)]; exact r1, ?_⟩
    rw [key _ (by omega), key _ (by omega), r1]
    by_cases z : fo_r A (fo_n A (2 * r + 1)) = fo_r A t
    · rw [if_pos z, if_pos z]; exact fo_ts_m (by omega) (by omega) ho r2
    · rw [if_neg z, if_neg z]; exact r2
end
section
/-! the two states against the forest -/
def wk_o (m : Nat) : Int32 := if m < 24 then nI m else -1
def wk_b : Bool → Int32
  | true => 1
  | false => 0
theorem wk_o_lt {m : Nat} (h : m < 24) : wk_o m = nI m := if_pos h
theorem wk_o_ge {m : Nat} (h : ¬ m < 24) : wk_o m = -1 := if_neg h
theorem wk_o_24 : wk_o 24 = -1 := if_neg (by omega)
theorem wk_o_n {m : Nat} : wk_o m < 0 ↔ ¬ m < 24 := by
  by_cases h : m < 24
  · rw [wk_o_lt h]
    exact ⟨fun z => absurd z (nI_pos (by omega)), fun z => absurd h z⟩
  · rw [wk_o_ge h]
    exact ⟨fun _ => h, fun _ => by decide⟩
theorem wk_o_p {m : Nat} : 0 ≤ wk_o m ↔ m < 24 := by
  by_cases h : m < 24
  · rw [wk_o_lt h]
    exact ⟨fun _ => h, fun _ => nI_pos' (by omega)⟩
  · rw [wk_o_ge h]
    exact ⟨fun z => absurd z (by decide), fun z => absurd z h⟩
theorem wk_o_e {m n : Nat} (hm : m ≤ 24) (hn : n < 24) : wk_o m = nI n ↔ m = n := by
  by_cases h : m < 24
  · rw [wk_o_lt h]; exact nI_eq (by omega) (by omega)
  · rw [wk_o_ge h]
    refine ⟨fun z => ?_, fun z => by omega⟩
    have := nI_pos (n := n) (by omega)
    rw [← z] at this
    exact absurd (by decide) this
theorem wk_b_0 {b : Bool} : wk_b b = 0 ↔ b = false := by cases b <;> decide
theorem wk_b_1 {b : Bool} : wk_b b = 1 ↔ b = true := by cases b <;> decide
theorem wk_cl {n : Nat} (h : n < 24) : (nI n).toNatClampNeg = n := nI_clamp (by omega)
theorem wk_in {n : Nat} (h : n < 24) : vp_in (nI n) 24 := vp_in_nI h (by decide)
/-- a place's arrays -/
def wk_P (A : fo_S) (an ao : Nat → Int32) : Prop := ∀ k, k < 8 → an k = nI (fo_n A k) ∧ ao k = nI (fo_o A k)
/-- .. on the way from A to B, places below i are done -/
def wk_Q (A B : fo_S) (i : Nat) (an ao : Nat → Int32) : Prop := ∀ k, k < 8 → an k = nI (if k < i then fo_n B k else fo_n A k) ∧ ao k = nI (if k < i then fo_o B k else fo_o A k)
theorem wk_Q_0 {A : fo_S} (B : fo_S) {an ao : Nat → Int32} (h : wk_P A an ao) : wk_Q A B 0 an ao := by
  intro k hk
  rw [if_neg (Nat.not_lt_zero _), if_neg (Nat.not_lt_zero _)]
  exact h k hk
theorem wk_Q_8 {A B : fo_S} {an ao : Nat → Int32} (h : wk_Q A B 8 an ao) : wk_P B an ao := by
  intro k hk
  have := h k hk
  rw [if_pos hk, if_pos hk] at this
  exact this
theorem wk_Q_a {A B : fo_S} {i : Nat} {an ao : Nat → Int32} (h : wk_Q A B i an ao) (hi : i < 8) : an i = nI (fo_n A i) ∧ ao i = nI (fo_o A i) := by
  have := h i hi
  rw [if_neg (Nat.lt_irrefl _), if_neg (Nat.lt_irrefl _)] at this
  exact this
theorem wk_Q_u {A B : fo_S} {i : Nat} {an ao an' ao' : Nat → Int32} (h : wk_Q A B i an ao) (h1 : ∀ k, k < 8 → k ≠ i → an' k = an k ∧ ao' k = ao k) (h2 : an' i = nI (fo_n B i)) (h3 : ao' i = nI (fo_o B i)) : wk_Q A B (i + 1) an' ao' := by
  intro k hk
  by_cases e : k = i
  · rw [e, if_pos (by omega), if_pos (by omega)]
    exact ⟨h2, h3⟩
  · rw [(h1 k hk e).1, (h1 k hk e).2, (h k hk).1, (h k hk).2]
    by_cases z : k < i
    · rw [if_pos z, if_pos (by omega), if_pos z, if_pos (by omega)]
      exact ⟨rfl, rfl⟩
    · rw [if_neg z, if_neg (by omega), if_neg z, if_neg (by omega)]
      exact ⟨rfl, rfl⟩
theorem wk_Q_k {A B : fo_S} {i : Nat} {an ao : Nat → Int32} (h : wk_Q A B i an ao) (hi : i < 8) (h2 : fo_n B i = fo_n A i) (h3 : fo_o B i = fo_o A i) : wk_Q A B (i + 1) an ao :=
  wk_Q_u h (fun _ _ _ => ⟨rfl, rfl⟩) (by rw [h2]; exact (wk_Q_a h hi).1) (by rw [h3]; exact (wk_Q_a h hi).2)
theorem wk_Q_2 {A B : fo_S} {i : Nat} {an ao : Nat → Int32} {x y : Int32} (h : wk_Q A B i an ao) (h2 : x = nI (fo_n B i)) (h3 : y = nI (fo_o B i)) : wk_Q A B (i + 1) (upd an i x) (upd ao i y) :=
  wk_Q_u h (fun _ _ e => ⟨pk_un e, pk_un e⟩) (pk_us.trans h2) (pk_us.trans h3)
theorem wk_Q_1 {A B : fo_S} {i : Nat} {an ao : Nat → Int32} {y : Int32} (h : wk_Q A B i an ao) (hi : i < 8) (h2 : fo_n B i = fo_n A i) (h3 : y = nI (fo_o B i)) : wk_Q A B (i + 1) an (upd ao i y) :=
  wk_Q_u h (fun _ _ e => ⟨rfl, pk_un e⟩) (by rw [h2]; exact (wk_Q_a h hi).1) (pk_us.trans h3)
/-! X: links, letters -/
def wx_nx (A : fo_S) (n : Nat) : Nat := if fo_p A n < 24 ∧ fo_x A n + 1 < fo_s A (fo_p A n) then fo_k A (fo_p A n) (fo_x A n + 1) else 24
def wx_pv (A : fo_S) (n : Nat) : Nat := if fo_p A n < 24 ∧ 0 < fo_x A n then fo_k A (fo_p A n) (fo_x A n - 1) else 24
def wx_fc (A : fo_S) (n : Nat) : Nat := if 0 < fo_s A n then fo_k A n 0 else 24
def wx_K (A : fo_S) (f_made : Int32) (a_sort a_parentOf a_firstChild a_nextChild a_previousChild a_sizeOf : Nat → Int32) : Prop :=
  f_made = nI (fo_c A) ∧ (∀ n, n < fo_c A → a_sort n = wk_b (fo_t A n)) ∧ (∀ n, n < fo_c A → a_parentOf n = wk_o (fo_p A n)) ∧
  (∀ n, n < fo_c A → fo_t A n = false → a_firstChild n = wk_o (wx_fc A n)) ∧ (∀ n, n < fo_c A → a_nextChild n = wk_o (wx_nx A n)) ∧
  (∀ n, n < fo_c A → a_previousChild n = wk_o (wx_pv A n)) ∧ (∀ n, n < 24 → a_sizeOf n = nI (fo_s A n))
def wx_T (A : fo_S) (a_letters : Nat → Int32) : Prop := ∀ n, n < fo_c A → fo_t A n = true → ∀ i, i < fo_s A n → a_letters (12 * n + i) = nI (fo_l A n i)
def wx_R (A : fo_S) (u : SX) : Prop := match u with
  | (f_made, f_listed, f_leaving, a_sort, a_parentOf, a_firstChild, a_nextChild, a_previousChild, a_sizeOf, a_letters, a_placeNode, a_placeOffset, a_listing, a_opening, a_closing, a_leavers) => wx_K A f_made a_sort a_parentOf a_firstChild a_nextChild a_previousChild a_sizeOf ∧ wx_T A a_letters ∧ wk_P A a_placeNode a_placeOffset
/-! Y: links; items -/
def wy_K (A : fo_S) (f_count : Int32) (a_isText a_parents a_sizes : Nat → Int32) : Prop :=
  f_count = nI (fo_c A) ∧ (∀ n, n < fo_c A → a_isText n = wk_b (fo_t A n)) ∧ (∀ n, n < fo_c A → a_parents n = wk_o (fo_p A n)) ∧ (∀ n, n < fo_c A → a_sizes n = nI (fo_s A n))
def wy_T (A : fo_S) (a_items : Nat → Int32) : Prop := ∀ n, n < fo_c A → ∀ i, i < fo_s A n → a_items (24 * n + i) = nI (if fo_t A n = true then fo_l A n i else fo_k A n i)
def wy_R (A : fo_S) (v : SY) : Prop := match v with
  | (f_count, f_length, a_isText, a_parents, a_sizes, a_items, a_placeNode, a_placeOffset, a_marks, a_opens, a_closes, a_coming) => wy_K A f_count a_isText a_parents a_sizes ∧ wy_T A a_items ∧ wk_P A a_placeNode a_placeOffset
/-- sizes are small -/
theorem fo_s_e {A : fo_S} (F : fo_F A) {n : Nat} (hn : n < fo_c A) (ht : fo_t A n = false) : fo_s A n < 24 := by
  refine fo_pig 24 (fo_s A n + 1) (fun i => if i < fo_s A n then fo_k A n i else n) (fun i hi => ?_) fun i j hi hj e => ?_
  · show (if i < fo_s A n then fo_k A n i else n) < 24
    by_cases z : i < fo_s A n
    · rw [if_pos z]; exact fo_lt24 F (fo_dn F hn ht z).1
    · rw [if_neg z]; exact fo_lt24 F hn
  · have e : (if i < fo_s A n then fo_k A n i else n) = (if j < fo_s A n then fo_k A n j else n) := e
    have ne : ∀ i, i < fo_s A n → fo_k A n i ≠ n := fun i hi e => by
      obtain ⟨k1, k2, k3⟩ := fo_dn F hn ht hi
      have := fo_d_up F k1 (by rw [k2]; exact fo_lt24 F hn)
      rw [k2, e] at this
      omega
    by_cases z : i < fo_s A n
    · by_cases y : j < fo_s A n
      · rw [if_pos z, if_pos y] at e
        have h1 := (fo_dn F hn ht z).2.2
        have h2 := (fo_dn F hn ht y).2.2
        rw [e] at h1
        omega
      · rw [if_pos z, if_neg y] at e
        exact absurd e (ne i z)
    · by_cases y : j < fo_s A n
      · rw [if_neg z, if_pos y] at e
        exact absurd e.symm (ne j y)
      · omega
theorem fo_s_t {A : fo_S} (Z : fo_Z A) {n : Nat} (hn : n < fo_c A) (ht : fo_t A n = true) : fo_s A n ≤ 12 := (Z.2.1 n hn ht).1
theorem fo_s_a {A : fo_S} (F : fo_F A) (Z : fo_Z A) (n : Nat) : fo_s A n < 24 := by
  rcases Nat.lt_or_ge n (fo_c A) with h | h
  · rcases fo_ft (fo_t A n) with t | t
    · have := fo_s_t Z h t; omega
    · exact fo_s_e F h t
  · rw [Z.2.2 n h]; omega
end
section
/-! X: asking -/
section
variable {A : fo_S} {f_made f_listed f_leaving : Int32} {a_sort a_parentOf a_firstChild a_nextChild a_previousChild a_sizeOf a_letters a_placeNode a_placeOffset a_listing a_opening a_closing a_leavers : Nat → Int32} {post : Int32 → Prop}
theorem wx_isNode1 (hm : f_made = nI (fo_c A)) (hc : fo_c A ≤ 24) {n : Nat} (hn : n < fo_c A) (h : post 1) : wpX_isNode post (f_made, f_listed, f_leaving, a_sort, a_parentOf, a_firstChild, a_nextChild, a_previousChild, a_sizeOf, a_letters, a_placeNode, a_placeOffset, a_listing, a_opening, a_closing, a_leavers) (nI n) := by
  subst hm
  exact br_f (nI_pos (by omega)) (br_f (nI_ge hn (by omega)) h)
theorem wx_isNode0 (hm : f_made = nI (fo_c A)) {x : Int32} (hx : x < 0 ∨ nI (fo_c A) ≤ x) (h : post 0) : wpX_isNode post (f_made, f_listed, f_leaving, a_sort, a_parentOf, a_firstChild, a_nextChild, a_previousChild, a_sizeOf, a_letters, a_placeNode, a_placeOffset, a_listing, a_opening, a_closing, a_leavers) x := by
  subst hm
  by_cases z : x < 0
  · exact br_t z h
  · exact br_f z (br_t (hx.resolve_left z) h)
theorem wx_isText (K : wx_K A f_made a_sort a_parentOf a_firstChild a_nextChild a_previousChild a_sizeOf) (hc : fo_c A ≤ 24) {n : Nat} (hn : n < fo_c A) (h : post (wk_b (fo_t A n))) : wpX_isText post (f_made, f_listed, f_leaving, a_sort, a_parentOf, a_firstChild, a_nextChild, a_previousChild, a_sizeOf, a_letters, a_placeNode, a_placeOffset, a_listing, a_opening, a_closing, a_leavers) (nI n) := by
  unfold wpX_isText
  refine wx_isNode1 K.1 hc hn ?_
  refine br_f (by decide) ⟨wk_in (by omega), ?_⟩
  rw [wk_cl (by omega), K.2.1 n hn]
  rcases fo_ft (fo_t A n) with t | t
  · rw [t] at h ⊢
    exact br_t rfl h
  · rw [t] at h ⊢
    exact br_f (by decide) h
theorem wx_isText0 (hm : f_made = nI (fo_c A)) {x : Int32} (hx : x < 0 ∨ nI (fo_c A) ≤ x) (h : post 0) : wpX_isText post (f_made, f_listed, f_leaving, a_sort, a_parentOf, a_firstChild, a_nextChild, a_previousChild, a_sizeOf, a_letters, a_placeNode, a_placeOffset, a_listing, a_opening, a_closing, a_leavers) x := by
  unfold wpX_isText
  refine wx_isNode0 hm hx ?_
  exact br_t rfl h
theorem wx_isElement (K : wx_K A f_made a_sort a_parentOf a_firstChild a_nextChild a_previousChild a_sizeOf) (hc : fo_c A ≤ 24) {n : Nat} (hn : n < fo_c A) (h : post (wk_b (!fo_t A n))) : wpX_isElement post (f_made, f_listed, f_leaving, a_sort, a_parentOf, a_firstChild, a_nextChild, a_previousChild, a_sizeOf, a_letters, a_placeNode, a_placeOffset, a_listing, a_opening, a_closing, a_leavers) (nI n) := by
  unfold wpX_isElement
  refine wx_isNode1 K.1 hc hn ?_
  refine br_f (by decide) ⟨wk_in (by omega), ?_⟩
  rw [wk_cl (by omega), K.2.1 n hn]
  rcases fo_ft (fo_t A n) with t | t
  · rw [t] at h ⊢
    exact br_t rfl h
  · rw [t] at h ⊢
    exact br_f (by decide) h
theorem wx_isElement0 (hm : f_made = nI (fo_c A)) {x : Int32} (hx : x < 0 ∨ nI (fo_c A) ≤ x) (h : post 0) : wpX_isElement post (f_made, f_listed, f_leaving, a_sort, a_parentOf, a_firstChild, a_nextChild, a_previousChild, a_sizeOf, a_letters, a_placeNode, a_placeOffset, a_listing, a_opening, a_closing, a_leavers) x := by
  unfold wpX_isElement
  refine wx_isNode0 hm hx ?_
  exact br_t rfl h
theorem wx_isRange1 {r : Nat} (hr : r < 4) (h : post 1) : wpX_isRange post (nI r) :=
  br_f (nI_pos (by omega)) (br_f (nI_ge (b := 4) hr (by decide)) h)
theorem wx_isRange0 {x : Int32} (hx : x < 0 ∨ nI 4 ≤ x) (h : post 0) : wpX_isRange post x := by
  by_cases z : x < 0
  · exact br_t z h
  · exact br_f z (br_t (hx.resolve_left z) h)
theorem wx_within5 (hK : ∀ n, n < fo_c A → a_parentOf n = wk_o (fo_p A n)) (F : fo_F A) {x : Nat} (hx : x < 24) : ∀ (f n i w : Nat), f + i = 24 → f < n → (w < 24 → w < fo_c A) → post (wk_b (fo_bb A x f w)) → wX_isWithin_5 post (nI x) f_made f_listed f_leaving a_sort a_parentOf a_firstChild a_nextChild a_previousChild a_sizeOf a_letters a_placeNode a_placeOffset a_listing a_opening a_closing a_leavers n (wk_o w) (nI i) := by
  intro f
  induction f with
  | zero =>
    intro n i w hi hn hw hp
    obtain ⟨n, rfl⟩ : ∃ m, n = m + 1 := ⟨n - 1, by omega⟩
    rw [show i = 24 by omega]
    exact br_t (by decide) hp
  | succ f ih =>
    intro n i w hi hn hw hp
    obtain ⟨n, rfl⟩ : ∃ m, n = m + 1 := ⟨n - 1, by omega⟩
    refine br_f (nI_ge (b := 24) (by omega) (by decide)) ?_
    by_cases h : w < 24
    · have e : fo_bb A x (f + 1) w = if w = x then true else fo_bb A x f (fo_p A w) := if_pos h
      rw [e] at hp
      rw [wk_o_lt h]
      refine br_f (nI_pos (by omega)) ?_
      by_cases y : w = x
      · rw [if_pos y] at hp
        exact br_t (by rw [y]) hp
      · rw [if_neg y] at hp
        refine br_f (fun z => y ((nI_eq (by omega) (by omega)).mp z)) ⟨wk_in h, nm_r (e' := wk_o (fo_p A w)) (by rw [wk_cl h]; exact hK w (hw h)) (nm_r (nI_1 i) ?_)⟩
        exact ih n (i + 1) (fo_p A w) (by omega) (by omega) (fun z => (fo_up F (hw h) z).1) hp
    · have e : fo_bb A x (f + 1) w = false := if_neg h
      rw [e] at hp
      rw [wk_o_ge h]
      exact br_t (by decide) hp
theorem wx_isWithin (hK : ∀ n, n < fo_c A → a_parentOf n = wk_o (fo_p A n)) (F : fo_F A) {x n : Nat} (hx : x < 24) (hn : n < fo_c A) (h : post (wk_b (fo_b A x n))) : wpX_isWithin post (f_made, f_listed, f_leaving, a_sort, a_parentOf, a_firstChild, a_nextChild, a_previousChild, a_sizeOf, a_letters, a_placeNode, a_placeOffset, a_listing, a_opening, a_closing, a_leavers) (nI n) (nI x) := by
  refine ⟨25, ?_⟩
  have := wx_within5 (post := post) (a_parentOf := a_parentOf) (f_made := f_made) (f_listed := f_listed) (f_leaving := f_leaving) (a_sort := a_sort) (a_firstChild := a_firstChild) (a_nextChild := a_nextChild) (a_previousChild := a_previousChild) (a_sizeOf := a_sizeOf) (a_letters := a_letters) (a_placeNode := a_placeNode) (a_placeOffset := a_placeOffset) (a_listing := a_listing) (a_opening := a_opening) (a_closing := a_closing) (a_leavers := a_leavers) hK F hx 24 25 0 n rfl (by omega) (fun _ => hn) h
  rw [wk_o_lt (fo_lt24 F hn), nI_0] at this
  exact this
theorem wx_topOf4 (hK : ∀ n, n < fo_c A → a_parentOf n = wk_o (fo_p A n)) (F : fo_F A) : ∀ (f n i w : Nat), f + i = 24 → f < n → w < fo_c A → post (nI (fo_rr A f w)) → wX_topOf_4 post f_made f_listed f_leaving a_sort a_parentOf a_firstChild a_nextChild a_previousChild a_sizeOf a_letters a_placeNode a_placeOffset a_listing a_opening a_closing a_leavers n (nI w) (nI i) := by
  intro f
  induction f with
  | zero =>
    intro n i w hi hn hw hp
    obtain ⟨n, rfl⟩ : ∃ m, n = m + 1 := ⟨n - 1, by omega⟩
    rw [show i = 24 by omega]
    exact br_t (by decide) hp
  | succ f ih =>
    intro n i w hi hn hw hp
    obtain ⟨n, rfl⟩ : ∃ m, n = m + 1 := ⟨n - 1, by omega⟩
    have h24 := fo_lt24 F hw
    have ew : a_parentOf (nI w).toNatClampNeg = wk_o (fo_p A w) := by rw [wk_cl h24]; exact hK w hw
    refine br_f (nI_ge (b := 24) (by omega) (by decide)) ⟨wk_in h24, ?_⟩
    by_cases h : fo_p A w < 24
    · have e : fo_rr A (f + 1) w = fo_rr A f (fo_p A w) := if_pos h
      rw [e] at hp
      refine br_f (by rw [ew, wk_o_n]; exact fun z => z h) ⟨wk_in h24, nm_r (e' := nI (fo_p A w)) (by rw [ew, wk_o_lt h]) (nm_r (nI_1 i) ?_)⟩
      exact ih n (i + 1) (fo_p A w) (by omega) (by omega) (fo_up F hw h).1 hp
    · have e : fo_rr A (f + 1) w = w := if_neg h
      rw [e] at hp
      exact br_t (by rw [ew, wk_o_n]; exact h) hp
theorem wx_topOf (hK : ∀ n, n < fo_c A → a_parentOf n = wk_o (fo_p A n)) (F : fo_F A) {n : Nat} (hn : n < fo_c A) (h : post (nI (fo_r A n))) : wpX_topOf post (f_made, f_listed, f_leaving, a_sort, a_parentOf, a_firstChild, a_nextChild, a_previousChild, a_sizeOf, a_letters, a_placeNode, a_placeOffset, a_listing, a_opening, a_closing, a_leavers) (nI n) :=
  ⟨25, wx_topOf4 hK F 24 25 0 n rfl (by omega) hn h⟩
theorem wx_depthOf12 (hK : ∀ n, n < fo_c A → a_parentOf n = wk_o (fo_p A n)) (F : fo_F A) : ∀ (f n i y j : Nat), f + i = 24 → f < n → y < fo_c A → post (nI (j + fo_dd A f y)) → wX_depthOf_12 post f_made f_listed f_leaving a_sort a_parentOf a_firstChild a_nextChild a_previousChild a_sizeOf a_letters a_placeNode a_placeOffset a_listing a_opening a_closing a_leavers n (nI j) (wk_o (fo_p A y)) (nI i) := by
  intro f
  induction f with
  | zero =>
    intro n i y j hi hn hy hp
    obtain ⟨n, rfl⟩ : ∃ m, n = m + 1 := ⟨n - 1, by omega⟩
    rw [show i = 24 by omega]
    exact br_t (by decide) hp
  | succ f ih =>
    intro n i y j hi hn hy hp
    obtain ⟨n, rfl⟩ : ∃ m, n = m + 1 := ⟨n - 1, by omega⟩
    refine br_f (nI_ge (b := 24) (by omega) (by decide)) ?_
    by_cases h : fo_p A y < 24
    · have e : fo_dd A (f + 1) y = fo_dd A f (fo_p A y) + 1 := if_pos h
      have u := (fo_up F hy h).1
      rw [e] at hp
      rw [wk_o_lt h]
      refine br_f (nI_pos (by omega)) (nm_r (nI_1 j) ⟨wk_in h, nm_r (e' := wk_o (fo_p A (fo_p A y))) (by rw [wk_cl h]; exact hK _ u) (nm_r (nI_1 i) ?_)⟩)
      refine ih n (i + 1) (fo_p A y) (j + 1) (by omega) (by omega) u ?_
      rw [show j + 1 + fo_dd A f (fo_p A y) = j + (fo_dd A f (fo_p A y) + 1) by omega]
      exact hp
    · have e : fo_dd A (f + 1) y = 0 := if_neg h
      rw [e] at hp
      rw [wk_o_ge h]
      exact br_t (by decide) hp
theorem wx_depthOf (hK : ∀ n, n < fo_c A → a_parentOf n = wk_o (fo_p A n)) (F : fo_F A) {n : Nat} (hn : n < fo_c A) (h : post (nI (fo_d A n))) : wpX_depthOf post (f_made, f_listed, f_leaving, a_sort, a_parentOf, a_firstChild, a_nextChild, a_previousChild, a_sizeOf, a_letters, a_placeNode, a_placeOffset, a_listing, a_opening, a_closing, a_leavers) (nI n) := by
  refine ⟨wk_in (fo_lt24 F hn), nm_r (e' := wk_o (fo_p A n)) (by rw [wk_cl (fo_lt24 F hn)]; exact hK n hn) ⟨25, ?_⟩⟩
  refine wx_depthOf12 hK F 24 25 0 n 0 rfl (by omega) hn ?_
  rw [Nat.zero_add]
  exact h
theorem wx_indexOf12 (hK : ∀ n, n < fo_c A → a_previousChild n = wk_o (wx_pv A n)) (F : fo_F A) {c : Nat} (hc : c < fo_c A) (hp : fo_p A c < 24) (h : post (nI (fo_x A c))) : ∀ (d n j : Nat), d + j = fo_x A c → d < n → wX_indexOf_12 post f_made f_listed f_leaving a_sort a_parentOf a_firstChild a_nextChild a_previousChild a_sizeOf a_letters a_placeNode a_placeOffset a_listing a_opening a_closing a_leavers n (nI j) (wk_o (if j < fo_x A c then fo_k A (fo_p A c) (fo_x A c - 1 - j) else 24)) (nI j) := by
  obtain ⟨u1, u2, u3, u4⟩ := fo_up F hc hp
  have us := fo_s_e F u1 u2
  intro d
  induction d with
  | zero =>
    intro n j hj hn
    obtain ⟨n, rfl⟩ : ∃ m, n = m + 1 := ⟨n - 1, by omega⟩
    rw [if_neg (by omega), show j = fo_x A c by omega]
    exact br_f (nI_ge (b := 24) (by omega) (by decide)) (br_t (by decide) h)
  | succ d ih =>
    intro n j hj hn
    obtain ⟨n, rfl⟩ : ∃ m, n = m + 1 := ⟨n - 1, by omega⟩
    rw [if_pos (by omega)]
    obtain ⟨k1, k2, k3⟩ := fo_dn F u1 u2 (show fo_x A c - 1 - j < fo_s A (fo_p A c) by omega)
    have k24 := fo_lt24 F k1
    rw [wk_o_lt k24]
    refine br_f (nI_ge (b := 24) (by omega) (by decide)) (br_f (nI_pos (by omega)) (nm_r (nI_1 j) ⟨wk_in k24, nm_r (e' := wk_o (if j + 1 < fo_x A c then fo_k A (fo_p A c) (fo_x A c - 1 - (j + 1)) else 24)) ?_ (nm_r (nI_1 j) (ih n (j + 1) (by omega) (by omega)))⟩))
    rw [wk_cl k24, hK _ k1]
    congr 1
    unfold wx_pv
    rw [k2, k3]
    by_cases z : j + 1 < fo_x A c
    · rw [if_pos z, if_pos ⟨hp, by omega⟩, show fo_x A c - 1 - j - 1 = fo_x A c - 1 - (j + 1) by omega]
    · rw [if_neg z, if_neg (fun y => by have := y.2; omega)]
theorem wx_indexOf (hK : ∀ n, n < fo_c A → a_previousChild n = wk_o (wx_pv A n)) (F : fo_F A) {c : Nat} (hc : c < fo_c A) (hp : fo_p A c < 24) (h : post (nI (fo_x A c))) : wpX_indexOf post (f_made, f_listed, f_leaving, a_sort, a_parentOf, a_firstChild, a_nextChild, a_previousChild, a_sizeOf, a_letters, a_placeNode, a_placeOffset, a_listing, a_opening, a_closing, a_leavers) (nI c) := by
  refine ⟨wk_in (fo_lt24 F hc), nm_r (e' := wk_o (if 0 < fo_x A c then fo_k A (fo_p A c) (fo_x A c - 1 - 0) else 24)) ?_ ⟨fo_x A c + 1, wx_indexOf12 hK F hc hp h (fo_x A c) (fo_x A c + 1) 0 rfl (by omega)⟩⟩
  rw [wk_cl (fo_lt24 F hc), hK c hc]
  congr 1
  unfold wx_pv
  by_cases z : 0 < fo_x A c
  · rw [if_pos z, if_pos ⟨hp, z⟩]; rfl
  · rw [if_neg z, if_neg (fun y => z y.2)]
theorem wx_childAt10 (hK : ∀ n, n < fo_c A → a_nextChild n = wk_o (wx_nx A n)) (F : fo_F A) {p i : Nat} (hp : p < fo_c A) (ht : fo_t A p = false) (hi : i ≤ fo_s A p) (h : post (wk_o (if i < fo_s A p then fo_k A p i else 24))) : ∀ (d n j : Nat), d + j = i → d < n → wX_childAt_10 post (nI i) f_made f_listed f_leaving a_sort a_parentOf a_firstChild a_nextChild a_previousChild a_sizeOf a_letters a_placeNode a_placeOffset a_listing a_opening a_closing a_leavers n (wk_o (if j < fo_s A p then fo_k A p j else 24)) (nI j) := by
  have us := fo_s_e F hp ht
  intro d
  induction d with
  | zero =>
    intro n j hj hn
    obtain ⟨n, rfl⟩ : ∃ m, n = m + 1 := ⟨n - 1, by omega⟩
    rw [show j = i by omega]
    exact br_t (nI_le (Nat.le_refl _) (by omega)) h
  | succ d ih =>
    intro n j hj hn
    obtain ⟨n, rfl⟩ : ∃ m, n = m + 1 := ⟨n - 1, by omega⟩
    rw [if_pos (by omega)]
    obtain ⟨k1, k2, k3⟩ := fo_dn F hp ht (show j < fo_s A p by omega)
    have k24 := fo_lt24 F k1
    rw [wk_o_lt k24]
    refine br_f (nI_ge (by omega) (by omega)) (br_f (nI_pos (by omega)) ⟨wk_in k24, nm_r (e' := wk_o (if j + 1 < fo_s A p then fo_k A p (j + 1) else 24)) ?_ (nm_r (nI_1 j) (ih n (j + 1) (by omega) (by omega)))⟩)
    rw [wk_cl k24, hK _ k1]
    congr 1
    unfold wx_nx
    rw [k2, k3]
    by_cases z : j + 1 < fo_s A p
    · rw [if_pos z, if_pos ⟨fo_lt24 F hp, z⟩]
    · rw [if_neg z, if_neg (fun y => z y.2)]
theorem wx_childAt (K : wx_K A f_made a_sort a_parentOf a_firstChild a_nextChild a_previousChild a_sizeOf) (F : fo_F A) {p i : Nat} (hp : p < fo_c A) (ht : fo_t A p = false) (hi : i ≤ fo_s A p) (h : post (wk_o (if i < fo_s A p then fo_k A p i else 24))) : wpX_childAt post (f_made, f_listed, f_leaving, a_sort, a_parentOf, a_firstChild, a_nextChild, a_previousChild, a_sizeOf, a_letters, a_placeNode, a_placeOffset, a_listing, a_opening, a_closing, a_leavers) (nI p) (nI i) := by
  refine ⟨wk_in (fo_lt24 F hp), nm_r (e' := wk_o (if 0 < fo_s A p then fo_k A p 0 else 24)) ?_ ⟨i + 1, wx_childAt10 K.2.2.2.2.1 F hp ht hi h i (i + 1) 0 rfl (by omega)⟩⟩
  rw [wk_cl (fo_lt24 F hp), K.2.2.2.1 p hp ht]
  rfl
end
end
section
/-! X: links changed -/
theorem wx_nx_tk {A : fo_S} (F : fo_F A) {n : Nat} (hn : n < fo_c A) (hpn : fo_p A n < 24) {m : Nat} (hm : m < fo_c A) :
    wx_nx (fo_tk A n) m = if m = n then 24 else if 0 < fo_x A n ∧ m = fo_k A (fo_p A n) (fo_x A n - 1) then wx_nx A n else wx_nx A m := by
  obtain ⟨v1, v2, v3, v4⟩ := fo_up F hn hpn
  by_cases e : m = n
  · rw [if_pos e]
    have : fo_p (fo_tk A n) m = 24 := if_pos e
    unfold wx_nx
    rw [this, if_neg (fun z => by have := z.1; omega)]
  · rw [if_neg e]
    have e1 : fo_p (fo_tk A n) m = fo_p A m := if_neg e
    have e2 : fo_x (fo_tk A n) m = if fo_p A m = fo_p A n ∧ fo_x A n < fo_x A m then fo_x A m - 1 else fo_x A m := rfl
    have e3 : ∀ q, fo_s (fo_tk A n) q = if q = fo_p A n then fo_s A q - 1 else fo_s A q := fun q => rfl
    have e4 : ∀ q j, fo_k (fo_tk A n) q j = if q = fo_p A n ∧ fo_x A n ≤ j then fo_k A q (j + 1) else fo_k A q j := fun q j => rfl
    unfold wx_nx
    rw [e1, e2, e3, e4]
    by_cases hp : fo_p A m < 24
    · obtain ⟨u1, u2, u3, u4⟩ := fo_up F hm hp
      by_cases ep : fo_p A m = fo_p A n
      · have hne : fo_x A m ≠ fo_x A n := fun z => by
          rw [ep, z, v4] at u4
          exact e u4.symm
        rw [ep] at u3 u4 ⊢
        rw [if_pos (c := fo_p A n = fo_p A n) rfl]
        rcases Nat.lt_or_ge (fo_x A n) (fo_x A m) with z | z
        · have hnk : ¬ (0 < fo_x A n ∧ m = fo_k A (fo_p A n) (fo_x A n - 1)) := fun y => by
            have := (fo_dn F v1 v2 (show fo_x A n - 1 < fo_s A (fo_p A n) by omega)).2.2
            rw [← y.2] at this
            omega
          rw [if_pos (c := fo_p A n = fo_p A n ∧ fo_x A n < fo_x A m) ⟨rfl, z⟩, if_neg hnk, show fo_x A m - 1 + 1 = fo_x A m by omega, if_pos (c := fo_p A n = fo_p A n ∧ fo_x A n ≤ fo_x A m) ⟨rfl, by omega⟩]
          by_cases y : fo_x A m + 1 < fo_s A (fo_p A n)
          · rw [if_pos ⟨hpn, by omega⟩, if_pos ⟨hpn, y⟩]
          · rw [if_neg (fun w => by have := w.2; omega), if_neg (fun w => y w.2)]
        · rw [if_neg (c := fo_p A n = fo_p A n ∧ fo_x A n < fo_x A m) (fun y => by have := y.2; omega)]
          by_cases y : fo_x A m + 1 = fo_x A n
          · have hk : 0 < fo_x A n ∧ m = fo_k A (fo_p A n) (fo_x A n - 1) := ⟨by omega, by rw [show fo_x A n - 1 = fo_x A m by omega]; exact u4.symm⟩
            rw [if_pos (c := 0 < fo_x A n ∧ m = fo_k A (fo_p A n) (fo_x A n - 1)) hk, y, if_pos (c := fo_p A n = fo_p A n ∧ fo_x A n ≤ fo_x A n) ⟨rfl, Nat.le_refl _⟩]
            by_cases w : fo_x A n + 1 < fo_s A (fo_p A n)
            · rw [if_pos ⟨hpn, by omega⟩, if_pos ⟨hpn, w⟩]
            · rw [if_neg (fun w => by have := w.2; omega), if_neg (fun y => w y.2)]
          · have hnk : ¬ (0 < fo_x A n ∧ m = fo_k A (fo_p A n) (fo_x A n - 1)) := fun y => by
              have := (fo_dn F v1 v2 (show fo_x A n - 1 < fo_s A (fo_p A n) by omega)).2.2
              rw [← y.2] at this
              have := y.1
              omega
            rw [if_neg hnk, if_neg (c := fo_p A n = fo_p A n ∧ fo_x A n ≤ fo_x A m + 1) (fun y => by have := y.2; omega), if_pos ⟨hpn, by omega⟩, if_pos ⟨hpn, by omega⟩]
      · have hnk : ¬ (0 < fo_x A n ∧ m = fo_k A (fo_p A n) (fo_x A n - 1)) := fun y => by
          have := (fo_dn F v1 v2 (show fo_x A n - 1 < fo_s A (fo_p A n) by omega)).2.1
          rw [← y.2] at this
          exact ep this
        rw [if_neg hnk, if_neg (c := fo_p A m = fo_p A n) ep, if_neg (c := fo_p A m = fo_p A n ∧ fo_x A n < fo_x A m) (fun y => ep y.1), if_neg (c := fo_p A m = fo_p A n ∧ fo_x A n ≤ fo_x A m + 1) (fun y => ep y.1)]
    · have hnk : ¬ (0 < fo_x A n ∧ m = fo_k A (fo_p A n) (fo_x A n - 1)) := fun y => by
        have := (fo_dn F v1 v2 (show fo_x A n - 1 < fo_s A (fo_p A n) by omega)).2.1
        rw [← y.2] at this
        omega
      rw [if_neg hnk, if_neg (fun y => hp y.1), if_neg (fun y => hp y.1)]
theorem wx_pv_tk {A : fo_S} (F : fo_F A) {n : Nat} (hn : n < fo_c A) (hpn : fo_p A n < 24) {m : Nat} (hm : m < fo_c A) :
    wx_pv (fo_tk A n) m = if m = n then 24 else if fo_x A n + 1 < fo_s A (fo_p A n) ∧ m = fo_k A (fo_p A n) (fo_x A n + 1) then wx_pv A n else wx_pv A m := by
  obtain ⟨v1, v2, v3, v4⟩ := fo_up F hn hpn
  by_cases e : m = n
  · rw [if_pos e]
    have : fo_p (fo_tk A n) m = 24 := if_pos e
    unfold wx_pv
    rw [this, if_neg (fun z => by have := z.1; omega)]
  · rw [if_neg e]
    have e1 : fo_p (fo_tk A n) m = fo_p A m := if_neg e
    have e2 : fo_x (fo_tk A n) m = if fo_p A m = fo_p A n ∧ fo_x A n < fo_x A m then fo_x A m - 1 else fo_x A m := rfl
    have e4 : ∀ q j, fo_k (fo_tk A n) q j = if q = fo_p A n ∧ fo_x A n ≤ j then fo_k A q (j + 1) else fo_k A q j := fun q j => rfl
    unfold wx_pv
    rw [e1, e2, e4]
    by_cases hp : fo_p A m < 24
    · obtain ⟨u1, u2, u3, u4⟩ := fo_up F hm hp
      by_cases ep : fo_p A m = fo_p A n
      · have hne : fo_x A m ≠ fo_x A n := fun z => by
          rw [ep, z, v4] at u4
          exact e u4.symm
        rw [ep] at u3 u4 ⊢
        rcases Nat.lt_or_ge (fo_x A n) (fo_x A m) with z | z
        · rw [if_pos (c := fo_p A n = fo_p A n ∧ fo_x A n < fo_x A m) ⟨rfl, z⟩]
          by_cases y : fo_x A n + 1 = fo_x A m
          · have hk : fo_x A n + 1 < fo_s A (fo_p A n) ∧ m = fo_k A (fo_p A n) (fo_x A n + 1) := ⟨by omega, by rw [y]; exact u4.symm⟩
            rw [if_pos (c := fo_x A n + 1 < fo_s A (fo_p A n) ∧ m = fo_k A (fo_p A n) (fo_x A n + 1)) hk, show fo_x A m - 1 = fo_x A n by omega]
            by_cases w : 0 < fo_x A n
            · rw [if_neg (c := fo_p A n = fo_p A n ∧ fo_x A n ≤ fo_x A n - 1) (fun y => by have := y.2; omega)]
            · rw [if_neg (fun y => w y.2), if_neg (fun y => w y.2)]
          · have hnk : ¬ (fo_x A n + 1 < fo_s A (fo_p A n) ∧ m = fo_k A (fo_p A n) (fo_x A n + 1)) := fun w => by
              have := (fo_dn F v1 v2 w.1).2.2
              rw [← w.2] at this
              omega
            rw [if_neg hnk, if_pos (c := fo_p A n = fo_p A n ∧ fo_x A n ≤ fo_x A m - 1 - 1) ⟨rfl, by omega⟩, if_pos ⟨hpn, by omega⟩, if_pos ⟨hpn, by omega⟩, show fo_x A m - 1 - 1 + 1 = fo_x A m - 1 by omega]
        · have hnk : ¬ (fo_x A n + 1 < fo_s A (fo_p A n) ∧ m = fo_k A (fo_p A n) (fo_x A n + 1)) := fun w => by
            have := (fo_dn F v1 v2 w.1).2.2
            rw [← w.2] at this
            omega
          rw [if_neg (c := fo_p A n = fo_p A n ∧ fo_x A n < fo_x A m) (fun y => by have := y.2; omega), if_neg hnk, if_neg (c := fo_p A n = fo_p A n ∧ fo_x A n ≤ fo_x A m - 1) (fun y => by have := y.2; omega)]
      · have hnk : ¬ (fo_x A n + 1 < fo_s A (fo_p A n) ∧ m = fo_k A (fo_p A n) (fo_x A n + 1)) := fun w => by
          have := (fo_dn F v1 v2 w.1).2.1
          rw [← w.2] at this
          exact ep this
        rw [if_neg hnk, if_neg (c := fo_p A m = fo_p A n ∧ fo_x A n < fo_x A m) (fun y => ep y.1), if_neg (c := fo_p A m = fo_p A n ∧ fo_x A n ≤ fo_x A m - 1) (fun y => ep y.1)]
    · have hnk : ¬ (fo_x A n + 1 < fo_s A (fo_p A n) ∧ m = fo_k A (fo_p A n) (fo_x A n + 1)) := fun w => by
        have := (fo_dn F v1 v2 w.1).2.1
        rw [← w.2] at this
        omega
      rw [if_neg hnk, if_neg (fun y => hp y.1), if_neg (fun y => hp y.1)]
theorem wx_fc_tk {A : fo_S} (F : fo_F A) {n : Nat} (hn : n < fo_c A) (hpn : fo_p A n < 24) (q : Nat) :
    wx_fc (fo_tk A n) q = if q = fo_p A n ∧ fo_x A n = 0 then wx_nx A n else wx_fc A q := by
  obtain ⟨v1, v2, v3, v4⟩ := fo_up F hn hpn
  show (if 0 < (if q = fo_p A n then fo_s A q - 1 else fo_s A q) then (if q = fo_p A n ∧ fo_x A n ≤ 0 then fo_k A q (0 + 1) else fo_k A q 0) else 24) = _
  by_cases e : q = fo_p A n
  · rw [if_pos (c := q = fo_p A n) e]
    by_cases z : fo_x A n = 0
    · rw [if_pos (c := q = fo_p A n ∧ fo_x A n = 0) ⟨e, z⟩, if_pos (c := q = fo_p A n ∧ fo_x A n ≤ 0) ⟨e, by omega⟩, e]
      unfold wx_nx
      rw [z]
      by_cases w : 0 + 1 < fo_s A (fo_p A n)
      · rw [if_pos (by omega), if_pos ⟨hpn, w⟩]
      · rw [if_neg (by omega), if_neg (fun y => w y.2)]
    · rw [if_neg (c := q = fo_p A n ∧ fo_x A n = 0) (fun y => z y.2), if_neg (c := q = fo_p A n ∧ fo_x A n ≤ 0) (fun y => by have := y.2; omega), e]
      unfold wx_fc
      rw [if_pos (by omega), if_pos (by omega)]
  · rw [if_neg (c := q = fo_p A n) e, if_neg (c := q = fo_p A n ∧ fo_x A n = 0) (fun y => e y.1), if_neg (c := q = fo_p A n ∧ fo_x A n ≤ 0) (fun y => e y.1)]
    rfl
theorem wx_nx_pt {A : fo_S} (F : fo_F A) {p n i : Nat} (hpn : fo_p A n = 24) (hp : p < fo_c A) (htp : fo_t A p = false) (hi : i ≤ fo_s A p) {m : Nat} (hm : m < fo_c A) :
    wx_nx (fo_pt A p n i) m = if m = n then (if i < fo_s A p then fo_k A p i else 24) else if 0 < i ∧ m = fo_k A p (i - 1) then n else wx_nx A m := by
  have hp24 := fo_lt24 F hp
  have e3 : ∀ q, fo_s (fo_pt A p n i) q = if q = p then fo_s A q + 1 else fo_s A q := fun q => rfl
  have e4 : ∀ q j, fo_k (fo_pt A p n i) q j = if q = p then (if j < i then fo_k A q j else if j = i then n else fo_k A q (j - 1)) else fo_k A q j := fun q j => rfl
  by_cases e : m = n
  · rw [if_pos e]
    have e1 : fo_p (fo_pt A p n i) m = p := if_pos e
    have e2 : fo_x (fo_pt A p n i) m = i := if_pos e
    unfold wx_nx
    rw [e1, e2, e3, e4, if_pos rfl, if_pos (c := p = p) rfl, if_neg (c := i + 1 < i) (by omega), if_neg (c := i + 1 = i) (by omega), show i + 1 - 1 = i by omega]
    by_cases z : i < fo_s A p
    · rw [if_pos ⟨hp24, by omega⟩, if_pos z]
    · rw [if_neg (fun y => by have := y.2; omega), if_neg z]
  · rw [if_neg e]
    have e1 : fo_p (fo_pt A p n i) m = fo_p A m := if_neg e
    have e2 : fo_x (fo_pt A p n i) m = if fo_p A m = p ∧ i ≤ fo_x A m then fo_x A m + 1 else fo_x A m := if_neg e
    unfold wx_nx
    rw [e1, e2, e3, e4]
    by_cases hq : fo_p A m < 24
    · obtain ⟨u1, u2, u3, u4⟩ := fo_up F hm hq
      by_cases ep : fo_p A m = p
      · rw [ep] at u3 u4 ⊢
        rw [if_pos (c := p = p) rfl, if_pos (c := p = p) rfl]
        by_cases z : i ≤ fo_x A m
        · have hnk : ¬ (0 < i ∧ m = fo_k A p (i - 1)) := fun y => by
            have := (fo_dn F hp htp (show i - 1 < fo_s A p by omega)).2.2
            rw [← y.2] at this
            have := y.1
            omega
          rw [if_pos (c := p = p ∧ i ≤ fo_x A m) ⟨rfl, z⟩, if_neg hnk, if_neg (c := fo_x A m + 1 + 1 < i) (by omega), if_neg (c := fo_x A m + 1 + 1 = i) (by omega), show fo_x A m + 1 + 1 - 1 = fo_x A m + 1 by omega]
          by_cases w : fo_x A m + 1 < fo_s A p
          · rw [if_pos ⟨hp24, by omega⟩, if_pos ⟨hp24, w⟩]
          · rw [if_neg (fun y => by have := y.2; omega), if_neg (fun y => w y.2)]
        · rw [if_neg (c := p = p ∧ i ≤ fo_x A m) (fun y => z y.2)]
          by_cases y : fo_x A m + 1 = i
          · have hk : 0 < i ∧ m = fo_k A p (i - 1) := ⟨by omega, by rw [show i - 1 = fo_x A m by omega]; exact u4.symm⟩
            rw [if_pos (c := 0 < i ∧ m = fo_k A p (i - 1)) hk, if_neg (c := fo_x A m + 1 < i) (by omega), if_pos (c := fo_x A m + 1 = i) y, if_pos ⟨hp24, by omega⟩]
          · have hnk : ¬ (0 < i ∧ m = fo_k A p (i - 1)) := fun w => by
              have := (fo_dn F hp htp (show i - 1 < fo_s A p by omega)).2.2
              rw [← w.2] at this
              have := w.1
              omega
            rw [if_neg hnk, if_pos (c := fo_x A m + 1 < i) (by omega), if_pos ⟨hp24, by omega⟩, if_pos ⟨hp24, by omega⟩]
      · have hnk : ¬ (0 < i ∧ m = fo_k A p (i - 1)) := fun y => by
          have := (fo_dn F hp htp (show i - 1 < fo_s A p by have := y.1; omega)).2.1
          rw [← y.2] at this
          exact ep this
        rw [if_neg hnk, if_neg (c := fo_p A m = p ∧ i ≤ fo_x A m) (fun y => ep y.1), if_neg (c := fo_p A m = p) ep, if_neg (c := fo_p A m = p) ep]
    · have hnk : ¬ (0 < i ∧ m = fo_k A p (i - 1)) := fun y => by
        have := (fo_dn F hp htp (show i - 1 < fo_s A p by have := y.1; omega)).2.1
        rw [← y.2] at this
        omega
      rw [if_neg hnk, if_neg (fun y => hq y.1), if_neg (fun y => hq y.1)]
theorem wx_pv_pt {A : fo_S} (F : fo_F A) {p n i : Nat} (hpn : fo_p A n = 24) (hp : p < fo_c A) (htp : fo_t A p = false) (hi : i ≤ fo_s A p) {m : Nat} (hm : m < fo_c A) :
    wx_pv (fo_pt A p n i) m = if m = n then (if 0 < i then fo_k A p (i - 1) else 24) else if i < fo_s A p ∧ m = fo_k A p i then n else wx_pv A m := by
  have hp24 := fo_lt24 F hp
  have e4 : ∀ q j, fo_k (fo_pt A p n i) q j = if q = p then (if j < i then fo_k A q j else if j = i then n else fo_k A q (j - 1)) else fo_k A q j := fun q j => rfl
  by_cases e : m = n
  · rw [if_pos e]
    have e1 : fo_p (fo_pt A p n i) m = p := if_pos e
    have e2 : fo_x (fo_pt A p n i) m = i := if_pos e
    unfold wx_pv
    rw [e1, e2, e4, if_pos (c := p = p) rfl]
    by_cases z : 0 < i
    · rw [if_pos ⟨hp24, z⟩, if_pos z, if_pos (by omega)]
    · rw [if_neg (fun y => z y.2), if_neg z]
  · rw [if_neg e]
    have e1 : fo_p (fo_pt A p n i) m = fo_p A m := if_neg e
    have e2 : fo_x (fo_pt A p n i) m = if fo_p A m = p ∧ i ≤ fo_x A m then fo_x A m + 1 else fo_x A m := if_neg e
    unfold wx_pv
    rw [e1, e2, e4]
    by_cases hq : fo_p A m < 24
    · obtain ⟨u1, u2, u3, u4⟩ := fo_up F hm hq
      by_cases ep : fo_p A m = p
      · rw [ep] at u3 u4 ⊢
        rw [if_pos (c := p = p) rfl]
        by_cases z : i ≤ fo_x A m
        · rw [if_pos (c := p = p ∧ i ≤ fo_x A m) ⟨rfl, z⟩, if_pos (c := p < 24 ∧ 0 < fo_x A m + 1) ⟨hp24, by omega⟩, show fo_x A m + 1 - 1 = fo_x A m by omega, if_neg (c := fo_x A m < i) (by omega)]
          by_cases y : fo_x A m = i
          · have hk : i < fo_s A p ∧ m = fo_k A p i := ⟨by omega, by rw [← y]; exact u4.symm⟩
            rw [if_pos y, if_pos hk]
          · have hnk : ¬ (i < fo_s A p ∧ m = fo_k A p i) := fun w => by
              have := (fo_dn F hp htp w.1).2.2
              rw [← w.2] at this
              omega
            rw [if_neg y, if_neg hnk, if_pos ⟨hp24, by omega⟩]
        · have hnk : ¬ (i < fo_s A p ∧ m = fo_k A p i) := fun w => by
            have := (fo_dn F hp htp w.1).2.2
            rw [← w.2] at this
            omega
          rw [if_neg (c := p = p ∧ i ≤ fo_x A m) (fun y => z y.2), if_neg hnk, if_pos (c := fo_x A m - 1 < i) (by omega)]
      · have hnk : ¬ (i < fo_s A p ∧ m = fo_k A p i) := fun w => by
          have := (fo_dn F hp htp w.1).2.1
          rw [← w.2] at this
          exact ep this
        rw [if_neg hnk, if_neg (c := fo_p A m = p ∧ i ≤ fo_x A m) (fun y => ep y.1), if_neg (c := fo_p A m = p) ep]
    · have hnk : ¬ (i < fo_s A p ∧ m = fo_k A p i) := fun w => by
        have := (fo_dn F hp htp w.1).2.1
        rw [← w.2] at this
        omega
      rw [if_neg hnk, if_neg (fun y => hq y.1), if_neg (fun y => hq y.1)]
theorem wx_fc_pt {A : fo_S} {p n i : Nat} (hi : i ≤ fo_s A p) (q : Nat) : wx_fc (fo_pt A p n i) q = if q = p ∧ i = 0 then n else wx_fc A q := by
  show (if 0 < (if q = p then fo_s A q + 1 else fo_s A q) then (if q = p then (if 0 < i then fo_k A q 0 else if 0 = i then n else fo_k A q (0 - 1)) else fo_k A q 0) else 24) = _
  by_cases e : q = p
  · rw [if_pos (c := q = p) e, if_pos (c := q = p) e, if_pos (by omega)]
    by_cases z : i = 0
    · rw [if_pos (c := q = p ∧ i = 0) ⟨e, z⟩, if_neg (by omega), if_pos z.symm]
    · rw [if_neg (c := q = p ∧ i = 0) (fun y => z y.2), if_pos (by omega)]
      unfold wx_fc
      rw [if_pos (by rw [e]; omega)]
  · rw [if_neg (c := q = p) e, if_neg (c := q = p) e, if_neg (c := q = p ∧ i = 0) (fun y => e y.1)]
    rfl
end
section
/-! X: unlink, link, and the two changes that move places -/
section
variable {A : fo_S} {f_made f_listed f_leaving : Int32} {a_sort a_parentOf a_firstChild a_nextChild a_previousChild a_sizeOf a_letters a_placeNode a_placeOffset a_listing a_opening a_closing a_leavers : Nat → Int32} {post : SX → Prop}
theorem wx_unlink51 (hm : f_made = nI (fo_c A)) (hs : ∀ n, n < fo_c A → a_sort n = wk_b (fo_t A n)) (hq : ∀ n, n < fo_c A → a_parentOf n = wk_o (fo_p A n)) (hz : ∀ n, n < 24 → a_sizeOf n = nI (fo_s A n)) (F : fo_F A) {n : Nat} (hn : n < fo_c A) (hpn : fo_p A n < 24)
    (h1 : ∀ q, q < fo_c A → fo_t A q = false → a_firstChild q = wk_o (wx_fc (fo_tk A n) q)) (h2 : ∀ m, m < fo_c A → m ≠ n → a_nextChild m = wk_o (wx_nx (fo_tk A n) m)) (h3 : ∀ m, m < fo_c A → m ≠ n → a_previousChild m = wk_o (wx_pv (fo_tk A n) m))
    (h : ∀ b_parentOf b_nextChild b_previousChild b_sizeOf, wx_K (fo_tk A n) f_made a_sort b_parentOf a_firstChild b_nextChild b_previousChild b_sizeOf → post (f_made, f_listed, f_leaving, a_sort, b_parentOf, a_firstChild, b_nextChild, b_previousChild, b_sizeOf, a_letters, a_placeNode, a_placeOffset, a_listing, a_opening, a_closing, a_leavers)) : wX_unlink_51 post (nI n) f_made f_listed f_leaving a_sort a_parentOf a_firstChild a_nextChild a_previousChild a_sizeOf a_letters a_placeNode a_placeOffset a_listing a_opening a_closing a_leavers := by
  have h24 := fo_lt24 F hn
  obtain ⟨v1, v2, v3, v4⟩ := fo_up F hn hpn
  have ep : a_parentOf (nI n).toNatClampNeg = nI (fo_p A n) := by rw [wk_cl h24, hq n hn, wk_o_lt hpn]
  unfold wX_unlink_51
  refine ⟨wk_in h24, by rw [ep]; exact wk_in hpn, by rw [ep]; exact wk_in hpn, ?_⟩
  refine nm_r (e' := upd a_sizeOf (fo_p A n) (nI (fo_s A (fo_p A n) - 1))) ?_ ⟨wk_in h24, nm_r (e' := upd a_parentOf n (-1)) (by rw [wk_cl h24]) ⟨wk_in h24, nm_r (e' := upd a_nextChild n (-1)) (by rw [wk_cl h24]) ⟨wk_in h24, nm_r (e' := upd a_previousChild n (-1)) (by rw [wk_cl h24]) (h _ _ _ _ ?_)⟩⟩⟩
  · rw [ep, wk_cl hpn, hz _ hpn]
    obtain ⟨k, hk⟩ : ∃ k, fo_s A (fo_p A n) = k + 1 := ⟨fo_s A (fo_p A n) - 1, by omega⟩
    rw [hk, nI_pred]
    rfl
  · refine ⟨hm, hs, fun m hm' => ?_, h1, fun m hm' => ?_, fun m hm' => ?_, fun m hm' => ?_⟩
    · show (if m = n then (-1 : Int32) else a_parentOf m) = wk_o (if m = n then 24 else fo_p A m)
      by_cases e : m = n
      · rw [if_pos e, if_pos e, wk_o_24]
      · rw [if_neg e, if_neg e]; exact hq m hm'
    · show (if m = n then (-1 : Int32) else a_nextChild m) = _
      by_cases e : m = n
      · rw [if_pos e, wx_nx_tk F hn hpn hm', if_pos e, wk_o_24]
      · rw [if_neg e]; exact h2 m hm' e
    · show (if m = n then (-1 : Int32) else a_previousChild m) = _
      by_cases e : m = n
      · rw [if_pos e, wx_pv_tk F hn hpn hm', if_pos e, wk_o_24]
      · rw [if_neg e]; exact h3 m hm' e
    · show (if m = fo_p A n then nI (fo_s A (fo_p A n) - 1) else a_sizeOf m) = nI (if m = fo_p A n then fo_s A m - 1 else fo_s A m)
      by_cases e : m = fo_p A n
      · rw [if_pos e, if_pos e, e]
      · rw [if_neg e, if_neg e]; exact hz m hm'
theorem wx_unlink40 (hm : f_made = nI (fo_c A)) (hs : ∀ n, n < fo_c A → a_sort n = wk_b (fo_t A n)) (hq : ∀ n, n < fo_c A → a_parentOf n = wk_o (fo_p A n)) (hz : ∀ n, n < 24 → a_sizeOf n = nI (fo_s A n)) (F : fo_F A) {n : Nat} (hn : n < fo_c A) (hpn : fo_p A n < 24)
    (h1 : ∀ q, q < fo_c A → fo_t A q = false → a_firstChild q = wk_o (wx_fc (fo_tk A n) q)) (h2 : ∀ m, m < fo_c A → m ≠ n → a_nextChild m = wk_o (wx_nx (fo_tk A n) m)) (h3 : ∀ m, m < fo_c A → a_previousChild m = wk_o (wx_pv A m))
    (h : ∀ b_parentOf b_nextChild b_previousChild b_sizeOf, wx_K (fo_tk A n) f_made a_sort b_parentOf a_firstChild b_nextChild b_previousChild b_sizeOf → post (f_made, f_listed, f_leaving, a_sort, b_parentOf, a_firstChild, b_nextChild, b_previousChild, b_sizeOf, a_letters, a_placeNode, a_placeOffset, a_listing, a_opening, a_closing, a_leavers)) : wX_unlink_40 post (nI n) (wk_o (wx_pv A n)) (wk_o (wx_nx A n)) f_made f_listed f_leaving a_sort a_parentOf a_firstChild a_nextChild a_previousChild a_sizeOf a_letters a_placeNode a_placeOffset a_listing a_opening a_closing a_leavers := by
  obtain ⟨v1, v2, v3, v4⟩ := fo_up F hn hpn
  unfold wX_unlink_40
  by_cases z : fo_x A n + 1 < fo_s A (fo_p A n)
  · have e : wx_nx A n = fo_k A (fo_p A n) (fo_x A n + 1) := if_pos ⟨hpn, z⟩
    obtain ⟨k1, k2, k3⟩ := fo_dn F v1 v2 z
    have k24 := fo_lt24 F k1
    rw [e, wk_o_lt k24]
    refine br_f (nI_pos (by omega)) ⟨wk_in k24, nm_r (e' := upd a_previousChild (fo_k A (fo_p A n) (fo_x A n + 1)) (wk_o (wx_pv A n))) (by rw [wk_cl k24]) ?_⟩
    refine wx_unlink51 hm hs hq hz F hn hpn h1 h2 (fun m hm' hne => ?_) h
    rw [wx_pv_tk F hn hpn hm', if_neg hne]
    show (if m = fo_k A (fo_p A n) (fo_x A n + 1) then wk_o (wx_pv A n) else a_previousChild m) = _
    by_cases w : m = fo_k A (fo_p A n) (fo_x A n + 1)
    · rw [if_pos w, if_pos ⟨z, w⟩]
    · rw [if_neg w, if_neg (fun y => w y.2)]; exact h3 m hm'
  · have e : wx_nx A n = 24 := if_neg (fun y => z y.2)
    rw [e, wk_o_24]
    refine br_t (by decide) (wx_unlink51 hm hs hq hz F hn hpn h1 h2 (fun m hm' hne => ?_) h)
    rw [wx_pv_tk F hn hpn hm', if_neg hne, if_neg (fun y => z y.1)]
    exact h3 m hm'
theorem wx_unlink (K : wx_K A f_made a_sort a_parentOf a_firstChild a_nextChild a_previousChild a_sizeOf) (F : fo_F A) {n : Nat} (hn : n < fo_c A) (hpn : fo_p A n < 24)
    (h : ∀ b_parentOf b_firstChild b_nextChild b_previousChild b_sizeOf, wx_K (fo_tk A n) f_made a_sort b_parentOf b_firstChild b_nextChild b_previousChild b_sizeOf → post (f_made, f_listed, f_leaving, a_sort, b_parentOf, b_firstChild, b_nextChild, b_previousChild, b_sizeOf, a_letters, a_placeNode, a_placeOffset, a_listing, a_opening, a_closing, a_leavers)) : wpX_unlink post (f_made, f_listed, f_leaving, a_sort, a_parentOf, a_firstChild, a_nextChild, a_previousChild, a_sizeOf, a_letters, a_placeNode, a_placeOffset, a_listing, a_opening, a_closing, a_leavers) (nI n) := by
  obtain ⟨hm, hs, hq, hf, hnx, hpv, hz⟩ := K
  have h24 := fo_lt24 F hn
  obtain ⟨v1, v2, v3, v4⟩ := fo_up F hn hpn
  have ep : a_parentOf (nI n).toNatClampNeg = nI (fo_p A n) := by rw [wk_cl h24, hq n hn, wk_o_lt hpn]
  unfold wpX_unlink
  refine ⟨wk_in h24, nm_r (e' := wk_o (wx_pv A n)) (by rw [wk_cl h24]; exact hpv n hn) ⟨wk_in h24, nm_r (e' := wk_o (wx_nx A n)) (by rw [wk_cl h24]; exact hnx n hn) ?_⟩⟩
  by_cases z : 0 < fo_x A n
  · have e : wx_pv A n = fo_k A (fo_p A n) (fo_x A n - 1) := if_pos ⟨hpn, z⟩
    obtain ⟨k1, k2, k3⟩ := fo_dn F v1 v2 (show fo_x A n - 1 < fo_s A (fo_p A n) by omega)
    have k24 := fo_lt24 F k1
    have e2 : wk_o (wx_pv A n) = nI (fo_k A (fo_p A n) (fo_x A n - 1)) := by rw [e, wk_o_lt k24]
    refine br_f (by rw [e2]; exact nI_pos (by omega)) ⟨by rw [e2]; exact wk_in k24, nm_r (e' := upd a_nextChild (fo_k A (fo_p A n) (fo_x A n - 1)) (wk_o (wx_nx A n))) (by rw [e2, wk_cl k24]) ?_⟩
    refine wx_unlink40 hm hs hq hz F hn hpn (fun q hq' ht => ?_) (fun m hm' hne => ?_) hpv fun _ _ _ _ => h _ _ _ _ _
    · rw [wx_fc_tk F hn hpn, if_neg (fun y => by have := y.2; omega)]
      exact hf q hq' ht
    · rw [wx_nx_tk F hn hpn hm', if_neg hne]
      show (if m = fo_k A (fo_p A n) (fo_x A n - 1) then wk_o (wx_nx A n) else a_nextChild m) = _
      by_cases w : m = fo_k A (fo_p A n) (fo_x A n - 1)
      · rw [if_pos w, if_pos ⟨z, w⟩]
      · rw [if_neg w, if_neg (fun y => w y.2)]; exact hnx m hm'
  · have e : wx_pv A n = 24 := if_neg (fun y => z y.2)
    refine br_t (by rw [e, wk_o_24]; decide) ⟨wk_in h24, by rw [ep]; exact wk_in hpn, nm_r (e' := upd a_firstChild (fo_p A n) (wk_o (wx_nx A n))) (by rw [ep, wk_cl hpn]) ?_⟩
    refine wx_unlink40 hm hs hq hz F hn hpn (fun q hq' ht => ?_) (fun m hm' hne => ?_) hpv fun _ _ _ _ => h _ _ _ _ _
    · rw [wx_fc_tk F hn hpn]
      show (if q = fo_p A n then wk_o (wx_nx A n) else a_firstChild q) = _
      by_cases w : q = fo_p A n
      · rw [if_pos w, if_pos ⟨w, by omega⟩]
      · rw [if_neg w, if_neg (fun y => w y.1)]; exact hf q hq' ht
    · rw [wx_nx_tk F hn hpn hm', if_neg hne, if_neg (fun y => z y.1)]
      exact hnx m hm'
theorem wx_link85 (hm : f_made = nI (fo_c A)) (hs : ∀ n, n < fo_c A → a_sort n = wk_b (fo_t A n)) (hz : ∀ n, n < 24 → a_sizeOf n = nI (fo_s A n)) (F : fo_F A) {p n i : Nat} (hp : p < fo_c A)
    (h0 : ∀ m, m < fo_c A → a_parentOf m = wk_o (fo_p (fo_pt A p n i) m)) (h1 : ∀ q, q < fo_c A → fo_t A q = false → a_firstChild q = wk_o (wx_fc (fo_pt A p n i) q)) (h2 : ∀ m, m < fo_c A → a_nextChild m = wk_o (wx_nx (fo_pt A p n i) m)) (h3 : ∀ m, m < fo_c A → a_previousChild m = wk_o (wx_pv (fo_pt A p n i) m))
    (h : ∀ b_sizeOf, wx_K (fo_pt A p n i) f_made a_sort a_parentOf a_firstChild a_nextChild a_previousChild b_sizeOf → post (f_made, f_listed, f_leaving, a_sort, a_parentOf, a_firstChild, a_nextChild, a_previousChild, b_sizeOf, a_letters, a_placeNode, a_placeOffset, a_listing, a_opening, a_closing, a_leavers)) : wX_link_85 post (nI p) f_made f_listed f_leaving a_sort a_parentOf a_firstChild a_nextChild a_previousChild a_sizeOf a_letters a_placeNode a_placeOffset a_listing a_opening a_closing a_leavers := by
  have h24 := fo_lt24 F hp
  unfold wX_link_85
  refine ⟨wk_in h24, wk_in h24, nm_r (e' := upd a_sizeOf p (nI (fo_s A p + 1))) (by rw [wk_cl h24, hz p h24, nI_1]) (h _ ⟨hm, hs, h0, h1, h2, h3, fun m hm' => ?_⟩)⟩
  show (if m = p then nI (fo_s A p + 1) else a_sizeOf m) = nI (if m = p then fo_s A m + 1 else fo_s A m)
  by_cases e : m = p
  · rw [if_pos e, if_pos e, e]
  · rw [if_neg e, if_neg e]; exact hz m hm'
theorem wx_link (K : wx_K A f_made a_sort a_parentOf a_firstChild a_nextChild a_previousChild a_sizeOf) (F : fo_F A) {p n i : Nat} (hn : n < fo_c A) (hpn : fo_p A n = 24) (hp : p < fo_c A) (htp : fo_t A p = false) (hi : i ≤ fo_s A p)
    (h : ∀ b_parentOf b_firstChild b_nextChild b_previousChild b_sizeOf, wx_K (fo_pt A p n i) f_made a_sort b_parentOf b_firstChild b_nextChild b_previousChild b_sizeOf → post (f_made, f_listed, f_leaving, a_sort, b_parentOf, b_firstChild, b_nextChild, b_previousChild, b_sizeOf, a_letters, a_placeNode, a_placeOffset, a_listing, a_opening, a_closing, a_leavers)) : wpX_link post (f_made, f_listed, f_leaving, a_sort, a_parentOf, a_firstChild, a_nextChild, a_previousChild, a_sizeOf, a_letters, a_placeNode, a_placeOffset, a_listing, a_opening, a_closing, a_leavers) (nI p) (nI n) (nI i) := by
  have K0 := K
  obtain ⟨hm, hs, hq, hf, hnx, hpv, hz⟩ := K
  have h24 := fo_lt24 F hn
  have hp24 := fo_lt24 F hp
  have hs24 := fo_s_e F hp htp
  have tail : ∀ (b_firstChild b_nextChild : Nat → Int32), (∀ q, q < fo_c A → fo_t A q = false → b_firstChild q = wk_o (wx_fc (fo_pt A p n i) q)) → (∀ m, m < fo_c A → b_nextChild m = wk_o (wx_nx (fo_pt A p n i) m)) →
      wX_link_72 post (nI p) (nI n) (wk_o (if i < fo_s A p then fo_k A p i else 24)) f_made f_listed f_leaving a_sort (upd a_parentOf n (nI p)) b_firstChild b_nextChild (upd a_previousChild n (wk_o (if 0 < i then fo_k A p (i - 1) else 24))) a_sizeOf a_letters a_placeNode a_placeOffset a_listing a_opening a_closing a_leavers := by
    intro b_firstChild b_nextChild hb1 hb2
    have h0 : ∀ m, m < fo_c A → upd a_parentOf n (nI p) m = wk_o (fo_p (fo_pt A p n i) m) := by
      intro m hm'
      show (if m = n then nI p else a_parentOf m) = wk_o (if m = n then p else fo_p A m)
      by_cases e : m = n
      · rw [if_pos e, if_pos e, wk_o_lt hp24]
      · rw [if_neg e, if_neg e]; exact hq m hm'
    unfold wX_link_72
    by_cases z : i < fo_s A p
    · obtain ⟨k1, k2, k3⟩ := fo_dn F hp htp z
      have k24 := fo_lt24 F k1
      rw [if_pos z, wk_o_lt k24]
      refine br_f (nI_pos (by omega)) ⟨wk_in k24, nm_r (e' := upd (upd a_previousChild n (wk_o (if 0 < i then fo_k A p (i - 1) else 24))) (fo_k A p i) (nI n)) (by rw [wk_cl k24]) ?_⟩
      refine wx_link85 hm hs hz F hp h0 hb1 hb2 (fun m hm' => ?_) fun _ => h _ _ _ _ _
      rw [wx_pv_pt F hpn hp htp hi hm']
      show (if m = fo_k A p i then nI n else if m = n then wk_o (if 0 < i then fo_k A p (i - 1) else 24) else a_previousChild m) = _
      have kn : fo_k A p i ≠ n := fun e => by rw [e] at k2; omega
      by_cases w : m = n
      · rw [if_neg (fun y => kn (y.symm.trans w)), if_pos w, if_pos w]
      · rw [if_neg (c := m = n) w, if_neg (c := m = n) w]
        by_cases w2 : m = fo_k A p i
        · rw [if_pos w2, if_pos ⟨z, w2⟩, wk_o_lt h24]
        · rw [if_neg w2, if_neg (fun y => w2 y.2)]; exact hpv m hm'
    · rw [if_neg z, wk_o_24]
      refine br_t (by decide) (wx_link85 hm hs hz F hp h0 hb1 hb2 (fun m hm' => ?_) fun _ => h _ _ _ _ _)
      rw [wx_pv_pt F hpn hp htp hi hm']
      show (if m = n then wk_o (if 0 < i then fo_k A p (i - 1) else 24) else a_previousChild m) = _
      by_cases w : m = n
      · rw [if_pos w, if_pos w]
      · rw [if_neg w, if_neg w, if_neg (fun y => z y.1)]; exact hpv m hm'
  unfold wpX_link
  refine wx_childAt K0 F hp htp hi ?_
  by_cases z : 0 < i
  · obtain ⟨j, rfl⟩ : ∃ j, i = j + 1 := ⟨i - 1, by omega⟩
    have e0 : ¬ nI (j + 1) = 0 := nI_ne0 (by omega) (by omega)
    refine br_f e0 ?_
    rw [nI_pred]
    refine wx_childAt K0 F hp htp (show j ≤ fo_s A p by omega) ?_
    rw [if_pos (show j < fo_s A p by omega)]
    obtain ⟨k1, k2, k3⟩ := fo_dn F hp htp (show j < fo_s A p by omega)
    have k24 := fo_lt24 F k1
    unfold wX_link_24
    refine ⟨wk_in h24, nm_r (e' := upd a_parentOf n (nI p)) (by rw [wk_cl h24]) ⟨wk_in h24, nm_r (e' := upd a_nextChild n (wk_o (if j + 1 < fo_s A p then fo_k A p (j + 1) else 24))) (by rw [wk_cl h24]) ⟨wk_in h24, nm_r (e' := upd a_previousChild n (wk_o (if 0 < j + 1 then fo_k A p (j + 1 - 1) else 24))) (by rw [wk_cl h24, if_pos (by omega)]; rfl) ?_⟩⟩⟩
    rw [wk_o_lt k24]
    refine br_f (nI_pos (by omega)) ⟨wk_in k24, nm_r (e' := upd (upd a_nextChild n (wk_o (if j + 1 < fo_s A p then fo_k A p (j + 1) else 24))) (fo_k A p j) (nI n)) (by rw [wk_cl k24]) (tail _ _ (fun q hq' ht => ?_) fun m hm' => ?_)⟩
    · rw [wx_fc_pt hi, if_neg (fun y => by have := y.2; omega)]
      exact hf q hq' ht
    · rw [wx_nx_pt F hpn hp htp hi hm']
      show (if m = fo_k A p j then nI n else if m = n then wk_o (if j + 1 < fo_s A p then fo_k A p (j + 1) else 24) else a_nextChild m) = _
      have kn : fo_k A p j ≠ n := fun e => by rw [e] at k2; omega
      by_cases w : m = n
      · rw [if_neg (fun y => kn (y.symm.trans w)), if_pos w, if_pos w]
      · rw [if_neg (c := m = n) w, if_neg (c := m = n) w]
        by_cases w2 : m = fo_k A p j
        · rw [if_pos w2, if_pos ⟨z, w2⟩, wk_o_lt h24]
        · rw [if_neg w2, if_neg (fun y => w2 y.2)]; exact hnx m hm'
  · have e : i = 0 := by omega
    subst e
    refine br_t rfl ?_
    unfold wX_link_24
    refine ⟨wk_in h24, nm_r (e' := upd a_parentOf n (nI p)) (by rw [wk_cl h24]) ⟨wk_in h24, nm_r (e' := upd a_nextChild n (wk_o (if 0 < fo_s A p then fo_k A p 0 else 24))) (by rw [wk_cl h24]) ⟨wk_in h24, nm_r (e' := upd a_previousChild n (wk_o (if 0 < 0 then fo_k A p (0 - 1) else 24))) (by rw [wk_cl h24, if_neg (by omega), wk_o_24]) ?_⟩⟩⟩
    refine br_t (by decide) ⟨wk_in hp24, nm_r (e' := upd a_firstChild p (nI n)) (by rw [wk_cl hp24]) (tail _ _ (fun q hq' ht => ?_) fun m hm' => ?_)⟩
    · rw [wx_fc_pt hi]
      show (if q = p then nI n else a_firstChild q) = _
      by_cases w : q = p
      · rw [if_pos w, if_pos ⟨w, rfl⟩, wk_o_lt h24]
      · rw [if_neg w, if_neg (fun y => w y.1)]; exact hf q hq' ht
    · rw [wx_nx_pt F hpn hp htp hi hm']
      show (if m = n then wk_o (if 0 < fo_s A p then fo_k A p 0 else 24) else a_nextChild m) = _
      by_cases w : m = n
      · rw [if_pos w, if_pos w]
      · rw [if_neg w, if_neg w, if_neg (fun y => z y.1)]; exact hnx m hm'
end
end
section
/-! X: taking out, putting in, moving places, a new node -/
theorem wk_c8 {i : Nat} (h : i < 8) : (nI i).toNatClampNeg = i := nI_clamp (by omega)
theorem wk_i8 {i : Nat} (h : i < 8) : vp_in (nI i) 8 := vp_in_nI h (by decide)
section
variable {A : fo_S} {f_made f_listed f_leaving : Int32} {a_sort a_parentOf a_firstChild a_nextChild a_previousChild a_sizeOf a_letters a_placeNode a_placeOffset a_listing a_opening a_closing a_leavers : Nat → Int32} {post : SX → Prop}
theorem wx_takeOut16 (K : wx_K A f_made a_sort a_parentOf a_firstChild a_nextChild a_previousChild a_sizeOf) (F : fo_F A) (Z : fo_Z A) (Q : fo_Q A) {n : Nat} (hn : n < fo_c A) (hpn : fo_p A n < 24)
    (h : ∀ b_parentOf b_firstChild b_nextChild b_previousChild b_sizeOf b_placeNode b_placeOffset, wx_K (fo_tk A n) f_made a_sort b_parentOf b_firstChild b_nextChild b_previousChild b_sizeOf → wk_P (fo_tk A n) b_placeNode b_placeOffset → post (f_made, f_listed, f_leaving, a_sort, b_parentOf, b_firstChild, b_nextChild, b_previousChild, b_sizeOf, a_letters, b_placeNode, b_placeOffset, a_listing, a_opening, a_closing, a_leavers)) :
    ∀ (d m i : Nat) (an ao : Nat → Int32), d + i = 8 → d < m → wk_Q A (fo_tk A n) i an ao → wX_takeOut_16 post (nI n) (nI (fo_p A n)) (nI (fo_x A n)) f_made f_listed f_leaving m (nI i) a_sort a_parentOf a_firstChild a_nextChild a_previousChild a_sizeOf a_letters an ao a_listing a_opening a_closing a_leavers := by
  have h24 := fo_lt24 F hn
  obtain ⟨v1, v2, v3, v4⟩ := fo_up F hn hpn
  have hs := fo_s_e F v1 v2
  intro d
  induction d with
  | zero =>
    intro m i an ao hi hm hq
    obtain ⟨m, rfl⟩ : ∃ k, m = k + 1 := ⟨m - 1, by omega⟩
    rw [show i = 8 by omega] at hq ⊢
    refine br_t (by decide) ?_
    refine wx_unlink K F hn hpn ?_
    intro b1 b2 b3 b4 b5 hk
    exact h b1 b2 b3 b4 b5 an ao hk (wk_Q_8 hq)
  | succ d ih =>
    intro m i an ao hi hm hq
    obtain ⟨m, rfl⟩ : ∃ k, m = k + 1 := ⟨m - 1, by omega⟩
    have hi8 : i < 8 := by omega
    obtain ⟨q1, q2⟩ := wk_Q_a hq hi8
    obtain ⟨p1, p2⟩ := Q i hi8
    have so := fo_s_a F Z (fo_n A i)
    refine br_f (nI_ge (b := 8) hi8 (by decide)) ⟨wk_i8 hi8, ?_⟩
    rw [wk_c8 hi8, q1, q2]
    refine wx_isWithin K.2.2.1 F h24 p1 ?_
    rcases fo_ft (fo_b A n (fo_n A i)) with hb | hb
    · have en : fo_n (fo_tk A n) i = fo_p A n := if_pos hb
      have eo : fo_o (fo_tk A n) i = fo_x A n := if_pos hb
      rw [hb]
      refine br_f (by decide) ⟨wk_i8 hi8, nm_e ⟨wk_i8 hi8, nm_e (nm_r (nI_1 i) ?_)⟩⟩
      exact ih m (i + 1) _ _ (by omega) (by omega) (wk_Q_2 hq (by rw [en]) (by rw [eo]))
    · have en : fo_n (fo_tk A n) i = fo_n A i := if_neg (by rw [hb]; exact Bool.false_ne_true)
      have eo : fo_o (fo_tk A n) i = if fo_n A i = fo_p A n ∧ fo_x A n < fo_o A i then fo_o A i - 1 else fo_o A i := if_neg (by rw [hb]; exact Bool.false_ne_true)
      rw [hb]
      refine br_t rfl ⟨wk_i8 hi8, ?_⟩
      by_cases e : fo_n A i = fo_p A n
      · refine br_t (by rw [e]) ⟨wk_i8 hi8, ?_⟩
        by_cases z : fo_x A n < fo_o A i
        · rw [if_pos ⟨e, z⟩] at eo
          refine br_f (nI_ge z (by omega)) ⟨wk_i8 hi8, wk_i8 hi8, nm_e (nm_r (nI_1 i) ?_)⟩
          refine ih m (i + 1) _ _ (by omega) (by omega) (wk_Q_1 hq hi8 en ?_)
          rw [eo]
          obtain ⟨k, hk⟩ : ∃ k, fo_o A i = k + 1 := ⟨fo_o A i - 1, by omega⟩
          rw [hk, nI_pred]
          rfl
        · rw [if_neg (fun y => z y.2)] at eo
          refine br_t (nI_le (by omega) (by omega)) (nm_r (nI_1 i) ?_)
          exact ih m (i + 1) _ _ (by omega) (by omega) (wk_Q_k hq hi8 en eo)
      · rw [if_neg (fun y => e y.1)] at eo
        have pl := fo_lt24 F p1
        refine br_f (fun w => e ((nI_eq (by omega) (by omega)).mp w)) (nm_r (nI_1 i) ?_)
        exact ih m (i + 1) _ _ (by omega) (by omega) (wk_Q_k hq hi8 en eo)
theorem wx_takeOut (R : wx_R A (f_made, f_listed, f_leaving, a_sort, a_parentOf, a_firstChild, a_nextChild, a_previousChild, a_sizeOf, a_letters, a_placeNode, a_placeOffset, a_listing, a_opening, a_closing, a_leavers)) (F : fo_F A) (Z : fo_Z A) (Q : fo_Q A) {n : Nat} (hn : n < fo_c A) (hpn : fo_p A n < 24)
    (h : ∀ b_parentOf b_firstChild b_nextChild b_previousChild b_sizeOf b_placeNode b_placeOffset, wx_R (fo_tk A n) (f_made, f_listed, f_leaving, a_sort, b_parentOf, b_firstChild, b_nextChild, b_previousChild, b_sizeOf, a_letters, b_placeNode, b_placeOffset, a_listing, a_opening, a_closing, a_leavers) → post (f_made, f_listed, f_leaving, a_sort, b_parentOf, b_firstChild, b_nextChild, b_previousChild, b_sizeOf, a_letters, b_placeNode, b_placeOffset, a_listing, a_opening, a_closing, a_leavers)) : wpX_takeOut post (f_made, f_listed, f_leaving, a_sort, a_parentOf, a_firstChild, a_nextChild, a_previousChild, a_sizeOf, a_letters, a_placeNode, a_placeOffset, a_listing, a_opening, a_closing, a_leavers) (nI n) := by
  obtain ⟨K, T, P⟩ := R
  have h24 := fo_lt24 F hn
  obtain ⟨v1, v2, v3, v4⟩ := fo_up F hn hpn
  unfold wpX_takeOut
  refine ⟨wk_in h24, nm_r (e' := nI (fo_p A n)) (by rw [wk_cl h24, K.2.2.1 n hn, wk_o_lt hpn]) ?_⟩
  refine wx_indexOf K.2.2.2.2.2.1 F hn hpn ?_
  refine ⟨9, wx_takeOut16 K F Z Q hn hpn (fun b1 b2 b3 b4 b5 b6 b7 hk hp => h b1 b2 b3 b4 b5 b6 b7 ⟨hk, ?_, hp⟩) 8 9 0 _ _ rfl (by omega) (wk_Q_0 _ P)⟩
  intro x hx ht i hi
  have ht : fo_t A x = true := ht
  have e : fo_s (fo_tk A n) x = fo_s A x := if_neg (fun e => by rw [e, v2] at ht; exact absurd ht (by decide))
  rw [e] at hi
  exact T x hx ht i hi
theorem wx_putIn3 (K : wx_K A f_made a_sort a_parentOf a_firstChild a_nextChild a_previousChild a_sizeOf) (F : fo_F A) (Z : fo_Z A) (Q : fo_Q A) {p n i : Nat} (hn : n < fo_c A) (hpn : fo_p A n = 24) (hp : p < fo_c A) (htp : fo_t A p = false) (hi : i ≤ fo_s A p)
    (h : ∀ b_parentOf b_firstChild b_nextChild b_previousChild b_sizeOf b_placeOffset, wx_K (fo_pt A p n i) f_made a_sort b_parentOf b_firstChild b_nextChild b_previousChild b_sizeOf → wk_P (fo_pt A p n i) a_placeNode b_placeOffset → post (f_made, f_listed, f_leaving, a_sort, b_parentOf, b_firstChild, b_nextChild, b_previousChild, b_sizeOf, a_letters, a_placeNode, b_placeOffset, a_listing, a_opening, a_closing, a_leavers)) :
    ∀ (d m j : Nat) (ao : Nat → Int32), d + j = 8 → d < m → wk_Q A (fo_pt A p n i) j a_placeNode ao → wX_putIn_3 post (nI p) (nI n) (nI i) f_made f_listed f_leaving m (nI j) a_sort a_parentOf a_firstChild a_nextChild a_previousChild a_sizeOf a_letters a_placeNode ao a_listing a_opening a_closing a_leavers := by
  have h24 := fo_lt24 F hn
  have hp24 := fo_lt24 F hp
  have hs := fo_s_e F hp htp
  intro d
  induction d with
  | zero =>
    intro m j ao hj hm hq
    obtain ⟨m, rfl⟩ : ∃ k, m = k + 1 := ⟨m - 1, by omega⟩
    rw [show j = 8 by omega] at hq ⊢
    refine br_t (by decide) ?_
    refine wx_link K F hn hpn hp htp hi ?_
    intro b1 b2 b3 b4 b5 hk
    exact h b1 b2 b3 b4 b5 ao hk (wk_Q_8 hq)
  | succ d ih =>
    intro m j ao hj hm hq
    obtain ⟨m, rfl⟩ : ∃ k, m = k + 1 := ⟨m - 1, by omega⟩
    have hj8 : j < 8 := by omega
    obtain ⟨q1, q2⟩ := wk_Q_a hq hj8
    obtain ⟨p1, p2⟩ := Q j hj8
    have so := fo_s_a F Z (fo_n A j)
    have pl := fo_lt24 F p1
    have eo : fo_o (fo_pt A p n i) j = if fo_n A j = p ∧ i < fo_o A j then fo_o A j + 1 else fo_o A j := rfl
    refine br_f (nI_ge (b := 8) hj8 (by decide)) ⟨wk_i8 hj8, ?_⟩
    rw [wk_c8 hj8, q1, q2]
    by_cases e : fo_n A j = p
    · refine br_t (by rw [e]) ⟨wk_i8 hj8, ?_⟩
      by_cases z : i < fo_o A j
      · rw [if_pos ⟨e, z⟩] at eo
        refine br_f (nI_ge z (by omega)) ⟨wk_i8 hj8, wk_i8 hj8, nm_e (nm_r (nI_1 j) ?_)⟩
        exact ih m (j + 1) _ (by omega) (by omega) (wk_Q_1 hq hj8 rfl (by rw [eo, nI_1]))
      · rw [if_neg (fun y => z y.2)] at eo
        refine br_t (nI_le (by omega) (by omega)) (nm_r (nI_1 j) ?_)
        exact ih m (j + 1) _ (by omega) (by omega) (wk_Q_k hq hj8 rfl eo)
    · rw [if_neg (fun y => e y.1)] at eo
      refine br_f (fun w => e ((nI_eq (by omega) (by omega)).mp w)) (nm_r (nI_1 j) ?_)
      exact ih m (j + 1) _ (by omega) (by omega) (wk_Q_k hq hj8 rfl eo)
theorem wx_putIn (R : wx_R A (f_made, f_listed, f_leaving, a_sort, a_parentOf, a_firstChild, a_nextChild, a_previousChild, a_sizeOf, a_letters, a_placeNode, a_placeOffset, a_listing, a_opening, a_closing, a_leavers)) (F : fo_F A) (Z : fo_Z A) (Q : fo_Q A) {p n i : Nat} (hn : n < fo_c A) (hpn : fo_p A n = 24) (hp : p < fo_c A) (htp : fo_t A p = false) (hi : i ≤ fo_s A p)
    (h : ∀ b_parentOf b_firstChild b_nextChild b_previousChild b_sizeOf b_placeOffset, wx_R (fo_pt A p n i) (f_made, f_listed, f_leaving, a_sort, b_parentOf, b_firstChild, b_nextChild, b_previousChild, b_sizeOf, a_letters, a_placeNode, b_placeOffset, a_listing, a_opening, a_closing, a_leavers) → post (f_made, f_listed, f_leaving, a_sort, b_parentOf, b_firstChild, b_nextChild, b_previousChild, b_sizeOf, a_letters, a_placeNode, b_placeOffset, a_listing, a_opening, a_closing, a_leavers)) : wpX_putIn post (f_made, f_listed, f_leaving, a_sort, a_parentOf, a_firstChild, a_nextChild, a_previousChild, a_sizeOf, a_letters, a_placeNode, a_placeOffset, a_listing, a_opening, a_closing, a_leavers) (nI p) (nI n) (nI i) := by
  obtain ⟨K, T, P⟩ := R
  unfold wpX_putIn
  refine ⟨9, wx_putIn3 K F Z Q hn hpn hp htp hi (fun b1 b2 b3 b4 b5 b6 hk hp' => h b1 b2 b3 b4 b5 b6 ⟨hk, ?_, hp'⟩) 8 9 0 _ rfl (by omega) (wk_Q_0 _ P)⟩
  intro x hx ht j hj
  have ht : fo_t A x = true := ht
  have e : fo_s (fo_pt A p n i) x = fo_s A x := if_neg (fun e => by rw [e, htp] at ht; exact absurd ht (by decide))
  rw [e] at hj
  exact T x hx ht j hj
theorem wx_movePlaces3 (P : fo_Q A) (hA : ∀ k, k < 8 → fo_n A k < 24 ∧ fo_o A k < 24) {n o m q : Nat} (hn : n < 24) (ho : o < 99)
    (h : ∀ b_placeNode b_placeOffset, wk_P (fo_mv A n o m q) b_placeNode b_placeOffset → post (f_made, f_listed, f_leaving, a_sort, a_parentOf, a_firstChild, a_nextChild, a_previousChild, a_sizeOf, a_letters, b_placeNode, b_placeOffset, a_listing, a_opening, a_closing, a_leavers)) :
    ∀ (d f j : Nat) (an ao : Nat → Int32), d + j = 8 → d < f → wk_Q A (fo_mv A n o m q) j an ao → wX_movePlaces_3 post (nI n) (nI o) (nI m) (nI q) f_made f_listed f_leaving f (nI j) a_sort a_parentOf a_firstChild a_nextChild a_previousChild a_sizeOf a_letters an ao a_listing a_opening a_closing a_leavers := by
  intro d
  induction d with
  | zero =>
    intro f j an ao hj hf hq
    obtain ⟨f, rfl⟩ : ∃ k, f = k + 1 := ⟨f - 1, by omega⟩
    rw [show j = 8 by omega] at hq ⊢
    exact br_t (by decide) (h an ao (wk_Q_8 hq))
  | succ d ih =>
    intro f j an ao hj hf hq
    obtain ⟨f, rfl⟩ : ∃ k, f = k + 1 := ⟨f - 1, by omega⟩
    have hj8 : j < 8 := by omega
    obtain ⟨q1, q2⟩ := wk_Q_a hq hj8
    obtain ⟨a1, a2⟩ := hA j hj8
    have en : fo_n (fo_mv A n o m q) j = if fo_n A j = n ∧ fo_o A j = o then m else fo_n A j := rfl
    have eo : fo_o (fo_mv A n o m q) j = if fo_n A j = n ∧ fo_o A j = o then q else fo_o A j := rfl
    refine br_f (nI_ge (b := 8) hj8 (by decide)) ⟨wk_i8 hj8, ?_⟩
    rw [wk_c8 hj8, q1, q2]
    by_cases e : fo_n A j = n
    · refine br_t (by rw [e]) ⟨wk_i8 hj8, ?_⟩
      by_cases z : fo_o A j = o
      · rw [if_pos ⟨e, z⟩] at en eo
        refine br_t (by rw [z]) ⟨wk_i8 hj8, nm_e ⟨wk_i8 hj8, nm_e (nm_r (nI_1 j) ?_)⟩⟩
        exact ih f (j + 1) _ _ (by omega) (by omega) (wk_Q_2 hq (by rw [en]) (by rw [eo]))
      · rw [if_neg (fun y => z y.2)] at en eo
        refine br_f (fun w => z ((nI_eq (by omega) (by omega)).mp w)) (nm_r (nI_1 j) ?_)
        exact ih f (j + 1) _ _ (by omega) (by omega) (wk_Q_k hq hj8 en eo)
    · rw [if_neg (fun y => e y.1)] at en eo
      refine br_f (fun w => e ((nI_eq (by omega) (by omega)).mp w)) (nm_r (nI_1 j) ?_)
      exact ih f (j + 1) _ _ (by omega) (by omega) (wk_Q_k hq hj8 en eo)
theorem wx_movePlaces (R : wx_R A (f_made, f_listed, f_leaving, a_sort, a_parentOf, a_firstChild, a_nextChild, a_previousChild, a_sizeOf, a_letters, a_placeNode, a_placeOffset, a_listing, a_opening, a_closing, a_leavers)) (F : fo_F A) (Z : fo_Z A) (Q : fo_Q A) {n o m q : Nat} (hn : n < 24) (ho : o < 99)
    (h : ∀ b_placeNode b_placeOffset, wx_R (fo_mv A n o m q) (f_made, f_listed, f_leaving, a_sort, a_parentOf, a_firstChild, a_nextChild, a_previousChild, a_sizeOf, a_letters, b_placeNode, b_placeOffset, a_listing, a_opening, a_closing, a_leavers) → post (f_made, f_listed, f_leaving, a_sort, a_parentOf, a_firstChild, a_nextChild, a_previousChild, a_sizeOf, a_letters, b_placeNode, b_placeOffset, a_listing, a_opening, a_closing, a_leavers)) : wpX_movePlaces post (f_made, f_listed, f_leaving, a_sort, a_parentOf, a_firstChild, a_nextChild, a_previousChild, a_sizeOf, a_letters, a_placeNode, a_placeOffset, a_listing, a_opening, a_closing, a_leavers) (nI n) (nI o) (nI m) (nI q) := by
  obtain ⟨K, T, P⟩ := R
  unfold wpX_movePlaces
  refine ⟨9, wx_movePlaces3 Q (fun k hk => ?_) hn ho (fun b1 b2 hp => h b1 b2 ⟨K, T, hp⟩) 8 9 0 _ _ rfl (by omega) (wk_Q_0 _ P)⟩
  obtain ⟨p1, p2⟩ := Q k hk
  have := fo_s_a F Z (fo_n A k)
  exact ⟨fo_lt24 F p1, by omega⟩
end
section
variable {A : fo_S} {f_made f_listed f_leaving : Int32} {a_sort a_parentOf a_firstChild a_nextChild a_previousChild a_sizeOf a_letters a_placeNode a_placeOffset a_listing a_opening a_closing a_leavers : Nat → Int32} {post : Int32 → SX → Prop}
theorem wx_make (R : wx_R A (f_made, f_listed, f_leaving, a_sort, a_parentOf, a_firstChild, a_nextChild, a_previousChild, a_sizeOf, a_letters, a_placeNode, a_placeOffset, a_listing, a_opening, a_closing, a_leavers)) (F : fo_F A) (Z : fo_Z A) (h24 : fo_c A < 24) (b : Bool)
    (h : ∀ b_sort b_parentOf b_firstChild b_nextChild b_previousChild, wx_R (fo_mk A b) (nI (fo_c A + 1), f_listed, f_leaving, b_sort, b_parentOf, b_firstChild, b_nextChild, b_previousChild, a_sizeOf, a_letters, a_placeNode, a_placeOffset, a_listing, a_opening, a_closing, a_leavers) → post (nI (fo_c A)) (nI (fo_c A + 1), f_listed, f_leaving, b_sort, b_parentOf, b_firstChild, b_nextChild, b_previousChild, a_sizeOf, a_letters, a_placeNode, a_placeOffset, a_listing, a_opening, a_closing, a_leavers)) : wpX_make post (f_made, f_listed, f_leaving, a_sort, a_parentOf, a_firstChild, a_nextChild, a_previousChild, a_sizeOf, a_letters, a_placeNode, a_placeOffset, a_listing, a_opening, a_closing, a_leavers) (wk_b b) := by
  obtain ⟨⟨hm, hs, hq, hf, hnx, hpv, hz⟩, T, P⟩ := R
  subst hm
  have z0 := Z.2.2 (fo_c A) (Nat.le_refl _)
  have p0 := F.2.2.1 (fo_c A) (Nat.le_refl _)
  unfold wpX_make
  refine nm_r (nI_1 _) ⟨wk_in h24, nm_r (e' := upd a_sort (fo_c A) (wk_b b)) (by rw [wk_cl h24]) ⟨wk_in h24, nm_r (e' := upd a_parentOf (fo_c A) (-1)) (by rw [wk_cl h24]) ⟨wk_in h24, nm_r (e' := upd a_firstChild (fo_c A) (-1)) (by rw [wk_cl h24]) ⟨wk_in h24, nm_r (e' := upd a_nextChild (fo_c A) (-1)) (by rw [wk_cl h24]) ⟨wk_in h24, nm_r (e' := upd a_previousChild (fo_c A) (-1)) (by rw [wk_cl h24]) (h _ _ _ _ _ ⟨⟨rfl, fun m hm => ?_, fun m hm => ?_, fun m hm ht => ?_, fun m hm => ?_, fun m hm => ?_, hz⟩, fun m hm ht i hi => ?_, P⟩)⟩⟩⟩⟩⟩
  · have hm : m < fo_c A + 1 := hm
    show (if m = fo_c A then wk_b b else a_sort m) = wk_b (if m = fo_c A then b else fo_t A m)
    by_cases e : m = fo_c A
    · rw [if_pos e, if_pos e]
    · rw [if_neg e, if_neg e]; exact hs m (by omega)
  · have hm : m < fo_c A + 1 := hm
    show (if m = fo_c A then (-1 : Int32) else a_parentOf m) = wk_o (fo_p A m)
    by_cases e : m = fo_c A
    · rw [if_pos e, e, p0, wk_o_24]
    · rw [if_neg e]; exact hq m (by omega)
  · have hm : m < fo_c A + 1 := hm
    have ht : (if m = fo_c A then b else fo_t A m) = false := ht
    show (if m = fo_c A then (-1 : Int32) else a_firstChild m) = wk_o (wx_fc A m)
    by_cases e : m = fo_c A
    · rw [if_pos e, e]
      unfold wx_fc
      rw [z0, if_neg (Nat.lt_irrefl _), wk_o_24]
    · rw [if_neg e] at ht ⊢; exact hf m (by omega) ht
  · have hm : m < fo_c A + 1 := hm
    show (if m = fo_c A then (-1 : Int32) else a_nextChild m) = wk_o (wx_nx A m)
    by_cases e : m = fo_c A
    · rw [if_pos e, e]
      unfold wx_nx
      rw [p0, if_neg (fun y => by have := y.1; omega), wk_o_24]
    · rw [if_neg e]; exact hnx m (by omega)
  · have hm : m < fo_c A + 1 := hm
    show (if m = fo_c A then (-1 : Int32) else a_previousChild m) = wk_o (wx_pv A m)
    by_cases e : m = fo_c A
    · rw [if_pos e, e]
      unfold wx_pv
      rw [p0, if_neg (fun y => by have := y.1; omega), wk_o_24]
    · rw [if_neg e]; exact hpv m (by omega)
  · have hm : m < fo_c A + 1 := hm
    have ht : (if m = fo_c A then b else fo_t A m) = true := ht
    have hi : i < fo_s A m := hi
    have e : m ≠ fo_c A := fun e => by rw [e, z0] at hi; omega
    rw [if_neg e] at ht
    exact T m (by omega) ht i hi
end
end
section
/-! X: letters exchanged -/
theorem wk_ad {X k c : Nat} (h : c ≤ X + k) : nI X + (nI k - nI c) = nI (X + k - c) := by
  rw [← pk_sub h, ← nI_add]
  grind
theorem wk_pl {j f : Nat} (hj : j < 2 ^ 30) (hf : f < 2 ^ 30) : nI j - 1 < nI f ↔ j < f + 1 := by
  rw [Int32.lt_iff_toInt_lt, nI_toInt (by omega)]
  have := pk_sub_toInt (a := j) (b := 1) hj (by omega)
  have e : (nI j - 1).toInt = (j : Int) - 1 := this
  rw [e]
  omega
theorem wk_sn {k c : Nat} (hk : k < 2 ^ 30) (hc : c < 2 ^ 30) : nI k - nI c ≤ 0 ↔ k ≤ c := by
  rw [Int32.le_iff_toInt_le, pk_sub_toInt hk hc]
  have : (0 : Int32).toInt = 0 := by decide
  rw [this]
  omega
/-- the digits of a number, k of them -/
def wk_dg (N k j : Nat) : Nat := N / 10 ^ (k - 1 - j) % 10
theorem wk_dg_lt (N k j : Nat) : wk_dg N k j < 10 := Nat.mod_lt _ (by omega)
section
variable {A : fo_S} {f_made f_listed f_leaving : Int32} {a_sort a_parentOf a_firstChild a_nextChild a_previousChild a_sizeOf a_letters a_placeNode a_placeOffset a_listing a_opening a_closing a_leavers : Nat → Int32} {post : SX → Prop}
/-- what the shift does: the letters of b .. from F on to E move by k - c -/
def wk_sh (b F E k c : Nat) (f g : Nat → Int32) : Prop := (∀ m, (m < b + F + k - c ∨ b + E + k - c ≤ m) → g m = f m) ∧ ∀ i, F ≤ i → i < E → g (b + i + k - c) = f (b + i)
theorem wx_shift49 {b F E k c : Nat} {f : Nat → Int32} (hkc : k ≤ c) (hFc : c ≤ F + k) (hE : b + E ≤ 288) (hb : b < 300) (hE2 : E < 99) (hc : c < 99) (h : ∀ g, wk_sh b F E k c f g → post (f_made, f_listed, f_leaving, a_sort, a_parentOf, a_firstChild, a_nextChild, a_previousChild, a_sizeOf, g, a_placeNode, a_placeOffset, a_listing, a_opening, a_closing, a_leavers)) :
    ∀ (d n j : Nat) (g : Nat → Int32), d + j = E → d < n → F ≤ j → ((∀ m, (m < b + F + k - c ∨ b + j + k - c ≤ m) → g m = f m) ∧ ∀ i, F ≤ i → i < j → g (b + i + k - c) = f (b + i)) →
      wX_shift_49 post (nI b) (nI E) (nI k - nI c) f_made f_listed f_leaving n (nI j) a_sort a_parentOf a_firstChild a_nextChild a_previousChild a_sizeOf g a_placeNode a_placeOffset a_listing a_opening a_closing a_leavers := by
  intro d
  induction d with
  | zero =>
    intro n j g hj hn hF hg
    obtain ⟨n, rfl⟩ : ∃ m, n = m + 1 := ⟨n - 1, by omega⟩
    have e : j = E := by omega
    subst e
    exact br_t (nI_le (Nat.le_refl _) (by omega)) (h g hg)
  | succ d ih =>
    intro n j g hj hn hF hg
    obtain ⟨n, rfl⟩ : ∃ m, n = m + 1 := ⟨n - 1, by omega⟩
    refine br_f (nI_ge (by omega) (by omega)) ?_
    rw [nI_add, wk_ad (by omega)]
    refine ⟨vp_in_nI (by omega) (by decide), vp_in_nI (by omega) (by decide), ?_⟩
    rw [nI_clamp (show b + j < 2 ^ 31 by omega), nI_clamp (show b + j + k - c < 2 ^ 31 by omega)]
    refine nm_e (nm_r (nI_1 j) (ih n (j + 1) _ (by omega) (by omega) (by omega) ⟨fun m hm => ?_, fun i h1 h2 => ?_⟩))
    · rw [pk_un (by omega)]; exact hg.1 m (by omega)
    · by_cases e : i = j
      · rw [e, pk_us]; exact hg.1 _ (by omega)
      · rw [pk_un (by omega)]; exact hg.2 i h1 (by omega)
theorem wx_shift10 {b F E k c : Nat} {f : Nat → Int32} (hkc : c < k) (hE : b + E + k - c ≤ 288) (hb : b < 300) (hE2 : E < 99) (hc : k < 99) (h : ∀ g, wk_sh b F E k c f g → post (f_made, f_listed, f_leaving, a_sort, a_parentOf, a_firstChild, a_nextChild, a_previousChild, a_sizeOf, g, a_placeNode, a_placeOffset, a_listing, a_opening, a_closing, a_leavers)) :
    ∀ (d n j : Nat) (g : Nat → Int32), d + F = j → d < n → j ≤ E → ((∀ m, (m < b + j + k - c ∨ b + E + k - c ≤ m) → g m = f m) ∧ ∀ i, j ≤ i → i < E → g (b + i + k - c) = f (b + i)) →
      wX_shift_10 post (nI b) (nI F) (nI k - nI c) f_made f_listed f_leaving n (nI j - 1) a_sort a_parentOf a_firstChild a_nextChild a_previousChild a_sizeOf g a_placeNode a_placeOffset a_listing a_opening a_closing a_leavers := by
  intro d
  induction d with
  | zero =>
    intro n j g hj hn hF hg
    obtain ⟨n, rfl⟩ : ∃ m, n = m + 1 := ⟨n - 1, by omega⟩
    have e : j = F := by omega
    subst e
    exact br_t ((wk_pl (by omega) (by omega)).mpr (by omega)) (h g hg)
  | succ d ih =>
    intro n j g hj hn hF hg
    obtain ⟨n, rfl⟩ : ∃ m, n = m + 1 := ⟨n - 1, by omega⟩
    refine br_f (fun z => by have := (wk_pl (by omega) (by omega)).mp z; omega) ?_
    obtain ⟨j, rfl⟩ : ∃ i, j = i + 1 := ⟨j - 1, by omega⟩
    rw [nI_pred, nI_add, wk_ad (by omega)]
    refine ⟨vp_in_nI (by omega) (by decide), vp_in_nI (by omega) (by decide), ?_⟩
    rw [nI_clamp (show b + j < 2 ^ 31 by omega), nI_clamp (show b + j + k - c < 2 ^ 31 by omega)]
    refine nm_e (nm_r (e' := nI j - 1) (by grind) (ih n j _ (by omega) (by omega) (by omega) ⟨fun m hm => ?_, fun i h1 h2 => ?_⟩))
    · rw [pk_un (by omega)]; exact hg.1 m (by omega)
    · by_cases e : i = j
      · rw [e, pk_us]; exact hg.1 _ (by omega)
      · rw [pk_un (by omega)]; exact hg.2 i (by omega) h2
theorem wx_shift {b F E k c : Nat} (hFc : c ≤ F) (hFE : F ≤ E) (hE : b + E ≤ 288) (hE' : b + E + k - c ≤ 288) (hb : b < 300) (hE2 : E < 99) (hk : k < 99) (h : ∀ g, wk_sh b F E k c a_letters g → post (f_made, f_listed, f_leaving, a_sort, a_parentOf, a_firstChild, a_nextChild, a_previousChild, a_sizeOf, g, a_placeNode, a_placeOffset, a_listing, a_opening, a_closing, a_leavers)) : wpX_shift post (f_made, f_listed, f_leaving, a_sort, a_parentOf, a_firstChild, a_nextChild, a_previousChild, a_sizeOf, a_letters, a_placeNode, a_placeOffset, a_listing, a_opening, a_closing, a_leavers) (nI b) (nI F) (nI E) (nI k - nI c) := by
  unfold wpX_shift
  by_cases z : k ≤ c
  · refine br_t ((wk_sn (by omega) (by omega)).mpr z) ⟨E - F + 1, wx_shift49 z (by omega) hE hb hE2 (by omega) h (E - F) (E - F + 1) F a_letters (by omega) (by omega) (Nat.le_refl _) ⟨fun _ _ => rfl, fun i h1 h2 => absurd h2 (by omega)⟩⟩
  · refine br_f (fun y => z ((wk_sn (by omega) (by omega)).mp y)) (nm_e ⟨E - F + 1, wx_shift10 (by omega) hE' hb hE2 hk h (E - F) (E - F + 1) E a_letters (by omega) (by omega) (Nat.le_refl _) ⟨fun _ _ => rfl, fun i h1 h2 => absurd h2 (by omega)⟩⟩)
theorem wx_exchange105 {t a c k N : Nat} {f : Nat → Int32} (ht : t < 24) (ha : a + k ≤ 12) (hs : a_sizeOf t = nI (fo_s A t)) (hc : c ≤ fo_s A t) (hc2 : c < 99) (hN : N < 2 ^ 31)
    (h : ∀ g, (∀ m, (m < 12 * t + a ∨ 12 * t + a + k ≤ m) → g m = f m) → (∀ j, j < k → g (12 * t + a + j) = nI (wk_dg N k j)) → post (f_made, f_listed, f_leaving, a_sort, a_parentOf, a_firstChild, a_nextChild, a_previousChild, upd a_sizeOf t (nI (fo_s A t + k - c)), g, a_placeNode, a_placeOffset, a_listing, a_opening, a_closing, a_leavers)) :
    ∀ (d n : Nat) (g : Nat → Int32), d ≤ k → d < n → (∀ m, (m < 12 * t + a + d ∨ 12 * t + a + k ≤ m) → g m = f m) → (∀ j, d ≤ j → j < k → g (12 * t + a + j) = nI (wk_dg N k j)) →
      wX_exchange_105 post (nI t) (nI a) (nI c) (nI k) f_made f_listed f_leaving n (nI (N / 10 ^ (k - d))) (nI d - 1) a_sort a_parentOf a_firstChild a_nextChild a_previousChild a_sizeOf g a_placeNode a_placeOffset a_listing a_opening a_closing a_leavers := by
  intro d
  induction d with
  | zero =>
    intro n g hd hn h1 h2
    obtain ⟨n, rfl⟩ : ∃ m, n = m + 1 := ⟨n - 1, by omega⟩
    refine br_t (by decide) ⟨wk_in ht, wk_in ht, nm_r (e' := upd a_sizeOf t (nI (fo_s A t + k - c))) (by rw [wk_cl ht, hs, wk_ad (by omega)]) (h g (fun m hm => h1 m (by omega)) fun j hj => h2 j (by omega) hj)⟩
  | succ d ih =>
    intro n g hd hn h1 h2
    obtain ⟨n, rfl⟩ : ∃ m, n = m + 1 := ⟨n - 1, by omega⟩
    have hq : N / 10 ^ (k - (d + 1)) < 2 ^ 31 := Nat.lt_of_le_of_lt (Nat.div_le_self _ _) hN
    have e12 : (12 : Int32) * nI t = nI (12 * t) := pk_mul 12 t
    have e10 : nI (N / 10 ^ (k - (d + 1))) - nI (N / 10 ^ (k - (d + 1))) / 10 * 10 = nI (N / 10 ^ (k - (d + 1)) % 10) := pk_rem (d := 10) hq (by omega) (by omega)
    have ed : nI (N / 10 ^ (k - (d + 1))) / 10 = nI (N / 10 ^ (k - d)) := by
      have : nI (N / 10 ^ (k - (d + 1))) / nI 10 = nI (N / 10 ^ (k - (d + 1)) / 10) := pk_div hq (by omega) (by omega)
      refine this.trans ?_
      rw [Nat.div_div_eq_div_mul, ← Nat.pow_succ, show (k - (d + 1)).succ = k - d by omega]
    rw [nI_pred]
    refine br_f (nI_pos (by omega)) ⟨by decide, ?_⟩
    rw [e12, nI_add, nI_add, e10, ed]
    refine ⟨vp_in_nI (by omega) (by decide), ?_⟩
    rw [nI_clamp (show 12 * t + a + d < 2 ^ 31 by omega)]
    refine nm_e ⟨by decide, nm_e (nm_r (e' := nI d - 1) (by grind) (ih n _ (by omega) (by omega) (fun m hm => ?_) fun j j1 j2 => ?_))⟩
    · rw [pk_un (by omega)]; exact h1 m (by omega)
    · by_cases e : j = d
      · rw [e, pk_us]
        unfold wk_dg
        rw [show k - 1 - d = k - (d + 1) by omega]
      · rw [pk_un (by omega)]; exact h2 j (by omega) j2
theorem wx_exchange (R : wx_R A (f_made, f_listed, f_leaving, a_sort, a_parentOf, a_firstChild, a_nextChild, a_previousChild, a_sizeOf, a_letters, a_placeNode, a_placeOffset, a_listing, a_opening, a_closing, a_leavers)) (F : fo_F A) (Z : fo_Z A) (Q : fo_Q A) {t a c k N : Nat} (ht : t < fo_c A) (tt : fo_t A t = true) (hc : a + c ≤ fo_s A t) (h12 : fo_s A t + k - c ≤ 12) (hN : N < 2 ^ 31)
    (h : ∀ b_sizeOf b_letters b_placeOffset, wx_R (fo_ex A t a c k (wk_dg N k)) (f_made, f_listed, f_leaving, a_sort, a_parentOf, a_firstChild, a_nextChild, a_previousChild, b_sizeOf, b_letters, a_placeNode, b_placeOffset, a_listing, a_opening, a_closing, a_leavers) → post (f_made, f_listed, f_leaving, a_sort, a_parentOf, a_firstChild, a_nextChild, a_previousChild, b_sizeOf, b_letters, a_placeNode, b_placeOffset, a_listing, a_opening, a_closing, a_leavers)) : wpX_exchange post (f_made, f_listed, f_leaving, a_sort, a_parentOf, a_firstChild, a_nextChild, a_previousChild, a_sizeOf, a_letters, a_placeNode, a_placeOffset, a_listing, a_opening, a_closing, a_leavers) (nI t) (nI a) (nI c) (nI k) (nI N) := by
  obtain ⟨K, T, P⟩ := R
  have t24 := fo_lt24 F ht
  have s12 := fo_s_t Z ht tt
  have hst := K.2.2.2.2.2.2 t t24
  have loop : ∀ (d m j : Nat) (ao : Nat → Int32), d + j = 8 → d < m → wk_Q A (fo_ex A t a c k (wk_dg N k)) j a_placeNode ao → wX_exchange_3 post (nI t) (nI a) (nI c) (nI k) (nI N) f_made f_listed f_leaving m (nI j) a_sort a_parentOf a_firstChild a_nextChild a_previousChild a_sizeOf a_letters a_placeNode ao a_listing a_opening a_closing a_leavers := by
    intro d
    induction d with
    | zero =>
      intro m j ao hj hm hq
      obtain ⟨m, rfl⟩ : ∃ k, m = k + 1 := ⟨m - 1, by omega⟩
      rw [show j = 8 by omega] at hq ⊢
      refine br_t (by decide) ⟨wk_in t24, ?_⟩
      have e12 : (12 : Int32) * nI t = nI (12 * t) := pk_mul 12 t
      rw [wk_cl t24, hst, e12, nI_add]
      refine wx_shift (by omega) hc (by omega) (by omega) (by omega) (by omega) (by omega) ?_
      intro g hg
      refine nm_e ⟨k + 1, ?_⟩
      have e1 : nI N = nI (N / 10 ^ (k - k)) := by rw [Nat.sub_self, Nat.pow_zero, Nat.div_one]
      rw [e1]
      refine wx_exchange105 (A := A) t24 (by omega) hst (by omega) (by omega) hN (fun g2 h1 h2 => ?_) k (k + 1) g (Nat.le_refl _) (by omega) (fun _ _ => rfl) fun j h1 h2 => absurd h2 (by omega)
      refine h _ _ _ ⟨⟨K.1, K.2.1, K.2.2.1, fun n hn hx => ?_, fun n hn => ?_, fun n hn => ?_, fun n hn => ?_⟩, fun n hn hx i hi => ?_, wk_Q_8 hq⟩
      · have hx : fo_t A n = false := hx
        have e : fo_s (fo_ex A t a c k (wk_dg N k)) n = fo_s A n := if_neg (fun e => by rw [e, tt] at hx; exact absurd hx (by decide))
        unfold wx_fc
        rw [e]
        exact K.2.2.2.1 n hn hx
      · rw [K.2.2.2.2.1 n hn]
        unfold wx_nx
        show _ = wk_o (if fo_p A n < 24 ∧ fo_x A n + 1 < (if fo_p A n = t then fo_s A (fo_p A n) + k - c else fo_s A (fo_p A n)) then fo_k A (fo_p A n) (fo_x A n + 1) else 24)
        by_cases z : fo_p A n < 24
        · rw [if_neg (c := fo_p A n = t) (fun e => by have := (fo_up F hn z).2.1; rw [e, tt] at this; exact absurd this (by decide))]
        · rw [if_neg (fun y => z y.1), if_neg (fun y => z y.1)]
      · exact K.2.2.2.2.2.1 n hn
      · show (if n = t then nI (fo_s A t + k - c) else a_sizeOf n) = nI (if n = t then fo_s A n + k - c else fo_s A n)
        by_cases e : n = t
        · rw [if_pos e, if_pos e, e]
        · rw [if_neg e, if_neg e]; exact K.2.2.2.2.2.2 n hn
      · have hn : n < fo_c A := hn
        have hx : fo_t A n = true := hx
        have hi : i < (if n = t then fo_s A n + k - c else fo_s A n) := hi
        have n12 := fo_s_t Z hn hx
        show g2 (12 * n + i) = nI (if n = t ∧ a ≤ i then (if i < a + k then wk_dg N k (i - a) else fo_l A n (i + c - k)) else fo_l A n i)
        by_cases e : n = t
        · subst e
          rw [if_pos rfl] at hi
          by_cases z : a ≤ i
          · rw [if_pos ⟨rfl, z⟩]
            by_cases w : i < a + k
            · rw [if_pos w]
              have := h2 (i - a) (by omega)
              rw [show 12 * n + a + (i - a) = 12 * n + i by omega] at this
              exact this
            · rw [if_neg w, h1 _ (by omega)]
              have := hg.2 (i + c - k) (by omega) (by omega)
              rw [show 12 * n + (i + c - k) + k - c = 12 * n + i by omega] at this
              rw [this]
              exact T n hn hx _ (by omega)
          · rw [if_neg (fun y => z y.2), h1 _ (by omega), hg.1 _ (by omega)]
            exact T n hn hx i (by omega)
        · rw [if_neg e] at hi
          rw [if_neg (fun y => e y.1), h1 _ (by omega), hg.1 _ (by omega)]
          exact T n hn hx i hi
    | succ d ih =>
      intro m j ao hj hm hq
      obtain ⟨m, rfl⟩ : ∃ k, m = k + 1 := ⟨m - 1, by omega⟩
      have hj8 : j < 8 := by omega
      obtain ⟨q1, q2⟩ := wk_Q_a hq hj8
      obtain ⟨p1, p2⟩ := Q j hj8
      have so := fo_s_a F Z (fo_n A j)
      have pl := fo_lt24 F p1
      have eo : fo_o (fo_ex A t a c k (wk_dg N k)) j = if fo_n A j = t ∧ a < fo_o A j then (if fo_o A j ≤ a + c then a else fo_o A j + k - c) else fo_o A j := rfl
      refine br_f (nI_ge (b := 8) hj8 (by decide)) ⟨wk_i8 hj8, ?_⟩
      rw [wk_c8 hj8, q1, q2, nI_add]
      by_cases e : fo_n A j = t
      · refine br_t (by rw [e]) ⟨wk_i8 hj8, ?_⟩
        by_cases z : a < fo_o A j
        · rw [if_pos ⟨e, z⟩] at eo
          refine br_f (nI_ge z (by omega)) ⟨wk_i8 hj8, ?_⟩
          by_cases w : fo_o A j ≤ a + c
          · rw [if_pos w] at eo
            refine br_f (nI_nlt w (by omega)) ⟨wk_i8 hj8, nm_e (nm_r (nI_1 j) ?_)⟩
            exact ih m (j + 1) _ (by omega) (by omega) (wk_Q_1 hq hj8 rfl (by rw [eo]))
          · rw [if_neg w] at eo
            refine br_t (nI_lt (by omega) (by omega)) ⟨wk_i8 hj8, wk_i8 hj8, nm_e (nm_r (nI_1 j) ?_)⟩
            exact ih m (j + 1) _ (by omega) (by omega) (wk_Q_1 hq hj8 rfl (by rw [eo, nI_add, pk_sub (by omega)]))
        · rw [if_neg (fun y => z y.2)] at eo
          refine br_t (nI_le (by omega) (by omega)) (nm_r (nI_1 j) ?_)
          exact ih m (j + 1) _ (by omega) (by omega) (wk_Q_k hq hj8 rfl eo)
      · rw [if_neg (fun y => e y.1)] at eo
        refine br_f (fun w => e ((nI_eq (by omega) (by omega)).mp w)) (nm_r (nI_1 j) ?_)
        exact ih m (j + 1) _ (by omega) (by omega) (wk_Q_k hq hj8 rfl eo)
  exact ⟨9, loop 8 9 0 _ rfl (by omega) (wk_Q_0 _ P)⟩
end
end
section
/-! Y: asking -/
theorem wy_bb {A : fo_S} (F : fo_F A) {x n : Nat} (hx : x < 24) (hn : n < fo_c A) (hne : n ≠ x) : fo_bb A x 24 (fo_p A n) = fo_b A x n := by
  have key : fo_bb A x 24 (fo_p A n) = true ↔ fo_b A x n = true := by
    rw [fo_b_i F hx hn]
    constructor
    · intro h
      exact fo_A_s (fo_bb_1 24 _ h)
    · intro h
      rcases fo_A_c h with z | z
      · exact absurd z.symm hne
      · have hp := fo_A_p F hx z
        have u := (fo_up F hn hp).1
        exact fo_bb_2 F hx 24 _ hp (fo_end F u) z
  rcases fo_ft (fo_bb A x 24 (fo_p A n)) with z | z
  · rw [z, key.mp z]
  · rcases fo_ft (fo_b A x n) with y | y
    · rw [key.mpr y] at z; exact absurd z (by decide)
    · rw [z, y]
section
variable {A : fo_S} {f_count f_length : Int32} {a_isText a_parents a_sizes a_items a_placeNode a_placeOffset a_marks a_opens a_closes a_coming : Nat → Int32} {post : Int32 → Prop}
theorem wy_isNode1 (hm : f_count = nI (fo_c A)) (hc : fo_c A ≤ 24) {n : Nat} (hn : n < fo_c A) (h : post 1) : wpY_isNode post (f_count, f_length, a_isText, a_parents, a_sizes, a_items, a_placeNode, a_placeOffset, a_marks, a_opens, a_closes, a_coming) (nI n) := by
  subst hm
  exact br_f (nI_pos (by omega)) (br_f (nI_ge hn (by omega)) h)
theorem wy_isNode0 (hm : f_count = nI (fo_c A)) {x : Int32} (hx : x < 0 ∨ nI (fo_c A) ≤ x) (h : post 0) : wpY_isNode post (f_count, f_length, a_isText, a_parents, a_sizes, a_items, a_placeNode, a_placeOffset, a_marks, a_opens, a_closes, a_coming) x := by
  subst hm
  by_cases z : x < 0
  · exact br_t z h
  · exact br_f z (br_t (hx.resolve_left z) h)
theorem wy_isText (K : wy_K A f_count a_isText a_parents a_sizes) (hc : fo_c A ≤ 24) {n : Nat} (hn : n < fo_c A) (h : post (wk_b (fo_t A n))) : wpY_isTextNode post (f_count, f_length, a_isText, a_parents, a_sizes, a_items, a_placeNode, a_placeOffset, a_marks, a_opens, a_closes, a_coming) (nI n) := by
  unfold wpY_isTextNode
  refine wy_isNode1 K.1 hc hn ?_
  refine br_f (by decide) ⟨wk_in (by omega), ?_⟩
  rw [wk_cl (by omega), K.2.1 n hn]
  rcases fo_ft (fo_t A n) with t | t
  · rw [t] at h ⊢
    exact br_f (by decide) h
  · rw [t] at h ⊢
    exact br_t rfl h
theorem wy_isText0 (hm : f_count = nI (fo_c A)) {x : Int32} (hx : x < 0 ∨ nI (fo_c A) ≤ x) (h : post 0) : wpY_isTextNode post (f_count, f_length, a_isText, a_parents, a_sizes, a_items, a_placeNode, a_placeOffset, a_marks, a_opens, a_closes, a_coming) x := by
  unfold wpY_isTextNode
  refine wy_isNode0 hm hx ?_
  exact br_t rfl h
theorem wy_isRange1 {r : Nat} (hr : r < 4) (h : post 1) : wpY_isRange post (f_count, f_length, a_isText, a_parents, a_sizes, a_items, a_placeNode, a_placeOffset, a_marks, a_opens, a_closes, a_coming) (nI r) :=
  br_f (nI_pos (by omega)) (br_f (nI_nlt (b := 3) (a := r) |> fun z => fun w => by have := (nI_ltI (a := 3) (b := r) (by omega) (by omega)).mp w; omega) h)
theorem wy_isRange0 {x : Int32} (hx : x < 0 ∨ nI 4 ≤ x) (h : post 0) : wpY_isRange post (f_count, f_length, a_isText, a_parents, a_sizes, a_items, a_placeNode, a_placeOffset, a_marks, a_opens, a_closes, a_coming) x := by
  by_cases z : x < 0
  · exact br_t z h
  · refine br_f z (br_t ?_ h)
    have h4 := hx.resolve_left z
    rw [Int32.le_iff_toInt_le, nI_toInt (by omega)] at h4
    rw [Int32.lt_iff_toInt_lt]
    have e3 : (3 : Int32).toInt = 3 := by decide
    rw [e3]
    omega
theorem wy_below10 (hK : ∀ n, n < fo_c A → a_parents n = wk_o (fo_p A n)) (F : fo_F A) {x : Nat} (hx : x < 24) : ∀ (f n i w : Nat), f + i = 24 → f < n → (w < 24 → w < fo_c A) → post (wk_b (fo_bb A x f w)) → wY_isBelow_10 post (nI x) f_count f_length a_isText a_parents a_sizes a_items a_placeNode a_placeOffset a_marks a_opens a_closes a_coming n (wk_o w) (nI i) := by
  intro f
  induction f with
  | zero =>
    intro n i w hi hn hw hp
    obtain ⟨n, rfl⟩ : ∃ m, n = m + 1 := ⟨n - 1, by omega⟩
    rw [show i = 24 by omega]
    exact br_t (by decide) hp
  | succ f ih =>
    intro n i w hi hn hw hp
    obtain ⟨n, rfl⟩ : ∃ m, n = m + 1 := ⟨n - 1, by omega⟩
    refine br_f (nI_ge (b := 24) (by omega) (by decide)) ?_
    by_cases h : w < 24
    · have e : fo_bb A x (f + 1) w = if w = x then true else fo_bb A x f (fo_p A w) := if_pos h
      rw [e] at hp
      rw [wk_o_lt h]
      refine br_f (nI_pos (by omega)) ?_
      by_cases y : w = x
      · rw [if_pos y] at hp
        exact br_t (by rw [y]) hp
      · rw [if_neg y] at hp
        refine br_f (fun z => y ((nI_eq (by omega) (by omega)).mp z)) ⟨wk_in h, nm_r (e' := wk_o (fo_p A w)) (by rw [wk_cl h]; exact hK w (hw h)) (nm_r (nI_1 i) ?_)⟩
        exact ih n (i + 1) (fo_p A w) (by omega) (by omega) (fun z => (fo_up F (hw h) z).1) hp
    · have e : fo_bb A x (f + 1) w = false := if_neg h
      rw [e] at hp
      rw [wk_o_ge h]
      exact br_t (by decide) hp
theorem wy_isBelow (hK : ∀ n, n < fo_c A → a_parents n = wk_o (fo_p A n)) (F : fo_F A) {x n : Nat} (hx : x < 24) (hn : n < fo_c A) (hne : n ≠ x) (h : post (wk_b (fo_b A x n))) : wpY_isBelow post (f_count, f_length, a_isText, a_parents, a_sizes, a_items, a_placeNode, a_placeOffset, a_marks, a_opens, a_closes, a_coming) (nI n) (nI x) := by
  refine ⟨wk_in (fo_lt24 F hn), nm_r (e' := wk_o (fo_p A n)) (by rw [wk_cl (fo_lt24 F hn)]; exact hK n hn) ⟨25, ?_⟩⟩
  refine wy_below10 hK F hx 24 25 0 (fo_p A n) rfl (by omega) (fun z => (fo_up F hn z).1) ?_
  rw [wy_bb F hx hn hne]
  exact h
theorem wy_treeOf4 (hK : ∀ n, n < fo_c A → a_parents n = wk_o (fo_p A n)) (F : fo_F A) : ∀ (f n i w : Nat), f + i = 24 → f < n → w < fo_c A → post (nI (fo_rr A f w)) → wY_treeOf_4 post f_count f_length a_isText a_parents a_sizes a_items a_placeNode a_placeOffset a_marks a_opens a_closes a_coming n (nI w) (nI i) := by
  intro f
  induction f with
  | zero =>
    intro n i w hi hn hw hp
    obtain ⟨n, rfl⟩ : ∃ m, n = m + 1 := ⟨n - 1, by omega⟩
    rw [show i = 24 by omega]
    exact br_t (by decide) hp
  | succ f ih =>
    intro n i w hi hn hw hp
    obtain ⟨n, rfl⟩ : ∃ m, n = m + 1 := ⟨n - 1, by omega⟩
    have h24 := fo_lt24 F hw
    have ew : a_parents (nI w).toNatClampNeg = wk_o (fo_p A w) := by rw [wk_cl h24]; exact hK w hw
    refine br_f (nI_ge (b := 24) (by omega) (by decide)) ⟨wk_in h24, ?_⟩
    by_cases h : fo_p A w < 24
    · have e : fo_rr A (f + 1) w = fo_rr A f (fo_p A w) := if_pos h
      rw [e] at hp
      refine br_f (by rw [ew, wk_o_n]; exact fun z => z h) ⟨wk_in h24, nm_r (e' := nI (fo_p A w)) (by rw [ew, wk_o_lt h]) (nm_r (nI_1 i) ?_)⟩
      exact ih n (i + 1) (fo_p A w) (by omega) (by omega) (fo_up F hw h).1 hp
    · have e : fo_rr A (f + 1) w = w := if_neg h
      rw [e] at hp
      exact br_t (by rw [ew, wk_o_n]; exact h) hp
theorem wy_treeOf (hK : ∀ n, n < fo_c A → a_parents n = wk_o (fo_p A n)) (F : fo_F A) {n : Nat} (hn : n < fo_c A) (h : post (nI (fo_r A n))) : wpY_treeOf post (f_count, f_length, a_isText, a_parents, a_sizes, a_items, a_placeNode, a_placeOffset, a_marks, a_opens, a_closes, a_coming) (nI n) :=
  ⟨25, wy_treeOf4 hK F 24 25 0 n rfl (by omega) hn h⟩
theorem wk_24 (p i : Nat) : (24 : Int32) * nI p + nI i = nI (24 * p + i) := by
  have : (24 : Int32) * nI p = nI (24 * p) := pk_mul 24 p
  rw [this, nI_add]
theorem wy_indexOf9 (K : wy_K A f_count a_isText a_parents a_sizes) (T : wy_T A a_items) (F : fo_F A) {c : Nat} (hc : c < fo_c A) (hp : fo_p A c < 24) (h : post (nI (fo_x A c))) : ∀ (d n j : Nat), d + j = fo_x A c → d < n → wY_indexOf_9 post (nI c) (nI (fo_p A c)) f_count f_length a_isText a_parents a_sizes a_items a_placeNode a_placeOffset a_marks a_opens a_closes a_coming n (nI j) := by
  obtain ⟨u1, u2, u3, u4⟩ := fo_up F hc hp
  have us := fo_s_e F u1 u2
  have c24 := fo_lt24 F hc
  have es : a_sizes (nI (fo_p A c)).toNatClampNeg = nI (fo_s A (fo_p A c)) := by rw [wk_cl hp]; exact K.2.2.2 _ u1
  have ei : ∀ j, j < fo_s A (fo_p A c) → a_items (24 * nI (fo_p A c) + nI j).toNatClampNeg = nI (fo_k A (fo_p A c) j) := fun j hj => by
    have := T _ u1 j hj
    rw [u2, if_neg (by decide)] at this
    rw [wk_24, nI_clamp (by omega), this]
  intro d
  induction d with
  | zero =>
    intro n j hj hn
    obtain ⟨n, rfl⟩ : ∃ m, n = m + 1 := ⟨n - 1, by omega⟩
    have e : j = fo_x A c := by omega
    subst e
    refine ⟨wk_in hp, br_f (by rw [es]; exact nI_ge u3 (by omega)) ⟨by rw [wk_24]; exact vp_in_nI (by omega) (by decide), br_t (by rw [ei _ u3, u4]) h⟩⟩
  | succ d ih =>
    intro n j hj hn
    obtain ⟨n, rfl⟩ : ∃ m, n = m + 1 := ⟨n - 1, by omega⟩
    have hj' : j < fo_s A (fo_p A c) := by omega
    refine ⟨wk_in hp, br_f (by rw [es]; exact nI_ge hj' (by omega)) ⟨by rw [wk_24]; exact vp_in_nI (by omega) (by decide), br_f ?_ (nm_r (nI_1 j) (ih n (j + 1) (by omega) (by omega)))⟩⟩
    rw [ei j hj']
    intro w
    obtain ⟨k1, k2, k3⟩ := fo_dn F u1 u2 hj'
    have := fo_lt24 F k1
    have w2 := (nI_eq (by omega) (by omega)).mp w
    rw [w2] at k3
    omega
theorem wy_indexOf (K : wy_K A f_count a_isText a_parents a_sizes) (T : wy_T A a_items) (F : fo_F A) {c : Nat} (hc : c < fo_c A) (hp : fo_p A c < 24) (h : post (nI (fo_x A c))) : wpY_indexOf post (f_count, f_length, a_isText, a_parents, a_sizes, a_items, a_placeNode, a_placeOffset, a_marks, a_opens, a_closes, a_coming) (nI c) :=
  ⟨wk_in (fo_lt24 F hc), nm_r (e' := nI (fo_p A c)) (by rw [wk_cl (fo_lt24 F hc), K.2.2.1 c hc, wk_o_lt hp]) ⟨fo_x A c + 1, wy_indexOf9 K T F hc hp h (fo_x A c) (fo_x A c + 1) 0 rfl (by omega)⟩⟩
end
end
section
/-! Y: taking out, putting in, moving places, a new node -/
section
variable {A : fo_S} {f_count f_length : Int32} {a_isText a_parents a_sizes a_items a_placeNode a_placeOffset a_marks a_opens a_closes a_coming : Nat → Int32} {post : SY → Prop}
theorem wy_moveTaken (P : wk_P A a_placeNode a_placeOffset) (hK : ∀ n, n < fo_c A → a_parents n = wk_o (fo_p A n)) (F : fo_F A) (Z : fo_Z A) (Q : fo_Q A) {n : Nat} (hn : n < fo_c A) (hpn : fo_p A n < 24)
    (h : ∀ b_placeNode b_placeOffset, wk_P (fo_tk A n) b_placeNode b_placeOffset → post (f_count, f_length, a_isText, a_parents, a_sizes, a_items, b_placeNode, b_placeOffset, a_marks, a_opens, a_closes, a_coming)) : wpY_moveTaken post (f_count, f_length, a_isText, a_parents, a_sizes, a_items, a_placeNode, a_placeOffset, a_marks, a_opens, a_closes, a_coming) (nI (fo_p A n)) (nI (fo_x A n)) (nI n) := by
  have h24 := fo_lt24 F hn
  obtain ⟨v1, v2, v3, v4⟩ := fo_up F hn hpn
  have hs := fo_s_e F v1 v2
  have loop : ∀ (d m i : Nat) (an ao : Nat → Int32), d + i = 8 → d < m → wk_Q A (fo_tk A n) i an ao → wY_moveTaken_3 post (nI (fo_p A n)) (nI (fo_x A n)) (nI n) f_count f_length m (nI i) a_isText a_parents a_sizes a_items an ao a_marks a_opens a_closes a_coming := by
    intro d
    induction d with
    | zero =>
      intro m i an ao hi hm hq
      obtain ⟨m, rfl⟩ : ∃ k, m = k + 1 := ⟨m - 1, by omega⟩
      rw [show i = 8 by omega] at hq ⊢
      exact br_t (by decide) (h an ao (wk_Q_8 hq))
    | succ d ih =>
      intro m i an ao hi hm hq
      obtain ⟨m, rfl⟩ : ∃ k, m = k + 1 := ⟨m - 1, by omega⟩
      have hi8 : i < 8 := by omega
      obtain ⟨q1, q2⟩ := wk_Q_a hq hi8
      obtain ⟨p1, p2⟩ := Q i hi8
      have so := fo_s_a F Z (fo_n A i)
      have pl := fo_lt24 F p1
      have hit : fo_b A n (fo_n A i) = true → wY_moveTaken_36 post (wY_moveTaken_3 post (nI (fo_p A n)) (nI (fo_x A n)) (nI n) f_count f_length m) (nI (fo_p A n)) (nI (fo_x A n)) (nI n) (nI i) f_count f_length a_isText a_parents a_sizes a_items an ao a_marks a_opens a_closes a_coming := by
        intro hb
        have en : fo_n (fo_tk A n) i = fo_p A n := if_pos hb
        have eo : fo_o (fo_tk A n) i = fo_x A n := if_pos hb
        unfold wY_moveTaken_36
        rw [wk_c8 hi8]
        refine ⟨wk_i8 hi8, nm_e ⟨wk_i8 hi8, nm_e (nm_r (nI_1 i) ?_)⟩⟩
        exact ih m (i + 1) _ _ (by omega) (by omega) (wk_Q_2 hq (by rw [en]) (by rw [eo]))
      refine br_f (nI_ge (b := 8) hi8 (by decide)) ⟨wk_i8 hi8, ?_⟩
      rw [wk_c8 hi8, q1, q2]
      by_cases e0 : fo_n A i = n
      · refine br_t (by rw [e0]) (hit ?_)
        rw [fo_b_i F h24 p1, e0]
        exact fo_A_r A n
      · refine br_f (fun w => e0 ((nI_eq (by omega) (by omega)).mp w)) ⟨wk_i8 hi8, ?_⟩
        refine wy_isBelow hK F h24 p1 e0 ?_
        rcases fo_ft (fo_b A n (fo_n A i)) with hb | hb
        · have hh := hit hb
          rw [hb]
          exact br_f (by decide) hh
        · have en : fo_n (fo_tk A n) i = fo_n A i := if_neg (by rw [hb]; exact Bool.false_ne_true)
          have eo : fo_o (fo_tk A n) i = if fo_n A i = fo_p A n ∧ fo_x A n < fo_o A i then fo_o A i - 1 else fo_o A i := if_neg (by rw [hb]; exact Bool.false_ne_true)
          rw [hb]
          refine br_t rfl ⟨wk_i8 hi8, ?_⟩
          by_cases e : fo_n A i = fo_p A n
          · refine br_t (by rw [e]) ⟨wk_i8 hi8, ?_⟩
            by_cases z : fo_x A n < fo_o A i
            · rw [if_pos ⟨e, z⟩] at eo
              refine br_f (nI_ge z (by omega)) ⟨wk_i8 hi8, wk_i8 hi8, nm_e (nm_r (nI_1 i) ?_)⟩
              refine ih m (i + 1) _ _ (by omega) (by omega) (wk_Q_1 hq hi8 en ?_)
              rw [eo]
              obtain ⟨k, hk⟩ : ∃ k, fo_o A i = k + 1 := ⟨fo_o A i - 1, by omega⟩
              rw [hk, nI_pred]
              rfl
            · rw [if_neg (fun y => z y.2)] at eo
              refine br_t (nI_le (by omega) (by omega)) (nm_r (nI_1 i) ?_)
              exact ih m (i + 1) _ _ (by omega) (by omega) (wk_Q_k hq hi8 en eo)
          · rw [if_neg (fun y => e y.1)] at eo
            refine br_f (fun w => e ((nI_eq (by omega) (by omega)).mp w)) (nm_r (nI_1 i) ?_)
            exact ih m (i + 1) _ _ (by omega) (by omega) (wk_Q_k hq hi8 en eo)
  exact ⟨9, loop 8 9 0 _ _ rfl (by omega) (wk_Q_0 _ P)⟩
end
section
variable {A : fo_S} {f_count f_length : Int32} {a_isText a_parents a_sizes a_items a_placeNode a_placeOffset a_marks a_opens a_closes a_coming : Nat → Int32} {post : Int32 → SY → Prop}
theorem wy_takeOut33 {n p i S : Nat} {r : Int32} (hn : n < 24) (hp : p < 24) (hS : S < 24) (hs : a_sizes p = nI S) {f : Nat → Int32}
    (h : ∀ g, (∀ m, (m < 24 * p + i ∨ 24 * p + S ≤ m) → g m = f m) → (∀ j, i ≤ j → j < S → g (24 * p + j) = f (24 * p + j + 1)) → post r (f_count, f_length, a_isText, upd a_parents n (-1), a_sizes, g, a_placeNode, a_placeOffset, a_marks, a_opens, a_closes, a_coming)) :
    ∀ (d m j : Nat) (g : Nat → Int32), d + j = S → d < m → i ≤ j → (∀ m, (m < 24 * p + i ∨ 24 * p + j ≤ m) → g m = f m) → (∀ k, i ≤ k → k < j → g (24 * p + k) = f (24 * p + k + 1)) →
      wY_takeOut_33 post (nI n) (nI p) r f_count f_length m (nI j) a_isText a_parents a_sizes g a_placeNode a_placeOffset a_marks a_opens a_closes a_coming := by
  have es : a_sizes (nI p).toNatClampNeg = nI S := by rw [wk_cl hp]; exact hs
  intro d
  induction d with
  | zero =>
    intro m j g hj hm hi h1 h2
    obtain ⟨m, rfl⟩ : ∃ k, m = k + 1 := ⟨m - 1, by omega⟩
    have e : j = S := by omega
    subst e
    exact ⟨wk_in hp, br_t (by rw [es]; exact nI_le (Nat.le_refl _) (by omega)) ⟨wk_in hn, nm_r (e' := upd a_parents n (-1)) (by rw [wk_cl hn]) (h g h1 h2)⟩⟩
  | succ d ih =>
    intro m j g hj hm hi h1 h2
    obtain ⟨m, rfl⟩ : ∃ k, m = k + 1 := ⟨m - 1, by omega⟩
    refine ⟨wk_in hp, br_f (by rw [es]; exact nI_ge (by omega) (by omega)) ?_⟩
    rw [wk_24, nI_1]
    refine ⟨vp_in_nI (by omega) (by decide), vp_in_nI (by omega) (by decide), ?_⟩
    rw [nI_clamp (show 24 * p + j < 2 ^ 31 by omega), nI_clamp (show 24 * p + j + 1 < 2 ^ 31 by omega)]
    refine nm_e (nm_r (nI_1 j) (ih m (j + 1) _ (by omega) (by omega) (by omega) (fun k hk => ?_) fun k k1 k2 => ?_))
    · rw [pk_un (by omega)]; exact h1 k (by omega)
    · by_cases e : k = j
      · rw [e, pk_us]; exact h1 _ (by omega)
      · rw [pk_un (by omega)]; exact h2 k k1 (by omega)
theorem wy_takeOut (R : wy_R A (f_count, f_length, a_isText, a_parents, a_sizes, a_items, a_placeNode, a_placeOffset, a_marks, a_opens, a_closes, a_coming)) (F : fo_F A) (Z : fo_Z A) (Q : fo_Q A) {n : Nat} (hn : n < fo_c A) (hpn : fo_p A n < 24)
    (h : ∀ b_parents b_sizes b_items b_placeNode b_placeOffset, wy_R (fo_tk A n) (f_count, f_length, a_isText, b_parents, b_sizes, b_items, b_placeNode, b_placeOffset, a_marks, a_opens, a_closes, a_coming) → post (nI (fo_x A n)) (f_count, f_length, a_isText, b_parents, b_sizes, b_items, b_placeNode, b_placeOffset, a_marks, a_opens, a_closes, a_coming)) : wpY_takeOut post (f_count, f_length, a_isText, a_parents, a_sizes, a_items, a_placeNode, a_placeOffset, a_marks, a_opens, a_closes, a_coming) (nI n) := by
  obtain ⟨K, T, P⟩ := R
  have h24 := fo_lt24 F hn
  obtain ⟨v1, v2, v3, v4⟩ := fo_up F hn hpn
  have hs := fo_s_e F v1 v2
  unfold wpY_takeOut
  refine ⟨wk_in h24, nm_r (e' := nI (fo_p A n)) (by rw [wk_cl h24, K.2.2.1 n hn, wk_o_lt hpn]) ?_⟩
  refine wy_indexOf K T F hn hpn ?_
  refine wy_moveTaken P K.2.2.1 F Z Q hn hpn ?_
  intro an ao hP
  refine ⟨wk_in hpn, wk_in hpn, nm_r (e' := upd a_sizes (fo_p A n) (nI (fo_s A (fo_p A n) - 1))) ?_ ?_⟩
  · rw [wk_cl hpn, K.2.2.2 _ v1]
    obtain ⟨k, hk⟩ : ∃ k, fo_s A (fo_p A n) = k + 1 := ⟨fo_s A (fo_p A n) - 1, by omega⟩
    rw [hk, nI_pred]
    rfl
  · refine ⟨fo_s A (fo_p A n) - 1 - fo_x A n + 1, wy_takeOut33 (S := fo_s A (fo_p A n) - 1) (i := fo_x A n) h24 hpn (by omega) pk_us (fun g h1 h2 => h _ _ _ _ _ ⟨⟨K.1, K.2.1, fun m hm => ?_, fun m hm => ?_⟩, fun m hm j hj => ?_, hP⟩) (fo_s A (fo_p A n) - 1 - fo_x A n) _ (fo_x A n) a_items (by omega) (by omega) (Nat.le_refl _) (fun _ _ => rfl) fun k k1 k2 => absurd k2 (by omega)⟩
    · show (if m = n then (-1 : Int32) else a_parents m) = wk_o (if m = n then 24 else fo_p A m)
      by_cases e : m = n
      · rw [if_pos e, if_pos e, wk_o_24]
      · rw [if_neg e, if_neg e]; exact K.2.2.1 m hm
    · show (if m = fo_p A n then nI (fo_s A (fo_p A n) - 1) else a_sizes m) = nI (if m = fo_p A n then fo_s A m - 1 else fo_s A m)
      by_cases e : m = fo_p A n
      · rw [if_pos e, if_pos e, e]
      · rw [if_neg e, if_neg e]; exact K.2.2.2 m hm
    · have hm : m < fo_c A := hm
      have hj : j < (if m = fo_p A n then fo_s A m - 1 else fo_s A m) := hj
      show g (24 * m + j) = nI (if fo_t A m = true then fo_l A m j else if m = fo_p A n ∧ fo_x A n ≤ j then fo_k A m (j + 1) else fo_k A m j)
      by_cases e : m = fo_p A n
      · rw [if_pos e] at hj
        subst e
        rw [if_neg (c := fo_t A (fo_p A n) = true) (by rw [v2]; exact Bool.false_ne_true)]
        by_cases z : fo_x A n ≤ j
        · rw [if_pos ⟨rfl, z⟩, h2 j z hj]
          have := T _ v1 (j + 1) (by omega)
          rw [if_neg (by rw [v2]; exact Bool.false_ne_true)] at this
          exact this
        · rw [if_neg (fun y => z y.2), h1 _ (by omega)]
          have := T _ v1 j (by omega)
          rw [if_neg (by rw [v2]; exact Bool.false_ne_true)] at this
          exact this
      · rw [if_neg e] at hj
        have sm := fo_s_a F Z m
        rw [if_neg (c := m = fo_p A n ∧ fo_x A n ≤ j) (fun y => e y.1), h1 _ (by omega)]
        exact T m hm j hj
end
section
variable {A : fo_S} {f_count f_length : Int32} {a_isText a_parents a_sizes a_items a_placeNode a_placeOffset a_marks a_opens a_closes a_coming : Nat → Int32} {post : SY → Prop}
theorem wy_putIn57 {p n i S : Nat} (hn : n < 24) (hp : p < 24) (hS : S < 23) (hs : a_sizes p = nI S) {f : Nat → Int32} (hi : i ≤ S)
    (h : ∀ g, (∀ m, (m < 24 * p + i ∨ 24 * p + S + 1 ≤ m) → g m = f m) → g (24 * p + i) = nI n → (∀ j, i < j → j < S + 1 → g (24 * p + j) = f (24 * p + j - 1)) → post (f_count, f_length, a_isText, upd a_parents n (nI p), upd a_sizes p (nI (S + 1)), g, a_placeNode, a_placeOffset, a_marks, a_opens, a_closes, a_coming)) :
    ∀ (d m j : Nat) (g : Nat → Int32), d + i = j → d < m → j ≤ S → (∀ m, (m < 24 * p + j + 1 ∨ 24 * p + S + 1 ≤ m) → g m = f m) → (∀ k, j < k → k < S + 1 → g (24 * p + k) = f (24 * p + k - 1)) →
      wY_putIn_57 post (nI p) (nI n) (nI i) f_count f_length m (nI j) a_isText a_parents a_sizes g a_placeNode a_placeOffset a_marks a_opens a_closes a_coming := by
  intro d
  induction d with
  | zero =>
    intro m j g hj hm hi h1 h2
    obtain ⟨m, rfl⟩ : ∃ k, m = k + 1 := ⟨m - 1, by omega⟩
    have e : j = i := by omega
    subst e
    refine br_t (nI_le (Nat.le_refl _) (by omega)) ?_
    rw [wk_24]
    refine ⟨vp_in_nI (by omega) (by decide), ?_⟩
    rw [nI_clamp (show 24 * p + j < 2 ^ 31 by omega)]
    refine nm_e ⟨wk_in hp, wk_in hp, nm_r (e' := upd a_sizes p (nI (S + 1))) (by rw [wk_cl hp, hs, nI_1]) ⟨wk_in hn, nm_r (e' := upd a_parents n (nI p)) (by rw [wk_cl hn]) (h _ (fun k hk => ?_) pk_us fun k k1 k2 => ?_)⟩⟩
    · rw [pk_un (by omega)]; exact h1 k (by omega)
    · rw [pk_un (by omega)]; exact h2 k k1 k2
  | succ d ih =>
    intro m j g hj hm hi h1 h2
    obtain ⟨m, rfl⟩ : ∃ k, m = k + 1 := ⟨m - 1, by omega⟩
    obtain ⟨j, rfl⟩ : ∃ k, j = k + 1 := ⟨j - 1, by omega⟩
    refine br_f (nI_ge (by omega) (by omega)) ?_
    have e1 : (24 : Int32) * nI p + nI (j + 1) - 1 = nI (24 * p + j) := by
      rw [wk_24, ← Nat.add_assoc, nI_pred]
    rw [e1, wk_24]
    refine ⟨vp_in_nI (by omega) (by decide), vp_in_nI (by omega) (by decide), ?_⟩
    rw [nI_clamp (show 24 * p + j < 2 ^ 31 by omega), nI_clamp (show 24 * p + (j + 1) < 2 ^ 31 by omega)]
    refine nm_e (nm_r (pk_m1 j) (ih m j _ (by omega) (by omega) (by omega) (fun k hk => ?_) fun k k1 k2 => ?_))
    · rw [pk_un (by omega)]; exact h1 k (by omega)
    · by_cases e : k = j + 1
      · rw [e, pk_us, show 24 * p + (j + 1) - 1 = 24 * p + j by omega]; exact h1 _ (by omega)
      · rw [pk_un (by omega)]; exact h2 k (by omega) k2
theorem wy_putIn (R : wy_R A (f_count, f_length, a_isText, a_parents, a_sizes, a_items, a_placeNode, a_placeOffset, a_marks, a_opens, a_closes, a_coming)) (F : fo_F A) (Z : fo_Z A) (Q : fo_Q A) {p n i : Nat} (hn : n < fo_c A) (hpn : fo_p A n = 24) (hp : p < fo_c A) (htp : fo_t A p = false) (hi : i ≤ fo_s A p) (hS : fo_s A p < 23)
    (h : ∀ b_parents b_sizes b_items b_placeOffset, wy_R (fo_pt A p n i) (f_count, f_length, a_isText, b_parents, b_sizes, b_items, a_placeNode, b_placeOffset, a_marks, a_opens, a_closes, a_coming) → post (f_count, f_length, a_isText, b_parents, b_sizes, b_items, a_placeNode, b_placeOffset, a_marks, a_opens, a_closes, a_coming)) : wpY_putIn post (f_count, f_length, a_isText, a_parents, a_sizes, a_items, a_placeNode, a_placeOffset, a_marks, a_opens, a_closes, a_coming) (nI p) (nI n) (nI i) := by
  obtain ⟨K, T, P⟩ := R
  have h24 := fo_lt24 F hn
  have hp24 := fo_lt24 F hp
  have loop : ∀ (d m j : Nat) (ao : Nat → Int32), d + j = 8 → d < m → wk_Q A (fo_pt A p n i) j a_placeNode ao → wY_putIn_3 post (nI p) (nI n) (nI i) f_count f_length m (nI j) a_isText a_parents a_sizes a_items a_placeNode ao a_marks a_opens a_closes a_coming := by
    intro d
    induction d with
    | zero =>
      intro m j ao hj hm hq
      obtain ⟨m, rfl⟩ : ∃ k, m = k + 1 := ⟨m - 1, by omega⟩
      rw [show j = 8 by omega] at hq ⊢
      refine br_t (by decide) ⟨wk_in hp24, nm_r (e' := nI (fo_s A p)) (by rw [wk_cl hp24]; exact K.2.2.2 p hp) ⟨fo_s A p - i + 1, wy_putIn57 (S := fo_s A p) h24 hp24 hS (K.2.2.2 p hp) hi (fun g h1 h3 h2 => h _ _ _ _ ⟨⟨K.1, K.2.1, fun m hm => ?_, fun m hm => ?_⟩, fun m hm j hj => ?_, wk_Q_8 hq⟩) (fo_s A p - i) _ (fo_s A p) a_items (by omega) (by omega) (Nat.le_refl _) (fun _ _ => rfl) fun k k1 k2 => absurd k2 (by omega)⟩⟩
      · show (if m = n then nI p else a_parents m) = wk_o (if m = n then p else fo_p A m)
        by_cases e : m = n
        · rw [if_pos e, if_pos e, wk_o_lt hp24]
        · rw [if_neg e, if_neg e]; exact K.2.2.1 m hm
      · show (if m = p then nI (fo_s A p + 1) else a_sizes m) = nI (if m = p then fo_s A m + 1 else fo_s A m)
        by_cases e : m = p
        · rw [if_pos e, if_pos e, e]
        · rw [if_neg e, if_neg e]; exact K.2.2.2 m hm
      · have hm : m < fo_c A := hm
        have hj2 : j < (if m = p then fo_s A m + 1 else fo_s A m) := hj
        show g (24 * m + j) = nI (if fo_t A m = true then fo_l A m j else if m = p then (if j < i then fo_k A m j else if j = i then n else fo_k A m (j - 1)) else fo_k A m j)
        by_cases e : m = p
        · rw [if_pos e] at hj2
          subst e
          have Tm : ∀ j, j < fo_s A m → a_items (24 * m + j) = nI (fo_k A m j) := fun j hj => by
            have := T m hm j hj
            rw [if_neg (by rw [htp]; exact Bool.false_ne_true)] at this
            exact this
          rw [if_neg (c := fo_t A m = true) (by rw [htp]; exact Bool.false_ne_true), if_pos rfl]
          by_cases z : j < i
          · rw [if_pos z, h1 _ (by omega)]; exact Tm j (by omega)
          · rw [if_neg z]
            by_cases w : j = i
            · rw [if_pos w, w]; exact h3
            · rw [if_neg w, h2 j (by omega) hj2, show 24 * m + j - 1 = 24 * m + (j - 1) by omega]; exact Tm _ (by omega)
        · rw [if_neg e] at hj2
          have sm := fo_s_a F Z m
          rw [if_neg (c := m = p) e, h1 _ (by omega)]
          exact T m hm j hj2
    | succ d ih =>
      intro m j ao hj hm hq
      obtain ⟨m, rfl⟩ : ∃ k, m = k + 1 := ⟨m - 1, by omega⟩
      have hj8 : j < 8 := by omega
      obtain ⟨q1, q2⟩ := wk_Q_a hq hj8
      obtain ⟨p1, p2⟩ := Q j hj8
      have so := fo_s_a F Z (fo_n A j)
      have pl := fo_lt24 F p1
      have eo : fo_o (fo_pt A p n i) j = if fo_n A j = p ∧ i < fo_o A j then fo_o A j + 1 else fo_o A j := rfl
      refine br_f (nI_ge (b := 8) hj8 (by decide)) ⟨wk_i8 hj8, ?_⟩
      rw [wk_c8 hj8, q1, q2]
      by_cases e : fo_n A j = p
      · refine br_t (by rw [e]) ⟨wk_i8 hj8, ?_⟩
        by_cases z : i < fo_o A j
        · rw [if_pos ⟨e, z⟩] at eo
          refine br_f (nI_ge z (by omega)) ⟨wk_i8 hj8, wk_i8 hj8, nm_e (nm_r (nI_1 j) ?_)⟩
          exact ih m (j + 1) _ (by omega) (by omega) (wk_Q_1 hq hj8 rfl (by rw [eo, nI_1]))
        · rw [if_neg (fun y => z y.2)] at eo
          refine br_t (nI_le (by omega) (by omega)) (nm_r (nI_1 j) ?_)
          exact ih m (j + 1) _ (by omega) (by omega) (wk_Q_k hq hj8 rfl eo)
      · rw [if_neg (fun y => e y.1)] at eo
        refine br_f (fun w => e ((nI_eq (by omega) (by omega)).mp w)) (nm_r (nI_1 j) ?_)
        exact ih m (j + 1) _ (by omega) (by omega) (wk_Q_k hq hj8 rfl eo)
  exact ⟨9, loop 8 9 0 _ rfl (by omega) (wk_Q_0 _ P)⟩
end
section
variable {A : fo_S} {f_count f_length : Int32} {a_isText a_parents a_sizes a_items a_placeNode a_placeOffset a_marks a_opens a_closes a_coming : Nat → Int32} {post : Int32 → SY → Prop}
theorem wk_nar (b : Bool) : vp_nar .boolean (wk_b b) = wk_b b := by
  cases b
  · exact rfl
  · exact rfl
theorem wy_make (R : wy_R A (f_count, f_length, a_isText, a_parents, a_sizes, a_items, a_placeNode, a_placeOffset, a_marks, a_opens, a_closes, a_coming)) (F : fo_F A) (Z : fo_Z A) (h24 : fo_c A < 24) (b : Bool)
    (h : ∀ b_isText b_parents b_sizes, wy_R (fo_mk A b) (nI (fo_c A + 1), f_length, b_isText, b_parents, b_sizes, a_items, a_placeNode, a_placeOffset, a_marks, a_opens, a_closes, a_coming) → post (nI (fo_c A)) (nI (fo_c A + 1), f_length, b_isText, b_parents, b_sizes, a_items, a_placeNode, a_placeOffset, a_marks, a_opens, a_closes, a_coming)) : wpY_make post (f_count, f_length, a_isText, a_parents, a_sizes, a_items, a_placeNode, a_placeOffset, a_marks, a_opens, a_closes, a_coming) (wk_b b) := by
  obtain ⟨⟨hm, hs, hq, hz⟩, T, P⟩ := R
  subst hm
  have z0 := Z.2.2 (fo_c A) (Nat.le_refl _)
  have p0 := F.2.2.1 (fo_c A) (Nat.le_refl _)
  unfold wpY_make
  refine br_f (fun w => by have := (nI_eq (b := 24) (by omega) (by decide)).mp w; omega) ⟨wk_in h24, nm_r (e' := upd a_isText (fo_c A) (wk_b b)) (by rw [wk_cl h24, wk_nar]) ⟨wk_in h24, nm_r (e' := upd a_parents (fo_c A) (-1)) (by rw [wk_cl h24]) ⟨wk_in h24, nm_r (e' := upd a_sizes (fo_c A) 0) (by rw [wk_cl h24]) (nm_r (nI_1 _) ?_)⟩⟩⟩
  rw [nI_pred]
  refine h _ _ _ ⟨⟨rfl, fun m hm => ?_, fun m hm => ?_, fun m hm => ?_⟩, fun m hm i hi => ?_, P⟩
  · have hm : m < fo_c A + 1 := hm
    show (if m = fo_c A then wk_b b else a_isText m) = wk_b (if m = fo_c A then b else fo_t A m)
    by_cases e : m = fo_c A
    · rw [if_pos e, if_pos e]
    · rw [if_neg e, if_neg e]; exact hs m (by omega)
  · have hm : m < fo_c A + 1 := hm
    show (if m = fo_c A then (-1 : Int32) else a_parents m) = wk_o (fo_p A m)
    by_cases e : m = fo_c A
    · rw [if_pos e, e, p0, wk_o_24]
    · rw [if_neg e]; exact hq m (by omega)
  · have hm : m < fo_c A + 1 := hm
    show (if m = fo_c A then (0 : Int32) else a_sizes m) = nI (fo_s A m)
    by_cases e : m = fo_c A
    · rw [if_pos e, e, z0]; rfl
    · rw [if_neg e]; exact hz m (by omega)
  · have hm : m < fo_c A + 1 := hm
    have hi : i < fo_s A m := hi
    have e : m ≠ fo_c A := fun e => by rw [e, z0] at hi; omega
    show a_items (24 * m + i) = nI (if (if m = fo_c A then b else fo_t A m) = true then fo_l A m i else fo_k A m i)
    rw [if_neg e]
    exact T m (by omega) i hi
end
end
section
/-! Y: letters exchanged, places moved -/
theorem fo_s_pt {A : fo_S} (F : fo_F A) {p n : Nat} (hp : p < fo_c A) (htp : fo_t A p = false) (hn : n < fo_c A) (hpn : fo_p A n = 24) (hne : n ≠ p) : fo_s A p < 23 := by
  have h := fo_pig 24 (fo_s A p + 2) (fun i => if i < fo_s A p then fo_k A p i else if i = fo_s A p then p else n) (fun i hi => ?_) fun i j hi hj e => ?_
  · omega
  · show (if i < fo_s A p then fo_k A p i else if i = fo_s A p then p else n) < 24
    by_cases z : i < fo_s A p
    · rw [if_pos z]; exact fo_lt24 F (fo_dn F hp htp z).1
    · rw [if_neg z]
      by_cases y : i = fo_s A p
      · rw [if_pos y]; exact fo_lt24 F hp
      · rw [if_neg y]; exact fo_lt24 F hn
  · have e : (if i < fo_s A p then fo_k A p i else if i = fo_s A p then p else n) = (if j < fo_s A p then fo_k A p j else if j = fo_s A p then p else n) := e
    have k1 : ∀ i, i < fo_s A p → fo_k A p i ≠ p := fun i hi e => by
      obtain ⟨k1, k2, k3⟩ := fo_dn F hp htp hi
      have := fo_d_up F k1 (by rw [k2]; exact fo_lt24 F hp)
      rw [k2, e] at this
      omega
    have k2 : ∀ i, i < fo_s A p → fo_k A p i ≠ n := fun i hi e => by
      have k2 := (fo_dn F hp htp hi).2.1
      rw [e, hpn] at k2
      have := fo_lt24 F hp
      omega
    by_cases z : i < fo_s A p
    · rw [if_pos z] at e
      by_cases y : j < fo_s A p
      · rw [if_pos y] at e
        have h1 := (fo_dn F hp htp z).2.2
        have h2 := (fo_dn F hp htp y).2.2
        rw [e] at h1
        omega
      · rw [if_neg y] at e
        by_cases w : j = fo_s A p
        · rw [if_pos w] at e; exact absurd e (k1 i z)
        · rw [if_neg w] at e; exact absurd e (k2 i z)
    · rw [if_neg z] at e
      by_cases y : j < fo_s A p
      · rw [if_pos y] at e
        by_cases w : i = fo_s A p
        · rw [if_pos w] at e; exact absurd e.symm (k1 j y)
        · rw [if_neg w] at e; exact absurd e.symm (k2 j y)
      · rw [if_neg y] at e
        by_cases w : i = fo_s A p
        · rw [if_pos w] at e
          by_cases v : j = fo_s A p
          · omega
          · rw [if_neg v] at e; exact absurd e.symm hne
        · rw [if_neg w] at e
          by_cases v : j = fo_s A p
          · rw [if_pos v] at e; exact absurd e hne
          · omega
section
variable {A : fo_S} {f_count f_length : Int32} {a_isText a_parents a_sizes a_items a_placeNode a_placeOffset a_marks a_opens a_closes a_coming : Nat → Int32} {post : SY → Prop}
theorem wy_exchange148 {t a c k r : Nat} {f : Nat → Int32} (ht : t < 24) (hkc : k ≤ c) (hr : a + c + r ≤ 12) (h : ∀ g, wk_sh (24 * t) (a + c) (a + c + r) k c f g → wY_exchange_194 post (nI t) (nI a) (nI k) (nI r) f_count f_length a_isText a_parents a_sizes g a_placeNode a_placeOffset a_marks a_opens a_closes a_coming) :
    ∀ (d n j : Nat) (g : Nat → Int32), d + j = r → d < n → ((∀ m, (m < 24 * t + (a + c) + k - c ∨ 24 * t + (a + c) + j + k - c ≤ m) → g m = f m) ∧ ∀ i, a + c ≤ i → i < a + c + j → g (24 * t + i + k - c) = f (24 * t + i)) →
      wY_exchange_148 post (nI t) (nI a) (nI c) (nI k) (nI r) f_count f_length n (nI j) a_isText a_parents a_sizes g a_placeNode a_placeOffset a_marks a_opens a_closes a_coming := by
  intro d
  induction d with
  | zero =>
    intro n j g hj hn hg
    obtain ⟨n, rfl⟩ : ∃ m, n = m + 1 := ⟨n - 1, by omega⟩
    have e : j = r := by omega
    subst e
    refine br_t (nI_le (Nat.le_refl _) (by omega)) (h g ⟨fun m hm => hg.1 m ?_, hg.2⟩)
    omega
  | succ d ih =>
    intro n j g hj hn hg
    obtain ⟨n, rfl⟩ : ∃ m, n = m + 1 := ⟨n - 1, by omega⟩
    refine br_f (nI_ge (by omega) (by omega)) ?_
    rw [wk_24, nI_add, nI_add, nI_add, nI_add]
    refine ⟨vp_in_nI (by omega) (by decide), vp_in_nI (by omega) (by decide), ?_⟩
    rw [nI_clamp (show 24 * t + a + c + j < 2 ^ 31 by omega), nI_clamp (show 24 * t + a + k + j < 2 ^ 31 by omega)]
    refine nm_e (nm_r (nI_1 j) (ih n (j + 1) _ (by omega) (by omega) ⟨fun m hm => ?_, fun i h1 h2 => ?_⟩))
    · rw [pk_un (by omega)]; exact hg.1 m (by omega)
    · by_cases e : i = a + c + j
      · rw [e, show 24 * t + (a + c + j) + k - c = 24 * t + a + k + j by omega, pk_us, show 24 * t + (a + c + j) = 24 * t + a + c + j by omega]; exact hg.1 _ (by omega)
      · rw [pk_un (by omega)]; exact hg.2 i h1 (by omega)
theorem wy_exchange98 {t a c k r : Nat} {f : Nat → Int32} (ht : t < 24) (hkc : c < k) (hr : a + k + r ≤ 12) (h : ∀ g, wk_sh (24 * t) (a + c) (a + c + r) k c f g → wY_exchange_194 post (nI t) (nI a) (nI k) (nI r) f_count f_length a_isText a_parents a_sizes g a_placeNode a_placeOffset a_marks a_opens a_closes a_coming) :
    ∀ (d n : Nat) (g : Nat → Int32), d ≤ r → d < n → ((∀ m, (m < 24 * t + (a + c) + d + k - c ∨ 24 * t + (a + c + r) + k - c ≤ m) → g m = f m) ∧ ∀ i, a + c + d ≤ i → i < a + c + r → g (24 * t + i + k - c) = f (24 * t + i)) →
      wY_exchange_98 post (nI t) (nI a) (nI c) (nI k) (nI r) f_count f_length n (nI d - 1) a_isText a_parents a_sizes g a_placeNode a_placeOffset a_marks a_opens a_closes a_coming := by
  intro d
  induction d with
  | zero =>
    intro n g hj hn hg
    obtain ⟨n, rfl⟩ : ∃ m, n = m + 1 := ⟨n - 1, by omega⟩
    exact br_t (by decide) (h g hg)
  | succ d ih =>
    intro n g hj hn hg
    obtain ⟨n, rfl⟩ : ∃ m, n = m + 1 := ⟨n - 1, by omega⟩
    rw [nI_pred]
    refine br_f (nI_pos (by omega)) ?_
    rw [wk_24, nI_add, nI_add, nI_add, nI_add]
    refine ⟨vp_in_nI (by omega) (by decide), vp_in_nI (by omega) (by decide), ?_⟩
    rw [nI_clamp (show 24 * t + a + c + d < 2 ^ 31 by omega), nI_clamp (show 24 * t + a + k + d < 2 ^ 31 by omega)]
    refine nm_e (nm_r (e' := nI d - 1) (by grind) (ih n _ (by omega) (by omega) ⟨fun m hm => ?_, fun i h1 h2 => ?_⟩))
    · rw [pk_un (by omega)]; exact hg.1 m (by omega)
    · by_cases e : i = a + c + d
      · rw [e, show 24 * t + (a + c + d) + k - c = 24 * t + a + k + d by omega, pk_us, show 24 * t + (a + c + d) = 24 * t + a + c + d by omega]; exact hg.1 _ (by omega)
      · rw [pk_un (by omega)]; exact hg.2 i (by omega) h2
theorem wy_exchange (K : wy_K A f_count a_isText a_parents a_sizes) (P : wk_P A a_placeNode a_placeOffset) (F : fo_F A) (Z : fo_Z A) (Q : fo_Q A) {t a c k : Nat} {dg : Nat → Nat} (ht : t < fo_c A) (tt : fo_t A t = true) (hc : a + c ≤ fo_s A t) (h12 : fo_s A t + k - c ≤ 12)
    (h : ∀ g b_placeOffset, wk_sh (24 * t) (a + c) (fo_s A t) k c a_items g → wk_P (fo_ex A t a c k dg) a_placeNode b_placeOffset → post (f_count, f_length, a_isText, a_parents, upd a_sizes t (nI (fo_s A t + k - c)), g, a_placeNode, b_placeOffset, a_marks, a_opens, a_closes, a_coming)) : wpY_exchange post (f_count, f_length, a_isText, a_parents, a_sizes, a_items, a_placeNode, a_placeOffset, a_marks, a_opens, a_closes, a_coming) (nI t) (nI a) (nI c) (nI k) := by
  have t24 := fo_lt24 F ht
  have s12 := fo_s_t Z ht tt
  have loop : ∀ (d m j : Nat) (ao : Nat → Int32), d + j = 8 → d < m → wk_Q A (fo_ex A t a c k dg) j a_placeNode ao → wY_exchange_3 post (nI t) (nI a) (nI c) (nI k) f_count f_length m (nI j) a_isText a_parents a_sizes a_items a_placeNode ao a_marks a_opens a_closes a_coming := by
    intro d
    induction d with
    | zero =>
      intro m j ao hj hm hq
      obtain ⟨m, rfl⟩ : ∃ k, m = k + 1 := ⟨m - 1, by omega⟩
      rw [show j = 8 by omega] at hq ⊢
      refine br_t (by decide) ⟨wk_in t24, nm_r (e' := nI (fo_s A t - a - c)) (by rw [wk_cl t24, K.2.2.2 t ht, pk_sub (by omega), pk_sub (by omega)]) ?_⟩
      have last : ∀ g, wk_sh (24 * t) (a + c) (a + c + (fo_s A t - a - c)) k c a_items g → wY_exchange_194 post (nI t) (nI a) (nI k) (nI (fo_s A t - a - c)) f_count f_length a_isText a_parents a_sizes g a_placeNode ao a_marks a_opens a_closes a_coming := by
        intro g hg
        unfold wY_exchange_194
        rw [show a + c + (fo_s A t - a - c) = fo_s A t by omega] at hg
        refine ⟨wk_in t24, nm_r (e' := upd a_sizes t (nI (fo_s A t + k - c))) (by rw [wk_cl t24, nI_add, nI_add, show a + k + (fo_s A t - a - c) = fo_s A t + k - c by omega]) (h g ao hg (wk_Q_8 hq))⟩
      by_cases z : k ≤ c
      · exact br_t (nI_le z (by omega)) ⟨_, wy_exchange148 t24 z (by omega) last (fo_s A t - a - c) (fo_s A t - a - c + 1) 0 a_items (by omega) (by omega) ⟨fun _ _ => rfl, fun i h1 h2 => absurd h2 (by omega)⟩⟩
      · exact br_f (nI_ge (by omega) (by omega)) (nm_e ⟨_, wy_exchange98 t24 (by omega) (by omega) last (fo_s A t - a - c) (fo_s A t - a - c + 1) a_items (Nat.le_refl _) (by omega) ⟨fun _ _ => rfl, fun i h1 h2 => absurd h2 (by omega)⟩⟩)
    | succ d ih =>
      intro m j ao hj hm hq
      obtain ⟨m, rfl⟩ : ∃ k, m = k + 1 := ⟨m - 1, by omega⟩
      have hj8 : j < 8 := by omega
      obtain ⟨q1, q2⟩ := wk_Q_a hq hj8
      obtain ⟨p1, p2⟩ := Q j hj8
      have so := fo_s_a F Z (fo_n A j)
      have pl := fo_lt24 F p1
      have eo : fo_o (fo_ex A t a c k dg) j = if fo_n A j = t ∧ a < fo_o A j then (if fo_o A j ≤ a + c then a else fo_o A j + k - c) else fo_o A j := rfl
      refine br_f (nI_ge (b := 8) hj8 (by decide)) ⟨wk_i8 hj8, ?_⟩
      rw [wk_c8 hj8, q1, q2, nI_add]
      by_cases e : fo_n A j = t
      · refine br_t (by rw [e]) ⟨wk_i8 hj8, ?_⟩
        by_cases z : a < fo_o A j
        · rw [if_pos ⟨e, z⟩] at eo
          refine br_f (nI_ge z (by omega)) ⟨wk_i8 hj8, ?_⟩
          by_cases w : fo_o A j ≤ a + c
          · rw [if_pos w] at eo
            refine br_f (nI_nlt w (by omega)) ⟨wk_i8 hj8, nm_e (nm_r (nI_1 j) ?_)⟩
            exact ih m (j + 1) _ (by omega) (by omega) (wk_Q_1 hq hj8 rfl (by rw [eo]))
          · rw [if_neg w] at eo
            refine br_t (nI_lt (by omega) (by omega)) ⟨wk_i8 hj8, wk_i8 hj8, nm_e (nm_r (nI_1 j) ?_)⟩
            exact ih m (j + 1) _ (by omega) (by omega) (wk_Q_1 hq hj8 rfl (by rw [eo, nI_add, pk_sub (by omega)]))
        · rw [if_neg (fun y => z y.2)] at eo
          refine br_t (nI_le (by omega) (by omega)) (nm_r (nI_1 j) ?_)
          exact ih m (j + 1) _ (by omega) (by omega) (wk_Q_k hq hj8 rfl eo)
      · rw [if_neg (fun y => e y.1)] at eo
        refine br_f (fun w => e ((nI_eq (by omega) (by omega)).mp w)) (nm_r (nI_1 j) ?_)
        exact ih m (j + 1) _ (by omega) (by omega) (wk_Q_k hq hj8 rfl eo)
  exact ⟨9, loop 8 9 0 _ rfl (by omega) (wk_Q_0 _ P)⟩
/-- letters moved and digits written: the forest behind it -/
theorem wy_exR (R : wy_R A (f_count, f_length, a_isText, a_parents, a_sizes, a_items, a_placeNode, a_placeOffset, a_marks, a_opens, a_closes, a_coming)) (F : fo_F A) (Z : fo_Z A) {t a c k : Nat} {dg : Nat → Nat} {g g2 bo : Nat → Int32} (ht : t < fo_c A) (tt : fo_t A t = true) (hc : a + c ≤ fo_s A t) (h12 : fo_s A t + k - c ≤ 12)
    (hg : wk_sh (24 * t) (a + c) (fo_s A t) k c a_items g) (h1 : ∀ m, (m < 24 * t + a ∨ 24 * t + a + k ≤ m) → g2 m = g m) (h2 : ∀ j, j < k → g2 (24 * t + a + j) = nI (dg j)) (hP : wk_P (fo_ex A t a c k dg) a_placeNode bo) :
    wy_R (fo_ex A t a c k dg) (f_count, f_length, a_isText, a_parents, upd a_sizes t (nI (fo_s A t + k - c)), g2, a_placeNode, bo, a_marks, a_opens, a_closes, a_coming) := by
  obtain ⟨K, T, -⟩ := R
  have s12 := fo_s_t Z ht tt
  refine ⟨⟨K.1, K.2.1, K.2.2.1, fun n hn => ?_⟩, fun n hn i hi => ?_, hP⟩
  · show (if n = t then nI (fo_s A t + k - c) else a_sizes n) = nI (if n = t then fo_s A n + k - c else fo_s A n)
    by_cases e : n = t
    · rw [if_pos e, if_pos e, e]
    · rw [if_neg e, if_neg e]; exact K.2.2.2 n hn
  · have hn : n < fo_c A := hn
    have hi2 : i < (if n = t then fo_s A n + k - c else fo_s A n) := hi
    show g2 (24 * n + i) = nI (if fo_t A n = true then (if n = t ∧ a ≤ i then (if i < a + k then dg (i - a) else fo_l A n (i + c - k)) else fo_l A n i) else fo_k A n i)
    by_cases e : n = t
    · subst e
      rw [if_pos rfl] at hi2
      rw [if_pos tt]
      have T' : ∀ i, i < fo_s A n → a_items (24 * n + i) = nI (fo_l A n i) := fun i hi => by
        have := T n hn i hi
        rw [if_pos tt] at this
        exact this
      by_cases z : a ≤ i
      · rw [if_pos ⟨rfl, z⟩]
        by_cases w : i < a + k
        · rw [if_pos w]
          have := h2 (i - a) (by omega)
          rw [show 24 * n + a + (i - a) = 24 * n + i by omega] at this
          exact this
        · rw [if_neg w, h1 _ (by omega)]
          have := hg.2 (i + c - k) (by omega) (by omega)
          rw [show 24 * n + (i + c - k) + k - c = 24 * n + i by omega] at this
          rw [this]
          exact T' _ (by omega)
      · rw [if_neg (fun y => z y.2), h1 _ (by omega), hg.1 _ (by omega)]
        exact T' i (by omega)
    · rw [if_neg e] at hi2
      have sn := fo_s_a F Z n
      rw [if_neg (c := n = t ∧ a ≤ i) (fun y => e y.1), h1 _ (by omega), hg.1 _ (by omega)]
      exact T n hn i hi2
theorem wy_movePlaces {B : fo_S} (P : wk_P A a_placeNode a_placeOffset) (hA : ∀ k, k < 8 → fo_n A k < 24 ∧ fo_o A k < 24) {n lo hi m : Nat} {sh : Int32} (hn : n < 24) (hlo : lo < 99) (hhi : hi < 99)
    (h1 : ∀ k, k < 8 → fo_n A k = n → lo ≤ fo_o A k → fo_o A k ≤ hi → fo_n B k = m ∧ nI (fo_o A k) + sh = nI (fo_o B k)) (h2 : ∀ k, k < 8 → ¬ (fo_n A k = n ∧ lo ≤ fo_o A k ∧ fo_o A k ≤ hi) → fo_n B k = fo_n A k ∧ fo_o B k = fo_o A k)
    (h : ∀ b_placeNode b_placeOffset, wk_P B b_placeNode b_placeOffset → post (f_count, f_length, a_isText, a_parents, a_sizes, a_items, b_placeNode, b_placeOffset, a_marks, a_opens, a_closes, a_coming)) : wpY_movePlaces post (f_count, f_length, a_isText, a_parents, a_sizes, a_items, a_placeNode, a_placeOffset, a_marks, a_opens, a_closes, a_coming) (nI n) (nI lo) (nI hi) (nI m) sh := by
  have loop : ∀ (d f j : Nat) (an ao : Nat → Int32), d + j = 8 → d < f → wk_Q A B j an ao → wY_movePlaces_3 post (nI n) (nI lo) (nI hi) (nI m) sh f_count f_length f (nI j) a_isText a_parents a_sizes a_items an ao a_marks a_opens a_closes a_coming := by
    intro d
    induction d with
    | zero =>
      intro f j an ao hj hf hq
      obtain ⟨f, rfl⟩ : ∃ k, f = k + 1 := ⟨f - 1, by omega⟩
      rw [show j = 8 by omega] at hq ⊢
      exact br_t (by decide) (h an ao (wk_Q_8 hq))
    | succ d ih =>
      intro f j an ao hj hf hq
      obtain ⟨f, rfl⟩ : ∃ k, f = k + 1 := ⟨f - 1, by omega⟩
      have hj8 : j < 8 := by omega
      obtain ⟨q1, q2⟩ := wk_Q_a hq hj8
      obtain ⟨a1, a2⟩ := hA j hj8
      refine br_f (nI_ge (b := 8) hj8 (by decide)) ⟨wk_i8 hj8, ?_⟩
      rw [wk_c8 hj8, q1, q2]
      by_cases e : fo_n A j = n
      · refine br_t (by rw [e]) ⟨wk_i8 hj8, ?_⟩
        by_cases z : lo ≤ fo_o A j
        · refine br_f (nI_nlt z (by omega)) ⟨wk_i8 hj8, ?_⟩
          by_cases w : fo_o A j ≤ hi
          · obtain ⟨en, eo⟩ := h1 j hj8 e z w
            refine br_f (nI_nlt w (by omega)) ⟨wk_i8 hj8, nm_e ⟨wk_i8 hj8, wk_i8 hj8, nm_e (nm_r (nI_1 j) ?_)⟩⟩
            exact ih f (j + 1) _ _ (by omega) (by omega) (wk_Q_2 hq (by rw [en]) eo)
          · obtain ⟨en, eo⟩ := h2 j hj8 (fun y => w y.2.2)
            refine br_t (nI_lt (by omega) (by omega)) (nm_r (nI_1 j) ?_)
            exact ih f (j + 1) _ _ (by omega) (by omega) (wk_Q_k hq hj8 en eo)
        · obtain ⟨en, eo⟩ := h2 j hj8 (fun y => z y.2.1)
          refine br_t (nI_lt (by omega) (by omega)) (nm_r (nI_1 j) ?_)
          exact ih f (j + 1) _ _ (by omega) (by omega) (wk_Q_k hq hj8 en eo)
      · obtain ⟨en, eo⟩ := h2 j hj8 (fun y => e y.1)
        refine br_f (fun w => e ((nI_eq (by omega) (by omega)).mp w)) (nm_r (nI_1 j) ?_)
        exact ih f (j + 1) _ _ (by omega) (by omega) (wk_Q_k hq hj8 en eo)
  exact ⟨9, loop 8 9 0 _ _ rfl (by omega) (wk_Q_0 _ P)⟩
end
end
section
/-- the relation: one forest for both -/
def i_Rel (k : Nat) (u : SX) (v : SY) : Prop := ∃ A : fo_S, fo_I A ∧ wx_R A u ∧ wy_R A v
theorem i_up {k : Nat} {u : SX} {v : SY} (h : i_Rel k u v) : i_Rel (k + 5) u v := h
theorem wk_el {k : Nat} {P : SX → SY → Prop} (h : ∀ (A : fo_S) (f_made f_listed f_leaving : Int32) (a_sort a_parentOf a_firstChild a_nextChild a_previousChild a_sizeOf a_letters a_placeNode a_placeOffset a_listing a_opening a_closing a_leavers : Nat → Int32) (f_count f_length : Int32) (a_isText a_parents a_sizes a_items c_placeNode c_placeOffset a_marks a_opens a_closes a_coming : Nat → Int32), fo_I A → wx_R A (f_made, f_listed, f_leaving, a_sort, a_parentOf, a_firstChild, a_nextChild, a_previousChild, a_sizeOf, a_letters, a_placeNode, a_placeOffset, a_listing, a_opening, a_closing, a_leavers) → wy_R A (f_count, f_length, a_isText, a_parents, a_sizes, a_items, c_placeNode, c_placeOffset, a_marks, a_opens, a_closes, a_coming) → P (f_made, f_listed, f_leaving, a_sort, a_parentOf, a_firstChild, a_nextChild, a_previousChild, a_sizeOf, a_letters, a_placeNode, a_placeOffset, a_listing, a_opening, a_closing, a_leavers) (f_count, f_length, a_isText, a_parents, a_sizes, a_items, c_placeNode, c_placeOffset, a_marks, a_opens, a_closes, a_coming)) {u : SX} {v : SY} (I : i_Rel k u v) : P u v :=
  match u, v, I with
  | (f_made, f_listed, f_leaving, a_sort, a_parentOf, a_firstChild, a_nextChild, a_previousChild, a_sizeOf, a_letters, a_placeNode, a_placeOffset, a_listing, a_opening, a_closing, a_leavers), (f_count, f_length, a_isText, a_parents, a_sizes, a_items, c_placeNode, c_placeOffset, a_marks, a_opens, a_closes, a_coming), ⟨A, hI, hX, hY⟩ => h A _ _ _ _ _ _ _ _ _ _ _ _ _ _ _ _ _ _ _ _ _ _ _ _ _ _ _ _ hI hX hY
theorem wk_ix (x : Int32) {A : fo_S} (F : fo_F A) : (x < 0 ∨ nI (fo_c A) ≤ x) ∨ ∃ j, j < fo_c A ∧ x = nI j := by
  have := F.1
  rcases pk_ix x (n := fo_c A) (by omega) with z | z | z
  · exact Or.inl (Or.inl z)
  · exact Or.inl (Or.inr z)
  · exact Or.inr z
theorem wk_rx (x : Int32) : (x < 0 ∨ nI 4 ≤ x) ∨ ∃ j, j < 4 ∧ x = nI j := by
  rcases pk_ix x (n := 4) (by omega) with z | z | z
  · exact Or.inl (Or.inl z)
  · exact Or.inl (Or.inr z)
  · exact Or.inr z
/-! the first state -/
def wk_A0 : fo_S := (1, fun _ => false, fun _ => 24, fun _ => 0, fun _ => 0, fun _ _ => 0, fun _ _ => 0, fun _ => 0, fun _ => 0)
theorem wk_I0 : fo_I wk_A0 := by
  have F : fo_F wk_A0 := ⟨by decide, fun n => Nat.le_refl _, fun n _ => rfl, fun n _ h => absurd h (Nat.lt_irrefl 24), fun p i _ _ h => absurd h (Nat.not_lt_zero _), fun _ => 0, fun n _ h => absurd h (Nat.lt_irrefl 24)⟩
  refine ⟨F, ⟨Nat.le_refl _, fun n _ h => absurd h Bool.false_ne_true, fun n _ => rfl⟩, fun k _ => ⟨Nat.zero_lt_one, Nat.le_refl _⟩, fun r _ => ⟨rfl, Nat.le_refl _⟩⟩
theorem i_vc0 : wpX_init (fun u => wpY_init (fun v => i_Rel 0 u v)) := by
  unfold wpX_init wpX_make
  refine nm_e ⟨vp_in_iff.mpr (by decide), nm_e ⟨vp_in_iff.mpr (by decide), nm_e ⟨vp_in_iff.mpr (by decide), nm_e ⟨vp_in_iff.mpr (by decide), nm_e ⟨vp_in_iff.mpr (by decide), nm_e ?_⟩⟩⟩⟩⟩
  unfold wpY_init
  refine nm_e ⟨wk_A0, wk_I0, ⟨⟨by decide, fun n hn => ?_, fun n hn => ?_, fun n hn _ => ?_, fun n hn => ?_, fun n hn => ?_, fun n hn => rfl⟩, fun n _ h => absurd h Bool.false_ne_true, fun k _ => ⟨rfl, rfl⟩⟩, ⟨by decide, fun n hn => rfl, fun n hn => ?_, fun n hn => rfl⟩, fun n _ i hi => absurd hi (Nat.not_lt_zero _), fun k _ => ⟨rfl, rfl⟩⟩
  all_goals
    have e : n = 0 := by
      have hn : n < 1 := hn
      omega
    subst e
    rfl
/-! element, text -/
theorem i_vc_element {k : Nat} {u : SX} {v : SY} (I : i_Rel k u v) (hk : k + 5 ≤ 2560) : wpX_element (fun r u' => wpY_element (fun r' v' => r' = r ∧ i_Rel (k + 5) u' v') v) u := by
  refine wk_el (P := fun u v => wpX_element (fun r u' => wpY_element (fun r' v' => r' = r ∧ i_Rel (k + 5) u' v') v) u) ?_ I
  intro A f_made f_listed f_leaving a_sort a_parentOf a_firstChild a_nextChild a_previousChild a_sizeOf a_letters a_placeNode a_placeOffset a_listing a_opening a_closing a_leavers f_count f_length a_isText a_parents a_sizes a_items c_placeNode c_placeOffset a_marks a_opens a_closes a_coming hI hX hY
  have c24 := hI.1.1
  have em : f_made = nI (fo_c A) := hX.1.1
  have ec : f_count = nI (fo_c A) := hY.1.1
  unfold wpX_element
  by_cases z : fo_c A < 24
  · refine br_t (by rw [em]; exact nI_lt (b := 24) z (by decide)) ?_
    refine wx_make hX hI.1 hI.2.1 z false ?_
    intro b1 b2 b3 b4 b5 hX2
    unfold wpY_element
    refine wy_make hY hI.1 hI.2.1 z false ?_
    intro b1 b2 b3 hY2
    exact ⟨rfl, _, fo_I_mk hI z false, hX2, hY2⟩
  · have e : fo_c A = 24 := by omega
    refine br_f (by rw [em]; exact nI_nlt (b := 24) (by omega) (by omega)) ?_
    unfold wpY_element wpY_make
    exact br_t (by rw [ec, e]; rfl) ⟨rfl, A, hI, hX, hY⟩
theorem i_vc_text {k : Nat} {u : SX} {v : SY} (I : i_Rel k u v) (hk : k + 5 ≤ 2560) : wpX_text (fun r u' => wpY_text (fun r' v' => r' = r ∧ i_Rel (k + 5) u' v') v) u := by
  refine wk_el (P := fun u v => wpX_text (fun r u' => wpY_text (fun r' v' => r' = r ∧ i_Rel (k + 5) u' v') v) u) ?_ I
  intro A f_made f_listed f_leaving a_sort a_parentOf a_firstChild a_nextChild a_previousChild a_sizeOf a_letters a_placeNode a_placeOffset a_listing a_opening a_closing a_leavers f_count f_length a_isText a_parents a_sizes a_items c_placeNode c_placeOffset a_marks a_opens a_closes a_coming hI hX hY
  have c24 := hI.1.1
  have em : f_made = nI (fo_c A) := hX.1.1
  have ec : f_count = nI (fo_c A) := hY.1.1
  unfold wpX_text
  by_cases z : fo_c A < 24
  · refine br_t (by rw [em]; exact nI_lt (b := 24) z (by decide)) ?_
    refine wx_make hX hI.1 hI.2.1 z true ?_
    intro b1 b2 b3 b4 b5 hX2
    unfold wpY_text
    refine wy_make hY hI.1 hI.2.1 z true ?_
    intro b1 b2 b3 hY2
    exact ⟨rfl, _, fo_I_mk hI z true, hX2, hY2⟩
  · have e : fo_c A = 24 := by omega
    refine br_f (by rw [em]; exact nI_nlt (b := 24) (by omega) (by omega)) ?_
    unfold wpY_text wpY_make
    exact br_t (by rw [ec, e]; rfl) ⟨rfl, A, hI, hX, hY⟩
end
section
/-! put, take -/
theorem fo_A_tk {A : fo_S} {n : Nat} : ∀ (k y : Nat), fo_u (fo_tk A n) k y = n → fo_A A n y := by
  intro k
  induction k with
  | zero => intro y h; have h : y = n := h; rw [h]; exact fo_A_r A n
  | succ k ih =>
    intro y h
    by_cases e : y = n
    · rw [e]; exact fo_A_r A n
    · have ep : fo_p (fo_tk A n) y = fo_p A y := if_neg e
      have h : fo_u (fo_tk A n) k (fo_p (fo_tk A n) y) = n := h
      rw [ep] at h
      exact fo_A_s (ih _ h)
section
variable {A : fo_S} {f_made f_listed f_leaving : Int32} {a_sort a_parentOf a_firstChild a_nextChild a_previousChild a_sizeOf a_letters a_placeNode a_placeOffset a_listing a_opening a_closing a_leavers : Nat → Int32} {post : Int32 → SX → Prop}
theorem wx_put94 (R : wx_R A (f_made, f_listed, f_leaving, a_sort, a_parentOf, a_firstChild, a_nextChild, a_previousChild, a_sizeOf, a_letters, a_placeNode, a_placeOffset, a_listing, a_opening, a_closing, a_leavers)) (F : fo_F A) (Z : fo_Z A) (Q : fo_Q A) {p n i : Nat} (hn : n < fo_c A) (hpn : fo_p A n = 24) (hp : p < fo_c A) (htp : fo_t A p = false) (hi : i ≤ fo_s A p) (h : ∀ u', wx_R (fo_pt A p n i) u' → post (nI (fo_s (fo_pt A p n i) p)) u') : wX_put_94 post (nI p) (nI n) (nI i) f_made f_listed f_leaving a_sort a_parentOf a_firstChild a_nextChild a_previousChild a_sizeOf a_letters a_placeNode a_placeOffset a_listing a_opening a_closing a_leavers := by
  unfold wX_put_94
  refine wx_putIn R F Z Q hn hpn hp htp hi ?_
  intro b1 b2 b3 b4 b5 b6 hR
  have p24 := fo_lt24 F hp
  refine ⟨wk_in p24, ?_⟩
  rw [wk_cl p24, hR.1.2.2.2.2.2.2 p p24]
  exact h _ hR
end
section
variable {A : fo_S} {f_count f_length : Int32} {a_isText a_parents a_sizes a_items a_placeNode a_placeOffset a_marks a_opens a_closes a_coming : Nat → Int32} {post : Int32 → SY → Prop}
theorem wy_put105 (R : wy_R A (f_count, f_length, a_isText, a_parents, a_sizes, a_items, a_placeNode, a_placeOffset, a_marks, a_opens, a_closes, a_coming)) (F : fo_F A) (Z : fo_Z A) (Q : fo_Q A) {p n i : Nat} (hn : n < fo_c A) (hpn : fo_p A n = 24) (hp : p < fo_c A) (htp : fo_t A p = false) (hi : i ≤ fo_s A p) (hne : n ≠ p) (h : ∀ u', wy_R (fo_pt A p n i) u' → post (nI (fo_s (fo_pt A p n i) p)) u') : wY_put_105 post (nI p) (nI n) (nI i) f_count f_length a_isText a_parents a_sizes a_items a_placeNode a_placeOffset a_marks a_opens a_closes a_coming := by
  unfold wY_put_105
  refine wy_putIn R F Z Q hn hpn hp htp hi (fo_s_pt F hp htp hn hpn hne) ?_
  intro b1 b2 b3 b4 hR
  have p24 := fo_lt24 F hp
  refine ⟨wk_in p24, ?_⟩
  rw [wk_cl p24, hR.1.2.2.2 p hp]
  exact h _ hR
end
theorem i_vc_put {k : Nat} {u : SX} {v : SY} (I : i_Rel k u v) (hk : k + 5 ≤ 2560) (v1 : Int32) (v2 : Int32) (v3 : Int32) : wpX_put (fun r u' => wpY_put (fun r' v' => r' = r ∧ i_Rel (k + 5) u' v') v v1 v2 v3) u v1 v2 v3 := by
  refine wk_el (P := fun u v => wpX_put (fun r u' => wpY_put (fun r' v' => r' = r ∧ i_Rel (k + 5) u' v') v v1 v2 v3) u v1 v2 v3) ?_ I
  intro A f_made f_listed f_leaving a_sort a_parentOf a_firstChild a_nextChild a_previousChild a_sizeOf a_letters a_placeNode a_placeOffset a_listing a_opening a_closing a_leavers f_count f_length a_isText a_parents a_sizes a_items c_placeNode c_placeOffset a_marks a_opens a_closes a_coming hI hX hY
  obtain ⟨F, Z, Q, R⟩ := hI
  have hI : fo_I A := ⟨F, Z, Q, R⟩
  have c24 := F.1
  have KX := hX.1
  have KY := hY.1
  have rel : i_Rel (k + 5) (f_made, f_listed, f_leaving, a_sort, a_parentOf, a_firstChild, a_nextChild, a_previousChild, a_sizeOf, a_letters, a_placeNode, a_placeOffset, a_listing, a_opening, a_closing, a_leavers) (f_count, f_length, a_isText, a_parents, a_sizes, a_items, c_placeNode, c_placeOffset, a_marks, a_opens, a_closes, a_coming) := ⟨A, hI, hX, hY⟩
  unfold wpX_put
  rcases wk_ix v1 F with z1 | ⟨p, hp, rfl⟩
  · refine wx_isElement0 KX.1 z1 ?_
    refine br_t rfl ?_
    unfold wpY_put
    refine wy_isNode0 KY.1 z1 ?_
    exact br_t rfl ⟨rfl, rel⟩
  · have p24 := fo_lt24 F hp
    refine wx_isElement KX c24 hp ?_
    rcases fo_ft (fo_t A p) with tp | tp
    · rw [tp]
      refine br_t rfl ?_
      unfold wpY_put
      refine wy_isNode1 KY.1 c24 hp ?_
      refine br_f (by decide) ⟨wk_in p24, ?_⟩
      rw [wk_cl p24, KY.2.1 p hp, tp]
      exact br_f (by decide) ⟨rfl, rel⟩
    · rw [tp]
      refine br_f (by decide) ?_
      have ypre : ∀ (C : Int32 → Prop), C 0 ∨ C 1 → True := fun _ _ => trivial
      rcases wk_ix v2 F with z2 | ⟨n, hn, rfl⟩
      · refine wx_isNode0 KX.1 z2 ?_
        refine br_t rfl ?_
        unfold wpY_put
        refine wy_isNode1 KY.1 c24 hp ?_
        refine br_f (by decide) ⟨wk_in p24, ?_⟩
        rw [wk_cl p24, KY.2.1 p hp, tp]
        refine br_t rfl ?_
        refine wy_isNode0 KY.1 z2 ?_
        exact br_t rfl ⟨rfl, rel⟩
      · have n24 := fo_lt24 F hn
        refine wx_isNode1 KX.1 c24 hn ?_
        refine br_f (by decide) ?_
        refine wx_isWithin KX.2.2.1 F n24 hp ?_
        by_cases e0 : n = 0
        · refine br_t (by rw [e0]; rfl) ?_
          unfold wpY_put
          refine wy_isNode1 KY.1 c24 hp ?_
          refine br_f (by decide) ⟨wk_in p24, ?_⟩
          rw [wk_cl p24, KY.2.1 p hp, tp]
          refine br_t rfl ?_
          refine wy_isNode1 KY.1 c24 hn ?_
          refine br_f (by decide) ?_
          exact br_t (by rw [e0]; rfl) ⟨rfl, rel⟩
        · refine br_f (nI_ne0 (by omega) (by omega)) ?_
          rcases fo_ft (fo_b A n p) with hb | hb
          · rw [hb]
            refine br_f (by decide) ?_
            unfold wpY_put
            refine wy_isNode1 KY.1 c24 hp ?_
            refine br_f (by decide) ⟨wk_in p24, ?_⟩
            rw [wk_cl p24, KY.2.1 p hp, tp]
            refine br_t rfl ?_
            refine wy_isNode1 KY.1 c24 hn ?_
            refine br_f (by decide) ?_
            refine br_f (nI_ne0 (by omega) (by omega)) ?_
            by_cases e1 : p = n
            · exact br_t (by rw [e1]) ⟨rfl, rel⟩
            · refine br_f (fun w => e1 ((nI_eq (by omega) (by omega)).mp w)) ?_
              refine wy_isBelow KY.2.2.1 F n24 hp e1 ?_
              rw [hb]
              exact br_f (by decide) ⟨rfl, rel⟩
          · have hna : ¬ fo_A A n p := fun w => by
              rw [(fo_b_i F n24 hp).mpr w] at hb
              exact absurd hb (by decide)
            have e1 : p ≠ n := fun e => hna (by rw [e]; exact fo_A_r A n)
            rw [hb]
            refine br_t rfl ⟨wk_in n24, ?_⟩
            rw [wk_cl n24, wk_cl p24, KX.2.2.1 n hn, KX.2.2.2.2.2.2 p p24]
            -- what Y asks up to here
            have yask : ∀ (post : Int32 → SY → Prop), ((wk_o (fo_p A n) = nI p → (vp_in (nI p) 24 ∧ wY_put_75 post (nI p) (nI n) v3 (nI (fo_s A p) - 1) f_count f_length a_isText a_parents a_sizes a_items c_placeNode c_placeOffset a_marks a_opens a_closes a_coming)) ∧ (¬ wk_o (fo_p A n) = nI p → (vp_in (nI p) 24 ∧ wY_put_75 post (nI p) (nI n) v3 (nI (fo_s A p)) f_count f_length a_isText a_parents a_sizes a_items c_placeNode c_placeOffset a_marks a_opens a_closes a_coming))) → wpY_put post (f_count, f_length, a_isText, a_parents, a_sizes, a_items, c_placeNode, c_placeOffset, a_marks, a_opens, a_closes, a_coming) (nI p) (nI n) v3 := by
              intro post h
              unfold wpY_put
              refine wy_isNode1 KY.1 c24 hp ?_
              refine br_f (by decide) ⟨wk_in p24, ?_⟩
              rw [wk_cl p24, KY.2.1 p hp, tp]
              refine br_t rfl ?_
              refine wy_isNode1 KY.1 c24 hn ?_
              refine br_f (by decide) ?_
              refine br_f (nI_ne0 (by omega) (by omega)) ?_
              refine br_f (fun w => e1 ((nI_eq (by omega) (by omega)).mp w)) ?_
              refine wy_isBelow KY.2.2.1 F n24 hp e1 ?_
              rw [hb]
              refine br_t rfl ⟨wk_in n24, ?_⟩
              rw [wk_cl n24, KY.2.2.1 n hn, KY.2.2.2 p hp]
              exact h
            have main : ∀ m, m < 24 → (∀ i, i ≤ m → (fo_p A n < 24 → i ≤ fo_s (fo_tk A n) p) ∧ (¬ fo_p A n < 24 → i ≤ fo_s A p)) → (∀ (post : Int32 → SY → Prop), wY_put_75 post (nI p) (nI n) v3 (nI m) f_count f_length a_isText a_parents a_sizes a_items c_placeNode c_placeOffset a_marks a_opens a_closes a_coming → wpY_put post (f_count, f_length, a_isText, a_parents, a_sizes, a_items, c_placeNode, c_placeOffset, a_marks, a_opens, a_closes, a_coming) (nI p) (nI n) v3) → wX_put_65 (fun r u' => wpY_put (fun r' v' => r' = r ∧ i_Rel (k + 5) u' v') (f_count, f_length, a_isText, a_parents, a_sizes, a_items, c_placeNode, c_placeOffset, a_marks, a_opens, a_closes, a_coming) (nI p) (nI n) v3) (nI p) (nI n) v3 (nI m) f_made f_listed f_leaving a_sort a_parentOf a_firstChild a_nextChild a_previousChild a_sizeOf a_letters a_placeNode a_placeOffset a_listing a_opening a_closing a_leavers := by
              intro m hm him yk
              unfold wX_put_65
              by_cases z3 : v3 < 0
              · refine br_t z3 (yk _ ?_)
                unfold wY_put_75
                exact br_t z3 ⟨rfl, rel⟩
              · obtain ⟨i, hi, rfl⟩ := nI_of z3
                refine br_f z3 ?_
                by_cases z4 : i ≤ m
                · refine br_t (nI_le z4 (by omega)) ⟨wk_in n24, ?_⟩
                  obtain ⟨h1, h2⟩ := him i z4
                  rw [wk_cl n24, KX.2.2.1 n hn]
                  by_cases hq : fo_p A n < 24
                  · refine br_f (fun w => wk_o_n.mp w hq) ?_
                    refine wx_takeOut hX F Z Q hn hq ?_
                    intro b1 b2 b3 b4 b5 b6 b7 hX2
                    have I2 := fo_I_tk hI hn hq
                    have q0 : fo_p (fo_tk A n) n = 24 := if_pos rfl
                    have hna2 : ¬ fo_A (fo_tk A n) n p := fun w => hna (by obtain ⟨j, hj⟩ := w; exact fo_A_tk j p hj)
                    refine wx_put94 hX2 I2.1 I2.2.1 I2.2.2.1 hn q0 hp tp (h1 hq) ?_
                    intro u' hX3
                    refine yk _ ?_
                    unfold wY_put_75
                    refine br_f z3 ?_
                    refine br_t (nI_le z4 (by omega)) ⟨wk_in n24, ?_⟩
                    rw [wk_cl n24, KY.2.2.1 n hn]
                    refine br_f (fun w => wk_o_n.mp w hq) ?_
                    refine wy_takeOut hY F Z Q hn hq ?_
                    intro b1 b2 b3 b4 b5 hY2
                    refine wy_put105 hY2 I2.1 I2.2.1 I2.2.2.1 hn q0 hp tp (h1 hq) (fun e => e1 e.symm) ?_
                    intro v' hY3
                    exact ⟨rfl, _, fo_I_pt I2 hn q0 hp tp hna2 (h1 hq), hX3, hY3⟩
                  · have q0 : fo_p A n = 24 := by have := F.2.1 n; omega
                    refine br_t (wk_o_n.mpr hq) ?_
                    refine wx_put94 hX F Z Q hn q0 hp tp (h2 hq) ?_
                    intro u' hX3
                    refine yk _ ?_
                    unfold wY_put_75
                    refine br_f z3 ?_
                    refine br_t (nI_le z4 (by omega)) ⟨wk_in n24, ?_⟩
                    rw [wk_cl n24, KY.2.2.1 n hn]
                    refine br_t (wk_o_n.mpr hq) ?_
                    refine wy_put105 hY F Z Q hn q0 hp tp (h2 hq) (fun e => e1 e.symm) ?_
                    intro v' hY3
                    exact ⟨rfl, _, fo_I_pt hI hn q0 hp tp hna (h2 hq), hX3, hY3⟩
                · refine br_f (nI_ge (by omega) (by omega)) (yk _ ?_)
                  unfold wY_put_75
                  exact br_f z3 (br_f (nI_ge (by omega) (by omega)) ⟨rfl, rel⟩)
            have s24 := fo_s_e F hp tp
            by_cases ep : fo_p A n = p
            · have hq : fo_p A n < 24 := by rw [ep]; exact p24
              have u3 := (fo_up F hn hq).2.2.1
              rw [ep] at u3
              obtain ⟨m, hm⟩ : ∃ m, fo_s A p = m + 1 := ⟨fo_s A p - 1, by omega⟩
              have ew : wk_o (fo_p A n) = nI p := by rw [ep, wk_o_lt p24]
              refine br_t ew ⟨wk_in p24, ?_⟩
              rw [hm, nI_pred]
              refine main m (by omega) (fun i hi => ⟨fun _ => ?_, fun w => absurd hq w⟩) fun post h => yask post (br_t ew ⟨wk_in p24, ?_⟩)
              · show i ≤ (if p = fo_p A n then fo_s A p - 1 else fo_s A p)
                rw [if_pos ep.symm]; omega
              · rw [hm, nI_pred]; exact h
            · have ew : ¬ wk_o (fo_p A n) = nI p := fun w => ep ((wk_o_e (F.2.1 n) p24).mp w)
              refine br_f ew ⟨wk_in p24, ?_⟩
              refine main (fo_s A p) s24 (fun i hi => ⟨fun _ => ?_, fun _ => hi⟩) fun post h => yask post (br_f ew ⟨wk_in p24, h⟩)
              show i ≤ (if p = fo_p A n then fo_s A p - 1 else fo_s A p)
              rw [if_neg (fun w => ep w.symm)]; exact hi
theorem i_vc_take {k : Nat} {u : SX} {v : SY} (I : i_Rel k u v) (hk : k + 5 ≤ 2560) (v1 : Int32) : wpX_take (fun r u' => wpY_take (fun r' v' => r' = r ∧ i_Rel (k + 5) u' v') v v1) u v1 := by
  refine wk_el (P := fun u v => wpX_take (fun r u' => wpY_take (fun r' v' => r' = r ∧ i_Rel (k + 5) u' v') v v1) u v1) ?_ I
  intro A f_made f_listed f_leaving a_sort a_parentOf a_firstChild a_nextChild a_previousChild a_sizeOf a_letters a_placeNode a_placeOffset a_listing a_opening a_closing a_leavers f_count f_length a_isText a_parents a_sizes a_items c_placeNode c_placeOffset a_marks a_opens a_closes a_coming hI hX hY
  obtain ⟨F, Z, Q, R⟩ := hI
  have hI : fo_I A := ⟨F, Z, Q, R⟩
  have c24 := F.1
  have KX := hX.1
  have KY := hY.1
  have rel : i_Rel (k + 5) (f_made, f_listed, f_leaving, a_sort, a_parentOf, a_firstChild, a_nextChild, a_previousChild, a_sizeOf, a_letters, a_placeNode, a_placeOffset, a_listing, a_opening, a_closing, a_leavers) (f_count, f_length, a_isText, a_parents, a_sizes, a_items, c_placeNode, c_placeOffset, a_marks, a_opens, a_closes, a_coming) := ⟨A, hI, hX, hY⟩
  unfold wpX_take
  rcases wk_ix v1 F with z1 | ⟨n, hn, rfl⟩
  · refine wx_isNode0 KX.1 z1 ?_
    refine br_t rfl ?_
    unfold wpY_take
    refine wy_isNode0 KY.1 z1 ?_
    exact br_t rfl ⟨rfl, rel⟩
  · have n24 := fo_lt24 F hn
    refine wx_isNode1 KX.1 c24 hn ?_
    refine br_f (by decide) ⟨wk_in n24, ?_⟩
    rw [wk_cl n24, KX.2.2.1 n hn]
    by_cases hq : fo_p A n < 24
    · refine br_t (wk_o_p.mpr hq) ?_
      refine wx_indexOf KX.2.2.2.2.2.1 F hn hq ?_
      refine wx_takeOut hX F Z Q hn hq ?_
      intro b1 b2 b3 b4 b5 b6 b7 hX2
      unfold wpY_take
      refine wy_isNode1 KY.1 c24 hn ?_
      refine br_f (by decide) ⟨wk_in n24, ?_⟩
      rw [wk_cl n24, KY.2.2.1 n hn]
      refine br_t (wk_o_p.mpr hq) ?_
      refine wy_takeOut hY F Z Q hn hq ?_
      intro b1 b2 b3 b4 b5 hY2
      exact ⟨rfl, _, fo_I_tk hI hn hq, hX2, hY2⟩
    · refine br_f (fun w => hq (wk_o_p.mp w)) ?_
      unfold wpY_take
      refine wy_isNode1 KY.1 c24 hn ?_
      refine br_f (by decide) ⟨wk_in n24, ?_⟩
      rw [wk_cl n24, KY.2.2.1 n hn]
      exact br_f (fun w => hq (wk_o_p.mp w)) ⟨rfl, rel⟩
end
section
/-! the plain questions -/
theorem i_vc_nodes {k : Nat} {u : SX} {v : SY} (I : i_Rel k u v) (hk : k + 5 ≤ 2560) : wpX_nodes (fun r => wpY_nodes (fun r' => r' = r ∧ i_Rel (k + 5) u v) v) u := by
  refine wk_el (P := fun u v => wpX_nodes (fun r => wpY_nodes (fun r' => r' = r ∧ i_Rel (k + 5) u v) v) u) ?_ I
  intro A f_made f_listed f_leaving a_sort a_parentOf a_firstChild a_nextChild a_previousChild a_sizeOf a_letters a_placeNode a_placeOffset a_listing a_opening a_closing a_leavers f_count f_length a_isText a_parents a_sizes a_items c_placeNode c_placeOffset a_marks a_opens a_closes a_coming hI hX hY
  unfold wpX_nodes wpY_nodes
  exact ⟨hY.1.1.trans hX.1.1.symm, A, hI, hX, hY⟩
theorem i_vc_kind {k : Nat} {u : SX} {v : SY} (I : i_Rel k u v) (hk : k + 5 ≤ 2560) (v1 : Int32) : wpX_kind (fun r => wpY_kind (fun r' => r' = r ∧ i_Rel (k + 5) u v) v v1) u v1 := by
  refine wk_el (P := fun u v => wpX_kind (fun r => wpY_kind (fun r' => r' = r ∧ i_Rel (k + 5) u v) v v1) u v1) ?_ I
  intro A f_made f_listed f_leaving a_sort a_parentOf a_firstChild a_nextChild a_previousChild a_sizeOf a_letters a_placeNode a_placeOffset a_listing a_opening a_closing a_leavers f_count f_length a_isText a_parents a_sizes a_items c_placeNode c_placeOffset a_marks a_opens a_closes a_coming hI hX hY
  have F := hI.1
  have c24 := F.1
  have KX := hX.1
  have KY := hY.1
  have rel : i_Rel (k + 5) (f_made, f_listed, f_leaving, a_sort, a_parentOf, a_firstChild, a_nextChild, a_previousChild, a_sizeOf, a_letters, a_placeNode, a_placeOffset, a_listing, a_opening, a_closing, a_leavers) (f_count, f_length, a_isText, a_parents, a_sizes, a_items, c_placeNode, c_placeOffset, a_marks, a_opens, a_closes, a_coming) := ⟨A, hI, hX, hY⟩
  unfold wpX_kind
  rcases wk_ix v1 F with z1 | ⟨n, hn, rfl⟩
  · refine wx_isNode0 KX.1 z1 ?_
    refine br_t rfl ?_
    unfold wpY_kind
    refine wy_isNode0 KY.1 z1 ?_
    exact br_t rfl ⟨rfl, rel⟩
  · have n24 := fo_lt24 F hn
    refine wx_isNode1 KX.1 c24 hn ?_
    refine br_f (by decide) ⟨wk_in n24, ?_⟩
    unfold wpY_kind
    refine wy_isNode1 KY.1 c24 hn ?_
    refine br_f (by decide) ⟨wk_in n24, ?_⟩
    rw [wk_cl n24, KX.2.1 n hn, KY.2.1 n hn]
    rcases fo_ft (fo_t A n) with t | t
    · rw [t]
      exact br_f (by decide) ⟨rfl, rel⟩
    · rw [t]
      exact br_t rfl ⟨rfl, rel⟩
theorem i_vc_size {k : Nat} {u : SX} {v : SY} (I : i_Rel k u v) (hk : k + 5 ≤ 2560) (v1 : Int32) : wpX_size (fun r => wpY_size (fun r' => r' = r ∧ i_Rel (k + 5) u v) v v1) u v1 := by
  refine wk_el (P := fun u v => wpX_size (fun r => wpY_size (fun r' => r' = r ∧ i_Rel (k + 5) u v) v v1) u v1) ?_ I
  intro A f_made f_listed f_leaving a_sort a_parentOf a_firstChild a_nextChild a_previousChild a_sizeOf a_letters a_placeNode a_placeOffset a_listing a_opening a_closing a_leavers f_count f_length a_isText a_parents a_sizes a_items c_placeNode c_placeOffset a_marks a_opens a_closes a_coming hI hX hY
  have F := hI.1
  have c24 := F.1
  have KX := hX.1
  have KY := hY.1
  have rel : i_Rel (k + 5) (f_made, f_listed, f_leaving, a_sort, a_parentOf, a_firstChild, a_nextChild, a_previousChild, a_sizeOf, a_letters, a_placeNode, a_placeOffset, a_listing, a_opening, a_closing, a_leavers) (f_count, f_length, a_isText, a_parents, a_sizes, a_items, c_placeNode, c_placeOffset, a_marks, a_opens, a_closes, a_coming) := ⟨A, hI, hX, hY⟩
  unfold wpX_size
  rcases wk_ix v1 F with z1 | ⟨n, hn, rfl⟩
  · refine wx_isNode0 KX.1 z1 ?_
    refine br_t rfl ?_
    unfold wpY_size
    refine wy_isNode0 KY.1 z1 ?_
    exact br_t rfl ⟨rfl, rel⟩
  · have n24 := fo_lt24 F hn
    refine wx_isNode1 KX.1 c24 hn ?_
    refine br_f (by decide) ⟨wk_in n24, ?_⟩
    unfold wpY_size
    refine wy_isNode1 KY.1 c24 hn ?_
    refine br_f (by decide) ⟨wk_in n24, ?_⟩
    rw [wk_cl n24, KX.2.2.2.2.2.2 n n24, KY.2.2.2 n hn]
    exact ⟨rfl, rel⟩
theorem i_vc_parent {k : Nat} {u : SX} {v : SY} (I : i_Rel k u v) (hk : k + 5 ≤ 2560) (v1 : Int32) : wpX_parent (fun r => wpY_parent (fun r' => r' = r ∧ i_Rel (k + 5) u v) v v1) u v1 := by
  refine wk_el (P := fun u v => wpX_parent (fun r => wpY_parent (fun r' => r' = r ∧ i_Rel (k + 5) u v) v v1) u v1) ?_ I
  intro A f_made f_listed f_leaving a_sort a_parentOf a_firstChild a_nextChild a_previousChild a_sizeOf a_letters a_placeNode a_placeOffset a_listing a_opening a_closing a_leavers f_count f_length a_isText a_parents a_sizes a_items c_placeNode c_placeOffset a_marks a_opens a_closes a_coming hI hX hY
  have F := hI.1
  have c24 := F.1
  have KX := hX.1
  have KY := hY.1
  have rel : i_Rel (k + 5) (f_made, f_listed, f_leaving, a_sort, a_parentOf, a_firstChild, a_nextChild, a_previousChild, a_sizeOf, a_letters, a_placeNode, a_placeOffset, a_listing, a_opening, a_closing, a_leavers) (f_count, f_length, a_isText, a_parents, a_sizes, a_items, c_placeNode, c_placeOffset, a_marks, a_opens, a_closes, a_coming) := ⟨A, hI, hX, hY⟩
  unfold wpX_parent
  rcases wk_ix v1 F with z1 | ⟨n, hn, rfl⟩
  · refine wx_isNode0 KX.1 z1 ?_
    refine br_t rfl ?_
    unfold wpY_parent
    refine wy_isNode0 KY.1 z1 ?_
    exact br_t rfl ⟨rfl, rel⟩
  · have n24 := fo_lt24 F hn
    refine wx_isNode1 KX.1 c24 hn ?_
    refine br_f (by decide) ⟨wk_in n24, ?_⟩
    rw [wk_cl n24, KX.2.2.1 n hn]
    by_cases hq : fo_p A n < 24
    · refine br_t (wk_o_p.mpr hq) ⟨wk_in n24, ?_⟩
      unfold wpY_parent
      refine wy_isNode1 KY.1 c24 hn ?_
      refine br_f (by decide) ⟨wk_in n24, ?_⟩
      rw [wk_cl n24, KY.2.2.1 n hn]
      exact br_t (wk_o_p.mpr hq) ⟨wk_in n24, rfl, rel⟩
    · refine br_f (fun w => hq (wk_o_p.mp w)) ?_
      unfold wpY_parent
      refine wy_isNode1 KY.1 c24 hn ?_
      refine br_f (by decide) ⟨wk_in n24, ?_⟩
      rw [wk_cl n24, KY.2.2.1 n hn]
      exact br_f (fun w => hq (wk_o_p.mp w)) ⟨rfl, rel⟩
theorem wk_12 (p i : Nat) : (12 : Int32) * nI p + nI i = nI (12 * p + i) := by
  have : (12 : Int32) * nI p = nI (12 * p) := pk_mul 12 p
  rw [this, nI_add]
theorem i_vc_item {k : Nat} {u : SX} {v : SY} (I : i_Rel k u v) (hk : k + 5 ≤ 2560) (v1 : Int32) (v2 : Int32) : wpX_item (fun r => wpY_item (fun r' => r' = r ∧ i_Rel (k + 5) u v) v v1 v2) u v1 v2 := by
  refine wk_el (P := fun u v => wpX_item (fun r => wpY_item (fun r' => r' = r ∧ i_Rel (k + 5) u v) v v1 v2) u v1 v2) ?_ I
  intro A f_made f_listed f_leaving a_sort a_parentOf a_firstChild a_nextChild a_previousChild a_sizeOf a_letters a_placeNode a_placeOffset a_listing a_opening a_closing a_leavers f_count f_length a_isText a_parents a_sizes a_items c_placeNode c_placeOffset a_marks a_opens a_closes a_coming hI hX hY
  have F := hI.1
  have Z := hI.2.1
  have c24 := F.1
  have KX := hX.1
  have KY := hY.1
  have rel : i_Rel (k + 5) (f_made, f_listed, f_leaving, a_sort, a_parentOf, a_firstChild, a_nextChild, a_previousChild, a_sizeOf, a_letters, a_placeNode, a_placeOffset, a_listing, a_opening, a_closing, a_leavers) (f_count, f_length, a_isText, a_parents, a_sizes, a_items, c_placeNode, c_placeOffset, a_marks, a_opens, a_closes, a_coming) := ⟨A, hI, hX, hY⟩
  unfold wpX_item
  rcases wk_ix v1 F with z1 | ⟨n, hn, rfl⟩
  · refine wx_isNode0 KX.1 z1 ?_
    refine br_t rfl ?_
    unfold wpY_item
    refine wy_isNode0 KY.1 z1 ?_
    exact br_t rfl ⟨rfl, rel⟩
  · have n24 := fo_lt24 F hn
    have s24 := fo_s_a F Z n
    refine wx_isNode1 KX.1 c24 hn ?_
    refine br_f (by decide) ?_
    by_cases z2 : v2 < 0
    · refine br_t z2 ?_
      unfold wpY_item
      refine wy_isNode1 KY.1 c24 hn ?_
      exact br_f (by decide) (br_t z2 ⟨rfl, rel⟩)
    · obtain ⟨i, hi, rfl⟩ := nI_of z2
      refine br_f z2 ⟨wk_in n24, ?_⟩
      rw [wk_cl n24, KX.2.2.2.2.2.2 n n24, KX.2.1 n hn]
      by_cases z3 : i < fo_s A n
      · have yy : ∀ r : Int32, r = nI (if fo_t A n = true then fo_l A n i else fo_k A n i) → wpY_item (fun r' => r' = r ∧ i_Rel (k + 5) (f_made, f_listed, f_leaving, a_sort, a_parentOf, a_firstChild, a_nextChild, a_previousChild, a_sizeOf, a_letters, a_placeNode, a_placeOffset, a_listing, a_opening, a_closing, a_leavers) (f_count, f_length, a_isText, a_parents, a_sizes, a_items, c_placeNode, c_placeOffset, a_marks, a_opens, a_closes, a_coming)) (f_count, f_length, a_isText, a_parents, a_sizes, a_items, c_placeNode, c_placeOffset, a_marks, a_opens, a_closes, a_coming) (nI n) (nI i) := by
          intro r er
          unfold wpY_item
          refine wy_isNode1 KY.1 c24 hn ?_
          refine br_f (by decide) (br_f z2 ⟨wk_in n24, ?_⟩)
          rw [wk_cl n24, KY.2.2.2 n hn, wk_24, nI_clamp (show 24 * n + i < 2 ^ 31 by omega)]
          exact br_f (nI_ge z3 (by omega)) ⟨vp_in_nI (by omega) (by decide), by rw [hY.2.1 n hn i z3, er], rel⟩
        refine br_t (nI_lt z3 (by omega)) ⟨wk_in n24, ?_⟩
        rcases fo_ft (fo_t A n) with t | t
        · have s12 := fo_s_t Z hn t
          rw [t, wk_12, nI_clamp (show 12 * n + i < 2 ^ 31 by omega)]
          refine br_t rfl ⟨vp_in_nI (by omega) (by decide), yy _ ?_⟩
          rw [if_pos t]
          exact hX.2.1 n hn t i z3
        · rw [t]
          refine br_f (by decide) ?_
          refine wx_childAt KX F hn t (by omega) (yy _ ?_)
          rw [if_pos z3, wk_o_lt (fo_lt24 F (fo_dn F hn t z3).1), if_neg (by rw [t]; exact Bool.false_ne_true)]
      · refine br_f (nI_nlt (by omega) (by omega)) ?_
        unfold wpY_item
        refine wy_isNode1 KY.1 c24 hn ?_
        refine br_f (by decide) (br_f z2 ⟨wk_in n24, ?_⟩)
        rw [wk_cl n24, KY.2.2.2 n hn]
        exact br_t (nI_le (by omega) (by omega)) ⟨rfl, rel⟩
theorem wk_2r (r w : Nat) : (2 : Int32) * nI r + nI w = nI (2 * r + w) := by
  have : (2 : Int32) * nI r = nI (2 * r) := pk_mul 2 r
  rw [this, nI_add]
theorem wk_wx (x : Int32) : x = nI 0 ∨ x = nI 1 ∨ (x ≠ 0 ∧ x ≠ 1) := by
  by_cases h : x = 0
  · exact Or.inl h
  · by_cases h1 : x = 1
    · exact Or.inr (Or.inl h1)
    · exact Or.inr (Or.inr ⟨h, h1⟩)
section
variable {f_count f_length : Int32} {a_isText a_parents a_sizes a_items a_placeNode a_placeOffset a_marks a_opens a_closes a_coming : Nat → Int32} {post : Int32 → Prop}
theorem wx_isWhich1 {w : Nat} (hw : w < 2) (h : post 1) : wpX_isWhich post (nI w) := by
  rcases Nat.lt_or_ge w 1 with z | z
  · rw [show w = 0 by omega]; exact br_t rfl h
  · rw [show w = 1 by omega]; exact br_f (by decide) (br_t rfl h)
theorem wx_isWhich0 {x : Int32} (hx : x ≠ 0 ∧ x ≠ 1) (h : post 0) : wpX_isWhich post x := br_f hx.1 (br_f hx.2 h)
theorem wy_isPlace1 {r w : Nat} (hr : r < 4) (hw : w < 2) (h : post 1) : wpY_isPlace post (f_count, f_length, a_isText, a_parents, a_sizes, a_items, a_placeNode, a_placeOffset, a_marks, a_opens, a_closes, a_coming) (nI r) (nI w) := by
  unfold wpY_isPlace
  refine wy_isRange1 hr ?_
  refine br_f (by decide) ?_
  rcases Nat.lt_or_ge w 1 with z | z
  · rw [show w = 0 by omega]; exact br_t rfl h
  · rw [show w = 1 by omega]; exact br_f (by decide) (br_t rfl h)
theorem wy_isPlace0r {x y : Int32} (hx : x < 0 ∨ nI 4 ≤ x) (h : post 0) : wpY_isPlace post (f_count, f_length, a_isText, a_parents, a_sizes, a_items, a_placeNode, a_placeOffset, a_marks, a_opens, a_closes, a_coming) x y := by
  unfold wpY_isPlace
  refine wy_isRange0 hx ?_
  exact br_t rfl h
theorem wy_isPlace0w {r : Nat} {y : Int32} (hr : r < 4) (hy : y ≠ 0 ∧ y ≠ 1) (h : post 0) : wpY_isPlace post (f_count, f_length, a_isText, a_parents, a_sizes, a_items, a_placeNode, a_placeOffset, a_marks, a_opens, a_closes, a_coming) (nI r) y := by
  unfold wpY_isPlace
  refine wy_isRange1 hr ?_
  exact br_f (by decide) (br_f hy.1 (br_f hy.2 h))
end
theorem wk_wz (x : Int32) : (x ≠ 0 ∧ x ≠ 1) ∨ ∃ w, w < 2 ∧ x = nI w := by
  rcases wk_wx x with h | h | h
  · exact Or.inr ⟨0, by omega, h⟩
  · exact Or.inr ⟨1, by omega, h⟩
  · exact Or.inl h
theorem i_vc_nodeOf {k : Nat} {u : SX} {v : SY} (I : i_Rel k u v) (hk : k + 5 ≤ 2560) (v1 : Int32) (v2 : Int32) : wpX_nodeOf (fun r => wpY_nodeOf (fun r' => r' = r ∧ i_Rel (k + 5) u v) v v1 v2) u v1 v2 := by
  refine wk_el (P := fun u v => wpX_nodeOf (fun r => wpY_nodeOf (fun r' => r' = r ∧ i_Rel (k + 5) u v) v v1 v2) u v1 v2) ?_ I
  intro A f_made f_listed f_leaving a_sort a_parentOf a_firstChild a_nextChild a_previousChild a_sizeOf a_letters a_placeNode a_placeOffset a_listing a_opening a_closing a_leavers f_count f_length a_isText a_parents a_sizes a_items c_placeNode c_placeOffset a_marks a_opens a_closes a_coming hI hX hY
  have rel : i_Rel (k + 5) (f_made, f_listed, f_leaving, a_sort, a_parentOf, a_firstChild, a_nextChild, a_previousChild, a_sizeOf, a_letters, a_placeNode, a_placeOffset, a_listing, a_opening, a_closing, a_leavers) (f_count, f_length, a_isText, a_parents, a_sizes, a_items, c_placeNode, c_placeOffset, a_marks, a_opens, a_closes, a_coming) := ⟨A, hI, hX, hY⟩
  unfold wpX_nodeOf
  rcases wk_rx v1 with z1 | ⟨r, hr, rfl⟩
  · refine wx_isRange0 z1 (br_t rfl ?_)
    unfold wpY_nodeOf
    refine wy_isPlace0r z1 ?_
    exact br_t rfl ⟨rfl, rel⟩
  · refine wx_isRange1 hr (br_f (by decide) ?_)
    rcases wk_wz v2 with z2 | ⟨w, hw, rfl⟩
    · refine wx_isWhich0 z2 (br_t rfl ?_)
      unfold wpY_nodeOf
      refine wy_isPlace0w hr z2 ?_
      exact br_t rfl ⟨rfl, rel⟩
    · refine wx_isWhich1 hw (br_f (by decide) ?_)
      rw [wk_2r]
      refine ⟨wk_i8 (by omega), ?_⟩
      unfold wpY_nodeOf
      refine wy_isPlace1 hr hw ?_
      refine br_f (by decide) ?_
      rw [wk_2r]
      refine ⟨wk_i8 (by omega), ?_⟩
      rw [wk_c8 (show 2 * r + w < 8 by omega), (hX.2.2 _ (show 2 * r + w < 8 by omega)).1, (hY.2.2 _ (show 2 * r + w < 8 by omega)).1]
      exact ⟨rfl, rel⟩
theorem i_vc_offsetOf {k : Nat} {u : SX} {v : SY} (I : i_Rel k u v) (hk : k + 5 ≤ 2560) (v1 : Int32) (v2 : Int32) : wpX_offsetOf (fun r => wpY_offsetOf (fun r' => r' = r ∧ i_Rel (k + 5) u v) v v1 v2) u v1 v2 := by
  refine wk_el (P := fun u v => wpX_offsetOf (fun r => wpY_offsetOf (fun r' => r' = r ∧ i_Rel (k + 5) u v) v v1 v2) u v1 v2) ?_ I
  intro A f_made f_listed f_leaving a_sort a_parentOf a_firstChild a_nextChild a_previousChild a_sizeOf a_letters a_placeNode a_placeOffset a_listing a_opening a_closing a_leavers f_count f_length a_isText a_parents a_sizes a_items c_placeNode c_placeOffset a_marks a_opens a_closes a_coming hI hX hY
  have rel : i_Rel (k + 5) (f_made, f_listed, f_leaving, a_sort, a_parentOf, a_firstChild, a_nextChild, a_previousChild, a_sizeOf, a_letters, a_placeNode, a_placeOffset, a_listing, a_opening, a_closing, a_leavers) (f_count, f_length, a_isText, a_parents, a_sizes, a_items, c_placeNode, c_placeOffset, a_marks, a_opens, a_closes, a_coming) := ⟨A, hI, hX, hY⟩
  unfold wpX_offsetOf
  rcases wk_rx v1 with z1 | ⟨r, hr, rfl⟩
  · refine wx_isRange0 z1 (br_t rfl ?_)
    unfold wpY_offsetOf
    refine wy_isPlace0r z1 ?_
    exact br_t rfl ⟨rfl, rel⟩
  · refine wx_isRange1 hr (br_f (by decide) ?_)
    rcases wk_wz v2 with z2 | ⟨w, hw, rfl⟩
    · refine wx_isWhich0 z2 (br_t rfl ?_)
      unfold wpY_offsetOf
      refine wy_isPlace0w hr z2 ?_
      exact br_t rfl ⟨rfl, rel⟩
    · refine wx_isWhich1 hw (br_f (by decide) ?_)
      rw [wk_2r]
      refine ⟨wk_i8 (by omega), ?_⟩
      unfold wpY_offsetOf
      refine wy_isPlace1 hr hw ?_
      refine br_f (by decide) ?_
      rw [wk_2r]
      refine ⟨wk_i8 (by omega), ?_⟩
      rw [wk_c8 (show 2 * r + w < 8 by omega), (hX.2.2 _ (show 2 * r + w < 8 by omega)).2, (hY.2.2 _ (show 2 * r + w < 8 by omega)).2]
      exact ⟨rfl, rel⟩
end
section
/-! replace -/
theorem wk_le_l {x : Int32} {b : Int32} {n : Nat} (hb : b = nI n) (hn : n < 2 ^ 31) (h : ¬ b ≤ x) (h0 : ¬ x < 0) : ∃ j, j < n ∧ x = nI j := by
  obtain ⟨j, hj, rfl⟩ := nI_of h0
  rw [hb, nI_leI hn hj] at h
  exact ⟨j, by omega, rfl⟩
theorem wk_dig (v : Int32) (h1 : ¬ v < -1) (h2 : v ≤ 9999) : ∃ k N, k ≤ 4 ∧ N < 2 ^ 31 ∧ ((0 ≤ v ∧ v = nI N) ∨ (¬ 0 ≤ v ∧ k = 0 ∧ N = 0)) ∧ (∀ post : Int32 → Prop, post (nI k) → wpX_digitsOf post v) ∧
    (∀ (post : Int32 → SY → Prop) (x1 x2 z0 : Int32) (f_count f_length : Int32) (a_isText a_parents a_sizes a_items a_placeNode a_placeOffset a_marks a_opens a_closes a_coming : Nat → Int32), wY_replace_118 post x1 x2 v z0 (nI k) f_count f_length a_isText a_parents a_sizes a_items a_placeNode a_placeOffset a_marks a_opens a_closes a_coming → wY_replace_72 post x1 x2 v z0 f_count f_length a_isText a_parents a_sizes a_items a_placeNode a_placeOffset a_marks a_opens a_closes a_coming) := by
  by_cases a : 0 ≤ v
  · obtain ⟨N, hN, e⟩ := nI_of (x := v) (fun z => by
      rw [Int32.lt_iff_toInt_lt] at z
      rw [Int32.le_iff_toInt_le] at a
      omega)
    by_cases b : 10 ≤ v
    · by_cases c : 100 ≤ v
      · by_cases d : 1000 ≤ v
        · exact ⟨4, N, by omega, hN, Or.inl ⟨a, e⟩, fun post h => br_t a (br_t b (br_t c (br_t d h))), fun post x1 x2 z0 _ _ _ _ _ _ _ _ _ _ _ _ h => br_t a (br_t b (br_t c (br_t d h)))⟩
        · exact ⟨3, N, by omega, hN, Or.inl ⟨a, e⟩, fun post h => br_t a (br_t b (br_t c (br_f d h))), fun post x1 x2 z0 _ _ _ _ _ _ _ _ _ _ _ _ h => br_t a (br_t b (br_t c (br_f d h)))⟩
      · exact ⟨2, N, by omega, hN, Or.inl ⟨a, e⟩, fun post h => br_t a (br_t b (br_f c h)), fun post x1 x2 z0 _ _ _ _ _ _ _ _ _ _ _ _ h => br_t a (br_t b (br_f c h))⟩
    · exact ⟨1, N, by omega, hN, Or.inl ⟨a, e⟩, fun post h => br_t a (br_f b h), fun post x1 x2 z0 _ _ _ _ _ _ _ _ _ _ _ _ h => br_t a (br_f b h)⟩
  · exact ⟨0, 0, by omega, by omega, Or.inr ⟨a, rfl, rfl⟩, fun post h => br_f a h, fun post x1 x2 z0 _ _ _ _ _ _ _ _ _ _ _ _ h => br_f a h⟩
section
variable {A : fo_S} {f_count f_length : Int32} {a_isText a_parents a_sizes a_items a_placeNode a_placeOffset a_marks a_opens a_closes a_coming : Nat → Int32} {post : Int32 → SY → Prop}
theorem wy_replace160 {t a k N : Nat} {S r : Int32} {f : Nat → Int32} (ht : t < 24) (ha : a + k ≤ 12) (hs : a_sizes t = r) (hN : N < 2 ^ 31)
    (h : ∀ g, (∀ m, (m < 24 * t + a ∨ 24 * t + a + k ≤ m) → g m = f m) → (∀ j, j < k → g (24 * t + a + j) = nI (wk_dg N k j)) → post r (f_count, f_length, a_isText, a_parents, a_sizes, g, a_placeNode, a_placeOffset, a_marks, a_opens, a_closes, a_coming)) :
    ∀ (d n : Nat) (x : Int32) (g : Nat → Int32), (0 < d → x = nI (N / 10 ^ (k - d))) → d ≤ k → d < n → (∀ m, (m < 24 * t + a + d ∨ 24 * t + a + k ≤ m) → g m = f m) → (∀ j, d ≤ j → j < k → g (24 * t + a + j) = nI (wk_dg N k j)) →
      wY_replace_160 post (nI t) (nI a) f_count f_length n x (nI d - 1) a_isText a_parents a_sizes g a_placeNode a_placeOffset a_marks a_opens a_closes a_coming := by
  intro d
  induction d with
  | zero =>
    intro n x g _ hd hn h1 h2
    obtain ⟨n, rfl⟩ : ∃ m, n = m + 1 := ⟨n - 1, by omega⟩
    refine br_t (by decide) ⟨wk_in ht, ?_⟩
    rw [wk_cl ht, hs]
    exact h g (fun m hm => h1 m (by omega)) fun j hj => h2 j (by omega) hj
  | succ d ih =>
    intro n x g hx hd hn h1 h2
    obtain ⟨n, rfl⟩ : ∃ m, n = m + 1 := ⟨n - 1, by omega⟩
    rw [hx (by omega)]
    have hq : N / 10 ^ (k - (d + 1)) < 2 ^ 31 := Nat.lt_of_le_of_lt (Nat.div_le_self _ _) hN
    have e10 : nI (N / 10 ^ (k - (d + 1))) - nI (N / 10 ^ (k - (d + 1))) / 10 * 10 = nI (N / 10 ^ (k - (d + 1)) % 10) := pk_rem (d := 10) hq (by omega) (by omega)
    have ed : nI (N / 10 ^ (k - (d + 1))) / 10 = nI (N / 10 ^ (k - d)) := by
      have : nI (N / 10 ^ (k - (d + 1))) / nI 10 = nI (N / 10 ^ (k - (d + 1)) / 10) := pk_div hq (by omega) (by omega)
      refine this.trans ?_
      rw [Nat.div_div_eq_div_mul, ← Nat.pow_succ, show (k - (d + 1)).succ = k - d by omega]
    rw [nI_pred]
    refine br_f (nI_pos (by omega)) ⟨by decide, ?_⟩
    rw [wk_24, nI_add, e10, ed]
    refine ⟨vp_in_nI (by omega) (by decide), ?_⟩
    rw [nI_clamp (show 24 * t + a + d < 2 ^ 31 by omega)]
    refine nm_e ⟨by decide, nm_e (nm_r (e' := nI d - 1) (by grind) (ih n _ _ (fun _ => rfl) (by omega) (by omega) (fun m hm => ?_) fun j j1 j2 => ?_))⟩
    · rw [pk_un (by omega)]; exact h1 m (by omega)
    · by_cases e : j = d
      · rw [e, pk_us]
        unfold wk_dg
        rw [show k - 1 - d = k - (d + 1) by omega]
      · rw [pk_un (by omega)]; exact h2 j (by omega) j2
end
theorem i_vc_replace {k : Nat} {u : SX} {v : SY} (I : i_Rel k u v) (hk : k + 5 ≤ 2560) (v1 : Int32) (v2 : Int32) (v3 : Int32) (v4 : Int32) : wpX_replace (fun r u' => wpY_replace (fun r' v' => r' = r ∧ i_Rel (k + 5) u' v') v v1 v2 v3 v4) u v1 v2 v3 v4 := by
  refine wk_el (P := fun u v => wpX_replace (fun r u' => wpY_replace (fun r' v' => r' = r ∧ i_Rel (k + 5) u' v') v v1 v2 v3 v4) u v1 v2 v3 v4) ?_ I
  intro A f_made f_listed f_leaving a_sort a_parentOf a_firstChild a_nextChild a_previousChild a_sizeOf a_letters a_placeNode a_placeOffset a_listing a_opening a_closing a_leavers f_count f_length a_isText a_parents a_sizes a_items c_placeNode c_placeOffset a_marks a_opens a_closes a_coming hI hX hY
  obtain ⟨F, Z, Q, R⟩ := hI
  have hI : fo_I A := ⟨F, Z, Q, R⟩
  have c24 := F.1
  have KX := hX.1
  have KY := hY.1
  have rel : i_Rel (k + 5) (f_made, f_listed, f_leaving, a_sort, a_parentOf, a_firstChild, a_nextChild, a_previousChild, a_sizeOf, a_letters, a_placeNode, a_placeOffset, a_listing, a_opening, a_closing, a_leavers) (f_count, f_length, a_isText, a_parents, a_sizes, a_items, c_placeNode, c_placeOffset, a_marks, a_opens, a_closes, a_coming) := ⟨A, hI, hX, hY⟩
  unfold wpX_replace
  rcases wk_ix v1 F with z1 | ⟨t, ht, rfl⟩
  · refine wx_isText0 KX.1 z1 ?_
    refine br_t rfl ?_
    unfold wpY_replace
    refine wy_isText0 KY.1 z1 ?_
    exact br_t rfl ⟨rfl, rel⟩
  · have t24 := fo_lt24 F ht
    refine wx_isText KX c24 ht ?_
    rcases fo_ft (fo_t A t) with tt | tt
    · have s12 := fo_s_t Z ht tt
      rw [tt]
      refine br_f (by decide) ⟨wk_in t24, nm_r (e' := nI (fo_s A t)) (by rw [wk_cl t24, KX.2.2.2.2.2.2 t t24]) ?_⟩
      -- what Y asks first
      have ytop : ∀ (post : Int32 → SY → Prop), ((v2 < 0 → post (-2) (f_count, f_length, a_isText, a_parents, a_sizes, a_items, c_placeNode, c_placeOffset, a_marks, a_opens, a_closes, a_coming)) ∧ (¬ v2 < 0 → (vp_in (nI t) 24 ∧ (((nI (fo_s A t) < v2 → post (-2) (f_count, f_length, a_isText, a_parents, a_sizes, a_items, c_placeNode, c_placeOffset, a_marks, a_opens, a_closes, a_coming)) ∧ (¬ nI (fo_s A t) < v2 → ((0 ≤ v3 → ((v4 < (-1) → post (-3) (f_count, f_length, a_isText, a_parents, a_sizes, a_items, c_placeNode, c_placeOffset, a_marks, a_opens, a_closes, a_coming)) ∧ (¬ v4 < (-1) → ((v4 ≤ 9999 → (vp_in (nI t) 24 ∧ ((v3 ≤ (nI (fo_s A t) - v2) → wY_replace_72 post (nI t) v2 v4 v3 f_count f_length a_isText a_parents a_sizes a_items c_placeNode c_placeOffset a_marks a_opens a_closes a_coming) ∧ (¬ v3 ≤ (nI (fo_s A t) - v2) → (vp_in (nI t) 24 ∧ wY_replace_72 post (nI t) v2 v4 (nI (fo_s A t) - v2) f_count f_length a_isText a_parents a_sizes a_items c_placeNode c_placeOffset a_marks a_opens a_closes a_coming))))) ∧ (¬ v4 ≤ 9999 → post (-3) (f_count, f_length, a_isText, a_parents, a_sizes, a_items, c_placeNode, c_placeOffset, a_marks, a_opens, a_closes, a_coming)))))) ∧ (¬ 0 ≤ v3 → post (-2) (f_count, f_length, a_isText, a_parents, a_sizes, a_items, c_placeNode, c_placeOffset, a_marks, a_opens, a_closes, a_coming))))))))) → wpY_replace post (f_count, f_length, a_isText, a_parents, a_sizes, a_items, c_placeNode, c_placeOffset, a_marks, a_opens, a_closes, a_coming) (nI t) v2 v3 v4 := by
        intro post h
        unfold wpY_replace
        refine wy_isText KY c24 ht ?_
        rw [tt]
        refine br_f (by decide) ?_
        rw [wk_cl t24, KY.2.2.2 t ht]
        exact h
      by_cases y2 : v2 < 0
      · exact br_t y2 (ytop _ (br_t y2 ⟨rfl, rel⟩))
      · obtain ⟨a, ha, rfl⟩ := nI_of y2
        refine br_f y2 ?_
        by_cases ya : fo_s A t < a
        · exact br_t (nI_lt ya (by omega)) (ytop _ (br_f y2 ⟨wk_in t24, br_t (nI_lt ya (by omega)) ⟨rfl, rel⟩⟩))
        · have ya' : ¬ nI (fo_s A t) < nI a := nI_nlt (by omega) (by omega)
          refine br_f ya' ?_
          by_cases y3 : 0 ≤ v3
          · refine br_t y3 ?_
            by_cases y4 : v4 < (-1)
            · exact br_t y4 (ytop _ (br_f y2 ⟨wk_in t24, br_f ya' (br_t y3 (br_t y4 ⟨rfl, rel⟩))⟩))
            · refine br_f y4 ?_
              by_cases y5 : v4 ≤ 9999
              · refine br_t y5 ?_
                obtain ⟨K, N, hK, hN, hv, dX, dY⟩ := wk_dig v4 y4 y5
                obtain ⟨c0, hc0, rfl⟩ := nI_of (x := v3) (fun z => by
                  rw [Int32.lt_iff_toInt_lt] at z
                  rw [Int32.le_iff_toInt_le] at y3
                  omega)
                have eS : nI (fo_s A t) - nI a = nI (fo_s A t - a) := pk_sub (by omega)
                rw [eS] at ytop
                rw [eS]
                have main : ∀ c, a + c ≤ fo_s A t → (∀ (post : Int32 → SY → Prop), wY_replace_72 post (nI t) (nI a) v4 (nI c) f_count f_length a_isText a_parents a_sizes a_items c_placeNode c_placeOffset a_marks a_opens a_closes a_coming → wpY_replace post (f_count, f_length, a_isText, a_parents, a_sizes, a_items, c_placeNode, c_placeOffset, a_marks, a_opens, a_closes, a_coming) (nI t) (nI a) (nI c0) v4) →
                    wX_replace_68 (fun r u' => wpY_replace (fun r' v' => r' = r ∧ i_Rel (k + 5) u' v') (f_count, f_length, a_isText, a_parents, a_sizes, a_items, c_placeNode, c_placeOffset, a_marks, a_opens, a_closes, a_coming) (nI t) (nI a) (nI c0) v4) (nI t) (nI a) v4 (nI (fo_s A t)) (nI c) f_made f_listed f_leaving a_sort a_parentOf a_firstChild a_nextChild a_previousChild a_sizeOf a_letters a_placeNode a_placeOffset a_listing a_opening a_closing a_leavers := by
                  intro c hc yk
                  unfold wX_replace_68
                  refine dX _ ?_
                  have eL : nI (fo_s A t) - nI c + nI K = nI (fo_s A t - c + K) := by rw [pk_sub (by omega), nI_add]
                  rw [eL]
                  have yk2 : ∀ (post : Int32 → SY → Prop), wY_replace_118 post (nI t) (nI a) v4 (nI c) (nI K) f_count f_length a_isText a_parents a_sizes a_items c_placeNode c_placeOffset a_marks a_opens a_closes a_coming → wpY_replace post (f_count, f_length, a_isText, a_parents, a_sizes, a_items, c_placeNode, c_placeOffset, a_marks, a_opens, a_closes, a_coming) (nI t) (nI a) (nI c0) v4 := fun post h => yk post (dY _ _ _ _ _ _ _ _ _ _ _ _ _ _ _ _ h)
                  by_cases y6 : fo_s A t - c + K ≤ 12
                  · refine br_t (nI_le (b := 12) y6 (by decide)) ?_
                    have xx : wX_replace_111 (fun r u' => wpY_replace (fun r' v' => r' = r ∧ i_Rel (k + 5) u' v') (f_count, f_length, a_isText, a_parents, a_sizes, a_items, c_placeNode, c_placeOffset, a_marks, a_opens, a_closes, a_coming) (nI t) (nI a) (nI c0) v4) (nI t) (nI N) (nI K) (nI c) (nI a) (nI t) f_made f_listed f_leaving a_sort a_parentOf a_firstChild a_nextChild a_previousChild a_sizeOf a_letters a_placeNode a_placeOffset a_listing a_opening a_closing a_leavers := by
                      unfold wX_replace_111
                      refine wx_exchange hX F Z Q ht tt hc (by omega) hN ?_
                      intro b1 b2 b3 hX2
                      refine ⟨wk_in t24, ?_⟩
                      rw [wk_cl t24, hX2.1.2.2.2.2.2.2 t t24]
                      refine yk2 _ ?_
                      unfold wY_replace_118
                      refine ⟨wk_in t24, ?_⟩
                      rw [wk_cl t24, KY.2.2.2 t ht, eL]
                      refine br_t (nI_le (b := 12) y6 (by decide)) ?_
                      refine wy_exchange (dg := wk_dg N K) KY hY.2.2 F Z Q ht tt hc (by omega) ?_
                      intro g bo hg hP
                      refine nm_e ⟨K + 1, ?_⟩
                      refine wy_replace160 (S := 0) (N := N) t24 (by omega) pk_us hN (fun g2 h1 h2 => ?_) K (K + 1) v4 g (fun hk0 => ?_) (Nat.le_refl _) (by omega) (fun _ _ => rfl) fun j j1 j2 => absurd j2 (by omega)
                      · refine ⟨?_, _, fo_I_ex hI ht tt hc (by omega) (fun j _ => wk_dg_lt N K j), hX2, wy_exR hY F Z ht tt hc (by omega) hg h1 h2 hP⟩
                        show _ = nI (if t = t then fo_s A t + K - c else fo_s A t)
                        rw [if_pos rfl]
                      · rcases hv with w | w
                        · rw [w.2, Nat.sub_self, Nat.pow_zero, Nat.div_one]
                        · omega
                    rcases hv with w | w
                    · refine br_t w.1 ?_
                      have e := w.2
                      rw [← e] at xx
                      exact xx
                    · refine br_f w.1 ?_
                      have e := w.2.2
                      rw [e] at xx
                      exact xx
                  · refine br_f (nI_ge (b := fo_s A t - c + K) (a := 12) (by omega) (by omega)) (yk2 _ ?_)
                    unfold wY_replace_118
                    refine ⟨wk_in t24, ?_⟩
                    rw [wk_cl t24, KY.2.2.2 t ht, eL]
                    exact br_f (nI_ge (b := fo_s A t - c + K) (a := 12) (by omega) (by omega)) ⟨rfl, rel⟩
                by_cases y7 : c0 ≤ fo_s A t - a
                · exact br_t (nI_le y7 (by omega)) (main c0 (by omega) fun post h => ytop post (br_f y2 ⟨wk_in t24, br_f ya' (br_t y3 (br_f y4 (br_t y5 ⟨wk_in t24, br_t (nI_le y7 (by omega)) h⟩)))⟩))
                · exact br_f (nI_ge (by omega) (by omega)) (main (fo_s A t - a) (by omega) fun post h => ytop post (br_f y2 ⟨wk_in t24, br_f ya' (br_t y3 (br_f y4 (br_t y5 ⟨wk_in t24, br_f (nI_ge (by omega) (by omega)) ⟨wk_in t24, h⟩⟩)))⟩))
              · exact br_f y5 (ytop _ (br_f y2 ⟨wk_in t24, br_f ya' (br_t y3 (br_f y4 (br_f y5 ⟨rfl, rel⟩)))⟩))
          · exact br_f y3 (ytop _ (br_f y2 ⟨wk_in t24, br_f ya' (br_f y3 ⟨rfl, rel⟩)⟩))
    · rw [tt]
      refine br_t rfl ?_
      unfold wpY_replace
      refine wy_isText KY c24 ht ?_
      rw [tt]
      exact br_t rfl ⟨rfl, rel⟩
end
section
/-! split -/
theorem wx_K_s {A B : fo_S} (F : fo_F A) {f_made : Int32} {a_sort a_parentOf a_firstChild a_nextChild a_previousChild a_sizeOf b_sizeOf : Nat → Int32} (K : wx_K A f_made a_sort a_parentOf a_firstChild a_nextChild a_previousChild a_sizeOf)
    (hc : fo_c B = fo_c A) (ht : fo_t B = fo_t A) (hp : fo_p B = fo_p A) (hx : fo_x B = fo_x A) (hk : fo_k B = fo_k A) (hs : ∀ q, q < fo_c A → fo_t A q = false → fo_s B q = fo_s A q) (hz : ∀ n, n < 24 → b_sizeOf n = nI (fo_s B n)) : wx_K B f_made a_sort a_parentOf a_firstChild a_nextChild a_previousChild b_sizeOf := by
  obtain ⟨k1, k2, k3, k4, k5, k6, k7⟩ := K
  refine ⟨by rw [hc]; exact k1, by rw [hc, ht]; exact k2, by rw [hc, hp]; exact k3, fun n hn htn => ?_, fun n hn => ?_, fun n hn => ?_, hz⟩
  · rw [hc] at hn
    rw [ht] at htn
    unfold wx_fc
    rw [hs n hn htn, hk]
    exact k4 n hn htn
  · rw [hc] at hn
    rw [k5 n hn]
    unfold wx_nx
    rw [hp, hx, hk]
    by_cases z : fo_p A n < 24
    · obtain ⟨u1, u2, -⟩ := fo_up F hn z
      rw [hs _ u1 u2]
    · rw [if_neg (fun y => z y.1), if_neg (fun y => z y.1)]
  · rw [hc] at hn
    rw [k6 n hn]
    unfold wx_pv
    rw [hp, hx, hk]
/-- the text t, the new one f -/
def wk_sp (A : fo_S) (t f o : Nat) : Prop := t < fo_c A ∧ fo_t A t = true ∧ f < fo_c A ∧ fo_t A f = true ∧ f ≠ t ∧ o ≤ fo_s A t
theorem wk_sp_s {A : fo_S} {t f o : Nat} (h : wk_sp A t f o) : ∀ q, q < fo_c A → fo_t A q = false → fo_s (fo_sl A t f o) q = fo_s A q := fun q hq htq => by
  show (if q = t then o else if q = f then fo_s A t - o else fo_s A q) = _
  rw [if_neg (fun e => by rw [e, h.2.1] at htq; exact absurd htq (by decide)), if_neg (fun e => by rw [e, h.2.2.2.1] at htq; exact absurd htq (by decide))]
section
variable {A : fo_S} {f_made f_listed f_leaving : Int32} {a_sort a_parentOf a_firstChild a_nextChild a_previousChild a_sizeOf a_letters a_placeNode a_placeOffset a_listing a_opening a_closing a_leavers : Nat → Int32} {post : Int32 → SX → Prop}
theorem wx_split173 (K : wx_K A f_made a_sort a_parentOf a_firstChild a_nextChild a_previousChild a_sizeOf) (T : wx_T A a_letters) (F : fo_F A) (Z : fo_Z A) {t f o : Nat} (S : wk_sp A t f o) (P : wk_P (fo_sl A t f o) a_placeNode a_placeOffset) (h : ∀ u', wx_R (fo_sl A t f o) u' → post (nI f) u') : ∃ n, wX_split_173 post (nI t) (nI o) (nI f) f_made f_listed f_leaving n (nI o) a_sort a_parentOf a_firstChild a_nextChild a_previousChild a_sizeOf a_letters a_placeNode a_placeOffset a_listing a_opening a_closing a_leavers := by
  have S0 := S
  obtain ⟨ht, tt, hf, tf, hft, ho⟩ := S
  have t24 := fo_lt24 F ht
  have f24 := fo_lt24 F hf
  have s12 := fo_s_t Z ht tt
  have est := K.2.2.2.2.2.2 t t24
  have loop : ∀ (d n j : Nat) (g : Nat → Int32), d + j = fo_s A t → d < n → o ≤ j → (∀ m, (m < 12 * f ∨ 12 * f + (j - o) ≤ m) → g m = a_letters m) → (∀ i, i < j - o → g (12 * f + i) = a_letters (12 * t + (o + i))) →
      wX_split_173 post (nI t) (nI o) (nI f) f_made f_listed f_leaving n (nI j) a_sort a_parentOf a_firstChild a_nextChild a_previousChild a_sizeOf g a_placeNode a_placeOffset a_listing a_opening a_closing a_leavers := by
    intro d
    induction d with
    | zero =>
      intro n j g hj hn hoj h1 h2
      obtain ⟨n, rfl⟩ : ∃ m, n = m + 1 := ⟨n - 1, by omega⟩
      have e : j = fo_s A t := by omega
      subst e
      refine ⟨wk_in t24, ?_⟩
      rw [wk_cl t24, est]
      refine br_t (nI_le (Nat.le_refl _) (by omega)) ⟨wk_in t24, wk_in f24, nm_r (e' := upd a_sizeOf f (nI (fo_s A t - o))) (by rw [wk_cl f24, pk_sub ho]) ⟨wk_in t24, nm_r (e' := upd (upd a_sizeOf f (nI (fo_s A t - o))) t (nI o)) rfl (h _ ⟨wx_K_s F K rfl rfl rfl rfl rfl (wk_sp_s S0) fun n hn => ?_, fun n hn htn i hi => ?_, P⟩)⟩⟩
      · show (if n = t then nI o else if n = f then nI (fo_s A t - o) else a_sizeOf n) = nI (if n = t then o else if n = f then fo_s A t - o else fo_s A n)
        by_cases e1 : n = t
        · rw [if_pos e1, if_pos e1]
        · rw [if_neg e1, if_neg e1]
          by_cases e2 : n = f
          · rw [if_pos e2, if_pos e2]
          · rw [if_neg e2, if_neg e2]; exact K.2.2.2.2.2.2 n hn
      · have hn : n < fo_c A := hn
        have htn : fo_t A n = true := htn
        have hi : i < (if n = t then o else if n = f then fo_s A t - o else fo_s A n) := hi
        show g (12 * n + i) = nI (if n = f then fo_l A t (o + i) else fo_l A n i)
        have n12 := fo_s_t Z hn htn
        by_cases e1 : n = f
        · rw [if_pos e1]
          rw [if_neg (fun e => hft (e1.symm.trans e)), if_pos e1] at hi
          rw [e1, h2 i hi]
          exact T t ht tt _ (by omega)
        · rw [if_neg e1]
          have hi2 : i < fo_s A n := by
            by_cases e2 : n = t
            · rw [if_pos e2] at hi; rw [e2]; omega
            · rw [if_neg e2, if_neg e1] at hi; exact hi
          rw [h1 _ (by omega)]
          exact T n hn htn i hi2
    | succ d ih =>
      intro n j g hj hn hoj h1 h2
      obtain ⟨n, rfl⟩ : ∃ m, n = m + 1 := ⟨n - 1, by omega⟩
      refine ⟨wk_in t24, ?_⟩
      rw [wk_cl t24, est]
      refine br_f (nI_ge (by omega) (by omega)) ?_
      rw [wk_12, wk_12, pk_sub (by omega)]
      refine ⟨vp_in_nI (by omega) (by decide), vp_in_nI (by omega) (by decide), ?_⟩
      rw [nI_clamp (show 12 * t + j < 2 ^ 31 by omega), nI_clamp (show 12 * f + j - o < 2 ^ 31 by omega)]
      refine nm_e (nm_r (nI_1 j) (ih n (j + 1) _ (by omega) (by omega) (by omega) (fun m hm => ?_) fun i hi => ?_))
      · rw [pk_un (by omega)]; exact h1 m (by omega)
      · by_cases e : i = j - o
        · rw [e, show 12 * f + (j - o) = 12 * f + j - o by omega, pk_us, show o + (j - o) = j by omega]; exact h1 _ (by omega)
        · rw [pk_un (by omega)]; exact h2 i (by omega)
  exact ⟨fo_s A t - o + 1, loop (fo_s A t - o) _ o a_letters (by omega) (by omega) (Nat.le_refl _) (fun _ _ => rfl) fun i hi => absurd hi (by omega)⟩
theorem wx_split93 (R : wx_R A (f_made, f_listed, f_leaving, a_sort, a_parentOf, a_firstChild, a_nextChild, a_previousChild, a_sizeOf, a_letters, a_placeNode, a_placeOffset, a_listing, a_opening, a_closing, a_leavers)) (F : fo_F A) (Z : fo_Z A) (Q : fo_Q A) {t f o : Nat} (S : wk_sp A t f o) (h : ∀ u', wx_R (fo_sl A t f o) u' → post (nI f) u') : ∃ n, wX_split_93 post (nI t) (nI o) (nI f) (wk_o (fo_p A t)) f_made f_listed f_leaving n 0 a_sort a_parentOf a_firstChild a_nextChild a_previousChild a_sizeOf a_letters a_placeNode a_placeOffset a_listing a_opening a_closing a_leavers := by
  obtain ⟨K, T, P⟩ := R
  have S0 := S
  obtain ⟨ht, tt, hf, tf, hft, ho⟩ := S
  have t24 := fo_lt24 F ht
  have f24 := fo_lt24 F hf
  have s12 := fo_s_t Z ht tt
  have loop : ∀ (d m j : Nat) (an ao : Nat → Int32), d + j = 8 → d < m → wk_Q A (fo_sl A t f o) j an ao → wX_split_93 post (nI t) (nI o) (nI f) (wk_o (fo_p A t)) f_made f_listed f_leaving m (nI j) a_sort a_parentOf a_firstChild a_nextChild a_previousChild a_sizeOf a_letters an ao a_listing a_opening a_closing a_leavers := by
    intro d
    induction d with
    | zero =>
      intro m j an ao hj hm hq
      obtain ⟨m, rfl⟩ : ∃ k, m = k + 1 := ⟨m - 1, by omega⟩
      rw [show j = 8 by omega] at hq ⊢
      exact br_t (by decide) (wx_split173 K T F Z S0 (wk_Q_8 hq) h)
    | succ d ih =>
      intro m j an ao hj hm hq
      obtain ⟨m, rfl⟩ : ∃ k, m = k + 1 := ⟨m - 1, by omega⟩
      have hj8 : j < 8 := by omega
      obtain ⟨q1, q2⟩ := wk_Q_a hq hj8
      obtain ⟨p1, p2⟩ := Q j hj8
      have so := fo_s_a F Z (fo_n A j)
      have pl := fo_lt24 F p1
      have en : fo_n (fo_sl A t f o) j = if fo_n A j = t ∧ o < fo_o A j then (if fo_p A t < 24 then f else t) else fo_n A j := rfl
      have eo : fo_o (fo_sl A t f o) j = if fo_n A j = t ∧ o < fo_o A j then (if fo_p A t < 24 then fo_o A j - o else o) else fo_o A j := rfl
      refine br_f (nI_ge (b := 8) hj8 (by decide)) ⟨wk_i8 hj8, ?_⟩
      rw [wk_c8 hj8, q1, q2]
      by_cases e : fo_n A j = t
      · refine br_t (by rw [e]) ⟨wk_i8 hj8, ?_⟩
        by_cases z : o < fo_o A j
        · rw [if_pos ⟨e, z⟩] at en eo
          refine br_f (nI_ge z (by omega)) ?_
          by_cases y : fo_p A t < 24
          · rw [if_pos y] at en eo
            refine br_f (fun w => wk_o_n.mp w y) ?_
            unfold wX_split_138
            rw [wk_c8 hj8]
            refine ⟨wk_i8 hj8, nm_e (br_f (fun w => wk_o_n.mp w y) ⟨wk_i8 hj8, wk_i8 hj8, nm_e (nm_r (nI_1 j) ?_)⟩)⟩
            exact ih m (j + 1) _ _ (by omega) (by omega) (wk_Q_2 hq (by rw [en]) (by rw [eo, q2, pk_sub (by omega)]))
          · rw [if_neg y] at en eo
            refine br_t (wk_o_n.mpr y) ?_
            unfold wX_split_138
            rw [wk_c8 hj8]
            refine ⟨wk_i8 hj8, nm_e (br_t (wk_o_n.mpr y) ⟨wk_i8 hj8, nm_e (nm_r (nI_1 j) ?_)⟩)⟩
            exact ih m (j + 1) _ _ (by omega) (by omega) (wk_Q_2 hq (by rw [en]) (by rw [eo]))
        · rw [if_neg (fun y => z y.2)] at en eo
          refine br_t (nI_le (by omega) (by omega)) (nm_r (nI_1 j) ?_)
          exact ih m (j + 1) _ _ (by omega) (by omega) (wk_Q_k hq hj8 en eo)
      · rw [if_neg (fun y => e y.1)] at en eo
        refine br_f (fun w => e ((nI_eq (by omega) (by omega)).mp w)) (nm_r (nI_1 j) ?_)
        exact ih m (j + 1) _ _ (by omega) (by omega) (wk_Q_k hq hj8 en eo)
  exact ⟨9, loop 8 9 0 _ _ rfl (by omega) (wk_Q_0 _ P)⟩
end
section
variable {A B : fo_S} {f_count f_length : Int32} {a_isText a_parents a_sizes a_items a_placeNode a_placeOffset a_marks a_opens a_closes a_coming : Nat → Int32} {post : Int32 → SY → Prop}
theorem wy_split174 (K : wy_K A f_count a_isText a_parents a_sizes) (T : wy_T A a_items) (F : fo_F A) (Z : fo_Z A) {t f o : Nat} (S : wk_sp A t f o) (P : wk_P (fo_sl A t f o) a_placeNode a_placeOffset) (h : ∀ u', wy_R (fo_sl A t f o) u' → post (nI f) u') : ∃ n, wY_split_174 post (nI t) (nI o) (nI f) f_count f_length n 0 a_isText a_parents (upd a_sizes f (nI (fo_s A t - o))) a_items a_placeNode a_placeOffset a_marks a_opens a_closes a_coming := by
  have S0 := S
  obtain ⟨ht, tt, hf, tf, hft, ho⟩ := S
  have t24 := fo_lt24 F ht
  have f24 := fo_lt24 F hf
  have s12 := fo_s_t Z ht tt
  have loop : ∀ (d n j : Nat) (g : Nat → Int32), d + j = fo_s A t - o → d < n → (∀ m, (m < 24 * f ∨ 24 * f + j ≤ m) → g m = a_items m) → (∀ i, i < j → g (24 * f + i) = a_items (24 * t + (o + i))) →
      wY_split_174 post (nI t) (nI o) (nI f) f_count f_length n (nI j) a_isText a_parents (upd a_sizes f (nI (fo_s A t - o))) g a_placeNode a_placeOffset a_marks a_opens a_closes a_coming := by
    intro d
    induction d with
    | zero =>
      intro n j g hj hn h1 h2
      obtain ⟨n, rfl⟩ : ∃ m, n = m + 1 := ⟨n - 1, by omega⟩
      have e : j = fo_s A t - o := by omega
      subst e
      refine ⟨wk_in f24, ?_⟩
      rw [wk_cl f24, pk_us]
      refine br_t (nI_le (Nat.le_refl _) (by omega)) ⟨wk_in t24, nm_r (e' := upd (upd a_sizes f (nI (fo_s A t - o))) t (nI o)) (by rw [wk_cl t24]) (h _ ⟨⟨K.1, K.2.1, K.2.2.1, fun n hn => ?_⟩, fun n hn i hi => ?_, P⟩)⟩
      · show (if n = t then nI o else if n = f then nI (fo_s A t - o) else a_sizes n) = nI (if n = t then o else if n = f then fo_s A t - o else fo_s A n)
        by_cases e1 : n = t
        · rw [if_pos e1, if_pos e1]
        · rw [if_neg e1, if_neg e1]
          by_cases e2 : n = f
          · rw [if_pos e2, if_pos e2]
          · rw [if_neg e2, if_neg e2]; exact K.2.2.2 n hn
      · have hn : n < fo_c A := hn
        have hi2 : i < (if n = t then o else if n = f then fo_s A t - o else fo_s A n) := hi
        show g (24 * n + i) = nI (if fo_t A n = true then (if n = f then fo_l A t (o + i) else fo_l A n i) else fo_k A n i)
        have n24 := fo_s_a F Z n
        by_cases e1 : n = f
        · rw [if_neg (fun e => hft (e1.symm.trans e)), if_pos e1] at hi2
          rw [e1, if_pos tf, if_pos rfl, h2 i hi2]
          have := T t ht (o + i) (by omega)
          rw [if_pos tt] at this
          exact this
        · rw [if_neg (c := n = f) e1]
          have hi3 : i < fo_s A n := by
            by_cases e2 : n = t
            · rw [if_pos e2] at hi2; rw [e2]; omega
            · rw [if_neg e2, if_neg e1] at hi2; exact hi2
          rw [h1 _ (by omega)]
          exact T n hn i hi3
    | succ d ih =>
      intro n j g hj hn h1 h2
      obtain ⟨n, rfl⟩ : ∃ m, n = m + 1 := ⟨n - 1, by omega⟩
      refine ⟨wk_in f24, ?_⟩
      rw [wk_cl f24, pk_us]
      refine br_f (nI_ge (by omega) (by omega)) ?_
      rw [wk_24, wk_24, nI_add]
      refine ⟨vp_in_nI (by omega) (by decide), vp_in_nI (by omega) (by decide), ?_⟩
      rw [nI_clamp (show 24 * t + o + j < 2 ^ 31 by omega), nI_clamp (show 24 * f + j < 2 ^ 31 by omega)]
      refine nm_e (nm_r (nI_1 j) (ih n (j + 1) _ (by omega) (by omega) (fun m hm => ?_) fun i hi => ?_))
      · rw [pk_un (by omega)]; exact h1 m (by omega)
      · by_cases e : i = j
        · rw [e, pk_us, show 24 * t + (o + j) = 24 * t + o + j by omega]; exact h1 _ (by omega)
        · rw [pk_un (by omega)]; exact h2 i (by omega)
  exact ⟨fo_s A t - o + 1, loop (fo_s A t - o) _ 0 a_items (by omega) (by omega) (fun _ _ => rfl) fun i hi => absurd hi (by omega)⟩
theorem wy_split104 (K : wy_K A f_count a_isText a_parents a_sizes) (T : wy_T A a_items) (P : wk_P B a_placeNode a_placeOffset) (F : fo_F A) (Z : fo_Z A) (hB : ∀ k, k < 8 → fo_n B k < 24 ∧ fo_o B k < 24) {t f o : Nat} (S : wk_sp A t f o) (h1 : ∀ k, k < 8 → fo_n (fo_sl A t f o) k = fo_n B k) (h2 : ∀ k, k < 8 → fo_o (fo_sl A t f o) k = if fo_n B k = t ∧ o < fo_o B k then o else fo_o B k) (h : ∀ u', wy_R (fo_sl A t f o) u' → post (nI f) u') : ∃ n, wY_split_104 post (nI t) (nI o) (nI f) f_count f_length n 0 a_isText a_parents a_sizes a_items a_placeNode a_placeOffset a_marks a_opens a_closes a_coming := by
  have S0 := S
  obtain ⟨ht, tt, hf, tf, hft, ho⟩ := S
  have t24 := fo_lt24 F ht
  have f24 := fo_lt24 F hf
  have s12 := fo_s_t Z ht tt
  have loop : ∀ (d m j : Nat) (ao : Nat → Int32), d + j = 8 → d < m → wk_Q B (fo_sl A t f o) j a_placeNode ao → wY_split_104 post (nI t) (nI o) (nI f) f_count f_length m (nI j) a_isText a_parents a_sizes a_items a_placeNode ao a_marks a_opens a_closes a_coming := by
    intro d
    induction d with
    | zero =>
      intro m j ao hj hm hq
      obtain ⟨m, rfl⟩ : ∃ k, m = k + 1 := ⟨m - 1, by omega⟩
      rw [show j = 8 by omega] at hq ⊢
      refine br_t (by decide) ⟨wk_in t24, wk_in f24, nm_r (e' := upd a_sizes f (nI (fo_s A t - o))) (by rw [wk_cl f24, wk_cl t24, K.2.2.2 t ht, pk_sub ho]) ?_⟩
      exact wy_split174 K T F Z S0 (wk_Q_8 hq) h
    | succ d ih =>
      intro m j ao hj hm hq
      obtain ⟨m, rfl⟩ : ∃ k, m = k + 1 := ⟨m - 1, by omega⟩
      have hj8 : j < 8 := by omega
      obtain ⟨q1, q2⟩ := wk_Q_a hq hj8
      obtain ⟨b1, b2⟩ := hB j hj8
      have en := h1 j hj8
      have eo := h2 j hj8
      refine br_f (nI_ge (b := 8) hj8 (by decide)) ⟨wk_i8 hj8, ?_⟩
      rw [wk_c8 hj8, q1, q2]
      by_cases e : fo_n B j = t
      · refine br_t (by rw [e]) ⟨wk_i8 hj8, ?_⟩
        by_cases z : o < fo_o B j
        · rw [if_pos ⟨e, z⟩] at eo
          refine br_f (nI_ge z (by omega)) ⟨wk_i8 hj8, nm_e (nm_r (nI_1 j) ?_)⟩
          exact ih m (j + 1) _ (by omega) (by omega) (wk_Q_1 hq hj8 en (by rw [eo]))
        · rw [if_neg (fun y => z y.2)] at eo
          refine br_t (nI_le (by omega) (by omega)) ⟨wk_i8 hj8, wk_i8 hj8, nm_e (nm_r (nI_1 j) ?_)⟩
          exact ih m (j + 1) _ (by omega) (by omega) (wk_Q_1 hq hj8 en (by rw [eo]))
      · rw [if_neg (fun y => e y.1)] at eo
        refine br_f (fun w => e ((nI_eq (by omega) (by omega)).mp w)) ⟨wk_i8 hj8, wk_i8 hj8, nm_e (nm_r (nI_1 j) ?_)⟩
        exact ih m (j + 1) _ (by omega) (by omega) (wk_Q_1 hq hj8 en (by rw [eo]))
  exact ⟨9, loop 8 9 0 _ rfl (by omega) (wk_Q_0 _ P)⟩
end
end
section
theorem fo_u_c {A B : fo_S} (hp : fo_p B = fo_p A) : ∀ k n, fo_u B k n = fo_u A k n := by
  intro k
  induction k with
  | zero => intro n; rfl
  | succ k ih =>
    intro n
    show fo_u B k (fo_p B n) = fo_u A k (fo_p A n)
    rw [hp, ih]
theorem wk_sub' {a b : Nat} (h : b ≤ a) : nI a + -nI b = nI (a - b) := by
  rw [← pk_sub h]
  grind
theorem wk_Qb {A : fo_S} (F : fo_F A) (Z : fo_Z A) (Q : fo_Q A) : ∀ k, k < 8 → fo_n A k < 24 ∧ fo_o A k < 24 := fun k hk => by
  obtain ⟨q1, q2⟩ := Q k hk
  have := fo_s_a F Z (fo_n A k)
  exact ⟨fo_lt24 F q1, by omega⟩
theorem i_vc_split {k : Nat} {u : SX} {v : SY} (I : i_Rel k u v) (hk : k + 5 ≤ 2560) (v1 : Int32) (v2 : Int32) : wpX_split (fun r u' => wpY_split (fun r' v' => r' = r ∧ i_Rel (k + 5) u' v') v v1 v2) u v1 v2 := by
  refine wk_el (P := fun u v => wpX_split (fun r u' => wpY_split (fun r' v' => r' = r ∧ i_Rel (k + 5) u' v') v v1 v2) u v1 v2) ?_ I
  intro A f_made f_listed f_leaving a_sort a_parentOf a_firstChild a_nextChild a_previousChild a_sizeOf a_letters a_placeNode a_placeOffset a_listing a_opening a_closing a_leavers f_count f_length a_isText a_parents a_sizes a_items c_placeNode c_placeOffset a_marks a_opens a_closes a_coming hI hX hY
  obtain ⟨F, Z, Q, R⟩ := hI
  have hI : fo_I A := ⟨F, Z, Q, R⟩
  have c24 := F.1
  have KX := hX.1
  have KY := hY.1
  have rel : i_Rel (k + 5) (f_made, f_listed, f_leaving, a_sort, a_parentOf, a_firstChild, a_nextChild, a_previousChild, a_sizeOf, a_letters, a_placeNode, a_placeOffset, a_listing, a_opening, a_closing, a_leavers) (f_count, f_length, a_isText, a_parents, a_sizes, a_items, c_placeNode, c_placeOffset, a_marks, a_opens, a_closes, a_coming) := ⟨A, hI, hX, hY⟩
  unfold wpX_split
  rcases wk_ix v1 F with z1 | ⟨t, ht, rfl⟩
  · refine wx_isText0 KX.1 z1 ?_
    refine br_t rfl ?_
    unfold wpY_split
    refine wy_isText0 KY.1 z1 ?_
    exact br_t rfl ⟨rfl, rel⟩
  · have t24 := fo_lt24 F ht
    refine wx_isText KX c24 ht ?_
    rcases fo_ft (fo_t A t) with tt | tt
    · have s12 := fo_s_t Z ht tt
      rw [tt]
      refine br_f (by decide) ?_
      by_cases y2 : v2 < 0
      · refine br_t y2 ?_
        unfold wpY_split
        refine wy_isText KY c24 ht ?_
        rw [tt]
        exact br_f (by decide) (br_t y2 ⟨rfl, rel⟩)
      · obtain ⟨o, ho, rfl⟩ := nI_of y2
        refine br_f y2 ⟨wk_in t24, ?_⟩
        rw [wk_cl t24, KX.2.2.2.2.2.2 t t24]
        by_cases y3 : o ≤ fo_s A t
        · refine br_t (nI_le y3 (by omega)) ?_
          have em : f_made = nI (fo_c A) := KX.1
          have ec : f_count = nI (fo_c A) := KY.1
          by_cases y4 : fo_c A < 24
          · refine br_t (by rw [em]; exact nI_lt (b := 24) y4 (by decide)) ?_
            refine wx_make hX F Z y4 true ?_
            intro b1 b2 b3 b4 b5 hX1
            have hI1 := fo_I_mk hI y4 true
            have F1 := hI1.1
            have Z1 := hI1.2.1
            have Q1 := hI1.2.2.1
            have ht1 : t < fo_c (fo_mk A true) := Nat.lt_succ_of_lt ht
            have hf1 : fo_c A < fo_c (fo_mk A true) := Nat.lt_succ_self _
            have tt1 : fo_t (fo_mk A true) t = true := by
              show (if t = fo_c A then true else fo_t A t) = true
              rw [if_neg (by omega)]; exact tt
            have tf1 : fo_t (fo_mk A true) (fo_c A) = true := if_pos rfl
            have pf1 : fo_p (fo_mk A true) (fo_c A) = 24 := F.2.2.1 _ (Nat.le_refl _)
            have sf1 : fo_s (fo_mk A true) (fo_c A) = 0 := Z.2.2 _ (Nat.le_refl _)
            have hft : fo_c A ≠ t := by omega
            refine ⟨wk_in t24, nm_r (e' := wk_o (fo_p (fo_mk A true) t)) (hX1.1.2.2.1 t ht1) ?_⟩
            by_cases y5 : fo_p A t < 24
            · have y5' : fo_p (fo_mk A true) t < 24 := y5
              obtain ⟨u1, u2, u3, u4⟩ := fo_up F ht y5
              have s24 := fo_s_e F u1 u2
              have hp1 : fo_p A t < fo_c (fo_mk A true) := Nat.lt_succ_of_lt u1
              have tp1 : fo_t (fo_mk A true) (fo_p A t) = false := by
                show (if fo_p A t = fo_c A then true else fo_t A (fo_p A t)) = false
                rw [if_neg (by omega)]; exact u2
              have na1 : ¬ fo_A (fo_mk A true) (fo_c A) (fo_p A t) := fun w => by
                obtain ⟨j, hj⟩ := w
                rw [fo_u_c (A := A) (B := fo_mk A true) rfl] at hj
                have := fo_A_lt F u1 y4 ⟨j, hj⟩
                omega
              have hi1 : fo_x A t + 1 ≤ fo_s (fo_mk A true) (fo_p A t) := u3
              have hIP := fo_I_pt hI1 hf1 pf1 hp1 tp1 na1 hi1
              generalize hP : fo_pt (fo_mk A true) (fo_p A t) (fo_c A) (fo_x A t + 1) = P at hIP
              have pPt : fo_p P t = fo_p A t := by rw [← hP]; exact if_neg (fun w => hft w.symm)
              have pPf : fo_p P (fo_c A) = fo_p A t := by rw [← hP]; exact if_pos rfl
              have xPt : fo_x P t = fo_x A t := by
                rw [← hP]
                show (if t = fo_c A then fo_x A t + 1 else if fo_p A t = fo_p A t ∧ fo_x A t + 1 ≤ fo_x A t then fo_x A t + 1 else fo_x A t) = _
                rw [if_neg (fun w => hft w.symm), if_neg (fun w => by have := w.2; omega)]
              have xPf : fo_x P (fo_c A) = fo_x A t + 1 := by rw [← hP]; exact if_pos rfl
              have sPt : fo_s P t = fo_s A t := by
                rw [← hP]
                show (if t = fo_p A t then fo_s A t + 1 else fo_s A t) = _
                rw [if_neg (fun w => by rw [← w, tt] at u2; exact absurd u2 (by decide))]
              have sPf : fo_s P (fo_c A) = 0 := by
                rw [← hP]
                show (if fo_c A = fo_p A t then fo_s A (fo_c A) + 1 else fo_s A (fo_c A)) = 0
                rw [if_neg (by omega)]; exact sf1
              have cP : fo_c P = fo_c A + 1 := by rw [← hP]; rfl
              have tPt : fo_t P t = true := by rw [← hP]; exact tt1
              have tPf : fo_t P (fo_c A) = true := by rw [← hP]; exact tf1
              have nP : ∀ j, j < 8 → fo_n P j ≠ fo_c A := fun j hj => by
                rw [← hP]
                show fo_n A j ≠ fo_c A
                have := (Q j hj).1
                omega
              have hIf := fo_I_s1 (o := o) hIP (t := t) (f := fo_c A) (by rw [cP]; omega) tPt (by rw [cP]; omega) tPf sPf nP (by rw [pPt]; exact y5) (by rw [pPt, pPf]) (by rw [xPt, xPf]) (by rw [sPt]; exact y3)
              rw [pPt, xPf] at hIf
              have FP := hIP.1
              have ZP := hIP.2.1
              have QP := hIP.2.2.1
              have F2 : fo_F (fo_mv P (fo_p A t) (fo_x A t + 1) (fo_p A t) (fo_x A t + 1 + 1)) := fo_F_s FP rfl rfl rfl rfl rfl fun _ _ _ => rfl
              have Z2 : fo_Z (fo_mv P (fo_p A t) (fo_x A t + 1) (fo_p A t) (fo_x A t + 1 + 1)) := ZP
              have Q2 : fo_Q (fo_mv P (fo_p A t) (fo_x A t + 1) (fo_p A t) (fo_x A t + 1 + 1)) := by
                intro j hj
                obtain ⟨q1, q2⟩ := QP j hj
                show (if fo_n P j = fo_p A t ∧ fo_o P j = fo_x A t + 1 then fo_p A t else fo_n P j) < fo_c P ∧ (if fo_n P j = fo_p A t ∧ fo_o P j = fo_x A t + 1 then fo_x A t + 1 + 1 else fo_o P j) ≤ fo_s P (if fo_n P j = fo_p A t ∧ fo_o P j = fo_x A t + 1 then fo_p A t else fo_n P j)
                by_cases e : fo_n P j = fo_p A t ∧ fo_o P j = fo_x A t + 1
                · rw [if_pos e, if_pos e]
                  refine ⟨by rw [cP]; omega, ?_⟩
                  rw [← hP]
                  show fo_x A t + 1 + 1 ≤ (if fo_p A t = fo_p A t then fo_s A (fo_p A t) + 1 else fo_s A (fo_p A t))
                  rw [if_pos rfl]; omega
                · rw [if_neg e, if_neg e]; exact ⟨q1, q2⟩
              have SP : wk_sp (fo_mv P (fo_p A t) (fo_x A t + 1) (fo_p A t) (fo_x A t + 1 + 1)) t (fo_c A) o := ⟨by show t < fo_c P; rw [cP]; omega, tPt, by show fo_c A < fo_c P; rw [cP]; omega, tPf, hft, by show o ≤ fo_s P t; rw [sPt]; exact y3⟩
              refine br_f (fun w => wk_o_n.mp w y5) ?_
              refine wx_indexOf hX1.1.2.2.2.2.2.1 F1 ht1 y5' ?_
              refine nm_r (e' := nI (fo_x A t + 1)) (nI_1 _) ?_
              have ewp : wk_o (fo_p (fo_mk A true) t) = nI (fo_p A t) := wk_o_lt y5
              rw [ewp]
              refine wx_putIn hX1 F1 Z1 Q1 hf1 pf1 hp1 tp1 hi1 ?_
              intro b1 b2 b3 b4 b5 b6 hXP
              rw [hP] at hXP
              dsimp only
              rw [nI_1]
              refine wx_movePlaces hXP FP ZP QP y5 (by omega) ?_
              intro b1 b2 hXP2
              have ew2 : nI (fo_p A t) = wk_o (fo_p (fo_mv P (fo_p A t) (fo_x A t + 1) (fo_p A t) (fo_x A t + 1 + 1)) t) := by
                show _ = wk_o (fo_p P t)
                rw [pPt, wk_o_lt y5]
              dsimp only
              rw [ew2]
              refine wx_split93 hXP2 F2 Z2 Q2 SP ?_
              intro u' hXf
              unfold wpY_split
              refine wy_isText KY c24 ht ?_
              rw [tt]
              refine br_f (by decide) (br_f y2 ⟨wk_in t24, ?_⟩)
              rw [wk_cl t24, KY.2.2.2 t ht]
              refine br_t (nI_le y3 (by omega)) ?_
              refine wy_make hY F Z y4 true ?_
              intro m1 m2 m3 hY1
              dsimp only
              refine br_t (nI_pos' (by omega)) ⟨wk_in t24, nm_r (e' := nI (fo_p A t)) (by rw [hY1.1.2.2.1 t ht1, ewp]) (br_f (nI_pos (by omega)) ?_)⟩
              refine wy_indexOf hY1.1 hY1.2.1 F1 ht1 y5' ?_
              have exi : nI (fo_x (fo_mk A true) t) + 1 = nI (fo_x A t + 1) := nI_1 _
              rw [exi]
              refine wy_putIn hY1 F1 Z1 Q1 hf1 pf1 hp1 tp1 hi1 (fo_s_pt F1 hp1 tp1 hf1 pf1 (by omega)) ?_
              intro q1 q2 q3 q4 hYP
              rw [hP] at hYP
              dsimp only
              refine wy_movePlaces (B := fo_mv P (fo_p A t) (fo_x A t + 1) (fo_p A t) (fo_x A t + 1 + 1)) hYP.2.2 (wk_Qb FP ZP QP) y5 (by omega) (by omega) (fun j hj e1 e2 e3 => ?_) (fun j hj e => ?_) ?_
              · have c : fo_n P j = fo_p A t ∧ fo_o P j = fo_x A t + 1 := ⟨e1, by omega⟩
                refine ⟨if_pos c, ?_⟩
                have : fo_o (fo_mv P (fo_p A t) (fo_x A t + 1) (fo_p A t) (fo_x A t + 1 + 1)) j = fo_x A t + 1 + 1 := if_pos c
                rw [this, c.2, nI_1]
              · have c : ¬ (fo_n P j = fo_p A t ∧ fo_o P j = fo_x A t + 1) := fun w => e ⟨w.1, by omega, by omega⟩
                exact ⟨if_neg c, if_neg c⟩
              intro b1 b2 hP2
              dsimp only
              rw [nI_1]
              generalize hV : fo_mv P (fo_p A t) (fo_x A t + 1) (fo_p A t) (fo_x A t + 1 + 1) = V at *
              have pVt : fo_p V t < 24 := by rw [← hV]; show fo_p P t < 24; rw [pPt]; exact y5
              have sVt : fo_s V t ≤ 12 := by rw [← hV]; show fo_s P t ≤ 12; rw [sPt]; exact s12
              refine wy_movePlaces (B := fo_sl V t (fo_c A) o) (hi := 12) hP2 (wk_Qb F2 Z2 Q2) t24 (by omega) (by omega) (fun j hj e1 e2 e3 => ?_) (fun j hj e => ?_) ?_
              · have c : fo_n V j = t ∧ o < fo_o V j := ⟨e1, by omega⟩
                constructor
                · show (if fo_n V j = t ∧ o < fo_o V j then (if fo_p V t < 24 then fo_c A else t) else fo_n V j) = _
                  rw [if_pos c, if_pos pVt]
                · show _ = nI (if fo_n V j = t ∧ o < fo_o V j then (if fo_p V t < 24 then fo_o V j - o else o) else fo_o V j)
                  rw [if_pos c, if_pos pVt, wk_sub' (by omega)]
              · have c : ¬ (fo_n V j = t ∧ o < fo_o V j) := fun w => e ⟨w.1, by omega, by have := (Q2 j hj).2; rw [w.1] at this; omega⟩
                exact ⟨if_neg c, if_neg c⟩
              intro b1 b2 hP3
              dsimp only
              have hK2 : wy_K V (nI (fo_c A + 1)) m1 q1 q2 := by rw [← hV]; exact hYP.1
              have hT2 : wy_T V q3 := by rw [← hV]; exact hYP.2.1
              have QF := hIf.2.2.1
              refine wy_split104 hK2 hT2 hP3 F2 Z2 (wk_Qb hIf.1 hIf.2.1 QF) SP (fun _ _ => rfl) (fun j hj => ?_) ?_
              · rw [if_neg]
                intro w
                have w1 : (if fo_n V j = t ∧ o < fo_o V j then (if fo_p V t < 24 then fo_c A else t) else fo_n V j) = t := w.1
                have w2 : o < (if fo_n V j = t ∧ o < fo_o V j then (if fo_p V t < 24 then fo_o V j - o else o) else fo_o V j) := w.2
                by_cases c : fo_n V j = t ∧ o < fo_o V j
                · rw [if_pos c, if_pos pVt] at w1
                  exact hft w1
                · rw [if_neg c] at w1 w2
                  exact c ⟨w1, w2⟩
              · intro v' hYf
                exact ⟨rfl, _, hIf, hXf, hYf⟩
            · have y5' : ¬ fo_p (fo_mk A true) t < 24 := y5
              have p0 : fo_p (fo_mk A true) t = 24 := by have := F.2.1 t; show fo_p A t = 24; omega
              have SP : wk_sp (fo_mk A true) t (fo_c A) o := ⟨ht1, tt1, hf1, tf1, hft, y3⟩
              have hIf := fo_I_s0 (o := o) hI1 (t := t) (f := fo_c A) ht1 tt1 hf1 tf1 hft sf1 (fun j hj => by have := (Q j hj).1; show fo_n A j ≠ fo_c A; omega) p0 pf1 y3
              refine br_t (wk_o_n.mpr y5') ?_
              refine wx_split93 hX1 F1 Z1 Q1 SP ?_
              intro u' hXf
              unfold wpY_split
              refine wy_isText KY c24 ht ?_
              rw [tt]
              refine br_f (by decide) (br_f y2 ⟨wk_in t24, ?_⟩)
              rw [wk_cl t24, KY.2.2.2 t ht]
              refine br_t (nI_le y3 (by omega)) ?_
              refine wy_make hY F Z y4 true ?_
              intro b1 b2 b3 hY1
              dsimp only
              refine br_t (nI_pos' (by omega)) ⟨wk_in t24, nm_r (e' := wk_o (fo_p (fo_mk A true) t)) (hY1.1.2.2.1 t ht1) (br_t (wk_o_n.mpr y5') ?_)⟩
              refine wy_split104 (B := fo_mk A true) hY1.1 hY1.2.1 hY1.2.2 F1 Z1 (wk_Qb F1 Z1 Q1) SP (fun j hj => ?_) (fun j hj => ?_) ?_
              · show (if fo_n A j = t ∧ o < fo_o A j then (if fo_p (fo_mk A true) t < 24 then fo_c A else t) else fo_n A j) = fo_n A j
                by_cases c : fo_n A j = t ∧ o < fo_o A j
                · rw [if_pos c, if_neg y5', c.1]
                · rw [if_neg c]
              · show (if fo_n A j = t ∧ o < fo_o A j then (if fo_p (fo_mk A true) t < 24 then fo_o A j - o else o) else fo_o A j) = (if fo_n A j = t ∧ o < fo_o A j then o else fo_o A j)
                rw [if_neg y5']
              · intro v' hYf
                exact ⟨rfl, _, hIf, hXf, hYf⟩
          · have e : fo_c A = 24 := by omega
            refine br_f (by rw [em]; exact nI_nlt (b := 24) (by omega) (by omega)) ?_
            unfold wpY_split
            refine wy_isText KY c24 ht ?_
            rw [tt]
            refine br_f (by decide) (br_f y2 ⟨wk_in t24, ?_⟩)
            rw [wk_cl t24, KY.2.2.2 t ht]
            refine br_t (nI_le y3 (by omega)) ?_
            unfold wpY_make
            exact br_t (by rw [ec, e]; rfl) (br_f (by decide) ⟨rfl, rel⟩)
        · refine br_f (nI_ge (by omega) (by omega)) ?_
          unfold wpY_split
          refine wy_isText KY c24 ht ?_
          rw [tt]
          refine br_f (by decide) (br_f y2 ⟨wk_in t24, ?_⟩)
          rw [wk_cl t24, KY.2.2.2 t ht]
          exact br_f (nI_ge (by omega) (by omega)) ⟨rfl, rel⟩
    · rw [tt]
      refine br_t rfl ?_
      unfold wpY_split
      refine wy_isText KY c24 ht ?_
      rw [tt]
      exact br_t rfl ⟨rfl, rel⟩
end
section
/-! join -/
def fo_j1 (A : fo_S) (t s : Nat) : fo_S :=
  (fo_c A, fo_t A, fo_p A, fo_x A, fo_s A, fo_k A, fo_l A, fun k => if fo_n A k = s then t else fo_n A k, fun k => if fo_n A k = s then fo_o A k + fo_s A t else fo_o A k)
/-- the two texts -/
def wk_jn (A : fo_S) (t s : Nat) : Prop := t < fo_c A ∧ fo_t A t = true ∧ s < fo_c A ∧ fo_t A s = true ∧ fo_p A t < 24 ∧ fo_p A s = fo_p A t ∧ fo_x A s = fo_x A t + 1 ∧ fo_s A t + fo_s A s ≤ 12
theorem wk_jn_s {A : fo_S} {t s : Nat} (h : wk_jn A t s) : ∀ q, q < fo_c A → fo_t A q = false → fo_s (fo_jl A t s) q = fo_s A q := fun q hq htq => by
  show (if q = s then 0 else if q = t then fo_s A t + fo_s A s else fo_s A q) = _
  rw [if_neg (fun e => by rw [e, h.2.2.2.1] at htq; exact absurd htq (by decide)), if_neg (fun e => by rw [e, h.2.1] at htq; exact absurd htq (by decide))]
/-- from the first moving of places to the second -/
theorem wk_jn_1 {A : fo_S} {t s : Nat} (h : wk_jn A t s) (F : fo_F A) : ∀ k, ((fo_n (fo_j1 A t s) k = fo_p A t ∧ fo_o (fo_j1 A t s) k = fo_x A s) → fo_n (fo_jl A t s) k = t ∧ fo_o (fo_jl A t s) k = fo_s A t) ∧ (¬ (fo_n (fo_j1 A t s) k = fo_p A t ∧ fo_o (fo_j1 A t s) k = fo_x A s) → fo_n (fo_jl A t s) k = fo_n (fo_j1 A t s) k ∧ fo_o (fo_jl A t s) k = fo_o (fo_j1 A t s) k) := by
  intro k
  obtain ⟨h1, h2, h3, h4, h5, h6, h7, h8⟩ := h
  obtain ⟨u1, u2, u3, u4⟩ := fo_up F h1 h5
  have ept : fo_p A t ≠ t := fun e => by rw [e] at u2; rw [u2] at h2; exact absurd h2 (by decide)
  have n1 : fo_n (fo_j1 A t s) k = if fo_n A k = s then t else fo_n A k := rfl
  have o1 : fo_o (fo_j1 A t s) k = if fo_n A k = s then fo_o A k + fo_s A t else fo_o A k := rfl
  have n2 : fo_n (fo_jl A t s) k = if fo_n A k = s ∨ (fo_n A k = fo_p A t ∧ fo_o A k = fo_x A s) then t else fo_n A k := rfl
  have o2 : fo_o (fo_jl A t s) k = if fo_n A k = s then fo_o A k + fo_s A t else if fo_n A k = fo_p A t ∧ fo_o A k = fo_x A s then fo_s A t else fo_o A k := rfl
  rw [n1, o1, n2, o2]
  by_cases e : fo_n A k = s
  · rw [if_pos e, if_pos e, if_pos (Or.inl e), if_pos e]
    exact ⟨fun w => absurd w.1.symm ept, fun _ => ⟨rfl, rfl⟩⟩
  · rw [if_neg e, if_neg e, if_neg e]
    by_cases e2 : fo_n A k = fo_p A t ∧ fo_o A k = fo_x A s
    · rw [if_pos (Or.inr e2), if_pos e2]
      exact ⟨fun _ => ⟨rfl, rfl⟩, fun w => absurd e2 w⟩
    · rw [if_neg (fun w => w.elim e e2), if_neg e2]
      exact ⟨fun w => absurd w e2, fun _ => ⟨rfl, rfl⟩⟩
section
variable {A B : fo_S} {f_made f_listed f_leaving : Int32} {a_sort a_parentOf a_firstChild a_nextChild a_previousChild a_sizeOf a_letters a_placeNode a_placeOffset a_listing a_opening a_closing a_leavers : Nat → Int32} {post : SX → Prop}
theorem wx_movePlaces' (P : wk_P A a_placeNode a_placeOffset) (hA : ∀ k, k < 8 → fo_n A k < 24 ∧ fo_o A k < 99) {n o m q : Nat} (hn : n < 24) (ho : o < 99)
    (h1 : ∀ k, k < 8 → fo_n A k = n → fo_o A k = o → fo_n B k = m ∧ fo_o B k = q) (h2 : ∀ k, k < 8 → ¬ (fo_n A k = n ∧ fo_o A k = o) → fo_n B k = fo_n A k ∧ fo_o B k = fo_o A k)
    (h : ∀ b_placeNode b_placeOffset, wk_P B b_placeNode b_placeOffset → post (f_made, f_listed, f_leaving, a_sort, a_parentOf, a_firstChild, a_nextChild, a_previousChild, a_sizeOf, a_letters, b_placeNode, b_placeOffset, a_listing, a_opening, a_closing, a_leavers)) : wpX_movePlaces post (f_made, f_listed, f_leaving, a_sort, a_parentOf, a_firstChild, a_nextChild, a_previousChild, a_sizeOf, a_letters, a_placeNode, a_placeOffset, a_listing, a_opening, a_closing, a_leavers) (nI n) (nI o) (nI m) (nI q) := by
  have loop : ∀ (d f j : Nat) (an ao : Nat → Int32), d + j = 8 → d < f → wk_Q A B j an ao → wX_movePlaces_3 post (nI n) (nI o) (nI m) (nI q) f_made f_listed f_leaving f (nI j) a_sort a_parentOf a_firstChild a_nextChild a_previousChild a_sizeOf a_letters an ao a_listing a_opening a_closing a_leavers := by
    intro d
    induction d with
    | zero =>
      intro f j an ao hj hf hq
      obtain ⟨f, rfl⟩ : ∃ k, f = k + 1 := ⟨f - 1, by omega⟩
      rw [show j = 8 by omega] at hq ⊢
      exact br_t (by decide) (h an ao (wk_Q_8 hq))
    | succ d ih =>
      intro f j an ao hj hf hq
      obtain ⟨f, rfl⟩ : ∃ k, f = k + 1 := ⟨f - 1, by omega⟩
      have hj8 : j < 8 := by omega
      obtain ⟨q1, q2⟩ := wk_Q_a hq hj8
      obtain ⟨a1, a2⟩ := hA j hj8
      refine br_f (nI_ge (b := 8) hj8 (by decide)) ⟨wk_i8 hj8, ?_⟩
      rw [wk_c8 hj8, q1, q2]
      by_cases e : fo_n A j = n
      · refine br_t (by rw [e]) ⟨wk_i8 hj8, ?_⟩
        by_cases z : fo_o A j = o
        · obtain ⟨en, eo⟩ := h1 j hj8 e z
          refine br_t (by rw [z]) ⟨wk_i8 hj8, nm_e ⟨wk_i8 hj8, nm_e (nm_r (nI_1 j) ?_)⟩⟩
          exact ih f (j + 1) _ _ (by omega) (by omega) (wk_Q_2 hq (by rw [en]) (by rw [eo]))
        · obtain ⟨en, eo⟩ := h2 j hj8 (fun y => z y.2)
          refine br_f (fun w => z ((nI_eq (by omega) (by omega)).mp w)) (nm_r (nI_1 j) ?_)
          exact ih f (j + 1) _ _ (by omega) (by omega) (wk_Q_k hq hj8 en eo)
      · obtain ⟨en, eo⟩ := h2 j hj8 (fun y => e y.1)
        refine br_f (fun w => e ((nI_eq (by omega) (by omega)).mp w)) (nm_r (nI_1 j) ?_)
        exact ih f (j + 1) _ _ (by omega) (by omega) (wk_Q_k hq hj8 en eo)
  exact ⟨9, loop 8 9 0 _ _ rfl (by omega) (wk_Q_0 _ P)⟩
end
section
variable {A : fo_S} {f_made f_listed f_leaving : Int32} {a_sort a_parentOf a_firstChild a_nextChild a_previousChild a_sizeOf a_letters a_placeNode a_placeOffset a_listing a_opening a_closing a_leavers : Nat → Int32} {post : Int32 → SX → Prop}
theorem wx_join136 (K : wx_K A f_made a_sort a_parentOf a_firstChild a_nextChild a_previousChild a_sizeOf) (T : wx_T A a_letters) (I : fo_I A) {t s : Nat} (S : wk_jn A t s) (P : wk_P (fo_jl A t s) a_placeNode a_placeOffset) (h : ∀ u', wx_R (fo_tk (fo_jl A t s) s) u' → post (nI s) u') : ∃ n, wX_join_136 post (nI t) (nI s) (nI (fo_s A t)) f_made f_listed f_leaving n 0 a_sort a_parentOf a_firstChild a_nextChild a_previousChild a_sizeOf a_letters a_placeNode a_placeOffset a_listing a_opening a_closing a_leavers := by
  have S0 := S
  obtain ⟨h1, h2, h3, h4, h5, h6, h7, h8⟩ := S
  have J := fo_I_jl I h1 h2 h3 h4 h5 h6 h7 h8
  have F := I.1
  have Z := I.2.1
  have t24 := fo_lt24 F h1
  have s24 := fo_lt24 F h3
  have est := K.2.2.2.2.2.2 t t24
  have ess := K.2.2.2.2.2.2 s s24
  have hts : t ≠ s := fun e => by rw [e] at h7; omega
  have loop : ∀ (d n j : Nat) (g : Nat → Int32), d + j = fo_s A s → d < n → (∀ m, (m < 12 * t + fo_s A t ∨ 12 * t + fo_s A t + j ≤ m) → g m = a_letters m) → (∀ i, i < j → g (12 * t + fo_s A t + i) = a_letters (12 * s + i)) →
      wX_join_136 post (nI t) (nI s) (nI (fo_s A t)) f_made f_listed f_leaving n (nI j) a_sort a_parentOf a_firstChild a_nextChild a_previousChild a_sizeOf g a_placeNode a_placeOffset a_listing a_opening a_closing a_leavers := by
    intro d
    induction d with
    | zero =>
      intro n j g hj hn g1 g2
      obtain ⟨n, rfl⟩ : ∃ m, n = m + 1 := ⟨n - 1, by omega⟩
      have e : j = fo_s A s := by omega
      subst e
      refine ⟨wk_in s24, ?_⟩
      rw [wk_cl s24, ess]
      refine br_t (nI_le (Nat.le_refl _) (by omega)) ⟨wk_in s24, wk_in t24, nm_r (e' := upd a_sizeOf t (nI (fo_s A t + fo_s A s))) (by rw [wk_cl t24, nI_add]) ⟨wk_in s24, nm_r (e' := upd (upd a_sizeOf t (nI (fo_s A t + fo_s A s))) s (nI 0)) rfl ?_⟩⟩
      have R2 : wx_R (fo_jl A t s) (f_made, f_listed, f_leaving, a_sort, a_parentOf, a_firstChild, a_nextChild, a_previousChild, upd (upd a_sizeOf t (nI (fo_s A t + fo_s A s))) s (nI 0), g, a_placeNode, a_placeOffset, a_listing, a_opening, a_closing, a_leavers) := by
        refine ⟨wx_K_s F K rfl rfl rfl rfl rfl (wk_jn_s S0) fun n hn => ?_, fun n hn htn i hi => ?_, P⟩
        · show (if n = s then nI 0 else if n = t then nI (fo_s A t + fo_s A s) else a_sizeOf n) = nI (if n = s then 0 else if n = t then fo_s A t + fo_s A s else fo_s A n)
          by_cases e1 : n = s
          · rw [if_pos e1, if_pos e1]
          · rw [if_neg e1, if_neg e1]
            by_cases e2 : n = t
            · rw [if_pos e2, if_pos e2]
            · rw [if_neg e2, if_neg e2]; exact K.2.2.2.2.2.2 n hn
        · have hn : n < fo_c A := hn
          have htn : fo_t A n = true := htn
          have hi : i < (if n = s then 0 else if n = t then fo_s A t + fo_s A s else fo_s A n) := hi
          have n12 := fo_s_t Z hn htn
          show g (12 * n + i) = nI (if n = t ∧ fo_s A t ≤ i then fo_l A s (i - fo_s A t) else fo_l A n i)
          by_cases e1 : n = s
          · rw [if_pos e1] at hi; omega
          · rw [if_neg e1] at hi
            by_cases e2 : n = t
            · rw [if_pos e2] at hi
              by_cases z : fo_s A t ≤ i
              · rw [if_pos ⟨e2, z⟩, e2]
                have := g2 (i - fo_s A t) (by omega)
                rw [show 12 * t + fo_s A t + (i - fo_s A t) = 12 * t + i by omega] at this
                rw [this]
                exact T s h3 h4 _ (by omega)
              · rw [if_neg (fun y => z y.2), g1 _ (by rw [e2]; omega)]
                exact T n hn htn i (by rw [e2]; omega)
            · rw [if_neg e2] at hi
              rw [if_neg (fun y => e2 y.1), g1 _ (by omega)]
              exact T n hn htn i hi
      refine wx_takeOut R2 J.1 J.2.1 J.2.2.1 h3 (by show fo_p A s < 24; rw [h6]; exact h5) ?_
      intro b1 b2 b3 b4 b5 b6 b7 R3
      exact h _ R3
    | succ d ih =>
      intro n j g hj hn g1 g2
      obtain ⟨n, rfl⟩ : ∃ m, n = m + 1 := ⟨n - 1, by omega⟩
      refine ⟨wk_in s24, ?_⟩
      rw [wk_cl s24, ess]
      refine br_f (nI_ge (by omega) (by omega)) ?_
      rw [wk_12, wk_12, nI_add]
      refine ⟨vp_in_nI (by omega) (by decide), vp_in_nI (by omega) (by decide), ?_⟩
      rw [nI_clamp (show 12 * s + j < 2 ^ 31 by omega), nI_clamp (show 12 * t + fo_s A t + j < 2 ^ 31 by omega)]
      refine nm_e (nm_r (nI_1 j) (ih n (j + 1) _ (by omega) (by omega) (fun m hm => ?_) fun i hi => ?_))
      · rw [pk_un (by omega)]; exact g1 m (by omega)
      · by_cases e : i = j
        · rw [e, pk_us]; exact g1 _ (by omega)
        · rw [pk_un (by omega)]; exact g2 i (by omega)
  exact ⟨fo_s A s + 1, loop (fo_s A s) _ 0 a_letters rfl (by omega) (fun _ _ => rfl) fun i hi => absurd hi (by omega)⟩
theorem wx_join76 (R : wx_R A (f_made, f_listed, f_leaving, a_sort, a_parentOf, a_firstChild, a_nextChild, a_previousChild, a_sizeOf, a_letters, a_placeNode, a_placeOffset, a_listing, a_opening, a_closing, a_leavers)) (I : fo_I A) {t s : Nat} (S : wk_jn A t s) (h : ∀ u', wx_R (fo_tk (fo_jl A t s) s) u' → post (nI s) u') : ∃ n, wX_join_76 post (nI t) (nI s) (nI (fo_s A t)) (nI (fo_x A s)) f_made f_listed f_leaving n 0 a_sort a_parentOf a_firstChild a_nextChild a_previousChild a_sizeOf a_letters a_placeNode a_placeOffset a_listing a_opening a_closing a_leavers := by
  obtain ⟨K, T, P⟩ := R
  have S0 := S
  obtain ⟨h1, h2, h3, h4, h5, h6, h7, h8⟩ := S
  have F := I.1
  have Z := I.2.1
  have Q := I.2.2.1
  have t24 := fo_lt24 F h1
  have s24 := fo_lt24 F h3
  obtain ⟨u1, u2, u3, u4⟩ := fo_up F h1 h5
  have sp24 := fo_s_e F u1 u2
  have loop : ∀ (d m j : Nat) (an ao : Nat → Int32), d + j = 8 → d < m → wk_Q A (fo_j1 A t s) j an ao → wX_join_76 post (nI t) (nI s) (nI (fo_s A t)) (nI (fo_x A s)) f_made f_listed f_leaving m (nI j) a_sort a_parentOf a_firstChild a_nextChild a_previousChild a_sizeOf a_letters an ao a_listing a_opening a_closing a_leavers := by
    intro d
    induction d with
    | zero =>
      intro m j an ao hj hm hq
      obtain ⟨m, rfl⟩ : ∃ k, m = k + 1 := ⟨m - 1, by omega⟩
      rw [show j = 8 by omega] at hq ⊢
      refine br_t (by decide) ⟨wk_in t24, ?_⟩
      have ep : a_parentOf (nI t).toNatClampNeg = nI (fo_p A t) := by rw [wk_cl t24, K.2.2.1 t h1, wk_o_lt h5]
      rw [ep]
      refine wx_movePlaces' (A := fo_j1 A t s) (B := fo_jl A t s) (wk_Q_8 hq) (fun k hk => ?_) h5 (by omega) (fun k hk e1 e2 => (wk_jn_1 S0 F k).1 ⟨e1, e2⟩) (fun k hk e => (wk_jn_1 S0 F k).2 e) ?_
      · obtain ⟨q1, q2⟩ := wk_Qb F Z Q k hk
        show (if fo_n A k = s then t else fo_n A k) < 24 ∧ (if fo_n A k = s then fo_o A k + fo_s A t else fo_o A k) < 99
        by_cases e : fo_n A k = s
        · rw [if_pos e, if_pos e]; exact ⟨t24, by omega⟩
        · rw [if_neg e, if_neg e]; exact ⟨q1, by omega⟩
      · intro b1 b2 hP
        exact wx_join136 K T I S0 hP h
    | succ d ih =>
      intro m j an ao hj hm hq
      obtain ⟨m, rfl⟩ : ∃ k, m = k + 1 := ⟨m - 1, by omega⟩
      have hj8 : j < 8 := by omega
      obtain ⟨q1, q2⟩ := wk_Q_a hq hj8
      obtain ⟨p1, p2⟩ := wk_Qb F Z Q j hj8
      have en : fo_n (fo_j1 A t s) j = if fo_n A j = s then t else fo_n A j := rfl
      have eo : fo_o (fo_j1 A t s) j = if fo_n A j = s then fo_o A j + fo_s A t else fo_o A j := rfl
      refine br_f (nI_ge (b := 8) hj8 (by decide)) ⟨wk_i8 hj8, ?_⟩
      rw [wk_c8 hj8, q1, q2]
      by_cases e : fo_n A j = s
      · rw [if_pos e] at en eo
        refine br_t (by rw [e]) ⟨wk_i8 hj8, nm_e ⟨wk_i8 hj8, wk_i8 hj8, nm_e (nm_r (nI_1 j) ?_)⟩⟩
        exact ih m (j + 1) _ _ (by omega) (by omega) (wk_Q_2 hq (by rw [en]) (by rw [eo, nI_add]))
      · rw [if_neg e] at en eo
        refine br_f (fun w => e ((nI_eq (by omega) (by omega)).mp w)) (nm_r (nI_1 j) ?_)
        exact ih m (j + 1) _ _ (by omega) (by omega) (wk_Q_k hq hj8 en eo)
  exact ⟨9, loop 8 9 0 _ _ rfl (by omega) (wk_Q_0 _ P)⟩
end
section
variable {A : fo_S} {f_count f_length : Int32} {a_isText a_parents a_sizes a_items a_placeNode a_placeOffset a_marks a_opens a_closes a_coming : Nat → Int32} {post : Int32 → SY → Prop}
theorem wy_join135 (K : wy_K A f_count a_isText a_parents a_sizes) (T : wy_T A a_items) (I : fo_I A) {t s : Nat} (S : wk_jn A t s) (P : wk_P (fo_jl A t s) a_placeNode a_placeOffset) (h : ∀ u', wy_R (fo_tk (fo_jl A t s) s) u' → post (nI s) u') : ∃ n, wY_join_135 post (nI t) (nI s) (nI (fo_s A t)) f_count f_length n 0 a_isText a_parents a_sizes a_items a_placeNode a_placeOffset a_marks a_opens a_closes a_coming := by
  have S0 := S
  obtain ⟨h1, h2, h3, h4, h5, h6, h7, h8⟩ := S
  have J := fo_I_jl I h1 h2 h3 h4 h5 h6 h7 h8
  have F := I.1
  have Z := I.2.1
  have t24 := fo_lt24 F h1
  have s24 := fo_lt24 F h3
  have est := K.2.2.2 t h1
  have ess := K.2.2.2 s h3
  have hts : t ≠ s := fun e => by rw [e] at h7; omega
  have loop : ∀ (d n j : Nat) (g : Nat → Int32), d + j = fo_s A s → d < n → (∀ m, (m < 24 * t + fo_s A t ∨ 24 * t + fo_s A t + j ≤ m) → g m = a_items m) → (∀ i, i < j → g (24 * t + fo_s A t + i) = a_items (24 * s + i)) →
      wY_join_135 post (nI t) (nI s) (nI (fo_s A t)) f_count f_length n (nI j) a_isText a_parents a_sizes g a_placeNode a_placeOffset a_marks a_opens a_closes a_coming := by
    intro d
    induction d with
    | zero =>
      intro n j g hj hn g1 g2
      obtain ⟨n, rfl⟩ : ∃ m, n = m + 1 := ⟨n - 1, by omega⟩
      have e : j = fo_s A s := by omega
      subst e
      refine ⟨wk_in s24, ?_⟩
      rw [wk_cl s24, ess]
      refine br_t (nI_le (Nat.le_refl _) (by omega)) ⟨wk_in s24, wk_in t24, nm_r (e' := upd a_sizes t (nI (fo_s A t + fo_s A s))) (by rw [wk_cl t24, nI_add]) ⟨wk_in s24, nm_r (e' := upd (upd a_sizes t (nI (fo_s A t + fo_s A s))) s (nI 0)) rfl ?_⟩⟩
      have R2 : wy_R (fo_jl A t s) (f_count, f_length, a_isText, a_parents, upd (upd a_sizes t (nI (fo_s A t + fo_s A s))) s (nI 0), g, a_placeNode, a_placeOffset, a_marks, a_opens, a_closes, a_coming) := by
        refine ⟨⟨K.1, K.2.1, K.2.2.1, fun n hn => ?_⟩, fun n hn i hi => ?_, P⟩
        · show (if n = s then nI 0 else if n = t then nI (fo_s A t + fo_s A s) else a_sizes n) = nI (if n = s then 0 else if n = t then fo_s A t + fo_s A s else fo_s A n)
          by_cases e1 : n = s
          · rw [if_pos e1, if_pos e1]
          · rw [if_neg e1, if_neg e1]
            by_cases e2 : n = t
            · rw [if_pos e2, if_pos e2]
            · rw [if_neg e2, if_neg e2]; exact K.2.2.2 n hn
        · have hn : n < fo_c A := hn
          have hi2 : i < (if n = s then 0 else if n = t then fo_s A t + fo_s A s else fo_s A n) := hi
          have n24 := fo_s_a F Z n
          show g (24 * n + i) = nI (if fo_t A n = true then (if n = t ∧ fo_s A t ≤ i then fo_l A s (i - fo_s A t) else fo_l A n i) else fo_k A n i)
          by_cases e1 : n = s
          · rw [if_pos e1] at hi2; omega
          · rw [if_neg e1] at hi2
            by_cases e2 : n = t
            · rw [if_pos e2] at hi2
              by_cases z : fo_s A t ≤ i
              · rw [if_pos (c := n = t ∧ fo_s A t ≤ i) ⟨e2, z⟩, e2, if_pos h2]
                have := g2 (i - fo_s A t) (by omega)
                rw [show 24 * t + fo_s A t + (i - fo_s A t) = 24 * t + i by omega] at this
                rw [this]
                have := T s h3 (i - fo_s A t) (by omega)
                rw [if_pos h4] at this
                exact this
              · rw [if_neg (c := n = t ∧ fo_s A t ≤ i) (fun y => z y.2), g1 _ (by rw [e2]; omega)]
                exact T n hn i (by rw [e2]; omega)
            · rw [if_neg e2] at hi2
              rw [if_neg (c := n = t ∧ fo_s A t ≤ i) (fun y => e2 y.1), g1 _ (by omega)]
              exact T n hn i hi2
      refine wy_takeOut R2 J.1 J.2.1 J.2.2.1 h3 (by show fo_p A s < 24; rw [h6]; exact h5) ?_
      intro b1 b2 b3 b4 b5 R3
      exact h _ R3
    | succ d ih =>
      intro n j g hj hn g1 g2
      obtain ⟨n, rfl⟩ : ∃ m, n = m + 1 := ⟨n - 1, by omega⟩
      refine ⟨wk_in s24, ?_⟩
      rw [wk_cl s24, ess]
      refine br_f (nI_ge (by omega) (by omega)) ?_
      rw [wk_24, wk_24, nI_add]
      refine ⟨vp_in_nI (by omega) (by decide), vp_in_nI (by omega) (by decide), ?_⟩
      rw [nI_clamp (show 24 * s + j < 2 ^ 31 by omega), nI_clamp (show 24 * t + fo_s A t + j < 2 ^ 31 by omega)]
      refine nm_e (nm_r (nI_1 j) (ih n (j + 1) _ (by omega) (by omega) (fun m hm => ?_) fun i hi => ?_))
      · rw [pk_un (by omega)]; exact g1 m (by omega)
      · by_cases e : i = j
        · rw [e, pk_us]; exact g1 _ (by omega)
        · rw [pk_un (by omega)]; exact g2 i (by omega)
  exact ⟨fo_s A s + 1, loop (fo_s A s) _ 0 a_items rfl (by omega) (fun _ _ => rfl) fun i hi => absurd hi (by omega)⟩
end
theorem i_vc_join {k : Nat} {u : SX} {v : SY} (I : i_Rel k u v) (hk : k + 5 ≤ 2560) (v1 : Int32) : wpX_join (fun r u' => wpY_join (fun r' v' => r' = r ∧ i_Rel (k + 5) u' v') v v1) u v1 := by
  refine wk_el (P := fun u v => wpX_join (fun r u' => wpY_join (fun r' v' => r' = r ∧ i_Rel (k + 5) u' v') v v1) u v1) ?_ I
  intro A f_made f_listed f_leaving a_sort a_parentOf a_firstChild a_nextChild a_previousChild a_sizeOf a_letters a_placeNode a_placeOffset a_listing a_opening a_closing a_leavers f_count f_length a_isText a_parents a_sizes a_items c_placeNode c_placeOffset a_marks a_opens a_closes a_coming hI hX hY
  obtain ⟨F, Z, Q, R⟩ := hI
  have hI : fo_I A := ⟨F, Z, Q, R⟩
  have c24 := F.1
  have KX := hX.1
  have KY := hY.1
  have TY := hY.2.1
  have rel : i_Rel (k + 5) (f_made, f_listed, f_leaving, a_sort, a_parentOf, a_firstChild, a_nextChild, a_previousChild, a_sizeOf, a_letters, a_placeNode, a_placeOffset, a_listing, a_opening, a_closing, a_leavers) (f_count, f_length, a_isText, a_parents, a_sizes, a_items, c_placeNode, c_placeOffset, a_marks, a_opens, a_closes, a_coming) := ⟨A, hI, hX, hY⟩
  unfold wpX_join
  rcases wk_ix v1 F with z1 | ⟨t, ht, rfl⟩
  · refine wx_isText0 KX.1 z1 ?_
    refine br_t rfl ?_
    unfold wpY_join
    refine wy_isText0 KY.1 z1 ?_
    exact br_t rfl ⟨rfl, rel⟩
  · have t24 := fo_lt24 F ht
    refine wx_isText KX c24 ht ?_
    rcases fo_ft (fo_t A t) with tt | tt
    · have s12 := fo_s_t Z ht tt
      rw [tt]
      refine br_f (by decide) ⟨wk_in t24, nm_r (e' := wk_o (wx_nx A t)) (by rw [wk_cl t24, KX.2.2.2.2.1 t ht]) ⟨wk_in t24, ?_⟩⟩
      rw [wk_cl t24, KX.2.2.1 t ht, KX.2.2.2.2.2.2 t t24]
      by_cases hp : fo_p A t < 24
      · obtain ⟨u1, u2, u3, u4⟩ := fo_up F ht hp
        have sp24 := fo_s_e F u1 u2
        have ytop : ∀ (post : Int32 → SY → Prop), wY_join_32 post (nI t) (nI (fo_p A t)) (nI (fo_x A t + 1)) f_count f_length a_isText a_parents a_sizes a_items c_placeNode c_placeOffset a_marks a_opens a_closes a_coming → wpY_join post (f_count, f_length, a_isText, a_parents, a_sizes, a_items, c_placeNode, c_placeOffset, a_marks, a_opens, a_closes, a_coming) (nI t) := by
          intro post h
          unfold wpY_join
          refine wy_isText KY c24 ht ?_
          rw [tt]
          refine br_f (by decide) ⟨wk_in t24, nm_r (e' := nI (fo_p A t)) (by rw [wk_cl t24, KY.2.2.1 t ht, wk_o_lt hp]) (br_t (nI_pos' (by omega)) ?_)⟩
          refine wy_indexOf KY TY F ht hp ?_
          rw [nI_1]
          exact h
        refine br_f (fun w => wk_o_n.mp w hp) ?_
        by_cases hs : fo_x A t + 1 < fo_s A (fo_p A t)
        · have enx : wx_nx A t = fo_k A (fo_p A t) (fo_x A t + 1) := if_pos ⟨hp, hs⟩
          obtain ⟨k1, k2, k3⟩ := fo_dn F u1 u2 hs
          have ei : a_items (24 * nI (fo_p A t) + nI (fo_x A t + 1)).toNatClampNeg = nI (fo_k A (fo_p A t) (fo_x A t + 1)) := by
            have := TY _ u1 _ hs
            rw [if_neg (by rw [u2]; exact Bool.false_ne_true)] at this
            rw [wk_24, nI_clamp (show 24 * fo_p A t + (fo_x A t + 1) < 2 ^ 31 by omega), this]
          generalize fo_k A (fo_p A t) (fo_x A t + 1) = s at *
          have s24 := fo_lt24 F k1
          rw [enx, wk_o_lt s24]
          have ytop2 : ∀ (post : Int32 → SY → Prop), ((wk_b (fo_t A s) = 0 → post (-2) (f_count, f_length, a_isText, a_parents, a_sizes, a_items, c_placeNode, c_placeOffset, a_marks, a_opens, a_closes, a_coming)) ∧ (¬ wk_b (fo_t A s) = 0 → ((nI (fo_s A t) + nI (fo_s A s) ≤ 12 → (wpY_movePlaces (fun u => match u with | (f_count, f_length, a_isText, a_parents, a_sizes, a_items, a_placeNode, a_placeOffset, a_marks, a_opens, a_closes, a_coming) => (wpY_movePlaces (fun u => match u with | (f_count, f_length, a_isText, a_parents, a_sizes, a_items, a_placeNode, a_placeOffset, a_marks, a_opens, a_closes, a_coming) => (∃ n135 : Nat, wY_join_135 post (nI t) (nI s) (nI (fo_s A t)) f_count f_length n135 0 a_isText a_parents a_sizes a_items a_placeNode a_placeOffset a_marks a_opens a_closes a_coming)) (f_count, f_length, a_isText, a_parents, a_sizes, a_items, a_placeNode, a_placeOffset, a_marks, a_opens, a_closes, a_coming) (nI (fo_p A t)) (nI (fo_x A t + 1)) (nI (fo_x A t + 1)) (nI t) (nI (fo_s A t) - nI (fo_x A t + 1)))) (f_count, f_length, a_isText, a_parents, a_sizes, a_items, c_placeNode, c_placeOffset, a_marks, a_opens, a_closes, a_coming) (nI s) 0 12 (nI t) (nI (fo_s A t)))) ∧ (¬ nI (fo_s A t) + nI (fo_s A s) ≤ 12 → post (-3) (f_count, f_length, a_isText, a_parents, a_sizes, a_items, c_placeNode, c_placeOffset, a_marks, a_opens, a_closes, a_coming))))) → wpY_join post (f_count, f_length, a_isText, a_parents, a_sizes, a_items, c_placeNode, c_placeOffset, a_marks, a_opens, a_closes, a_coming) (nI t) := by
            intro post h
            refine ytop post ?_
            unfold wY_join_32
            refine br_f (nI_pos (by omega)) ⟨wk_in hp, ?_⟩
            rw [wk_cl hp, KY.2.2.2 _ u1, ei, wk_24]
            refine br_f (nI_ge hs (by omega)) ⟨vp_in_nI (by omega) (by decide), wk_in s24, ?_⟩
            rw [wk_cl s24, KY.2.1 s k1]
            rcases fo_ft (fo_t A s) with ts | ts
            · rw [ts] at h ⊢
              refine br_f (by decide) ⟨vp_in_nI (by omega) (by decide), nm_e ⟨wk_in t24, nm_r (e' := nI (fo_s A t)) (by rw [wk_cl t24, KY.2.2.2 t ht]) ⟨wk_in s24, ?_⟩⟩⟩
              rw [wk_cl s24, KY.2.2.2 s k1]
              exact h.2 (by decide)
            · rw [ts] at h ⊢
              exact br_t rfl (h.1 rfl)
          refine br_f (nI_pos (by omega)) ⟨wk_in s24, ?_⟩
          rw [wk_cl s24, KX.2.1 s k1, KX.2.2.2.2.2.2 s s24]
          rcases fo_ft (fo_t A s) with ts | ts
          · have ss12 := fo_s_t Z k1 ts
            rw [ts] at ytop2
            rw [ts]
            refine br_t rfl ⟨wk_in t24, nm_e ⟨wk_in s24, ?_⟩⟩
            rw [nI_add] at ytop2 ⊢
            by_cases h12 : fo_s A t + fo_s A s ≤ 12
            · have S : wk_jn A t s := ⟨ht, tt, k1, ts, hp, k2, k3, h12⟩
              have hJ := fo_I_jl hI ht tt k1 ts hp k2 k3 h12
              refine br_t (nI_le (b := 12) h12 (by decide)) ?_
              refine wx_indexOf KX.2.2.2.2.2.1 F k1 (by rw [k2]; exact hp) ?_
              refine wx_join76 hX hI S ?_
              intro u' hX2
              refine ytop2 _ (br_f (by decide) (br_t (nI_le (b := 12) h12 (by decide)) ?_))
              refine wy_movePlaces (B := fo_j1 A t s) (lo := 0) (hi := 12) hY.2.2 (wk_Qb F Z Q) s24 (by omega) (by omega) (fun j hj e1 e2 e3 => ?_) (fun j hj e => ?_) ?_
              · exact ⟨if_pos e1, by rw [nI_add]; exact congrArg nI (if_pos e1).symm⟩
              · have c : ¬ fo_n A j = s := fun w => e ⟨w, by omega, by have := (Q j hj).2; rw [w] at this; omega⟩
                exact ⟨if_neg c, if_neg c⟩
              intro b1 b2 hP1
              dsimp only
              refine wy_movePlaces (A := fo_j1 A t s) (B := fo_jl A t s) hP1 (fun j hj => ?_) hp (by omega) (by omega) (fun j hj e1 e2 e3 => ?_) (fun j hj e => ?_) ?_
              · obtain ⟨q1, q2⟩ := wk_Qb F Z Q j hj
                show (if fo_n A j = s then t else fo_n A j) < 24 ∧ (if fo_n A j = s then fo_o A j + fo_s A t else fo_o A j) < 24
                by_cases e : fo_n A j = s
                · rw [if_pos e, if_pos e]
                  have := (Q j hj).2
                  rw [e] at this
                  exact ⟨t24, by omega⟩
                · rw [if_neg e, if_neg e]; exact ⟨q1, q2⟩
              · have := (wk_jn_1 S F j).1 ⟨e1, by omega⟩
                refine ⟨this.1, ?_⟩
                rw [this.2, wk_ad (by omega)]
                exact congrArg nI (by omega)
              · exact (wk_jn_1 S F j).2 (fun w => e ⟨w.1, by omega, by omega⟩)
              intro b1 b2 hP2
              dsimp only
              refine wy_join135 KY TY hI S hP2 ?_
              intro v' hY2
              exact ⟨rfl, _, fo_I_tk hJ (n := s) k1 (by show fo_p A s < 24; rw [k2]; exact hp), hX2, hY2⟩
            · refine br_f (nI_ge (a := 12) (by omega) (by omega)) (ytop2 _ (br_f (by decide) (br_f (nI_ge (a := 12) (by omega) (by omega)) ⟨rfl, rel⟩)))
          · rw [ts] at ytop2
            rw [ts]
            exact br_f (by decide) (ytop2 _ (br_t rfl ⟨rfl, rel⟩))
        · have enx : wx_nx A t = 24 := if_neg (fun y => hs y.2)
          rw [enx, wk_o_24]
          refine br_t (by decide) (ytop _ ?_)
          unfold wY_join_32
          refine br_f (nI_pos (by omega)) ⟨wk_in hp, ?_⟩
          rw [wk_cl hp, KY.2.2.2 _ u1]
          exact br_t (nI_le (by omega) (by omega)) ⟨rfl, rel⟩
      · refine br_t (wk_o_n.mpr hp) ?_
        unfold wpY_join
        refine wy_isText KY c24 ht ?_
        rw [tt]
        refine br_f (by decide) ⟨wk_in t24, nm_r (e' := wk_o (fo_p A t)) (by rw [wk_cl t24, KY.2.2.1 t ht]) (br_f (fun w => hp (wk_o_p.mp w)) ?_)⟩
        unfold wY_join_32
        exact br_t (wk_o_n.mpr hp) ⟨rfl, rel⟩
    · rw [tt]
      refine br_t rfl ?_
      unfold wpY_join
      refine wy_isText KY c24 ht ?_
      rw [tt]
      exact br_t rfl ⟨rfl, rel⟩
end
section
/-! X: the marks of a tree numbered -/
/-- the nodes of r's tree, in the order of their opening marks -/
def fo_LI (A : fo_S) (r J : Nat) (l : Nat → Nat) : Prop := (∀ i, i < J → l i < fo_c A ∧ fo_r A (l i) = r) ∧ (∀ i k, i < k → k < J → fo_op A (l i) < fo_op A (l k)) ∧ (∀ x, x < fo_c A → fo_r A x = r → ∃ i, i < J ∧ l i = x)
theorem fo_LI_N {A : fo_S} {r J : Nat} {l : Nat → Nat} (L : fo_LI A r J l) {i : Nat} (hi : i + 1 < J) : fo_N A (fo_op A) (l i) (l (i + 1)) := by
  obtain ⟨l1, l2, l3⟩ := L
  refine ⟨(l1 _ hi).1, (l1 _ hi).2.trans (l1 i (by omega)).2.symm, l2 i _ (by omega) hi, fun x hx hr ho => ?_⟩
  obtain ⟨k, hk, e⟩ := l3 x hx (hr.trans (l1 i (by omega)).2)
  rw [← e] at ho ⊢
  rcases Nat.lt_trichotomy k (i + 1) with z | z | z
  · exfalso
    rcases Nat.lt_or_ge k i with y | y
    · have := l2 k i y (by omega)
      omega
    · rw [show k = i by omega] at ho
      omega
  · rw [z]; exact Nat.le_refl _
  · exact Nat.le_of_lt (l2 _ _ z hk)
theorem fo_LI_E {A : fo_S} {r J : Nat} {l : Nat → Nat} (L : fo_LI A r J l) {i : Nat} (hi : i + 1 = J) : fo_E A (fo_op A) (l i) := by
  obtain ⟨l1, l2, l3⟩ := L
  intro x hx hr
  obtain ⟨k, hk, e⟩ := l3 x hx (hr.trans (l1 i (by omega)).2)
  rw [← e]
  rcases Nat.lt_or_ge k i with y | y
  · exact Nat.le_of_lt (l2 k i y (by omega))
  · rw [show k = i by omega]; exact Nat.le_refl _
section
variable {A : fo_S} {f_made f_listed f_leaving : Int32} {a_sort a_parentOf a_firstChild a_nextChild a_previousChild a_sizeOf a_letters a_placeNode a_placeOffset a_listing a_opening a_closing a_leavers : Nat → Int32} {post : Int32 → Prop}
theorem wx_following (K : wx_K A f_made a_sort a_parentOf a_firstChild a_nextChild a_previousChild a_sizeOf) (F : fo_F A) {n r : Nat} (hn : n < fo_c A) (hr : fo_r A n = r) (h1 : ∀ m, fo_N A (fo_op A) n m → post (nI m)) (h2 : fo_E A (fo_op A) n → post (-1)) : wpX_following post (f_made, f_listed, f_leaving, a_sort, a_parentOf, a_firstChild, a_nextChild, a_previousChild, a_sizeOf, a_letters, a_placeNode, a_placeOffset, a_listing, a_opening, a_closing, a_leavers) (nI n) (nI r) := by
  have M := fo_M_ex F
  have L := fo_ML F M
  have n24 := fo_lt24 F hn
  have dn := fo_d_lt F hn
  have r24 : r < 24 := by rw [← hr]; exact fo_lt24 F (fo_r_in F n hn).1
  have e65 : ∀ w, w < fo_c A → fo_r A w = r → fo_U A (fo_op A) (fo_cl A) n w → (fo_p A w < 24 → fo_x A w + 1 < fo_s A (fo_p A w)) → wX_following_65 post (nI r) (nI w) f_made f_listed f_leaving a_sort a_parentOf a_firstChild a_nextChild a_previousChild a_sizeOf a_letters a_placeNode a_placeOffset a_listing a_opening a_closing a_leavers := by
    intro w hw hwr U hnx
    have w24 := fo_lt24 F hw
    unfold wX_following_65
    by_cases hp : fo_p A w < 24
    · have e : w ≠ r := fun e => by
        have := (fo_r_in F n hn).2.1
        rw [hr, ← e] at this
        omega
      refine br_f (fun z => e ((nI_eq (by omega) (by omega)).mp z)) ⟨wk_in w24, ?_⟩
      have enx : wx_nx A w = fo_k A (fo_p A w) (fo_x A w + 1) := if_pos ⟨hp, hnx hp⟩
      have N := fo_U_n F M hn U hp (hnx hp)
      rw [wk_cl w24, K.2.2.2.2.1 w hw, enx, wk_o_lt (fo_lt24 F N.1)]
      exact h1 _ N
    · have e : w = r := by rw [← hwr]; exact (fo_r_0 hp).symm
      exact br_t (by rw [e]) (h2 (fo_U_e F L hn U hp))
  have loop : ∀ (d m i w : Nat), fo_d A w = d → d < m → i + d = fo_d A n → w < fo_c A → fo_r A w = r → fo_U A (fo_op A) (fo_cl A) n w → wX_following_31 post (nI r) f_made f_listed f_leaving a_sort a_parentOf a_firstChild a_nextChild a_previousChild a_sizeOf a_letters a_placeNode a_placeOffset a_listing a_opening a_closing a_leavers m (nI w) (nI i) := by
    intro d
    induction d with
    | zero =>
      intro m i w hd hm hi hw hwr U
      obtain ⟨m, rfl⟩ : ∃ k, m = k + 1 := ⟨m - 1, by omega⟩
      have hp : ¬ fo_p A w < 24 := fun hp => by have := fo_d_up F hw hp; omega
      have e : w = r := by rw [← hwr]; exact (fo_r_0 hp).symm
      refine br_f (nI_ge (b := 24) (by omega) (by decide)) (br_t (by rw [e]) ?_)
      exact e65 w hw hwr U (fun z => absurd z hp)
    | succ d ih =>
      intro m i w hd hm hi hw hwr U
      obtain ⟨m, rfl⟩ : ∃ k, m = k + 1 := ⟨m - 1, by omega⟩
      have w24 := fo_lt24 F hw
      have hp : fo_p A w < 24 := by
        rcases Nat.lt_or_ge (fo_p A w) 24 with z | z
        · exact z
        · have := fo_d_0 (A := A) (n := w) (by omega)
          omega
      have hdu := fo_d_up F hw hp
      have u1 := (fo_up F hw hp).1
      have e : w ≠ r := fun e => by
        have := (fo_r_in F n hn).2.1
        rw [hr, ← e] at this
        omega
      refine br_f (nI_ge (b := 24) (by omega) (by decide)) (br_f (fun z => e ((nI_eq (by omega) (by omega)).mp z)) ⟨wk_in w24, ?_⟩)
      rw [wk_cl w24, K.2.2.2.2.1 w hw]
      by_cases z : fo_x A w + 1 < fo_s A (fo_p A w)
      · have enx : wx_nx A w = fo_k A (fo_p A w) (fo_x A w + 1) := if_pos ⟨hp, z⟩
        have N := fo_U_n F M hn U hp z
        exact br_t (wk_o_p.mpr (by rw [enx]; exact fo_lt24 F N.1)) (e65 w hw hwr U (fun _ => z))
      · have enx : wx_nx A w = 24 := if_neg (fun y => z y.2)
        refine br_f (fun y => by have := wk_o_p.mp y; rw [enx] at this; omega) ⟨wk_in w24, nm_r (e' := nI (fo_p A w)) (by rw [K.2.2.1 w hw, wk_o_lt hp]) (nm_r (nI_1 i) ?_)⟩
        exact ih m (i + 1) (fo_p A w) (by omega) (by omega) (by omega) u1 ((fo_r_up F hw hp).symm.trans hwr) (fo_U_s F M hn U hp (by omega))
  unfold wpX_following
  refine ⟨wk_in n24, ?_⟩
  rw [wk_cl n24, K.2.1 n hn]
  rcases fo_ft (fo_t A n) with t | t
  · rw [t]
    exact br_t rfl ⟨_, loop (fo_d A n) (fo_d A n + 1) 0 n rfl (by omega) (by omega) hn hr (fo_U_0 F L hn (Or.inl t))⟩
  · rw [t, K.2.2.2.1 n hn t]
    refine br_f (by decide) ⟨wk_in n24, ?_⟩
    by_cases z : 0 < fo_s A n
    · have e : wx_fc A n = fo_k A n 0 := if_pos z
      have N := fo_N_k F M hn t z
      rw [e, wk_o_lt (fo_lt24 F N.1)]
      exact br_f (nI_pos (by have := fo_lt24 F N.1; omega)) ⟨wk_in n24, h1 _ N⟩
    · have e : wx_fc A n = 24 := if_neg z
      rw [e, wk_o_24]
      exact br_t (by decide) ⟨_, loop (fo_d A n) (fo_d A n + 1) 0 n rfl (by omega) (by omega) hn hr (fo_U_0 F L hn (Or.inr (by omega)))⟩
end
theorem fo_cl_b {A : fo_S} (F : fo_F A) (Z : fo_Z A) {x : Nat} (hx : x < fo_c A) : fo_cl A x < 336 := by
  have M := fo_M_ex F
  obtain ⟨r1, r2, r3⟩ := fo_r_in F x hx
  have h := fo_len F M (B := 12) (fun n hn ht => fo_s_t Z hn ht) r1 r2
  have := fo_L_A F (fo_ML F M) hx (fo_lt24 F r1) r3
  omega
theorem fo_op_b {A : fo_S} (F : fo_F A) (Z : fo_Z A) {x : Nat} (hx : x < fo_c A) : fo_op A x < 336 := by
  have := fo_cl_b F Z hx
  have := (fo_M_ex F x hx).2.1
  omega
section
variable {A : fo_S} {f_made f_listed f_leaving : Int32} {a_sort a_parentOf a_firstChild a_nextChild a_previousChild a_sizeOf a_letters a_placeNode a_placeOffset a_listing a_opening a_closing a_leavers : Nat → Int32} {post : Int32 → SX → Prop}
/-- n has kids: nothing is closed -/
theorem wx_closeFrom0 {x y : Int32} {n d e : Nat} (hn : n < 24) (hde : d < e) (he : e < 99) {mk : Int32} (h : post mk (f_made, f_listed, f_leaving, a_sort, a_parentOf, a_firstChild, a_nextChild, a_previousChild, a_sizeOf, a_letters, a_placeNode, a_placeOffset, a_listing, a_opening, a_closing, a_leavers)) : wpX_closeFrom post (f_made, f_listed, f_leaving, a_sort, a_parentOf, a_firstChild, a_nextChild, a_previousChild, a_sizeOf, a_letters, a_placeNode, a_placeOffset, a_listing, a_opening, a_closing, a_leavers) (nI n) (nI d) (nI e) 1 mk :=
  ⟨1, br_f (by decide) (br_f (nI_pos (by omega)) (br_f (by decide) (br_t (nI_lt hde (by omega)) h)))⟩
theorem wx_closeFrom1 (hq : ∀ n, n < fo_c A → a_parentOf n = wk_o (fo_p A n)) (F : fo_F A) (Z : fo_Z A) {n m : Nat} (hn : n < fo_c A) (hl : fo_lf A n) (N : fo_N A (fo_op A) n m) (hc : ∀ x, x < fo_c A → fo_r A x = fo_r A n → fo_cl A x < fo_cl A n → a_closing x = nI (fo_cl A x))
    (h : ∀ b_closing, (∀ x, x < fo_c A → fo_r A x = fo_r A n → fo_cl A x < fo_op A m → b_closing x = nI (fo_cl A x)) → post (nI (fo_op A m)) (f_made, f_listed, f_leaving, a_sort, a_parentOf, a_firstChild, a_nextChild, a_previousChild, a_sizeOf, a_letters, a_placeNode, a_placeOffset, a_listing, a_opening, b_closing, a_leavers)) : wpX_closeFrom post (f_made, f_listed, f_leaving, a_sort, a_parentOf, a_firstChild, a_nextChild, a_previousChild, a_sizeOf, a_letters, a_placeNode, a_placeOffset, a_listing, a_opening, a_closing, a_leavers) (nI n) (nI (fo_d A n)) (nI (fo_d A m)) 1 (nI (fo_cl A n)) := by
  have M := fo_M_ex F
  have L := fo_ML F M
  have dn := fo_d_lt F hn
  have dm := fo_d_lt F N.1
  have hU := fo_U_0 F L hn hl
  have loop : ∀ (d f i w : Nat) (g : Nat → Int32), fo_d A w = d → d + 1 < f → i + d = fo_d A n → w < fo_c A → fo_A A w n → fo_cl A w < fo_op A m → (∀ x, x < fo_c A → fo_r A x = fo_r A n → fo_cl A x < fo_cl A w → g x = nI (fo_cl A x)) →
      wX_closeFrom_13 post (nI (fo_d A m)) 1 f_made f_listed f_leaving f (nI w) (nI (fo_d A w)) (nI (fo_cl A w)) (nI i) a_sort a_parentOf a_firstChild a_nextChild a_previousChild a_sizeOf a_letters a_placeNode a_placeOffset a_listing a_opening g a_leavers := by
    intro d
    induction d with
    | zero =>
      intro f i w g hd hf hi hw ha hcm hg
      have := (fo_CS F M hn N hw ha hcm).1
      have := fo_d_up F hw this
      omega
    | succ d ih =>
      intro f i w g hd hf hi hw ha hcm hg
      obtain ⟨f, rfl⟩ : ∃ k, f = k + 1 := ⟨f - 1, by omega⟩
      have w24 := fo_lt24 F hw
      obtain ⟨hp, hcs⟩ := fo_CS F M hn N hw ha hcm
      have hdu := fo_d_up F hw hp
      have u1 := (fo_up F hw hp).1
      have cb := fo_cl_b F Z hw
      have hrw : fo_r A w = fo_r A n := fo_A_rt F hn w24 ha
      have ha2 : fo_A A (fo_p A w) n := fo_A_t (fo_A_s (fo_A_r A _)) ha
      have hle := (fo_CF F M hn hl N hw ha).mpr hcm
      have hg2 : ∀ x, x < fo_c A → fo_r A x = fo_r A n → fo_cl A x < fo_cl A w + 1 → upd g w (nI (fo_cl A w)) x = nI (fo_cl A x) := by
        intro x hx hr hxc
        by_cases e : x = w
        · rw [e, pk_us]
        · rw [pk_un e]
          refine hg x hx hr ?_
          rcases Nat.lt_or_ge (fo_cl A x) (fo_cl A w) with z | z
          · exact z
          · exact absurd (fo_I3 F L hx hw (hr.trans hrw.symm) (by omega)) e
      refine br_f (nI_ge (b := 24) (by omega) (by decide)) (br_f (nI_pos (by omega)) (br_f (by decide) (br_f (nI_nlt hle (by omega)) ?_)))
      unfold wX_closeFrom_36
      rw [wk_cl w24]
      refine ⟨wk_in w24, nm_e (nm_r (nI_1 _) ⟨wk_in w24, nm_r (e' := nI (fo_p A w)) (by rw [hq w hw, wk_o_lt hp]) (nm_r (e' := nI (fo_d A (fo_p A w))) (by rw [hdu]; exact pk_m1 _) (nm_r (nI_1 i) ?_))⟩)⟩
      rcases hcs with ⟨c1, c2⟩ | ⟨c1, c2⟩
      · rw [← c2]
        exact ih f (i + 1) (fo_p A w) _ (by omega) (by omega) (by omega) u1 ha2 c1 (by rw [c2]; exact hg2)
      · obtain ⟨f, rfl⟩ : ∃ k, f = k + 1 := ⟨f - 1, by omega⟩
        have hlt : fo_d A (fo_p A w) < fo_d A m := by
          rcases Nat.lt_or_ge (fo_d A (fo_p A w)) (fo_d A m) with z | z
          · exact z
          · exact absurd ((fo_CF F M hn hl N u1 ha2).mp z) c1
        rw [← c2]
        rw [← c2] at hg2
        exact br_f (nI_ge (b := 24) (by omega) (by decide)) (br_f (nI_pos (by omega)) (br_f (by decide) (br_t (nI_lt hlt (by omega)) (h _ hg2))))
  have hcn : fo_cl A n < fo_op A m := hU.2.2 m N.1 N.2.1 N.2.2.1
  exact ⟨fo_d A n + 2, loop (fo_d A n) _ 0 n a_closing rfl (by omega) (by omega) hn (fo_A_r A n) hcn hc⟩
theorem wx_closeFrom2 (hq : ∀ n, n < fo_c A → a_parentOf n = wk_o (fo_p A n)) (F : fo_F A) (Z : fo_Z A) {n : Nat} {nx : Int32} (hn : n < fo_c A) (E : fo_E A (fo_op A) n) (hc : ∀ x, x < fo_c A → fo_r A x = fo_r A n → fo_cl A x < fo_cl A n → a_closing x = nI (fo_cl A x))
    (h : ∀ b_closing, (∀ x, x < fo_c A → fo_r A x = fo_r A n → b_closing x = nI (fo_cl A x)) → post (nI (fo_cl A (fo_r A n) + 1)) (f_made, f_listed, f_leaving, a_sort, a_parentOf, a_firstChild, a_nextChild, a_previousChild, a_sizeOf, a_letters, a_placeNode, a_placeOffset, a_listing, a_opening, b_closing, a_leavers)) : wpX_closeFrom post (f_made, f_listed, f_leaving, a_sort, a_parentOf, a_firstChild, a_nextChild, a_previousChild, a_sizeOf, a_letters, a_placeNode, a_placeOffset, a_listing, a_opening, a_closing, a_leavers) (nI n) (nI (fo_d A n)) nx 0 (nI (fo_cl A n)) := by
  have M := fo_M_ex F
  have L := fo_ML F M
  have dn := fo_d_lt F hn
  obtain ⟨r1, r2, r3⟩ := fo_r_in F n hn
  have loop : ∀ (d f i w : Nat) (lv : Int32) (g : Nat → Int32), fo_d A w = d → d + 1 < f → i + d = fo_d A n → w < fo_c A → fo_A A w n → (∀ x, x < fo_c A → fo_r A x = fo_r A n → fo_cl A x < fo_cl A w → g x = nI (fo_cl A x)) →
      wX_closeFrom_13 post nx 0 f_made f_listed f_leaving f (nI w) lv (nI (fo_cl A w)) (nI i) a_sort a_parentOf a_firstChild a_nextChild a_previousChild a_sizeOf a_letters a_placeNode a_placeOffset a_listing a_opening g a_leavers := by
    intro d
    induction d with
    | zero =>
      intro f i w lv g hd hf hi hw ha hg
      obtain ⟨f, rfl⟩ : ∃ k, f = k + 2 := ⟨f - 2, by omega⟩
      have w24 := fo_lt24 F hw
      have hp : ¬ fo_p A w < 24 := fun hp => by have := fo_d_up F hw hp; omega
      have hrw : fo_r A w = fo_r A n := fo_A_rt F hn w24 ha
      have e : w = fo_r A n := by rw [← hrw]; exact (fo_r_0 hp).symm
      refine br_f (nI_ge (b := 24) (by omega) (by decide)) (br_f (nI_pos (by omega)) (br_t rfl ?_))
      unfold wX_closeFrom_36
      rw [wk_cl w24]
      refine ⟨wk_in w24, nm_e (nm_r (nI_1 _) ⟨wk_in w24, nm_r (e' := -1) (by rw [hq w hw, wk_o_ge hp]) (nm_e (nm_r (nI_1 i) ?_))⟩)⟩
      have fin : post (nI (fo_cl A w + 1)) (f_made, f_listed, f_leaving, a_sort, a_parentOf, a_firstChild, a_nextChild, a_previousChild, a_sizeOf, a_letters, a_placeNode, a_placeOffset, a_listing, a_opening, upd g w (nI (fo_cl A w)), a_leavers) := by
        have := h (upd g w (nI (fo_cl A w))) fun x hx hr => ?_
        · rw [e] at this ⊢; exact this
        · by_cases e2 : x = w
          · rw [e2, pk_us]
          · rw [pk_un e2]
            refine hg x hx hr ?_
            have h1 := fo_L_A F L hx (fo_lt24 F r1) (by rw [← hr]; exact (fo_r_in F x hx).2.2)
            rcases Nat.lt_or_ge (fo_cl A x) (fo_cl A w) with z | z
            · exact z
            · exact absurd (fo_I3 F L hx hw (hr.trans hrw.symm) (by rw [← e] at h1; omega)) e2
      by_cases z : i + 1 < 24
      · exact br_f (nI_ge (b := 24) z (by decide)) (br_t (by decide) fin)
      · exact br_t (nI_le (a := 24) (by omega) (by omega)) fin
    | succ d ih =>
      intro f i w lv g hd hf hi hw ha hg
      obtain ⟨f, rfl⟩ : ∃ k, f = k + 1 := ⟨f - 1, by omega⟩
      have w24 := fo_lt24 F hw
      have hp : fo_p A w < 24 := by
        rcases Nat.lt_or_ge (fo_p A w) 24 with z | z
        · exact z
        · have := fo_d_0 (A := A) (n := w) (by omega)
          omega
      have hdu := fo_d_up F hw hp
      have u1 := (fo_up F hw hp).1
      have hrw : fo_r A w = fo_r A n := fo_A_rt F hn w24 ha
      have ha2 : fo_A A (fo_p A w) n := fo_A_t (fo_A_s (fo_A_r A _)) ha
      have c2 := fo_CE F M hn E hw ha hp
      refine br_f (nI_ge (b := 24) (by omega) (by decide)) (br_f (nI_pos (by omega)) (br_t rfl ?_))
      unfold wX_closeFrom_36
      rw [wk_cl w24]
      refine ⟨wk_in w24, nm_e (nm_r (nI_1 _) ⟨wk_in w24, nm_r (e' := nI (fo_p A w)) (by rw [hq w hw, wk_o_lt hp]) (nm_e (nm_r (nI_1 i) ?_))⟩)⟩
      rw [← c2]
      refine ih f (i + 1) (fo_p A w) _ _ (by omega) (by omega) (by omega) u1 ha2 fun x hx hr hxc => ?_
      by_cases e : x = w
      · rw [e, pk_us]
      · rw [pk_un e]
        refine hg x hx hr ?_
        rcases Nat.lt_or_ge (fo_cl A x) (fo_cl A w) with z | z
        · exact z
        · exact absurd (fo_I3 F L hx hw (hr.trans hrw.symm) (by omega)) e
  exact ⟨fo_d A n + 2, loop (fo_d A n) _ 0 n _ a_closing rfl (by omega) (by omega) hn (fo_A_r A n) hc⟩
end
end
section
section
variable {A : fo_S} {f_made f_listed f_leaving : Int32} {a_sort a_parentOf a_firstChild a_nextChild a_previousChild a_sizeOf a_letters a_placeNode a_placeOffset a_listing a_opening a_closing a_leavers : Nat → Int32} {post : SX → Prop}
theorem wx_num57 (K : wx_K A f_made a_sort a_parentOf a_firstChild a_nextChild a_previousChild a_sizeOf) (F : fo_F A) (Z : fo_Z A) {r J : Nat} {l : Nat → Nat} (hr : r < fo_c A) (hpr : fo_p A r = 24) (LI : fo_LI A r J l) (hJ : J ≤ 24) (hli : ∀ i, i < J → a_listing i = nI (l i)) (hlj : f_listed = nI J)
    (h : ∀ b_opening b_closing, (∀ x, x < fo_c A → fo_r A x = r → b_opening x = nI (fo_op A x) ∧ b_closing x = nI (fo_cl A x)) → post (f_made, f_listed, f_leaving, a_sort, a_parentOf, a_firstChild, a_nextChild, a_previousChild, a_sizeOf, a_letters, a_placeNode, a_placeOffset, a_listing, b_opening, b_closing, a_leavers)) : ∃ n, wX_numberMarks_57 post n 0 0 f_made f_listed f_leaving a_sort a_parentOf a_firstChild a_nextChild a_previousChild a_sizeOf a_letters a_placeNode a_placeOffset a_listing a_opening a_closing a_leavers := by
  have M := fo_M_ex F
  have L := fo_ML F M
  have rr : fo_r A r = r := fo_r_0 (by omega)
  subst hlj
  have loop : ∀ (d m i : Nat) (go gc : Nat → Int32), d + i = J → d < m → (∀ k, k < i → go (l k) = nI (fo_op A (l k))) → (∀ x, x < fo_c A → fo_r A x = r → fo_cl A x < (if i < J then fo_op A (l i) else fo_cl A r + 1) → gc x = nI (fo_cl A x)) →
      wX_numberMarks_57 post m (nI (if i < J then fo_op A (l i) else fo_cl A r + 1)) (nI i) f_made (nI J) f_leaving a_sort a_parentOf a_firstChild a_nextChild a_previousChild a_sizeOf a_letters a_placeNode a_placeOffset a_listing go gc a_leavers := by
    intro d
    induction d with
    | zero =>
      intro m i go gc hd hm ho hc
      obtain ⟨m, rfl⟩ : ∃ k, m = k + 1 := ⟨m - 1, by omega⟩
      have e : i = J := by omega
      subst e
      refine br_t (nI_le (Nat.le_refl _) (by omega)) (h go gc fun x hx hxr => ⟨?_, ?_⟩)
      · obtain ⟨k, hk, e⟩ := LI.2.2 x hx hxr
        rw [← e]; exact ho k hk
      · refine hc x hx hxr ?_
        rw [if_neg (Nat.lt_irrefl _)]
        have := fo_L_A F L hx (fo_lt24 F hr) (by rw [← hxr]; exact (fo_r_in F x hx).2.2)
        omega
    | succ d ih =>
      intro m i go gc hd hm ho hc
      obtain ⟨m, rfl⟩ : ∃ k, m = k + 1 := ⟨m - 1, by omega⟩
      have hi : i < J := by omega
      obtain ⟨hn, hnr⟩ := LI.1 i hi
      have eli := hli i hi
      have ne : ∀ k, k < i → l k ≠ l i := fun k hk e => by
        have := LI.2.1 k i hk hi
        rw [e] at this
        omega
      have lnx : i + 1 < J → fo_N A (fo_op A) (l i) (l (i + 1)) := fun z => fo_LI_N LI z
      have ldx : i + 1 < J → a_listing (i + 1) = nI (l (i + 1)) ∧ l (i + 1) < fo_c A := fun z => ⟨hli _ z, (LI.1 _ z).1⟩
      have lex : ¬ i + 1 < J → fo_E A (fo_op A) (l i) := fun z => fo_LI_E LI (by omega)
      have ihx : ∀ gc', (∀ x, x < fo_c A → fo_r A x = r → fo_cl A x < (if i + 1 < J then fo_op A (l (i + 1)) else fo_cl A r + 1) → gc' x = nI (fo_cl A x)) → wX_numberMarks_57 post m (nI (if i + 1 < J then fo_op A (l (i + 1)) else fo_cl A r + 1)) (nI (i + 1)) f_made (nI J) f_leaving a_sort a_parentOf a_firstChild a_nextChild a_previousChild a_sizeOf a_letters a_placeNode a_placeOffset a_listing (upd go (l i) (nI (fo_op A (l i)))) gc' a_leavers := by
        intro gc' hc'
        refine ih m (i + 1) _ gc' (by omega) (by omega) (fun k hk => ?_) hc'
        by_cases e : k = i
        · rw [e, pk_us]
        · rw [pk_un (ne k (by omega))]; exact ho k (by omega)
      rw [if_pos hi] at hc
      rw [if_pos hi]
      generalize l i = n at *
      have n24 := fo_lt24 F hn
      have dn := fo_d_lt F hn
      have ob := fo_op_b F Z hn
      have sb := fo_s_a F Z n
      -- the closing call
      have close : ∀ (z0 : Nat), nI (fo_op A n) + (1 + nI z0) = nI (fo_op A n + 1 + z0) → (fo_lf A n → fo_cl A n = fo_op A n + 1 + z0) → (¬ fo_lf A n → z0 = 0) →
          wX_numberMarks_107 post (wX_numberMarks_57 post m) (nI i) (nI n) (nI z0) 1 (nI (fo_op A n)) f_made (nI J) f_leaving a_sort a_parentOf a_firstChild a_nextChild a_previousChild a_sizeOf a_letters a_placeNode a_placeOffset a_listing (upd go n (nI (fo_op A n))) gc a_leavers := by
        intro z0 ez hleaf hnl
        unfold wX_numberMarks_107
        refine nm_r (e' := nI (fo_op A n + 1 + z0)) ez ?_
        refine wx_depthOf K.2.2.1 F hn ?_
        rw [nI_1]
        by_cases hnx : i + 1 < J
        · obtain ⟨e1, e2⟩ := ldx hnx
          have N := lnx hnx
          refine br_f (nI_ge hnx (by omega)) ⟨wk_in (by omega), ?_⟩
          rw [wk_cl (show i + 1 < 24 by omega), e1]
          refine wx_depthOf K.2.2.1 F e2 ?_
          unfold wX_numberMarks_146
          rw [nI_1]
          refine br_f (nI_ge hnx (by omega)) ?_
          unfold wX_numberMarks_171
          rw [if_pos hnx] at ihx
          by_cases hlf : fo_lf A n
          · rw [← hleaf hlf]
            refine wx_closeFrom1 K.2.2.1 F Z hn hlf N (fun x hx hxr hxc => ?_) ?_
            · refine hc x hx (hxr.trans hnr) ?_
              rcases Nat.lt_or_ge (fo_cl A x) (fo_op A n) with w | w
              · exact w
              · exfalso
                have i2 := fo_I2 F L hn hx hxr.symm
                rcases hlf with t | t
                · have hne : x ≠ n := fun e => by rw [e] at hxc; omega
                  have := (fo_I4 F L hn hx hxr.symm t hne).2
                  omega
                · rcases fo_ft (fo_t A n) with tt | tt
                  · have hne : x ≠ n := fun e => by rw [e] at hxc; omega
                    have := (fo_I4 F L hn hx hxr.symm tt hne).2
                    omega
                  · have := ((M n hn).2.2.2 tt).1 t
                    omega
            · intro b_closing hb
              refine nm_r (nI_1 i) (ihx b_closing fun x hx hxr hxc => hb x hx (hxr.trans hnr.symm) hxc)
          · have tn : fo_t A n = false := by
              rcases fo_ft (fo_t A n) with w | w
              · exact absurd (Or.inl w) hlf
              · exact w
            have sn : 0 < fo_s A n := by
              rcases Nat.eq_zero_or_pos (fo_s A n) with w | w
              · exact absurd (Or.inr w) hlf
              · exact w
            have N2 := fo_N_k F M hn tn sn
            have k0 := (((M n hn).2.2.2 tn).2.1 sn).1
            have e3 : l (i + 1) = fo_k A n 0 := by
              refine fo_I1 F L N.1 N2.1 (N.2.1.trans N2.2.1.symm) ?_
              have h1 := N.2.2.2 _ N2.1 N2.2.1 N2.2.2.1
              have h2 := N2.2.2.2 _ N.1 N.2.1 N.2.2.1
              omega
            obtain ⟨k1, k2, k3⟩ := fo_dn F hn tn sn
            have hd2 := fo_d_up F k1 (by rw [k2]; exact n24)
            rw [k2] at hd2
            have hd3 := fo_d_lt F k1
            refine wx_closeFrom0 (x := 0) (y := 0) n24 (by rw [e3]; omega) (by rw [e3]; omega) ?_
            have eo : fo_op A (l (i + 1)) = fo_op A n + 1 + z0 := by rw [e3, k0, hnl hlf]
            rw [eo] at ihx
            refine nm_r (nI_1 i) (ihx gc fun x hx hxr hxc => hc x hx hxr ?_)
            have i2 := fo_I2 F L hn hx (hnr.trans hxr.symm)
            have := hnl hlf
            omega
        · have hlf : fo_lf A n := by
            rcases fo_ft (fo_t A n) with w | w
            · exact Or.inl w
            · rcases Nat.eq_zero_or_pos (fo_s A n) with y | y
              · exact Or.inr y
              · have N2 := fo_N_k F M hn w y
                have := lex hnx _ N2.1 N2.2.1
                have := N2.2.2.1
                omega
          refine br_t (nI_le (by omega) (by omega)) ?_
          unfold wX_numberMarks_146
          rw [nI_1]
          refine br_t (nI_le (by omega) (by omega)) ?_
          unfold wX_numberMarks_171
          rw [if_neg hnx] at ihx
          rw [← hleaf hlf]
          refine wx_closeFrom2 K.2.2.1 F Z hn (lex hnx) (fun x hx hxr hxc => ?_) ?_
          · refine hc x hx (hxr.trans hnr) ?_
            rcases Nat.lt_or_ge (fo_cl A x) (fo_op A n) with w | w
            · exact w
            · exfalso
              have i2 := fo_I2 F L hn hx hxr.symm
              rcases hlf with t | t
              · have hne : x ≠ n := fun e => by rw [e] at hxc; omega
                have := (fo_I4 F L hn hx hxr.symm t hne).2
                omega
              · rcases fo_ft (fo_t A n) with tt | tt
                · have hne : x ≠ n := fun e => by rw [e] at hxc; omega
                  have := (fo_I4 F L hn hx hxr.symm tt hne).2
                  omega
                · have := ((M n hn).2.2.2 tt).1 t
                  omega
          · intro b_closing hb
            rw [hnr]
            exact nm_r (nI_1 i) (ihx b_closing fun x hx hxr _ => hb x hx (hxr.trans hnr.symm))
      refine br_f (nI_ge hi (by omega)) ⟨wk_in (by omega), nm_r (e' := nI n) (by rw [wk_cl (show i < 24 by omega)]; exact eli) ⟨wk_in n24, ?_⟩⟩
      rw [wk_cl n24]
      refine nm_e ⟨wk_in n24, ?_⟩
      rw [K.2.1 n hn, K.2.2.2.2.2.2 n n24]
      rcases fo_ft (fo_t A n) with t | t
      · rw [t]
        refine br_t rfl ⟨wk_in n24, close (fo_s A n) ?_ (fun _ => ?_) (fun w => absurd (Or.inl t) w)⟩
        · have : (1 : Int32) + nI (fo_s A n) = nI (1 + fo_s A n) := nI_add 1 _
          rw [this, nI_add]
          exact congrArg nI (by omega)
        · have := (M n hn).2.2.1 t
          omega
      · rw [t]
        refine br_f (by decide) (close 0 ?_ (fun w => ?_) (fun _ => rfl))
        · have : (1 : Int32) + nI 0 = nI (1 + 0) := nI_add 1 0
          rw [this, nI_add]
        · rcases w with w | w
          · rw [t] at w; exact absurd w (by decide)
          · exact ((M n hn).2.2.2 t).1 w
  have J0 : 0 < J := by
    obtain ⟨k, hk, -⟩ := LI.2.2 r hr rr
    omega
  have e0 : fo_op A (l 0) = 0 := by
    obtain ⟨k, hk, e⟩ := LI.2.2 r hr rr
    have h0 := (M r hr).1 hpr
    rcases Nat.eq_zero_or_pos k with z | z
    · rw [z] at e; rw [e]; exact h0
    · have := LI.2.1 0 k z hk
      rw [e] at this
      omega
  have := loop J (J + 1) 0 a_opening a_closing rfl (by omega) (fun k hk => absurd hk (Nat.not_lt_zero _)) (fun x hx hxr hxc => by rw [if_pos J0, e0] at hxc; omega)
  rw [if_pos J0, e0] at this
  exact ⟨J + 1, this⟩
theorem wx_numberMarks (K : wx_K A f_made a_sort a_parentOf a_firstChild a_nextChild a_previousChild a_sizeOf) (F : fo_F A) (Z : fo_Z A) {r : Nat} (hr : r < fo_c A) (hpr : fo_p A r = 24)
    (h : ∀ J l b_listing b_opening b_closing, J ≤ 24 → fo_LI A r J l → (∀ i, i < J → b_listing i = nI (l i)) → (∀ x, x < fo_c A → fo_r A x = r → b_opening x = nI (fo_op A x) ∧ b_closing x = nI (fo_cl A x)) → post (f_made, nI J, f_leaving, a_sort, a_parentOf, a_firstChild, a_nextChild, a_previousChild, a_sizeOf, a_letters, a_placeNode, a_placeOffset, b_listing, b_opening, b_closing, a_leavers)) : wpX_numberMarks post (f_made, f_listed, f_leaving, a_sort, a_parentOf, a_firstChild, a_nextChild, a_previousChild, a_sizeOf, a_letters, a_placeNode, a_placeOffset, a_listing, a_opening, a_closing, a_leavers) (nI r) := by
  have M := fo_M_ex F
  have L := fo_ML F M
  have rr : fo_r A r = r := fo_r_0 (by omega)
  have r24 := fo_lt24 F hr
  have fin : ∀ (J : Nat) (l : Nat → Nat) (g : Nat → Int32), J ≤ 24 → fo_LI A r J l → (∀ i, i < J → g i = nI (l i)) → ∃ n57 : Nat, wX_numberMarks_57 post n57 0 0 f_made (nI J) f_leaving a_sort a_parentOf a_firstChild a_nextChild a_previousChild a_sizeOf a_letters a_placeNode a_placeOffset g a_opening a_closing a_leavers := by
    intro J l g hJ LI hli
    exact wx_num57 (a_listing := g) K F Z hr hpr LI hJ hli rfl fun b1 b2 hb => h J l g b1 b2 hJ LI hli hb
  have loop : ∀ (d m j w : Nat) (l : Nat → Nat) (g : Nat → Int32), d + j = 24 → d < m → (∀ i, i < j → l i < fo_c A ∧ fo_r A (l i) = r) → (∀ i k, i < k → k < j → fo_op A (l i) < fo_op A (l k)) → (∀ i, i < j → g i = nI (l i)) →
      ((w < fo_c A ∧ fo_r A w = r ∧ (∀ i, i < j → fo_op A (l i) < fo_op A w) ∧ (∀ x, x < fo_c A → fo_r A x = r → fo_op A x < fo_op A w → ∃ i, i < j ∧ l i = x)) ∨ (w = 24 ∧ ∀ x, x < fo_c A → fo_r A x = r → ∃ i, i < j ∧ l i = x)) →
      wX_numberMarks_9 post (nI r) f_made f_leaving m (wk_o w) (nI j) (nI j) a_sort a_parentOf a_firstChild a_nextChild a_previousChild a_sizeOf a_letters a_placeNode a_placeOffset g a_opening a_closing a_leavers := by
    intro d
    induction d with
    | zero =>
      intro m j w l g hd hm l1 l2 hg hw
      obtain ⟨m, rfl⟩ : ∃ k, m = k + 1 := ⟨m - 1, by omega⟩
      rcases hw with ⟨w1, w2, w3, w4⟩ | ⟨w1, w2⟩
      · exfalso
        have inj : ∀ i k, i < k → k < 24 → l i ≠ l k := fun i k h1 h2 e => by
          have := l2 i k h1 (by omega)
          rw [e] at this
          omega
        have := fo_pig 24 25 (fun i => if i < 24 then l i else w) (fun i hi => ?_) fun i k hi hk e => ?_
        · omega
        · show (if i < 24 then l i else w) < 24
          by_cases z : i < 24
          · rw [if_pos z]; exact fo_lt24 F (l1 i (by omega)).1
          · rw [if_neg z]; exact fo_lt24 F w1
        · have e : (if i < 24 then l i else w) = (if k < 24 then l k else w) := e
          by_cases z : i < 24
          · rw [if_pos z] at e
            by_cases y : k < 24
            · rw [if_pos y] at e
              rcases Nat.lt_trichotomy i k with q | q | q
              · exact absurd e (inj i k q y)
              · exact q
              · exact absurd e.symm (inj k i q z)
            · rw [if_neg y] at e
              have := w3 i (by omega)
              rw [e] at this
              omega
          · rw [if_neg z] at e
            by_cases y : k < 24
            · rw [if_pos y] at e
              have := w3 k (by omega)
              rw [← e] at this
              omega
            · omega
      · exact br_t (nI_le (a := 24) (by omega) (by omega)) (fin j l g (by omega) ⟨l1, l2, w2⟩ hg)
    | succ d ih =>
      intro m j w l g hd hm l1 l2 hg hw
      obtain ⟨m, rfl⟩ : ∃ k, m = k + 1 := ⟨m - 1, by omega⟩
      refine br_f (nI_ge (b := 24) (by omega) (by decide)) ?_
      rcases hw with ⟨w1, w2, w3, w4⟩ | ⟨w1, w2⟩
      · have w24 := fo_lt24 F w1
        rw [wk_o_lt w24]
        refine br_f (nI_pos (by omega)) ⟨wk_in (by omega), ?_⟩
        rw [wk_cl (show j < 24 by omega)]
        refine nm_e (nm_r (nI_1 j) ?_)
        have g1 : ∀ i, i < j + 1 → upd g j (nI w) i = nI (if i = j then w else l i) := by
          intro i hi
          by_cases e : i = j
          · rw [e, pk_us, if_pos rfl]
          · rw [pk_un e, if_neg e]; exact hg i (by omega)
        have g2 : ∀ i, i < j + 1 → (if i = j then w else l i) < fo_c A ∧ fo_r A (if i = j then w else l i) = r := by
          intro i hi
          by_cases e : i = j
          · rw [if_pos e]; exact ⟨w1, w2⟩
          · rw [if_neg e]; exact l1 i (by omega)
        have g3 : ∀ i k, i < k → k < j + 1 → fo_op A (if i = j then w else l i) < fo_op A (if k = j then w else l k) := by
          intro i k hik hk
          rw [if_neg (show ¬ i = j by omega)]
          by_cases e : k = j
          · rw [if_pos e]; exact w3 i (by omega)
          · rw [if_neg e]; exact l2 i k hik (by omega)
        have g4 : ∀ x, x < fo_c A → fo_r A x = r → fo_op A x ≤ fo_op A w → ∃ i, i < j + 1 ∧ (if i = j then w else l i) = x := by
          intro x hx hxr hxo
          rcases Nat.lt_or_ge (fo_op A x) (fo_op A w) with z | z
          · obtain ⟨i, hi, e⟩ := w4 x hx hxr z
            exact ⟨i, by omega, by rw [if_neg (by omega)]; exact e⟩
          · exact ⟨j, by omega, by rw [if_pos rfl]; exact (fo_I1 F L hx w1 (hxr.trans w2.symm) (by omega)).symm⟩
        refine wx_following K F w1 w2 (fun n N => ?_) fun E => ?_
        · refine nm_r (nI_1 j) ?_
          have n24 := fo_lt24 F N.1
          rw [← wk_o_lt n24]
          refine ih m (j + 1) n _ _ (by omega) (by omega) g2 g3 g1 (Or.inl ⟨N.1, N.2.1.trans w2, fun i hi => ?_, fun x hx hxr hxo => ?_⟩)
          · by_cases e : i = j
            · rw [if_pos e]; exact N.2.2.1
            · rw [if_neg e]
              have := w3 i (by omega)
              have := N.2.2.1
              omega
          · refine g4 x hx hxr ?_
            rcases Nat.lt_or_ge (fo_op A w) (fo_op A x) with z | z
            · have := N.2.2.2 x hx (hxr.trans w2.symm) z
              omega
            · exact z
        · refine nm_r (nI_1 j) ?_
          rw [← wk_o_24]
          exact ih m (j + 1) 24 _ _ (by omega) (by omega) g2 g3 g1 (Or.inr ⟨rfl, fun x hx hxr => g4 x hx hxr (E x hx (hxr.trans w2.symm))⟩)
      · rw [w1, wk_o_24]
        exact br_t (by decide) (fin j l g (by omega) ⟨l1, l2, w2⟩ hg)
  have := loop 24 25 0 r (fun _ => 0) a_listing rfl (by omega) (fun i hi => absurd hi (Nat.not_lt_zero _)) (fun i k _ hk => absurd hk (Nat.not_lt_zero _)) (fun i hi => absurd hi (Nat.not_lt_zero _)) (Or.inl ⟨hr, rr, fun i hi => absurd hi (Nat.not_lt_zero _), fun x hx hxr hxo => by rw [(M r hr).1 hpr] at hxo; omega⟩)
  rw [wk_o_lt r24] at this
  exact ⟨25, this⟩
end
end
section
/-! Y: the row of a tree written -/
/-- the row is written up to len -/
def wy_D (A : fo_S) (r len : Nat) (a_marks a_opens a_closes : Nat → Int32) : Prop := ∀ x, x < fo_c A → fo_r A x = r →
  (fo_op A x < len → a_opens x = nI (fo_op A x) ∧ a_marks (fo_op A x) = -1) ∧ (fo_cl A x < len → a_closes x = nI (fo_cl A x) ∧ a_marks (fo_cl A x) = -1) ∧
  (fo_t A x = true → ∀ i, i < fo_s A x → fo_op A x + 1 + i < len → a_marks (fo_op A x + 1 + i) = nI (fo_l A x i))
section
variable {A : fo_S} {r : Nat} {a_marks a_opens a_closes : Nat → Int32}
theorem wy_D_o (F : fo_F A) {w : Nat} (hw : w < fo_c A) (hr : fo_r A w = r) (D : wy_D A r (fo_op A w) a_marks a_opens a_closes) : wy_D A r (fo_op A w + 1) (upd a_marks (fo_op A w) (-1)) (upd a_opens w (nI (fo_op A w))) a_closes := by
  have M := fo_M_ex F
  have L := fo_ML F M
  intro x hx hxr
  obtain ⟨d1, d2, d3⟩ := D x hx hxr
  have rr := hr.trans hxr.symm
  refine ⟨fun h => ?_, fun h => ?_, fun ht i hi h => ?_⟩
  · by_cases e : x = w
    · rw [e, pk_us, pk_us]; exact ⟨rfl, rfl⟩
    · have ne : fo_op A x ≠ fo_op A w := fun z => e (fo_I1 F L hx hw rr.symm z)
      rw [pk_un e, pk_un ne]; exact d1 (by omega)
  · have ne : fo_op A w ≠ fo_cl A x := fo_I2 F L hw hx rr
    rw [pk_un (fun z => ne z.symm)]; exact d2 (by omega)
  · have ne : fo_op A x + 1 + i ≠ fo_op A w := by
      intro z
      by_cases e : w = x
      · rw [e] at z; omega
      · have := (fo_I4 F L hx hw rr.symm ht e).1
        have := (M x hx).2.2.1 ht
        omega
    rw [pk_un ne]; exact d3 ht i hi (by omega)
theorem wy_D_l (F : fo_F A) {w i : Nat} (hw : w < fo_c A) (hr : fo_r A w = r) (tw : fo_t A w = true) (hi : i < fo_s A w) (D : wy_D A r (fo_op A w + 1 + i) a_marks a_opens a_closes) : wy_D A r (fo_op A w + 1 + i + 1) (upd a_marks (fo_op A w + 1 + i) (nI (fo_l A w i))) a_opens a_closes := by
  have M := fo_M_ex F
  have L := fo_ML F M
  have cw := (M w hw).2.2.1 tw
  intro x hx hxr
  obtain ⟨d1, d2, d3⟩ := D x hx hxr
  have rr := hr.trans hxr.symm
  have i4 : x ≠ w → (fo_op A x < fo_op A w ∨ fo_cl A w < fo_op A x) ∧ (fo_cl A x < fo_op A w ∨ fo_cl A w < fo_cl A x) := fun e => fo_I4 F L hw hx rr tw e
  refine ⟨fun h => ?_, fun h => ?_, fun ht j hj h => ?_⟩
  · have ne : fo_op A x ≠ fo_op A w + 1 + i := by
      intro z
      by_cases e : x = w
      · rw [e] at z; omega
      · have := (i4 e).1; omega
    rw [pk_un ne]; exact d1 (by omega)
  · have ne : fo_cl A x ≠ fo_op A w + 1 + i := by
      intro z
      by_cases e : x = w
      · rw [e] at z; omega
      · have := (i4 e).2; omega
    rw [pk_un ne]; exact d2 (by omega)
  · by_cases e : x = w
    · subst e
      by_cases e2 : j = i
      · rw [e2, pk_us]
      · rw [pk_un (by omega)]; exact d3 ht j hj (by omega)
    · have ne : fo_op A x + 1 + j ≠ fo_op A w + 1 + i := by
        have h1 := i4 e
        have h2 := fo_I4 F L hx hw rr.symm ht (fun z => e z.symm)
        have := (M x hx).2.2.1 ht
        omega
      rw [pk_un ne]; exact d3 ht j hj (by omega)
theorem wy_D_c (F : fo_F A) {w : Nat} (hw : w < fo_c A) (hr : fo_r A w = r) (D : wy_D A r (fo_cl A w) a_marks a_opens a_closes) : wy_D A r (fo_cl A w + 1) (upd a_marks (fo_cl A w) (-1)) a_opens (upd a_closes w (nI (fo_cl A w))) := by
  have M := fo_M_ex F
  have L := fo_ML F M
  intro x hx hxr
  obtain ⟨d1, d2, d3⟩ := D x hx hxr
  have rr := hr.trans hxr.symm
  refine ⟨fun h => ?_, fun h => ?_, fun ht i hi h => ?_⟩
  · have ne : fo_op A x ≠ fo_cl A w := fo_I2 F L hx hw rr.symm
    rw [pk_un ne]; exact d1 (by omega)
  · by_cases e : x = w
    · rw [e, pk_us, pk_us]; exact ⟨rfl, rfl⟩
    · have ne : fo_cl A x ≠ fo_cl A w := fun z => e (fo_I3 F L hx hw rr.symm z)
      rw [pk_un e, pk_un ne]; exact d2 (by omega)
  · have ne : fo_op A x + 1 + i ≠ fo_cl A w := by
      have cx := (M x hx).2.2.1 ht
      intro z
      by_cases e : w = x
      · rw [e] at z; omega
      · have := (fo_I4 F L hx hw rr.symm ht e).2
        omega
    rw [pk_un ne]; exact d3 ht i hi (by omega)
end
/-- the forest with all texts empty: it counts the steps -/
def fo_z (A : fo_S) : fo_S := (fo_c A, fo_t A, fo_p A, fo_x A, fun n => if fo_t A n = true then 0 else fo_s A n, fo_k A, fo_l A, fo_n A, fo_o A)
theorem fo_z_F {A : fo_S} (F : fo_F A) : fo_F (fo_z A) := fo_F_s F rfl rfl rfl rfl rfl fun q _ h => if_neg (by rw [h]; exact Bool.false_ne_true)
theorem fo_M_gl {A : fo_S} {op cl : Nat → Nat} (M : fo_M A op cl) {n : Nat} (hn : n < fo_c A) (ht : fo_t A n = false) : cl n = fo_g A op cl n (fo_s A n) + 1 := by
  obtain ⟨k0, k1, k2⟩ := (M n hn).2.2.2 ht
  rcases Nat.eq_zero_or_pos (fo_s A n) with z | z
  · rw [z, fo_g0]; exact k0 z
  · obtain ⟨j, hj⟩ : ∃ j, fo_s A n = j + 1 := ⟨fo_s A n - 1, by omega⟩
    have := (k1 z).2
    rw [hj] at this ⊢
    rw [fo_gs ht]
    exact this
section
variable {A : fo_S} {f_count f_length : Int32} {a_isText a_parents a_sizes a_items a_placeNode a_placeOffset a_marks a_opens a_closes a_coming : Nat → Int32} {post : SY → Prop}
theorem wy_mark {len : Nat} (hl : len < 400) {x : Int32} (h : post (f_count, nI (len + 1), a_isText, a_parents, a_sizes, a_items, a_placeNode, a_placeOffset, upd a_marks len x, a_opens, a_closes, a_coming)) : wpY_mark post (f_count, nI len, a_isText, a_parents, a_sizes, a_items, a_placeNode, a_placeOffset, a_marks, a_opens, a_closes, a_coming) x := by
  unfold wpY_mark
  refine ⟨vp_in_nI hl (by decide), ?_⟩
  rw [nI_clamp (show len < 2 ^ 31 by omega)]
  exact nm_e (nm_r (nI_1 _) h)
theorem wy_write (K : wy_K A f_count a_isText a_parents a_sizes) (T : wy_T A a_items) (F : fo_F A) (Z : fo_Z A) {r : Nat} (hr : r < fo_c A) (hpr : fo_p A r = 24)
    (h : ∀ b_length b_marks b_opens b_closes b_coming, wy_D A r (fo_cl A r + 1) b_marks b_opens b_closes → post (f_count, b_length, a_isText, a_parents, a_sizes, a_items, a_placeNode, a_placeOffset, b_marks, b_opens, b_closes, b_coming)) : wpY_write post (f_count, f_length, a_isText, a_parents, a_sizes, a_items, a_placeNode, a_placeOffset, a_marks, a_opens, a_closes, a_coming) (nI r) := by
  have M := fo_M_ex F
  have L := fo_ML F M
  have F0 := fo_z_F F
  have M0 := fo_M_ex F0
  have L0 := fo_ML F0 M0
  have rr : fo_r A r = r := fo_r_0 (by omega)
  have r24 := fo_lt24 F hr
  have len0 : fo_cl (fo_z A) r + 1 ≤ 48 := fo_len F0 M0 (B := 0) (fun n hn ht => by
    show (if fo_t A n = true then 0 else fo_s A n) ≤ 0
    have ht : fo_t A n = true := ht
    rw [if_pos ht]; exact Nat.le_refl _) (r := r) hr hpr
  have s0 : ∀ n, fo_t A n = false → fo_s (fo_z A) n = fo_s A n := fun n hn => if_neg (by rw [hn]; exact Bool.false_ne_true)
  have up0 : ∀ x, x < fo_c A → fo_r A x = r → fo_cl (fo_z A) x ≤ fo_cl (fo_z A) r := by
    intro x hx hxr
    have h1 := (fo_r_in F x hx).2.2
    rw [hxr] at h1
    obtain ⟨j, hj⟩ := h1
    have h2 : fo_A (fo_z A) r x := ⟨j, (fo_u_c (A := A) (B := fo_z A) rfl j x).trans hj⟩
    exact (fo_L_A F0 L0 hx r24 h2).2
  have loop : ∀ (d m w t len fr k : Nat) (gm go gc gk : Nat → Int32), t + d = 100 → d < m → w < fo_c A → fo_r A w = r → wy_D A r len gm go gc → (∀ b, b < fo_c A → fo_A A b w → fo_p A b < 24 → gk (fo_p A b) = nI (fo_x A b + 1)) →
      ((fr = 1 ∧ t = fo_op (fo_z A) w ∧ len = fo_op A w) ∨ (fr = 0 ∧ fo_t A w = false ∧ k ≤ fo_s A w ∧ gk w = nI k ∧ t = fo_g (fo_z A) (fo_op (fo_z A)) (fo_cl (fo_z A)) w k ∧ len = fo_g A (fo_op A) (fo_cl A) w k + 1)) →
      wY_write_12 post (nI r) m (nI w) (nI fr) (nI t) f_count (nI len) a_isText a_parents a_sizes a_items a_placeNode a_placeOffset gm go gc gk := by
    intro d
    induction d with
    | zero =>
      intro m w t len fr k gm go gc gk hd hm hw hwr D co hh
      exfalso
      have h1 := up0 w hw hwr
      have h2 := fo_L_lt L0 (n := w) hw
      rcases hh with ⟨-, e, -⟩ | ⟨-, tw, hk, -, e, -⟩
      · omega
      · have := fo_L_g F0 L0 (n := w) (o := k) hw (by rw [s0 w tw]; exact hk)
        omega
    | succ d ih =>
      intro m w t len fr k gm go gc gk hd hm hw hwr D co hh
      obtain ⟨m, rfl⟩ : ∃ k, m = k + 1 := ⟨m - 1, by omega⟩
      have w24 := fo_lt24 F hw
      have h1 := up0 w hw hwr
      have h2 := fo_L_lt L0 (n := w) hw
      have h3 := fo_cl_b F Z hw
      have h4 := fo_L_lt L hw
      have sw := fo_s_a F Z w
      -- closing w
      have s152 : ∀ (gm go gc gk : Nat → Int32), t + 1 = fo_cl (fo_z A) w → wy_D A r (fo_cl A w) gm go gc → (∀ b, b < fo_c A → fo_A A b w → fo_p A b < 24 → gk (fo_p A b) = nI (fo_x A b + 1)) → wY_write_152 post (wY_write_12 post (nI r) m) (nI r) (nI w) (nI t) f_count (nI (fo_cl A w)) a_isText a_parents a_sizes a_items a_placeNode a_placeOffset gm go gc gk := by
        intro gm go gc gk et D co
        unfold wY_write_152
        rw [wk_cl w24]
        refine ⟨wk_in w24, nm_e ?_⟩
        refine wy_mark (by omega) ?_
        have D2 := wy_D_c F hw hwr D
        by_cases e : w = r
        · refine br_t (by rw [e]) (nm_r (nI_1 t) ?_)
          obtain ⟨m, rfl⟩ : ∃ k, m = k + 1 := ⟨m - 1, by omega⟩
          have fin := h (nI (fo_cl A w + 1)) _ _ _ gk (by rw [show fo_cl A r = fo_cl A w by rw [e]]; exact D2)
          exact br_f (nI_ge (b := 100) (by omega) (by decide)) (br_t (by decide) fin)
        · have hp : fo_p A w < 24 := by
            rcases Nat.lt_or_ge (fo_p A w) 24 with z | z
            · exact z
            · exact absurd ((fo_r_0 (A := A) (n := w) (by omega)).symm.trans hwr) e
          obtain ⟨u1, u2, u3, u4⟩ := fo_up F hw hp
          refine br_f (fun z => e ((nI_eq (by omega) (by omega)).mp z)) ⟨wk_in w24, nm_r (e' := nI (fo_p A w)) (by rw [K.2.2.1 w hw, wk_o_lt hp]) (nm_r (nI_1 t) ?_)⟩
          refine ih m (fo_p A w) (t + 1) (fo_cl A w + 1) 0 (fo_x A w + 1) _ _ _ gk (by omega) (by omega) u1 ((fo_r_up F hw hp).symm.trans hwr) D2 (fun b hb ha => co b hb (fo_A_s ha)) (Or.inr ⟨rfl, u2, u3, co w hw (fo_A_r A w) hp, ?_, ?_⟩)
          · have u2' : fo_t (fo_z A) (fo_p A w) = false := u2
            rw [fo_gs u2', et]
            show fo_cl (fo_z A) w = fo_cl (fo_z A) (fo_k A (fo_p A w) (fo_x A w))
            rw [u4]
          · rw [fo_gs u2, u4]
      -- from node w with k kids done
      have s49 : ∀ (k len : Nat) (gm go gc gk : Nat → Int32), (fo_t A w = true → len = fo_op A w + 1 ∧ t = fo_op (fo_z A) w) → (fo_t A w = false → k ≤ fo_s A w ∧ gk w = nI k ∧ t = fo_g (fo_z A) (fo_op (fo_z A)) (fo_cl (fo_z A)) w k ∧ len = fo_g A (fo_op A) (fo_cl A) w k + 1) → wy_D A r len gm go gc → (∀ b, b < fo_c A → fo_A A b w → fo_p A b < 24 → gk (fo_p A b) = nI (fo_x A b + 1)) →
          wY_write_49 post (wY_write_12 post (nI r) m) (nI r) (nI w) (nI t) f_count (nI len) a_isText a_parents a_sizes a_items a_placeNode a_placeOffset gm go gc gk := by
        intro k len gm go gc gk ht1 ht0 D co
        unfold wY_write_49
        refine ⟨wk_in w24, ?_⟩
        rw [wk_cl w24, K.2.1 w hw, K.2.2.2 w hw]
        rcases fo_ft (fo_t A w) with tw | tw
        · obtain ⟨e1, e2⟩ := ht1 tw
          have cw := (M w hw).2.2.1 tw
          have cw0 := (M0 w hw).2.2.1 tw
          have sw0 : fo_s (fo_z A) w = 0 := if_pos tw
          rw [tw]
          refine br_f (by decide) ?_
          subst e1
          have l110 : ∀ (d f i : Nat) (gm : Nat → Int32), d + i = fo_s A w → d < f → wy_D A r (fo_op A w + 1 + i) gm go gc → wY_write_110 post (wY_write_12 post (nI r) m) (nI r) (nI w) (nI t) f (nI i) f_count (nI (fo_op A w + 1 + i)) a_isText a_parents a_sizes a_items a_placeNode a_placeOffset gm go gc gk := by
            intro d
            induction d with
            | zero =>
              intro f i gm hd hf D
              obtain ⟨f, rfl⟩ : ∃ k, f = k + 1 := ⟨f - 1, by omega⟩
              have e : i = fo_s A w := by omega
              subst e
              refine ⟨wk_in w24, ?_⟩
              rw [wk_cl w24, K.2.2.2 w hw]
              refine br_t (nI_le (Nat.le_refl _) (by omega)) ?_
              have ec : fo_op A w + 1 + fo_s A w = fo_cl A w := by omega
              rw [ec] at D ⊢
              exact s152 gm go gc gk (by omega) D co
            | succ d ih2 =>
              intro f i gm hd hf D
              obtain ⟨f, rfl⟩ : ∃ k, f = k + 1 := ⟨f - 1, by omega⟩
              have hi : i < fo_s A w := by omega
              refine ⟨wk_in w24, ?_⟩
              rw [wk_cl w24, K.2.2.2 w hw, K.2.1 w hw, tw]
              refine br_f (nI_ge hi (by omega)) ⟨wk_in w24, br_f (by decide) ?_⟩
              rw [wk_24]
              refine ⟨vp_in_nI (by omega) (by decide), ?_⟩
              have ti := T w hw i hi
              rw [if_pos tw] at ti
              rw [nI_clamp (show 24 * w + i < 2 ^ 31 by omega), ti]
              refine wy_mark (by omega) ?_
              exact nm_r (nI_1 i) (ih2 f (i + 1) _ (by omega) (by omega) (wy_D_l F hw hwr tw hi D))
          exact ⟨_, l110 (fo_s A w) (fo_s A w + 1) 0 gm rfl (by omega) D⟩
        · obtain ⟨hk, ek, et, el⟩ := ht0 tw
          have gk0 := fo_L_g F0 L0 (n := w) (o := k) hw (by rw [s0 w tw]; exact hk)
          rw [tw, ek]
          refine br_t rfl ⟨wk_in w24, wk_in w24, ?_⟩
          by_cases z : k < fo_s A w
          · obtain ⟨k1, k2, k3⟩ := fo_dn F hw tw z
            refine br_f (nI_ge z (by omega)) ⟨wk_in w24, wk_in w24, nm_r (e' := upd gk w (nI (k + 1))) (by rw [nI_1]) ⟨wk_in w24, ?_⟩⟩
            rw [pk_us]
            have ei : (24 : Int32) * nI w + nI (k + 1) - 1 = nI (24 * w + k) := by rw [wk_24, ← Nat.add_assoc, nI_pred]
            rw [ei]
            refine ⟨vp_in_nI (by omega) (by decide), nm_r (e' := nI (fo_k A w k)) ?_ (nm_r (nI_1 t) ?_)⟩
            · have ti := T w hw k z
              rw [if_neg (by rw [tw]; exact Bool.false_ne_true)] at ti
              rw [nI_clamp (show 24 * w + k < 2 ^ 31 by omega), ti]
            · refine ih m (fo_k A w k) (t + 1) len 1 0 gm go gc _ (by omega) (by omega) k1 ((fo_rk F hw tw z).trans hwr) D (fun b hb ha hpb => ?_) (Or.inl ⟨rfl, ?_, ?_⟩)
              · rcases fo_A_c ha with e | e
                · rw [e, k2, pk_us, k3]
                · rw [k2] at e
                  have ne : fo_p A b ≠ w := fun z => by
                    have h5 := fo_A_d F hw (fo_lt24 F hb) e
                    have h6 := fo_d_up F hb hpb
                    rw [z] at h6
                    omega
                  rw [pk_un ne]; exact co b hb e hpb
              · have tw' : fo_t (fo_z A) w = false := tw
                have := fo_M_g M0 (p := w) (i := k) hw tw' (by rw [s0 w tw]; exact z)
                rw [et]; exact this.symm
              · have := fo_M_g M hw tw z
                rw [el]; exact this.symm
          · have ek2 : k = fo_s A w := by omega
            refine br_t (nI_le (by omega) (by omega)) ⟨1, ?_⟩
            have ec := fo_M_gl M hw tw
            have tw' : fo_t (fo_z A) w = false := tw
            have ec0 := fo_M_gl M0 (n := w) hw tw'
            rw [s0 w tw] at ec0
            rw [ek2] at et el
            have e1 : len = fo_cl A w := by omega
            rw [e1] at D ⊢
            have fin := s152 gm go gc gk (by omega) D co
            refine ⟨wk_in w24, ?_⟩
            rw [wk_cl w24, K.2.2.2 w hw, K.2.1 w hw, tw]
            by_cases y : fo_s A w = 0
            · exact br_t (by rw [y]; exact Int32.le_refl _) fin
            · exact br_f (nI_nle (by omega) (by omega)) ⟨wk_in w24, br_t rfl fin⟩
      have t100 : t < 100 := by omega
      refine br_f (nI_ge (b := 100) t100 (by decide)) (br_f (nI_pos (by omega)) ?_)
      rcases hh with ⟨e1, e2, e3⟩ | ⟨e1, tw, hk, ek, et, el⟩
      · subst e1
        refine br_f (by decide) ⟨wk_in w24, ?_⟩
        rw [wk_cl w24]
        refine nm_e ⟨wk_in w24, nm_e ?_⟩
        refine wy_mark (by omega) ?_
        rw [e3] at D ⊢
        refine s49 0 _ _ _ _ _ (fun _ => ⟨rfl, e2⟩) (fun _ => ⟨Nat.zero_le _, by rw [pk_us]; rfl, by rw [fo_g0]; exact e2, by rw [fo_g0]⟩) (wy_D_o F hw hwr D) fun b hb ha hpb => ?_
        have ne : fo_p A b ≠ w := fun z => by
          have h5 := fo_A_d F hw (fo_lt24 F hb) ha
          have h6 := fo_d_up F hb hpb
          rw [z] at h6
          omega
        rw [pk_un ne]; exact co b hb ha hpb
      · subst e1
        refine br_t rfl ?_
        exact s49 k len gm go gc gk (fun z => by rw [tw] at z; exact absurd z (by decide)) (fun _ => ⟨hk, ek, et, el⟩) D co
  have e0 : fo_op (fo_z A) r = 0 := (M0 r hr).1 hpr
  have e1 : fo_op A r = 0 := (M r hr).1 hpr
  have := loop 100 101 r 0 0 1 0 a_marks a_opens a_closes a_coming rfl (by omega) hr rr (fun x hx hxr => ⟨fun z => absurd z (Nat.not_lt_zero _), fun z => absurd z (Nat.not_lt_zero _), fun _ i _ z => absurd z (Nat.not_lt_zero _)⟩) (fun b hb ha hpb => ?_) (Or.inl ⟨rfl, e0.symm, e1.symm⟩)
  · exact ⟨101, this⟩
  · exfalso
    rcases fo_A_c ha with e | e
    · rw [e] at hpb; omega
    · have := fo_A_p F (fo_lt24 F hb) e
      omega
end
end
section
/-! gaps, the order of places -/
section
variable {A : fo_S} {f_made f_listed f_leaving : Int32} {a_sort a_parentOf a_firstChild a_nextChild a_previousChild a_sizeOf a_letters a_placeNode a_placeOffset a_listing a_opening a_closing a_leavers : Nat → Int32} {post : Int32 → Prop}
theorem wx_gap (K : wx_K A f_made a_sort a_parentOf a_firstChild a_nextChild a_previousChild a_sizeOf) (P : wk_P A a_placeNode a_placeOffset) (F : fo_F A) (Z : fo_Z A) (Q : fo_Q A) {r : Nat} (hm : ∀ x, x < fo_c A → fo_r A x = r → a_opening x = nI (fo_op A x) ∧ a_closing x = nI (fo_cl A x)) {k : Nat} (hk : k < 8) (hr : fo_r A (fo_n A k) = r) (h : post (nI (fo_gg A k))) : wpX_gap post (f_made, f_listed, f_leaving, a_sort, a_parentOf, a_firstChild, a_nextChild, a_previousChild, a_sizeOf, a_letters, a_placeNode, a_placeOffset, a_listing, a_opening, a_closing, a_leavers) (nI k) := by
  obtain ⟨q1, q2⟩ := Q k hk
  have n24 := fo_lt24 F q1
  have s24 := fo_s_a F Z (fo_n A k)
  unfold wpX_gap
  refine ⟨wk_i8 hk, wk_i8 hk, ?_⟩
  rw [wk_c8 hk, (P k hk).1, (P k hk).2]
  unfold wpX_gapOf
  unfold fo_gg at h
  generalize fo_n A k = n at *
  generalize fo_o A k = o at *
  cases o with
  | zero =>
    rw [fo_g0] at h
    refine br_t rfl ⟨wk_in n24, ?_⟩
    rw [wk_cl n24, (hm n q1 hr).1]
    exact h
  | succ o =>
    refine br_f (nI_ne0 (by omega) (by omega)) ⟨wk_in n24, ?_⟩
    rw [wk_cl n24, K.2.1 n q1, nI_pred]
    rcases fo_ft (fo_t A n) with t | t
    · rw [t]
      refine br_t rfl ⟨wk_in n24, ?_⟩
      rw [(hm n q1 hr).1, nI_add]
      rw [fo_gt t] at h
      exact h
    · rw [t]
      refine br_f (by decide) ?_
      refine wx_childAt K F q1 t (by omega) ?_
      have ho : o < fo_s A n := by omega
      obtain ⟨k1, k2, k3⟩ := fo_dn F q1 t ho
      rw [if_pos ho, wk_o_lt (fo_lt24 F k1)]
      refine ⟨wk_in (fo_lt24 F k1), ?_⟩
      rw [wk_cl (fo_lt24 F k1), (hm _ k1 ((fo_rk F q1 t ho).trans hr)).2]
      rw [fo_gs t] at h
      exact h
theorem wx_liesBetween (F : fo_F A) (Z : fo_Z A) {r a b : Nat} (hm : ∀ x, x < fo_c A → fo_r A x = r → a_opening x = nI (fo_op A x) ∧ a_closing x = nI (fo_cl A x)) (ha : a < 2 ^ 30) (hb : b < 2 ^ 30) {n : Nat} (hn : n < fo_c A) (hr : fo_r A n = r) (h : post (wk_b (decide (a < fo_op A n ∧ fo_cl A n ≤ b)))) : wpX_liesBetween post (f_made, f_listed, f_leaving, a_sort, a_parentOf, a_firstChild, a_nextChild, a_previousChild, a_sizeOf, a_letters, a_placeNode, a_placeOffset, a_listing, a_opening, a_closing, a_leavers) (nI n) (nI a) (nI b) := by
  have n24 := fo_lt24 F hn
  have ob := fo_op_b F Z hn
  have cb := fo_cl_b F Z hn
  unfold wpX_liesBetween
  refine ⟨wk_in n24, ?_⟩
  rw [wk_cl n24, (hm n hn hr).1, (hm n hn hr).2]
  by_cases z : a < fo_op A n
  · refine br_f (nI_ge z (by omega)) ⟨wk_in n24, ?_⟩
    by_cases y : fo_cl A n ≤ b
    · rw [decide_eq_true ⟨z, y⟩] at h
      exact br_f (nI_nlt y (by omega)) h
    · rw [decide_eq_false (fun w => y w.2)] at h
      exact br_t (nI_lt (by omega) (by omega)) h
  · rw [decide_eq_false (fun w => z w.1)] at h
    exact br_t (nI_le (by omega) (by omega)) h
end
theorem fo_gg_b {A : fo_S} (F : fo_F A) (Z : fo_Z A) (Q : fo_Q A) {k : Nat} (hk : k < 8) : fo_gg A k < 336 := by
  obtain ⟨q1, q2⟩ := Q k hk
  have := fo_L_g F (fo_ML F (fo_M_ex F)) q1 q2
  have := fo_cl_b F Z q1
  unfold fo_gg
  omega
section
variable {A : fo_S} {f_count f_length : Int32} {a_isText a_parents a_sizes a_items a_placeNode a_placeOffset a_marks a_opens a_closes a_coming : Nat → Int32} {post : Int32 → Prop}
theorem wy_gap (K : wy_K A f_count a_isText a_parents a_sizes) (T : wy_T A a_items) (P : wk_P A a_placeNode a_placeOffset) (F : fo_F A) (Z : fo_Z A) (Q : fo_Q A) {r : Nat} (hm : ∀ x, x < fo_c A → fo_r A x = r → a_opens x = nI (fo_op A x) ∧ a_closes x = nI (fo_cl A x)) {k : Nat} (hk : k < 8) (hr : fo_r A (fo_n A k) = r) (h : post (nI (fo_gg A k + 1))) : wpY_gap post (f_count, f_length, a_isText, a_parents, a_sizes, a_items, a_placeNode, a_placeOffset, a_marks, a_opens, a_closes, a_coming) (nI k) := by
  obtain ⟨q1, q2⟩ := Q k hk
  have n24 := fo_lt24 F q1
  have s24 := fo_s_a F Z (fo_n A k)
  unfold wpY_gap
  refine ⟨wk_i8 hk, nm_r (e' := nI (fo_n A k)) (by rw [wk_c8 hk, (P k hk).1]) ⟨wk_i8 hk, nm_r (e' := nI (fo_o A k)) (by rw [wk_c8 hk, (P k hk).2]) ⟨wk_in n24, ?_⟩⟩⟩
  rw [wk_cl n24, K.2.1 _ q1]
  unfold fo_gg at h
  generalize fo_n A k = n at *
  generalize fo_o A k = o at *
  have e27 : fo_t A n = true ∨ o = 0 → wY_gap_27 post (nI n) (nI o) f_count f_length a_isText a_parents a_sizes a_items a_placeNode a_placeOffset a_marks a_opens a_closes a_coming := by
    intro w
    unfold wY_gap_27
    refine ⟨wk_in n24, ?_⟩
    rw [wk_cl n24, (hm n q1 hr).1, nI_1, nI_add]
    have e : fo_g A (fo_op A) (fo_cl A) n o = fo_op A n + o := by
      rcases w with w | w
      · exact fo_gt w
      · rw [w, fo_g0]; rfl
    rw [e, show fo_op A n + o + 1 = fo_op A n + 1 + o by omega] at h
    exact h
  rcases fo_ft (fo_t A n) with t | t
  · rw [t]
    exact br_f (by decide) (e27 (Or.inl t))
  · rw [t]
    refine br_t rfl ?_
    cases o with
    | zero => exact br_t rfl (e27 (Or.inr rfl))
    | succ o =>
      have ho : o < fo_s A n := by omega
      obtain ⟨k1, k2, k3⟩ := fo_dn F q1 t ho
      have ti := T n q1 o ho
      rw [if_neg (by rw [t]; exact Bool.false_ne_true)] at ti
      have ei : (24 : Int32) * nI n + nI (o + 1) - 1 = nI (24 * n + o) := by rw [wk_24, ← Nat.add_assoc, nI_pred]
      refine br_f (nI_ne0 (by omega) (by omega)) ?_
      rw [ei, nI_clamp (show 24 * n + o < 2 ^ 31 by omega), ti]
      refine ⟨vp_in_nI (by omega) (by decide), wk_in (fo_lt24 F k1), ?_⟩
      rw [wk_cl (fo_lt24 F k1), (hm _ k1 ((fo_rk F q1 t ho).trans hr)).2, nI_1]
      rw [fo_gs t] at h
      exact h
end
/-- how two numbers compare -/
def wk_cmp (a b : Nat) : Int32 := if a < b then -1 else if a = b then 0 else 1
theorem wy_D_m {A : fo_S} (F : fo_F A) {r : Nat} {a_marks a_opens a_closes : Nat → Int32} (hr : r < fo_c A) (D : wy_D A r (fo_cl A r + 1) a_marks a_opens a_closes) : ∀ x, x < fo_c A → fo_r A x = r → a_opens x = nI (fo_op A x) ∧ a_closes x = nI (fo_cl A x) := by
  intro x hx hxr
  have L := fo_ML F (fo_M_ex F)
  have h1 := fo_L_A F L hx (fo_lt24 F hr) (by rw [← hxr]; exact (fo_r_in F x hx).2.2)
  have h2 := fo_L_lt L hx
  obtain ⟨d1, d2, -⟩ := D x hx hxr
  exact ⟨(d1 (by omega)).1, (d2 (by omega)).1⟩
section
variable {A : fo_S} {f_count f_length : Int32} {a_isText a_parents a_sizes a_items a_placeNode a_placeOffset a_marks a_opens a_closes a_coming : Nat → Int32} {post : Int32 → SY → Prop}
theorem wy_order (R : wy_R A (f_count, f_length, a_isText, a_parents, a_sizes, a_items, a_placeNode, a_placeOffset, a_marks, a_opens, a_closes, a_coming)) (F : fo_F A) (Z : fo_Z A) (Q : fo_Q A) {k1 k2 : Nat} (h1 : k1 < 8) (h2 : k2 < 8) (h0 : fo_r A (fo_n A k1) ≠ fo_r A (fo_n A k2) → post 2 (f_count, f_length, a_isText, a_parents, a_sizes, a_items, a_placeNode, a_placeOffset, a_marks, a_opens, a_closes, a_coming)) (h : fo_r A (fo_n A k1) = fo_r A (fo_n A k2) → ∀ b_length b_marks b_opens b_closes b_coming, post (wk_cmp (fo_gg A k1) (fo_gg A k2)) (f_count, b_length, a_isText, a_parents, a_sizes, a_items, a_placeNode, a_placeOffset, b_marks, b_opens, b_closes, b_coming)) : wpY_order post (f_count, f_length, a_isText, a_parents, a_sizes, a_items, a_placeNode, a_placeOffset, a_marks, a_opens, a_closes, a_coming) (nI k1) (nI k2) := by
  obtain ⟨K, T, P⟩ := R
  have q1 := (Q k1 h1).1
  have q2 := (Q k2 h2).1
  obtain ⟨r1, r2, r3⟩ := fo_r_in F _ q1
  obtain ⟨r4, r5, r6⟩ := fo_r_in F _ q2
  have b1 := fo_lt24 F r1
  have b2 := fo_lt24 F r4
  have g1 := fo_gg_b F Z Q h1
  have g2 := fo_gg_b F Z Q h2
  unfold wpY_order
  refine ⟨wk_i8 h1, ?_⟩
  rw [wk_c8 h1, wk_c8 h2, (P k1 h1).1, (P k2 h2).1]
  refine wy_treeOf K.2.2.1 F q1 ?_
  refine ⟨wk_i8 h2, ?_⟩
  refine wy_treeOf K.2.2.1 F q2 ?_
  by_cases e : fo_r A (fo_n A k1) = fo_r A (fo_n A k2)
  · refine br_t (by rw [e]) ?_
    refine wy_write K T F Z r1 r2 ?_
    intro c1 c2 c3 c4 c5 D
    have hm := wy_D_m F r1 D
    dsimp only
    refine wy_gap K T P F Z Q hm h1 rfl ?_
    refine wy_gap K T P F Z Q hm h2 e.symm ?_
    have fin := h e c1 c2 c3 c4 c5
    unfold wk_cmp at fin
    rcases Nat.lt_trichotomy (fo_gg A k1) (fo_gg A k2) with z | z | z
    · rw [if_pos z] at fin
      exact br_f (nI_ge (by omega) (by omega)) fin
    · rw [if_neg (by omega), if_pos z] at fin
      exact br_t (nI_le (by omega) (by omega)) (br_t (nI_le (by omega) (by omega)) fin)
    · rw [if_neg (by omega), if_neg (by omega)] at fin
      exact br_t (nI_le (by omega) (by omega)) (br_f (nI_ge (by omega) (by omega)) fin)
  · refine br_f (fun z => e ?_) (h0 e)
    exact ((nI_eq (by omega) (by omega)).mp z).symm
end
theorem i_vc_compare {k : Nat} {u : SX} {v : SY} (I : i_Rel k u v) (hk : k + 5 ≤ 2560) (v1 : Int32) (v2 : Int32) (v3 : Int32) (v4 : Int32) : wpX_compare (fun r u' => wpY_compare (fun r' v' => r' = r ∧ i_Rel (k + 5) u' v') v v1 v2 v3 v4) u v1 v2 v3 v4 := by
  refine wk_el (P := fun u v => wpX_compare (fun r u' => wpY_compare (fun r' v' => r' = r ∧ i_Rel (k + 5) u' v') v v1 v2 v3 v4) u v1 v2 v3 v4) ?_ I
  intro A f_made f_listed f_leaving a_sort a_parentOf a_firstChild a_nextChild a_previousChild a_sizeOf a_letters a_placeNode a_placeOffset a_listing a_opening a_closing a_leavers f_count f_length a_isText a_parents a_sizes a_items c_placeNode c_placeOffset a_marks a_opens a_closes a_coming hI hX hY
  obtain ⟨F, Z, Q, R⟩ := hI
  have hI : fo_I A := ⟨F, Z, Q, R⟩
  have KX := hX.1
  have PX := hX.2.2
  have rel : i_Rel (k + 5) (f_made, f_listed, f_leaving, a_sort, a_parentOf, a_firstChild, a_nextChild, a_previousChild, a_sizeOf, a_letters, a_placeNode, a_placeOffset, a_listing, a_opening, a_closing, a_leavers) (f_count, f_length, a_isText, a_parents, a_sizes, a_items, c_placeNode, c_placeOffset, a_marks, a_opens, a_closes, a_coming) := ⟨A, hI, hX, hY⟩
  unfold wpX_compare
  rcases wk_rx v1 with z1 | ⟨r, hr, rfl⟩
  · refine wx_isRange0 z1 (br_t rfl ?_)
    unfold wpY_compare
    refine wy_isPlace0r z1 ?_
    exact br_t rfl ⟨rfl, rel⟩
  · refine wx_isRange1 hr (br_f (by decide) ?_)
    rcases wk_wz v2 with z2 | ⟨w, hw, rfl⟩
    · refine wx_isWhich0 z2 (br_t rfl ?_)
      unfold wpY_compare
      refine wy_isPlace0w hr z2 ?_
      exact br_t rfl ⟨rfl, rel⟩
    · refine wx_isWhich1 hw (br_f (by decide) ?_)
      rcases wk_rx v3 with z3 | ⟨o, ho, rfl⟩
      · refine wx_isRange0 z3 (br_t rfl ?_)
        unfold wpY_compare
        refine wy_isPlace1 hr hw ?_
        refine br_f (by decide) ?_
        refine wy_isPlace0r z3 ?_
        exact br_t rfl ⟨rfl, rel⟩
      · refine wx_isRange1 ho (br_f (by decide) ?_)
        rcases wk_wz v4 with z4 | ⟨y, hy, rfl⟩
        · refine wx_isWhich0 z4 (br_t rfl ?_)
          unfold wpY_compare
          refine wy_isPlace1 hr hw ?_
          refine br_f (by decide) ?_
          refine wy_isPlace0w ho z4 ?_
          exact br_t rfl ⟨rfl, rel⟩
        · refine wx_isWhich1 hy (br_f (by decide) (nm_r (wk_2r r w) (nm_r (wk_2r o y) ?_)))
          have h1 : 2 * r + w < 8 := by omega
          have h2 : 2 * o + y < 8 := by omega
          have yy : ∀ (post : Int32 → SY → Prop), wpY_order post (f_count, f_length, a_isText, a_parents, a_sizes, a_items, c_placeNode, c_placeOffset, a_marks, a_opens, a_closes, a_coming) (nI (2 * r + w)) (nI (2 * o + y)) → wpY_compare post (f_count, f_length, a_isText, a_parents, a_sizes, a_items, c_placeNode, c_placeOffset, a_marks, a_opens, a_closes, a_coming) (nI r) (nI w) (nI o) (nI y) := by
            intro post h
            unfold wpY_compare
            refine wy_isPlace1 hr hw ?_
            refine br_f (by decide) ?_
            refine wy_isPlace1 ho hy ?_
            refine br_f (by decide) ?_
            rw [wk_2r, wk_2r]
            exact h
          generalize 2 * r + w = k1 at *
          generalize 2 * o + y = k2 at *
          have q1 := (Q k1 h1).1
          have q2 := (Q k2 h2).1
          obtain ⟨r1, r2, r3⟩ := fo_r_in F _ q1
          obtain ⟨r4, r5, r6⟩ := fo_r_in F _ q2
          have b1 := fo_lt24 F r1
          have b2 := fo_lt24 F r4
          have g1 := fo_gg_b F Z Q h1
          have g2 := fo_gg_b F Z Q h2
          refine ⟨wk_i8 h1, ?_⟩
          rw [wk_c8 h1, wk_c8 h2, (PX k1 h1).1, (PX k2 h2).1]
          refine wx_topOf KX.2.2.1 F q1 ?_
          refine ⟨wk_i8 h2, ?_⟩
          refine wx_topOf KX.2.2.1 F q2 ?_
          by_cases e : fo_r A (fo_n A k1) = fo_r A (fo_n A k2)
          · refine br_t (by rw [e]) ?_
            refine wx_numberMarks KX F Z r1 r2 ?_
            intro J l c1 c2 c3 hJ LI hli hm
            dsimp only
            refine wx_gap KX PX F Z Q hm h1 rfl ?_
            refine wx_gap KX PX F Z Q hm h2 e.symm ?_
            have fin : ∀ s, s = wk_cmp (fo_gg A k1) (fo_gg A k2) → wpY_compare (fun r' v' => r' = s ∧ i_Rel (k + 5) (f_made, nI J, f_leaving, a_sort, a_parentOf, a_firstChild, a_nextChild, a_previousChild, a_sizeOf, a_letters, a_placeNode, a_placeOffset, c1, c2, c3, a_leavers) v') (f_count, f_length, a_isText, a_parents, a_sizes, a_items, c_placeNode, c_placeOffset, a_marks, a_opens, a_closes, a_coming) (nI r) (nI w) (nI o) (nI y) := by
              intro s es
              refine yy _ (wy_order hY F Z Q h1 h2 (fun z => absurd e z) fun _ d1 d2 d3 d4 d5 => ⟨es.symm, A, hI, hX, hY⟩)
            unfold wk_cmp at fin
            rcases Nat.lt_trichotomy (fo_gg A k1) (fo_gg A k2) with z | z | z
            · rw [if_pos z] at fin
              exact br_f (nI_ge (by omega) (by omega)) (fin _ rfl)
            · rw [if_neg (by omega), if_pos z] at fin
              exact br_t (nI_le (by omega) (by omega)) (br_t (by rw [z]) (fin _ rfl))
            · rw [if_neg (by omega), if_neg (by omega)] at fin
              exact br_t (nI_le (by omega) (by omega)) (br_f (fun q => by have := (nI_eq (by omega) (by omega)).mp q; omega) (fin _ rfl))
          · refine br_f (fun z => e ((nI_eq (by omega) (by omega)).mp z)) ?_
            exact yy _ (wy_order hY F Z Q h1 h2 (fun _ => ⟨rfl, rel⟩) fun z => absurd z e)
end
section
/-! a place set -/
theorem fo_ww_c {A B : fo_S} (ht : fo_t B = fo_t A) (hs : fo_s B = fo_s A) (hk : fo_k B = fo_k A) : ∀ f n, fo_ww B f n = fo_ww A f n := by
  intro f
  induction f with
  | zero => intro n; rfl
  | succ f ih =>
    intro n
    show (if fo_t B n = true then fo_s B n + 2 else 2 + fo_sum (fun i => fo_ww B f (fo_k B n i)) (fo_s B n)) = (if fo_t A n = true then fo_s A n + 2 else 2 + fo_sum (fun i => fo_ww A f (fo_k A n i)) (fo_s A n))
    rw [ht, hs, hk, fo_sum_c (g := fun i => fo_ww A f (fo_k A n i)) _ (fun i _ => ih _)]
theorem fo_op_c {A B : fo_S} (ht : fo_t B = fo_t A) (hp : fo_p B = fo_p A) (hx : fo_x B = fo_x A) (hs : fo_s B = fo_s A) (hk : fo_k B = fo_k A) : fo_op B = fo_op A ∧ fo_cl B = fo_cl A := by
  have hw : fo_w B = fo_w A := funext fun n => fo_ww_c ht hs hk 24 n
  have ho : ∀ f n, fo_oo B f n = fo_oo A f n := by
    intro f
    induction f with
    | zero => intro n; rfl
    | succ f ih =>
      intro n
      show (if fo_p B n < 24 then fo_oo B f (fo_p B n) + 1 + fo_sum (fun j => fo_w B (fo_k B (fo_p B n) j)) (fo_x B n) else 0) = (if fo_p A n < 24 then fo_oo A f (fo_p A n) + 1 + fo_sum (fun j => fo_w A (fo_k A (fo_p A n) j)) (fo_x A n) else 0)
      rw [hp, hx, hk, hw, ih]
  have e : fo_op B = fo_op A := funext fun n => ho 24 n
  refine ⟨e, funext fun n => ?_⟩
  unfold fo_cl
  rw [e, hw]
theorem fo_st_g {A : fo_S} {k n o : Nat} (j : Nat) : fo_gg (fo_st A k n o) j = if j = k then fo_g A (fo_op A) (fo_cl A) n o else fo_gg A j := by
  obtain ⟨e1, e2⟩ := fo_op_c (A := A) (B := fo_st A k n o) rfl rfl rfl rfl rfl
  unfold fo_gg
  rw [e1, e2]
  show fo_g A (fo_op A) (fo_cl A) (if j = k then n else fo_n A j) (if j = k then o else fo_o A j) = _
  by_cases z : j = k
  · rw [if_pos z, if_pos z, if_pos z]
  · rw [if_neg z, if_neg z, if_neg z]
/-- all ranges but one are in order -/
def fo_Rx (A : fo_S) (r : Nat) : Prop := ∀ q, q < 4 → q ≠ r → fo_r A (fo_n A (2 * q)) = fo_r A (fo_n A (2 * q + 1)) ∧ fo_gg A (2 * q) ≤ fo_gg A (2 * q + 1)
theorem fo_Rx_st {A : fo_S} {r k n o : Nat} (h : fo_Rx A r) (hk : k = 2 * r ∨ k = 2 * r + 1) : fo_Rx (fo_st A k n o) r := by
  intro q hq hne
  obtain ⟨h1, h2⟩ := h q hq hne
  have er : fo_r (fo_st A k n o) = fo_r A := fo_r_c rfl
  rw [fo_st_g, fo_st_g, er]
  show fo_r A (if 2 * q = k then n else fo_n A (2 * q)) = fo_r A (if 2 * q + 1 = k then n else fo_n A (2 * q + 1)) ∧ _
  rw [if_neg (by omega), if_neg (by omega), if_neg (by omega), if_neg (by omega)]
  exact ⟨h1, h2⟩
theorem fo_R_x {A : fo_S} {r : Nat} (h : fo_Rx A r) (h1 : fo_r A (fo_n A (2 * r)) = fo_r A (fo_n A (2 * r + 1))) (h2 : fo_gg A (2 * r) ≤ fo_gg A (2 * r + 1)) : fo_R A := by
  intro q hq
  by_cases e : q = r
  · rw [e]; exact ⟨h1, h2⟩
  · exact h q hq e
theorem wk_P_st {A : fo_S} {an ao : Nat → Int32} (P : wk_P A an ao) (k n o : Nat) : wk_P (fo_st A k n o) (upd an k (nI n)) (upd ao k (nI o)) := by
  intro j hj
  show (if j = k then nI n else an j) = nI (if j = k then n else fo_n A j) ∧ (if j = k then nI o else ao j) = nI (if j = k then o else fo_o A j)
  by_cases e : j = k
  · rw [if_pos e, if_pos e, if_pos e, if_pos e]; exact ⟨rfl, rfl⟩
  · rw [if_neg e, if_neg e, if_neg e, if_neg e]; exact P j hj
/-- the two places are in the wrong order -/
def wk_wr (A : fo_S) (k1 k2 : Nat) : Prop := (k1 < k2 → fo_gg A k2 < fo_gg A k1) ∧ (¬ k1 < k2 → fo_gg A k1 < fo_gg A k2)
section
variable {A : fo_S} {f_made f_listed f_leaving : Int32} {a_sort a_parentOf a_firstChild a_nextChild a_previousChild a_sizeOf a_letters a_placeNode a_placeOffset a_listing a_opening a_closing a_leavers : Nat → Int32} {post : Int32 → SX → Prop}
theorem wx_setPlace (R : wx_R A (f_made, f_listed, f_leaving, a_sort, a_parentOf, a_firstChild, a_nextChild, a_previousChild, a_sizeOf, a_letters, a_placeNode, a_placeOffset, a_listing, a_opening, a_closing, a_leavers)) (F : fo_F A) (Z : fo_Z A) (Q : fo_Q A) {k1 k2 n o : Nat} (h1 : k1 < 8) (h2 : k2 < 8) (h12 : k1 ≠ k2) (hn : n < fo_c A) (ho : o ≤ fo_s A n)
    (hw : (fo_r A n ≠ fo_r A (fo_n A k2) ∨ wk_wr (fo_st A k1 n o) k1 k2) → ∀ u', wx_R (fo_st (fo_st A k1 n o) k2 n o) u' → post 1 u')
    (hg : (fo_r A n = fo_r A (fo_n A k2) ∧ ¬ wk_wr (fo_st A k1 n o) k1 k2) → ∀ u', wx_R (fo_st A k1 n o) u' → post 1 u') : wpX_setPlace post (f_made, f_listed, f_leaving, a_sort, a_parentOf, a_firstChild, a_nextChild, a_previousChild, a_sizeOf, a_letters, a_placeNode, a_placeOffset, a_listing, a_opening, a_closing, a_leavers) (nI k1) (nI k2) (nI n) (nI o) := by
  obtain ⟨K, T, P⟩ := R
  have n24 := fo_lt24 F hn
  have F1 := fo_F_st F k1 n o
  have Z1 := fo_Z_st Z k1 n o
  have Q1 := fo_Q_st (k := k1) Q hn ho
  have P1 := wk_P_st P k1 n o
  have K1 : wx_K (fo_st A k1 n o) f_made a_sort a_parentOf a_firstChild a_nextChild a_previousChild a_sizeOf := K
  have T1 : wx_T (fo_st A k1 n o) a_letters := T
  have en2 : fo_n (fo_st A k1 n o) k2 = fo_n A k2 := if_neg (fun e => h12 e.symm)
  have en1 : fo_n (fo_st A k1 n o) k1 = n := if_pos rfl
  have er : fo_r (fo_st A k1 n o) = fo_r A := fo_r_c rfl
  have q2 := (Q k2 h2).1
  obtain ⟨r1, r2, r3⟩ := fo_r_in F n hn
  obtain ⟨r4, r5, r6⟩ := fo_r_in F _ q2
  have b1 := fo_lt24 F r1
  have b2 := fo_lt24 F r4
  have g1 := fo_gg_b F1 Z1 Q1 h1
  have g2 := fo_gg_b F1 Z1 Q1 h2
  have e107 : ∀ (u : SX → Prop) (f_listed f_leaving : Int32) (a_listing a_opening a_closing : Nat → Int32), (fo_r A n ≠ fo_r A (fo_n A k2) ∨ wk_wr (fo_st A k1 n o) k1 k2) → wX_setPlace_107 post (nI k2) (nI n) (nI o) 1 f_made f_listed f_leaving a_sort a_parentOf a_firstChild a_nextChild a_previousChild a_sizeOf a_letters (upd a_placeNode k1 (nI n)) (upd a_placeOffset k1 (nI o)) a_listing a_opening a_closing a_leavers := by
    intro _ f_listed f_leaving a_listing a_opening a_closing c
    unfold wX_setPlace_107
    rw [wk_c8 h2]
    exact br_f (by decide) ⟨wk_i8 h2, nm_e ⟨wk_i8 h2, nm_e (hw c _ ⟨K, T, wk_P_st P1 k2 n o⟩)⟩⟩
  have e107' : ∀ (u : SX → Prop) (f_listed f_leaving : Int32) (a_listing a_opening a_closing : Nat → Int32), (fo_r A n = fo_r A (fo_n A k2) ∧ ¬ wk_wr (fo_st A k1 n o) k1 k2) → wX_setPlace_107 post (nI k2) (nI n) (nI o) 0 f_made f_listed f_leaving a_sort a_parentOf a_firstChild a_nextChild a_previousChild a_sizeOf a_letters (upd a_placeNode k1 (nI n)) (upd a_placeOffset k1 (nI o)) a_listing a_opening a_closing a_leavers := by
    intro _ f_listed f_leaving a_listing a_opening a_closing c
    unfold wX_setPlace_107
    exact br_t rfl (hg c _ ⟨K, T, P1⟩)
  unfold wpX_setPlace
  refine ⟨wk_i8 h1, ?_⟩
  rw [wk_c8 h1]
  refine nm_e ⟨wk_i8 h1, nm_e ?_⟩
  refine wx_topOf K.2.2.1 F hn ?_
  refine ⟨wk_i8 h2, ?_⟩
  rw [wk_c8 h2, pk_un (fun e => h12 e.symm), (P k2 h2).1]
  refine wx_topOf K.2.2.1 F q2 ?_
  by_cases e : fo_r A n = fo_r A (fo_n A k2)
  · refine br_t (by rw [e]) ?_
    unfold wX_setPlace_46
    refine br_t rfl ?_
    refine wx_numberMarks (A := fo_st A k1 n o) K1 F1 Z1 (r := fo_r A n) r1 r2 ?_
    intro J l c1 c2 c3 hJ LI hli hm
    dsimp only
    refine wx_gap (A := fo_st A k1 n o) K1 P1 F1 Z1 Q1 hm h1 (by rw [er, en1]) ?_
    refine wx_gap (A := fo_st A k1 n o) K1 P1 F1 Z1 Q1 hm h2 (by rw [er, en2, e]) ?_
    by_cases z : k1 < k2
    · refine br_f (nI_ge z (by omega)) ?_
      by_cases y : fo_gg (fo_st A k1 n o) k1 ≤ fo_gg (fo_st A k1 n o) k2
      · refine br_t (nI_le y (by omega)) ?_
        unfold wX_setPlace_105
        exact e107' (fun _ => True) _ _ _ _ _ ⟨e, fun w => by have := w.1 z; omega⟩
      · refine br_f (nI_ge (by omega) (by omega)) ?_
        unfold wX_setPlace_105
        exact e107 (fun _ => True) _ _ _ _ _ (Or.inr ⟨fun _ => by omega, fun w => absurd z w⟩)
    · refine br_t (nI_le (by omega) (by omega)) ?_
      by_cases y : fo_gg (fo_st A k1 n o) k2 ≤ fo_gg (fo_st A k1 n o) k1
      · refine br_t (nI_le y (by omega)) ?_
        unfold wX_setPlace_105
        exact e107' (fun _ => True) _ _ _ _ _ ⟨e, fun w => by have := w.2 z; omega⟩
      · refine br_f (nI_ge (by omega) (by omega)) ?_
        unfold wX_setPlace_105
        exact e107 (fun _ => True) _ _ _ _ _ (Or.inr ⟨fun w => absurd w z, fun _ => by omega⟩)
  · refine br_f (fun z => e ((nI_eq (by omega) (by omega)).mp z)) ?_
    unfold wX_setPlace_46
    exact br_f (by decide) (e107 (fun _ => True) _ _ _ _ _ (Or.inl e))
end
section
variable {A : fo_S} {f_count f_length : Int32} {a_isText a_parents a_sizes a_items a_placeNode a_placeOffset a_marks a_opens a_closes a_coming : Nat → Int32} {post : Int32 → SY → Prop}
theorem wy_setPlace (R : wy_R A (f_count, f_length, a_isText, a_parents, a_sizes, a_items, a_placeNode, a_placeOffset, a_marks, a_opens, a_closes, a_coming)) (F : fo_F A) (Z : fo_Z A) (Q : fo_Q A) {k1 k2 n o : Nat} {wr : Int32} (hwr : (k1 < k2 ∧ wr = -1) ∨ (¬ k1 < k2 ∧ wr = 1)) (h1 : k1 < 8) (h2 : k2 < 8) (h12 : k1 ≠ k2) (hn : n < fo_c A) (ho : o ≤ fo_s A n)
    (hw : (fo_r A n ≠ fo_r A (fo_n A k2) ∨ wk_wr (fo_st A k1 n o) k1 k2) → ∀ u', wy_R (fo_st (fo_st A k1 n o) k2 n o) u' → post 1 u')
    (hg : (fo_r A n = fo_r A (fo_n A k2) ∧ ¬ wk_wr (fo_st A k1 n o) k1 k2) → ∀ u', wy_R (fo_st A k1 n o) u' → post 1 u') : wpY_setPlace post (f_count, f_length, a_isText, a_parents, a_sizes, a_items, a_placeNode, a_placeOffset, a_marks, a_opens, a_closes, a_coming) (nI k1) (nI k2) wr (nI n) (nI o) := by
  obtain ⟨K, T, P⟩ := R
  have n24 := fo_lt24 F hn
  have s24 := fo_s_a F Z n
  have F1 := fo_F_st F k1 n o
  have Z1 := fo_Z_st Z k1 n o
  have Q1 := fo_Q_st (k := k1) Q hn ho
  have P1 := wk_P_st P k1 n o
  have R1 : wy_R (fo_st A k1 n o) (f_count, f_length, a_isText, a_parents, a_sizes, a_items, upd a_placeNode k1 (nI n), upd a_placeOffset k1 (nI o), a_marks, a_opens, a_closes, a_coming) := ⟨K, T, P1⟩
  have en2 : fo_n (fo_st A k1 n o) k2 = fo_n A k2 := if_neg (fun e => h12 e.symm)
  have en1 : fo_n (fo_st A k1 n o) k1 = n := if_pos rfl
  have er : fo_r (fo_st A k1 n o) = fo_r A := fo_r_c rfl
  unfold wpY_setPlace
  refine wy_isNode1 K.1 F.1 hn ?_
  refine br_f (by decide) (br_f (nI_pos (by omega)) ⟨wk_in n24, ?_⟩)
  rw [wk_cl n24, K.2.2.2 n hn]
  refine br_t (nI_le ho (by omega)) ⟨wk_i8 h1, ?_⟩
  rw [wk_c8 h1]
  refine nm_e ⟨wk_i8 h1, nm_e ?_⟩
  have e67 : ∀ (f_length : Int32) (a_marks a_opens a_closes a_coming : Nat → Int32), (fo_r A n ≠ fo_r A (fo_n A k2) ∨ wk_wr (fo_st A k1 n o) k1 k2) → wY_setPlace_67 post (nI k1) (nI k2) f_count f_length a_isText a_parents a_sizes a_items (upd a_placeNode k1 (nI n)) (upd a_placeOffset k1 (nI o)) a_marks a_opens a_closes a_coming := by
    intro f_length a_marks a_opens a_closes a_coming c
    unfold wY_setPlace_67 wpY_copyPlace
    dsimp only
    rw [wk_c8 h1, wk_c8 h2, pk_us, pk_us]
    exact ⟨wk_i8 h1, wk_i8 h2, nm_e ⟨wk_i8 h1, wk_i8 h2, nm_e (hw c _ ⟨K, T, wk_P_st P1 k2 n o⟩)⟩⟩
  refine wy_order R1 F1 Z1 Q1 h2 h1 (fun e => ?_) fun e c1 c2 c3 c4 c5 => ?_
  · rw [er, en1, en2] at e
    exact br_t rfl (e67 _ _ _ _ _ (Or.inl fun z => e z.symm))
  · rw [er, en1, en2] at e
    dsimp only
    unfold wk_cmp
    rcases Nat.lt_trichotomy (fo_gg (fo_st A k1 n o) k2) (fo_gg (fo_st A k1 n o) k1) with z | z | z
    · rw [if_pos z]
      refine br_f (by decide) ?_
      rcases hwr with ⟨y, rfl⟩ | ⟨y, rfl⟩
      · exact br_t rfl (e67 _ _ _ _ _ (Or.inr ⟨fun _ => z, fun w => absurd y w⟩))
      · exact br_f (by decide) (hg ⟨e.symm, fun w => by have := w.2 y; omega⟩ _ ⟨K, T, P1⟩)
    · rw [if_neg (by omega), if_pos z]
      refine br_f (by decide) ?_
      rcases hwr with ⟨y, rfl⟩ | ⟨y, rfl⟩
      · exact br_f (by decide) (hg ⟨e.symm, fun w => by have := w.1 y; omega⟩ _ ⟨K, T, P1⟩)
      · exact br_f (by decide) (hg ⟨e.symm, fun w => by have := w.2 y; omega⟩ _ ⟨K, T, P1⟩)
    · rw [if_neg (by omega), if_neg (by omega)]
      refine br_f (by decide) ?_
      rcases hwr with ⟨y, rfl⟩ | ⟨y, rfl⟩
      · exact br_f (by decide) (hg ⟨e.symm, fun w => by have := w.1 y; omega⟩ _ ⟨K, T, P1⟩)
      · exact br_t rfl (e67 _ _ _ _ _ (Or.inr ⟨fun w => absurd w y, fun _ => z⟩))
end
/-- the invariant behind it -/
theorem fo_I_st2 {A : fo_S} (I : fo_I A) {r k1 k2 n o : Nat} (hr : r < 4) (hk : (k1 = 2 * r ∧ k2 = 2 * r + 1) ∨ (k1 = 2 * r + 1 ∧ k2 = 2 * r)) (hn : n < fo_c A) (ho : o ≤ fo_s A n) : fo_I (fo_st (fo_st A k1 n o) k2 n o) := by
  obtain ⟨F, Z, Q, R⟩ := I
  refine ⟨fo_F_st (fo_F_st F _ _ _) _ _ _, fo_Z_st (fo_Z_st Z _ _ _) _ _ _, fo_Q_st (fo_Q_st Q hn ho) hn ho, ?_⟩
  have Rx : fo_Rx A r := fun q hq _ => R q hq
  refine fo_R_x (fo_Rx_st (fo_Rx_st Rx (by omega)) (by omega)) ?_ ?_
  · have e : ∀ j, j = 2 * r ∨ j = 2 * r + 1 → fo_n (fo_st (fo_st A k1 n o) k2 n o) j = n := by
      intro j hj
      show (if j = k2 then n else if j = k1 then n else fo_n A j) = n
      by_cases z : j = k2
      · rw [if_pos z]
      · rw [if_neg z, if_pos (by omega)]
    rw [e _ (Or.inl rfl), e _ (Or.inr rfl)]
  · obtain ⟨o1, o2⟩ := fo_op_c (A := A) (B := fo_st A k1 n o) rfl rfl rfl rfl rfl
    have e : ∀ j, j = 2 * r ∨ j = 2 * r + 1 → fo_gg (fo_st (fo_st A k1 n o) k2 n o) j = fo_g A (fo_op A) (fo_cl A) n o := by
      intro j hj
      rw [fo_st_g, fo_st_g, o1, o2]
      by_cases z : j = k2
      · rw [if_pos z]; rfl
      · rw [if_neg z, if_pos (by omega)]
    rw [e _ (Or.inl rfl), e _ (Or.inr rfl)]
    exact Nat.le_refl _
theorem fo_I_st1 {A : fo_S} (I : fo_I A) {r k1 k2 n o : Nat} (hr : r < 4) (hk : (k1 = 2 * r ∧ k2 = 2 * r + 1) ∨ (k1 = 2 * r + 1 ∧ k2 = 2 * r)) (hn : n < fo_c A) (ho : o ≤ fo_s A n) (h1 : fo_r A n = fo_r A (fo_n A k2)) (h2 : ¬ wk_wr (fo_st A k1 n o) k1 k2) : fo_I (fo_st A k1 n o) := by
  obtain ⟨F, Z, Q, R⟩ := I
  refine ⟨fo_F_st F _ _ _, fo_Z_st Z _ _ _, fo_Q_st Q hn ho, ?_⟩
  have Rx : fo_Rx A r := fun q hq _ => R q hq
  have er : fo_r (fo_st A k1 n o) = fo_r A := fo_r_c rfl
  have en2 : fo_n (fo_st A k1 n o) k2 = fo_n A k2 := if_neg (by omega)
  have en1 : fo_n (fo_st A k1 n o) k1 = n := if_pos rfl
  refine fo_R_x (fo_Rx_st Rx (by omega)) ?_ ?_
  · rcases hk with ⟨e1, e2⟩ | ⟨e1, e2⟩
    · rw [er, ← e2, ← e1, en1, en2]; exact h1
    · rw [er, ← e1, ← e2, en1, en2]; exact h1.symm
  · rcases hk with ⟨e1, e2⟩ | ⟨e1, e2⟩
    · rw [← e2, ← e1]
      exact Nat.le_of_not_lt fun w => h2 ⟨fun _ => w, fun z => absurd (by omega) z⟩
    · rw [← e1, ← e2]
      exact Nat.le_of_not_lt fun w => h2 ⟨fun z => absurd z (by omega), fun _ => w⟩
theorem i_vc_setStart {k : Nat} {u : SX} {v : SY} (I : i_Rel k u v) (hk : k + 5 ≤ 2560) (v1 : Int32) (v2 : Int32) (v3 : Int32) : wpX_setStart (fun r u' => wpY_setStart (fun r' v' => r' = r ∧ i_Rel (k + 5) u' v') v v1 v2 v3) u v1 v2 v3 := by
  refine wk_el (P := fun u v => wpX_setStart (fun r u' => wpY_setStart (fun r' v' => r' = r ∧ i_Rel (k + 5) u' v') v v1 v2 v3) u v1 v2 v3) ?_ I
  intro A f_made f_listed f_leaving a_sort a_parentOf a_firstChild a_nextChild a_previousChild a_sizeOf a_letters a_placeNode a_placeOffset a_listing a_opening a_closing a_leavers f_count f_length a_isText a_parents a_sizes a_items c_placeNode c_placeOffset a_marks a_opens a_closes a_coming hI hX hY
  obtain ⟨F, Z, Q, R⟩ := hI
  have hI : fo_I A := ⟨F, Z, Q, R⟩
  have c24 := F.1
  have KX := hX.1
  have KY := hY.1
  have rel : i_Rel (k + 5) (f_made, f_listed, f_leaving, a_sort, a_parentOf, a_firstChild, a_nextChild, a_previousChild, a_sizeOf, a_letters, a_placeNode, a_placeOffset, a_listing, a_opening, a_closing, a_leavers) (f_count, f_length, a_isText, a_parents, a_sizes, a_items, c_placeNode, c_placeOffset, a_marks, a_opens, a_closes, a_coming) := ⟨A, hI, hX, hY⟩
  unfold wpX_setStart
  rcases wk_rx v1 with z1 | ⟨r, hr, rfl⟩
  · refine wx_isRange0 z1 (br_t rfl ?_)
    unfold wpY_setStart
    refine wy_isRange0 z1 ?_
    exact br_t rfl ⟨rfl, rel⟩
  · refine wx_isRange1 hr (br_f (by decide) ?_)
    rcases wk_ix v2 F with z2 | ⟨n, hn, rfl⟩
    · refine wx_isNode0 KX.1 z2 ?_
      refine br_t rfl ?_
      unfold wpY_setStart
      refine wy_isRange1 hr ?_
      refine br_f (by decide) ?_
      unfold wpY_setPlace
      refine wy_isNode0 KY.1 z2 ?_
      exact br_t rfl ⟨rfl, rel⟩
    · have n24 := fo_lt24 F hn
      have s24 := fo_s_a F Z n
      refine wx_isNode1 KX.1 c24 hn ?_
      refine br_f (by decide) ?_
      unfold wpX_isOffset
      have ytop : ∀ (post : Int32 → SY → Prop), wpY_setPlace post (f_count, f_length, a_isText, a_parents, a_sizes, a_items, c_placeNode, c_placeOffset, a_marks, a_opens, a_closes, a_coming) (nI (2 * r)) (nI (2 * r + 1)) (-1) (nI n) v3 → wpY_setStart post (f_count, f_length, a_isText, a_parents, a_sizes, a_items, c_placeNode, c_placeOffset, a_marks, a_opens, a_closes, a_coming) (nI r) (nI n) v3 := by
        intro post h
        unfold wpY_setStart
        refine wy_isRange1 hr ?_
        refine br_f (by decide) ?_
        have e2 : (2 : Int32) * nI r = nI (2 * r) := pk_mul 2 r
        rw [e2, nI_1]
        exact h
      have bad : ∀ {u' : SX}, (v3 < 0 ∨ nI (fo_s A n) < v3) → i_Rel (k + 5) u' (f_count, f_length, a_isText, a_parents, a_sizes, a_items, c_placeNode, c_placeOffset, a_marks, a_opens, a_closes, a_coming) → wpY_setStart (fun r' v' => r' = -2 ∧ i_Rel (k + 5) u' v') (f_count, f_length, a_isText, a_parents, a_sizes, a_items, c_placeNode, c_placeOffset, a_marks, a_opens, a_closes, a_coming) (nI r) (nI n) v3 := by
        intro u' hb hrel
        refine ytop _ ?_
        unfold wpY_setPlace
        refine wy_isNode1 KY.1 c24 hn ?_
        refine br_f (by decide) ?_
        by_cases z : v3 < 0
        · exact br_t z ⟨rfl, hrel⟩
        · refine br_f z ⟨wk_in n24, ?_⟩
          rw [wk_cl n24, KY.2.2.2 n hn]
          have := hb.resolve_left z
          refine br_f (fun w => ?_) ⟨rfl, hrel⟩
          rw [Int32.le_iff_toInt_le] at w
          rw [Int32.lt_iff_toInt_lt] at this
          omega
      by_cases z3 : v3 < 0
      · exact br_t z3 (br_t rfl (bad (Or.inl z3) rel))
      · obtain ⟨o, hob, rfl⟩ := nI_of z3
        refine br_f z3 ⟨wk_in n24, ?_⟩
        rw [wk_cl n24, KX.2.2.2.2.2.2 n n24]
        by_cases z4 : o ≤ fo_s A n
        · refine br_f (nI_nlt z4 (by omega)) (br_f (by decide) ?_)
          have e2 : (2 : Int32) * nI r = nI (2 * r) := pk_mul 2 r
          rw [e2, nI_1]
          have hk : (2 * r = 2 * r ∧ 2 * r + 1 = 2 * r + 1) ∨ (2 * r = 2 * r + 1 ∧ 2 * r + 1 = 2 * r) := by omega
          refine wx_setPlace hX F Z Q (by omega) (by omega) (by omega) hn z4 (fun c u' hX2 => ytop _ (wy_setPlace hY F Z Q (Or.inl ⟨by omega, rfl⟩) (by omega) (by omega) (by omega) hn z4 (fun _ v' hY2 => ⟨rfl, _, fo_I_st2 hI hr hk hn z4, hX2, hY2⟩) fun c' => ?_)) (fun c u' hX2 => ytop _ (wy_setPlace hY F Z Q (Or.inl ⟨by omega, rfl⟩) (by omega) (by omega) (by omega) hn z4 (fun c' => ?_) fun _ v' hY2 => ⟨rfl, _, fo_I_st1 hI hr hk hn z4 c.1 c.2, hX2, hY2⟩))
          · exact c.elim (fun w => absurd c'.1 w) (fun w => absurd w c'.2)
          · exact c'.elim (fun w => absurd c.1 w) (fun w => absurd w c.2)
        · exact br_t (nI_lt (by omega) (by omega)) (br_t rfl (bad (Or.inr (nI_lt (by omega) (by omega))) rel))
theorem i_vc_setEnd {k : Nat} {u : SX} {v : SY} (I : i_Rel k u v) (hk : k + 5 ≤ 2560) (v1 : Int32) (v2 : Int32) (v3 : Int32) : wpX_setEnd (fun r u' => wpY_setEnd (fun r' v' => r' = r ∧ i_Rel (k + 5) u' v') v v1 v2 v3) u v1 v2 v3 := by
  refine wk_el (P := fun u v => wpX_setEnd (fun r u' => wpY_setEnd (fun r' v' => r' = r ∧ i_Rel (k + 5) u' v') v v1 v2 v3) u v1 v2 v3) ?_ I
  intro A f_made f_listed f_leaving a_sort a_parentOf a_firstChild a_nextChild a_previousChild a_sizeOf a_letters a_placeNode a_placeOffset a_listing a_opening a_closing a_leavers f_count f_length a_isText a_parents a_sizes a_items c_placeNode c_placeOffset a_marks a_opens a_closes a_coming hI hX hY
  obtain ⟨F, Z, Q, R⟩ := hI
  have hI : fo_I A := ⟨F, Z, Q, R⟩
  have c24 := F.1
  have KX := hX.1
  have KY := hY.1
  have rel : i_Rel (k + 5) (f_made, f_listed, f_leaving, a_sort, a_parentOf, a_firstChild, a_nextChild, a_previousChild, a_sizeOf, a_letters, a_placeNode, a_placeOffset, a_listing, a_opening, a_closing, a_leavers) (f_count, f_length, a_isText, a_parents, a_sizes, a_items, c_placeNode, c_placeOffset, a_marks, a_opens, a_closes, a_coming) := ⟨A, hI, hX, hY⟩
  unfold wpX_setEnd
  rcases wk_rx v1 with z1 | ⟨r, hr, rfl⟩
  · refine wx_isRange0 z1 (br_t rfl ?_)
    unfold wpY_setEnd
    refine wy_isRange0 z1 ?_
    exact br_t rfl ⟨rfl, rel⟩
  · refine wx_isRange1 hr (br_f (by decide) ?_)
    rcases wk_ix v2 F with z2 | ⟨n, hn, rfl⟩
    · refine wx_isNode0 KX.1 z2 ?_
      refine br_t rfl ?_
      unfold wpY_setEnd
      refine wy_isRange1 hr ?_
      refine br_f (by decide) ?_
      unfold wpY_setPlace
      refine wy_isNode0 KY.1 z2 ?_
      exact br_t rfl ⟨rfl, rel⟩
    · have n24 := fo_lt24 F hn
      have s24 := fo_s_a F Z n
      refine wx_isNode1 KX.1 c24 hn ?_
      refine br_f (by decide) ?_
      unfold wpX_isOffset
      have ytop : ∀ (post : Int32 → SY → Prop), wpY_setPlace post (f_count, f_length, a_isText, a_parents, a_sizes, a_items, c_placeNode, c_placeOffset, a_marks, a_opens, a_closes, a_coming) (nI (2 * r + 1)) (nI (2 * r)) (1) (nI n) v3 → wpY_setEnd post (f_count, f_length, a_isText, a_parents, a_sizes, a_items, c_placeNode, c_placeOffset, a_marks, a_opens, a_closes, a_coming) (nI r) (nI n) v3 := by
        intro post h
        unfold wpY_setEnd
        refine wy_isRange1 hr ?_
        refine br_f (by decide) ?_
        have e2 : (2 : Int32) * nI r = nI (2 * r) := pk_mul 2 r
        rw [e2, nI_1]
        exact h
      have bad : ∀ {u' : SX}, (v3 < 0 ∨ nI (fo_s A n) < v3) → i_Rel (k + 5) u' (f_count, f_length, a_isText, a_parents, a_sizes, a_items, c_placeNode, c_placeOffset, a_marks, a_opens, a_closes, a_coming) → wpY_setEnd (fun r' v' => r' = -2 ∧ i_Rel (k + 5) u' v') (f_count, f_length, a_isText, a_parents, a_sizes, a_items, c_placeNode, c_placeOffset, a_marks, a_opens, a_closes, a_coming) (nI r) (nI n) v3 := by
        intro u' hb hrel
        refine ytop _ ?_
        unfold wpY_setPlace
        refine wy_isNode1 KY.1 c24 hn ?_
        refine br_f (by decide) ?_
        by_cases z : v3 < 0
        · exact br_t z ⟨rfl, hrel⟩
        · refine br_f z ⟨wk_in n24, ?_⟩
          rw [wk_cl n24, KY.2.2.2 n hn]
          have := hb.resolve_left z
          refine br_f (fun w => ?_) ⟨rfl, hrel⟩
          rw [Int32.le_iff_toInt_le] at w
          rw [Int32.lt_iff_toInt_lt] at this
          omega
      by_cases z3 : v3 < 0
      · exact br_t z3 (br_t rfl (bad (Or.inl z3) rel))
      · obtain ⟨o, hob, rfl⟩ := nI_of z3
        refine br_f z3 ⟨wk_in n24, ?_⟩
        rw [wk_cl n24, KX.2.2.2.2.2.2 n n24]
        by_cases z4 : o ≤ fo_s A n
        · refine br_f (nI_nlt z4 (by omega)) (br_f (by decide) ?_)
          have e2 : (2 : Int32) * nI r = nI (2 * r) := pk_mul 2 r
          rw [e2, nI_1]
          have hk : (2 * r + 1 = 2 * r ∧ 2 * r = 2 * r + 1) ∨ (2 * r + 1 = 2 * r + 1 ∧ 2 * r = 2 * r) := by omega
          refine wx_setPlace hX F Z Q (by omega) (by omega) (by omega) hn z4 (fun c u' hX2 => ytop _ (wy_setPlace hY F Z Q (Or.inr ⟨by omega, rfl⟩) (by omega) (by omega) (by omega) hn z4 (fun _ v' hY2 => ⟨rfl, _, fo_I_st2 hI hr hk hn z4, hX2, hY2⟩) fun c' => ?_)) (fun c u' hX2 => ytop _ (wy_setPlace hY F Z Q (Or.inr ⟨by omega, rfl⟩) (by omega) (by omega) (by omega) hn z4 (fun c' => ?_) fun _ v' hY2 => ⟨rfl, _, fo_I_st1 hI hr hk hn z4 c.1 c.2, hX2, hY2⟩))
          · exact c.elim (fun w => absurd c'.1 w) (fun w => absurd w c'.2)
          · exact c'.elim (fun w => absurd c.1 w) (fun w => absurd w c.2)
        · exact br_t (nI_lt (by omega) (by omega)) (br_t rfl (bad (Or.inr (nI_lt (by omega) (by omega))) rel))
end
section
/-! counting letters -/
def wk_lc (L : Nat → Bool) : Nat → Nat
  | 0 => 0
  | n + 1 => wk_lc L n + (if L n = true then 1 else 0)
theorem wk_lc_t {L : Nat → Bool} {n : Nat} (h : L n = true) : wk_lc L (n + 1) = wk_lc L n + 1 := by
  show wk_lc L n + (if L n = true then 1 else 0) = _
  rw [if_pos h]
theorem wk_lc_f {L : Nat → Bool} {n : Nat} (h : L n = false) : wk_lc L (n + 1) = wk_lc L n := by
  show wk_lc L n + (if L n = true then 1 else 0) = _
  rw [if_neg (by rw [h]; exact Bool.false_ne_true)]
  rfl
theorem wk_lc_m {L : Nat → Bool} {a : Nat} : ∀ b, a ≤ b → wk_lc L a ≤ wk_lc L b := by
  intro b
  induction b with
  | zero => intro h; rw [show a = 0 by omega]; exact Nat.le_refl _
  | succ b ih =>
    intro h
    rcases Nat.eq_or_lt_of_le h with z | z
    · rw [z]; exact Nat.le_refl _
    · have h1 := ih (by omega)
      rcases fo_ft (L b) with y | y
      · rw [wk_lc_t y]; omega
      · rw [wk_lc_f y]; exact h1
theorem wk_lc_s {L : Nat → Bool} {a b : Nat} (h : a < b) (hl : L a = true) : wk_lc L a < wk_lc L b := by
  have := wk_lc_m (L := L) (a := a + 1) b h
  rw [wk_lc_t hl] at this
  omega
theorem wk_lc_b {L : Nat → Bool} : ∀ n, wk_lc L n ≤ n := by
  intro n
  induction n with
  | zero => exact Nat.le_refl _
  | succ n ih =>
    rcases fo_ft (L n) with y | y
    · rw [wk_lc_t y]; omega
    · rw [wk_lc_f y]; omega
/-- the places of letters in r's row -/
def fo_Lt (A : fo_S) (r : Nat) (L : Nat → Bool) : Prop := ∀ p, L p = true ↔ ∃ x, x < fo_c A ∧ fo_r A x = r ∧ fo_t A x = true ∧ fo_op A x < p ∧ p < fo_cl A x
section
variable {A : fo_S} {r J : Nat} {l : Nat → Nat} {L : Nat → Bool}
theorem fo_Lt_o (F : fo_F A) (hL : fo_Lt A r L) {n : Nat} (hn : n < fo_c A) (hr : fo_r A n = r) : L (fo_op A n) = false := by
  have Lm := fo_ML F (fo_M_ex F)
  rcases fo_ft (L (fo_op A n)) with z | z
  · obtain ⟨x, hx, hxr, tx, h1, h2⟩ := (hL _).mp z
    by_cases e : n = x
    · rw [e] at h1; omega
    · have := (fo_I4 F Lm hx hn (hxr.trans hr.symm) tx e).1
      omega
  · exact z
theorem fo_Lt_t (F : fo_F A) (hL : fo_Lt A r L) {n : Nat} (hn : n < fo_c A) (hr : fo_r A n = r) (tn : fo_t A n = true) : ∀ i, i ≤ fo_s A n → wk_lc L (fo_op A n + 1 + i) = wk_lc L (fo_op A n) + i := by
  have cn := (fo_M_ex F n hn).2.2.1 tn
  intro i
  induction i with
  | zero => intro _; exact wk_lc_f (fo_Lt_o F hL hn hr)
  | succ i ih =>
    intro hi
    have h1 : L (fo_op A n + 1 + i) = true := (hL _).mpr ⟨n, hn, hr, tn, by omega, by omega⟩
    have h2 := ih (by omega)
    have h3 := wk_lc_t h1
    rw [show fo_op A n + 1 + (i + 1) = fo_op A n + 1 + i + 1 by omega, h3, h2]
    omega
/-- what lies behind the i-th node's letters, up to the next node -/
def fo_Bd (A : fo_S) (r J : Nat) (l : Nat → Nat) (i : Nat) : Nat := if i < J then fo_op A (l i) else fo_cl A r + 1
theorem fo_Lt_e (F : fo_F A) (LI : fo_LI A r J l) (hL : fo_Lt A r L) (hr : r < fo_c A) {i e : Nat} (hi : i < J) (he : e = fo_op A (l i) + 1 + (if fo_t A (l i) = true then fo_s A (l i) else 0)) : e ≤ fo_Bd A r J l (i + 1) ∧ ∀ p, e ≤ p → p ≤ fo_Bd A r J l (i + 1) → wk_lc L p = wk_lc L e := by
  have M := fo_M_ex F
  have Lm := fo_ML F M
  obtain ⟨hn, hnr⟩ := LI.1 i hi
  have hB : ∀ x, x < fo_c A → fo_r A x = r → fo_op A (l i) < fo_op A x → fo_Bd A r J l (i + 1) ≤ fo_op A x := by
    intro x hx hxr ho
    unfold fo_Bd
    by_cases z : i + 1 < J
    · rw [if_pos z]; exact (fo_LI_N LI z).2.2.2 x hx (hxr.trans hnr.symm) ho
    · have := fo_LI_E LI (show i + 1 = J by omega) x hx (hxr.trans hnr.symm)
      omega
  have hge : e ≤ fo_Bd A r J l (i + 1) := by
    rw [he]
    unfold fo_Bd
    by_cases z : i + 1 < J
    · have N := fo_LI_N LI z
      rw [if_pos z]
      rcases fo_ft (fo_t A (l i)) with t | t
      · have U := fo_U_0 F Lm hn (Or.inl t)
        have h1 := U.2.2 _ N.1 N.2.1 N.2.2.1
        have h2 := (M _ hn).2.2.1 t
        rw [if_pos t]; omega
      · rw [if_neg (by rw [t]; exact Bool.false_ne_true)]
        have := N.2.2.1
        omega
    · rw [if_neg z]
      have h1 := fo_L_A F Lm hn (fo_lt24 F hr) (by rw [← hnr]; exact (fo_r_in F _ hn).2.2)
      have h2 := fo_L_lt Lm hn
      rcases fo_ft (fo_t A (l i)) with t | t
      · have h3 := (M _ hn).2.2.1 t
        rw [if_pos t]; omega
      · rw [if_neg (by rw [t]; exact Bool.false_ne_true)]; omega
  refine ⟨hge, fun p hp => ?_⟩
  have key : ∀ d, e + d ≤ fo_Bd A r J l (i + 1) → wk_lc L (e + d) = wk_lc L e := by
    intro d
    induction d with
    | zero => intro _; rfl
    | succ d ih =>
      intro hd
      have h1 := ih (by omega)
      have h2 : L (e + d) = false := by
        rcases fo_ft (L (e + d)) with z | z
        · exfalso
          obtain ⟨x, hx, hxr, tx, h3, h4⟩ := (hL _).mp z
          rcases Nat.lt_or_ge (fo_op A (l i)) (fo_op A x) with y | y
          · have := hB x hx hxr y
            omega
          · by_cases q : l i = x
            · rw [q, if_pos tx] at he
              have := (M x hx).2.2.1 tx
              omega
            · have := (fo_I4 F Lm hx hn (hxr.trans hnr.symm) tx q).1
              have : fo_op A x ≠ fo_op A (l i) := fun w => q (fo_I1 F Lm hn hx (hnr.trans hxr.symm) w.symm)
              omega
        · exact z
      rw [show e + (d + 1) = e + d + 1 by omega, wk_lc_f h2, h1]
  intro hp2
  have := key (p - e) (by omega)
  rw [show e + (p - e) = p by omega] at this
  exact this
theorem fo_Lt_1 (F : fo_F A) (LI : fo_LI A r J l) (hL : fo_Lt A r L) (hr : r < fo_c A) {i p : Nat} (hi : i < J) (t : fo_t A (l i) = true) (h1 : fo_op A (l i) + 1 ≤ p) (h2 : p ≤ fo_Bd A r J l (i + 1)) : wk_lc L p = wk_lc L (fo_op A (l i)) + min (p - (fo_op A (l i) + 1)) (fo_s A (l i)) := by
  obtain ⟨hn, hnr⟩ := LI.1 i hi
  obtain ⟨e1, e2⟩ := fo_Lt_e (e := fo_op A (l i) + 1 + fo_s A (l i)) F LI hL hr hi (by rw [if_pos t])
  have h3 := fo_Lt_t F hL hn hnr t
  rcases Nat.lt_or_ge p (fo_op A (l i) + 1 + fo_s A (l i)) with z | z
  · have := h3 (p - (fo_op A (l i) + 1)) (by omega)
    rw [show fo_op A (l i) + 1 + (p - (fo_op A (l i) + 1)) = p by omega] at this
    rw [this]
    omega
  · rw [e2 p z h2, h3 _ (Nat.le_refl _)]
    omega
theorem fo_Lt_0 (F : fo_F A) (LI : fo_LI A r J l) (hL : fo_Lt A r L) (hr : r < fo_c A) {i p : Nat} (hi : i < J) (t : fo_t A (l i) = false) (h1 : fo_op A (l i) ≤ p) (h2 : p ≤ fo_Bd A r J l (i + 1)) : wk_lc L p = wk_lc L (fo_op A (l i)) := by
  obtain ⟨hn, hnr⟩ := LI.1 i hi
  obtain ⟨e1, e2⟩ := fo_Lt_e (e := fo_op A (l i) + 1) F LI hL hr hi (by rw [if_neg (by rw [t]; exact Bool.false_ne_true)])
  have h3 := wk_lc_f (fo_Lt_o F hL hn hnr)
  rcases Nat.eq_or_lt_of_le h1 with z | z
  · rw [z]
  · rw [e2 p z h2, h3]
/-- letters between a and b that are before p -/
def wk_C (L : Nat → Bool) (a b p : Nat) : Nat := wk_lc L (min (b + 1) (max (a + 1) p)) - wk_lc L (a + 1)
/-- .. of the node n -/
def fo_hb (A : fo_S) (n a b : Nat) : Nat := min (fo_op A n + fo_s A n) b - max (fo_op A n) a
theorem wk_C_1 (F : fo_F A) (LI : fo_LI A r J l) (hL : fo_Lt A r L) (hr : r < fo_c A) {i a b : Nat} (hab : a ≤ b) (hi : i < J) (t : fo_t A (l i) = true) : wk_C L a b (fo_Bd A r J l (i + 1)) = wk_C L a b (fo_op A (l i)) + fo_hb A (l i) a b := by
  have e1 := (fo_Lt_e (e := fo_op A (l i) + 1 + fo_s A (l i)) F LI hL hr hi (by rw [if_pos t])).1
  have key : ∀ p, fo_op A (l i) + 1 ≤ p → p ≤ fo_Bd A r J l (i + 1) → wk_lc L p = wk_lc L (fo_op A (l i)) + min (p - (fo_op A (l i) + 1)) (fo_s A (l i)) := fun p h1 h2 => fo_Lt_1 F LI hL hr hi t h1 h2
  unfold wk_C fo_hb
  generalize fo_Bd A r J l (i + 1) = B at *
  generalize fo_op A (l i) = o at *
  generalize fo_s A (l i) = s at *
  rcases Nat.lt_or_ge (a + 1) B with z | z
  · rcases Nat.lt_or_ge o (b + 1) with y | y
    · have k1 := key (min (b + 1) B) (by omega) (by omega)
      have e2 : min (b + 1) (max (a + 1) B) = min (b + 1) B := by omega
      rw [e2, k1]
      rcases Nat.lt_or_ge a o with w | w
      · have e3 : min (b + 1) (max (a + 1) o) = o := by omega
        have m1 := wk_lc_m (L := L) (a := a + 1) o (by omega)
        rw [e3]
        omega
      · have e3 : min (b + 1) (max (a + 1) o) = a + 1 := by omega
        have k2 := key (a + 1) (by omega) (by omega)
        rw [e3, k2]
        omega
    · have e2 : min (b + 1) (max (a + 1) B) = b + 1 := by omega
      have e3 : min (b + 1) (max (a + 1) o) = b + 1 := by omega
      rw [e2, e3]
      omega
  · have e2 : min (b + 1) (max (a + 1) B) = a + 1 := by omega
    have e3 : min (b + 1) (max (a + 1) o) = a + 1 := by omega
    rw [e2, e3]
    omega
theorem wk_C_0 (F : fo_F A) (LI : fo_LI A r J l) (hL : fo_Lt A r L) (hr : r < fo_c A) {i a b : Nat} (hab : a ≤ b) (hi : i < J) (t : fo_t A (l i) = false) : wk_C L a b (fo_Bd A r J l (i + 1)) = wk_C L a b (fo_op A (l i)) := by
  have e1 := (fo_Lt_e (e := fo_op A (l i) + 1) F LI hL hr hi (by rw [if_neg (by rw [t]; exact Bool.false_ne_true)])).1
  have key : ∀ p, fo_op A (l i) ≤ p → p ≤ fo_Bd A r J l (i + 1) → wk_lc L p = wk_lc L (fo_op A (l i)) := fun p h1 h2 => fo_Lt_0 F LI hL hr hi t h1 h2
  unfold wk_C
  generalize fo_Bd A r J l (i + 1) = B at *
  generalize fo_op A (l i) = o at *
  rcases Nat.lt_or_ge (a + 1) B with z | z
  · rcases Nat.lt_or_ge o (b + 1) with y | y
    · have k1 := key (min (b + 1) B) (by omega) (by omega)
      have e2 : min (b + 1) (max (a + 1) B) = min (b + 1) B := by omega
      rw [e2, k1]
      rcases Nat.lt_or_ge a o with w | w
      · have e3 : min (b + 1) (max (a + 1) o) = o := by omega
        rw [e3]
      · have e3 : min (b + 1) (max (a + 1) o) = a + 1 := by omega
        have k2 := key (a + 1) (by omega) (by omega)
        rw [e3, k2]
    · have e2 : min (b + 1) (max (a + 1) B) = b + 1 := by omega
      have e3 : min (b + 1) (max (a + 1) o) = b + 1 := by omega
      rw [e2, e3]
  · have e2 : min (b + 1) (max (a + 1) B) = a + 1 := by omega
    have e3 : min (b + 1) (max (a + 1) o) = a + 1 := by omega
    rw [e2, e3]
/-- the letter that X picks -/
theorem wk_C_p (F : fo_F A) (LI : fo_LI A r J l) (hL : fo_Lt A r L) (hr : r < fo_c A) {i a b k : Nat} (hab : a ≤ b) (hi : i < J) (t : fo_t A (l i) = true) (h1 : wk_C L a b (fo_op A (l i)) ≤ k) (h2 : k - wk_C L a b (fo_op A (l i)) < fo_hb A (l i) a b) :
    let j := (if fo_op A (l i) < a then a - fo_op A (l i) else 0) + (k - wk_C L a b (fo_op A (l i)))
    j < fo_s A (l i) ∧ L (fo_op A (l i) + 1 + j) = true ∧ a + 1 ≤ fo_op A (l i) + 1 + j ∧ fo_op A (l i) + 1 + j < b + 1 ∧ wk_lc L (fo_op A (l i) + 1 + j) - wk_lc L (a + 1) = k := by
  intro j
  obtain ⟨hn, hnr⟩ := LI.1 i hi
  have cn := (fo_M_ex F _ hn).2.2.1 t
  have h3 := fo_Lt_t F hL hn hnr t
  have hj : j = (if fo_op A (l i) < a then a - fo_op A (l i) else 0) + (k - wk_C L a b (fo_op A (l i))) := rfl
  clear_value j
  unfold fo_hb at h2
  by_cases z : fo_op A (l i) < a
  · rw [if_pos z] at hj
    have e3 : min (b + 1) (max (a + 1) (fo_op A (l i))) = a + 1 := by omega
    have c0 : wk_C L a b (fo_op A (l i)) = 0 := by unfold wk_C; rw [e3]; omega
    rw [c0] at hj h2
    have hj2 : j < fo_s A (l i) := by omega
    have k1 := h3 j (by omega)
    have k2 := h3 (a - fo_op A (l i)) (by omega)
    rw [show fo_op A (l i) + 1 + (a - fo_op A (l i)) = a + 1 by omega] at k2
    refine ⟨hj2, (hL _).mpr ⟨_, hn, hnr, t, by omega, by omega⟩, by omega, by omega, by omega⟩
  · rw [if_neg z] at hj
    have hj2 : j < fo_s A (l i) := by omega
    have k1 := h3 j (by omega)
    have c0 : wk_lc L (min (b + 1) (max (a + 1) (fo_op A (l i)))) = wk_lc L (fo_op A (l i)) := by
      rcases Nat.eq_or_lt_of_le (show a ≤ fo_op A (l i) by omega) with y | y
      · rw [← y, show min (b + 1) (max (a + 1) a) = a + 1 by omega]
        have := wk_lc_f (fo_Lt_o F hL hn hnr)
        rw [← y] at this
        exact this
      · rw [show min (b + 1) (max (a + 1) (fo_op A (l i))) = fo_op A (l i) by omega]
    have c1 : wk_C L a b (fo_op A (l i)) = wk_lc L (fo_op A (l i)) - wk_lc L (a + 1) := by unfold wk_C; rw [c0]
    have m1 : wk_lc L (a + 1) ≤ wk_lc L (fo_op A (l i)) := by
      have := wk_lc_m (L := L) (a := a + 1) (min (b + 1) (max (a + 1) (fo_op A (l i)))) (by omega)
      rw [c0] at this
      exact this
    refine ⟨hj2, (hL _).mpr ⟨_, hn, hnr, t, by omega, by omega⟩, by omega, by omega, by omega⟩
end
end
section
/-! holds, letters, letterIn -/
theorem wy_D_L {A : fo_S} (F : fo_F A) (Z : fo_Z A) {r : Nat} {L : Nat → Bool} {a_marks a_opens a_closes : Nat → Int32} (hr : r < fo_c A) (hpr : fo_p A r = 24) (D : wy_D A r (fo_cl A r + 1) a_marks a_opens a_closes) (hL : fo_Lt A r L) {p : Nat} (hp : p ≤ fo_cl A r) : (L p = true → ¬ a_marks p < 0) ∧ (L p = false → a_marks p < 0) := by
  have M := fo_M_ex F
  have Lm := fo_ML F M
  have top : ∀ x, x < fo_c A → fo_r A x = r → fo_cl A x ≤ fo_cl A r := fun x hx hxr => (fo_L_A F Lm hx (fo_lt24 F hr) (by rw [← hxr]; exact (fo_r_in F x hx).2.2)).2
  constructor
  · intro h
    obtain ⟨x, hx, hxr, tx, h1, h2⟩ := (hL p).mp h
    have cx := (M x hx).2.2.1 tx
    have := top x hx hxr
    have d3 := (D x hx hxr).2.2 tx (p - (fo_op A x + 1)) (by omega) (by omega)
    rw [show fo_op A x + 1 + (p - (fo_op A x + 1)) = p by omega] at d3
    rw [d3]
    have := (Z.2.1 x hx tx).2 (p - (fo_op A x + 1)) (by omega)
    exact nI_pos (by omega)
  · intro h
    obtain ⟨x, hx, hxr, hh⟩ := fo_sur F M hr hpr p hp
    have t1 := top x hx hxr
    have t2 := fo_L_lt Lm hx
    obtain ⟨d1, d2, -⟩ := D x hx hxr
    rcases hh with e | e | ⟨tx, e1, e2⟩
    · rw [e, (d1 (by omega)).2]; decide
    · rw [e, (d2 (by omega)).2]; decide
    · rw [(hL p).mpr ⟨x, hx, hxr, tx, e1, e2⟩] at h
      exact absurd h (by decide)
section
variable {A : fo_S} {f_count f_length : Int32} {a_isText a_parents a_sizes a_items a_placeNode a_placeOffset a_marks a_opens a_closes a_coming : Nat → Int32} {post : SY → Prop}
theorem wy_writeOf (R : wy_R A (f_count, f_length, a_isText, a_parents, a_sizes, a_items, a_placeNode, a_placeOffset, a_marks, a_opens, a_closes, a_coming)) (F : fo_F A) (Z : fo_Z A) (Q : fo_Q A) {k : Nat} (hk : k < 8) (h : ∀ b_length b_marks b_opens b_closes b_coming, wy_D A (fo_r A (fo_n A k)) (fo_cl A (fo_r A (fo_n A k)) + 1) b_marks b_opens b_closes → post (f_count, b_length, a_isText, a_parents, a_sizes, a_items, a_placeNode, a_placeOffset, b_marks, b_opens, b_closes, b_coming)) : wpY_writeOf post (f_count, f_length, a_isText, a_parents, a_sizes, a_items, a_placeNode, a_placeOffset, a_marks, a_opens, a_closes, a_coming) (nI k) := by
  obtain ⟨K, T, P⟩ := R
  have q := (Q k hk).1
  obtain ⟨r1, r2, r3⟩ := fo_r_in F _ q
  unfold wpY_writeOf
  refine ⟨wk_i8 hk, ?_⟩
  rw [wk_c8 hk, (P k hk).1]
  refine wy_treeOf K.2.2.1 F q ?_
  refine wy_write K T F Z r1 r2 ?_
  intro c1 c2 c3 c4 c5 D
  exact h c1 c2 c3 c4 c5 D
end
/-- n's row lies wholly within the range q -/
def fo_wi (A : fo_S) (q n : Nat) : Bool := decide (fo_r A n = fo_r A (fo_n A (2 * q)) ∧ fo_gg A (2 * q) < fo_op A n ∧ fo_cl A n ≤ fo_gg A (2 * q + 1))
section
variable {A : fo_S} {f_count f_length : Int32} {a_isText a_parents a_sizes a_items a_placeNode a_placeOffset a_marks a_opens a_closes a_coming : Nat → Int32} {post : Int32 → Prop}
theorem wy_isWithin (R : wy_R A (f_count, f_length, a_isText, a_parents, a_sizes, a_items, a_placeNode, a_placeOffset, a_marks, a_opens, a_closes, a_coming)) (F : fo_F A) (Z : fo_Z A) (Q : fo_Q A) (RR : fo_R A) {q n : Nat} (hq : q < 4) (hn : n < fo_c A) (hm : ∀ x, x < fo_c A → fo_r A x = fo_r A (fo_n A (2 * q)) → a_opens x = nI (fo_op A x) ∧ a_closes x = nI (fo_cl A x)) (h : post (wk_b (fo_wi A q n))) : wpY_isWithin post (f_count, f_length, a_isText, a_parents, a_sizes, a_items, a_placeNode, a_placeOffset, a_marks, a_opens, a_closes, a_coming) (nI q) (nI n) := by
  obtain ⟨K, T, P⟩ := R
  have k1 : 2 * q < 8 := by omega
  have k2 : 2 * q + 1 < 8 := by omega
  have q1 := (Q _ k1).1
  obtain ⟨r1, r2, r3⟩ := fo_r_in F _ q1
  obtain ⟨r4, r5, r6⟩ := fo_r_in F n hn
  have b1 := fo_lt24 F r1
  have b2 := fo_lt24 F r4
  have n24 := fo_lt24 F hn
  have g1 := fo_gg_b F Z Q k1
  have g2 := fo_gg_b F Z Q k2
  have ob := fo_op_b F Z hn
  have cb := fo_cl_b F Z hn
  have e2 : (2 : Int32) * nI q = nI (2 * q) := pk_mul 2 q
  unfold wpY_isWithin
  rw [e2, nI_1]
  refine ⟨wk_i8 k1, ?_⟩
  rw [wk_c8 k1, (P _ k1).1]
  refine wy_treeOf K.2.2.1 F q1 ?_
  refine wy_treeOf K.2.2.1 F hn ?_
  unfold fo_wi at h
  by_cases e : fo_r A n = fo_r A (fo_n A (2 * q))
  · refine br_t (by rw [e]) ⟨wk_in n24, ?_⟩
    refine wy_gap K T P F Z Q hm k1 rfl ?_
    rw [wk_cl n24, (hm n hn e).1, (hm n hn e).2]
    by_cases z : fo_gg A (2 * q) < fo_op A n
    · refine br_f (nI_nlt (by omega) (by omega)) ⟨wk_in n24, ?_⟩
      refine wy_gap K T P F Z Q hm k2 (RR q hq).1.symm ?_
      by_cases y : fo_cl A n ≤ fo_gg A (2 * q + 1)
      · rw [decide_eq_true ⟨e, z, y⟩] at h
        exact br_f (nI_ge (by omega) (by omega)) h
      · rw [decide_eq_false (fun w => y w.2.2)] at h
        exact br_t (nI_le (by omega) (by omega)) h
    · rw [decide_eq_false (fun w => z w.2.1)] at h
      exact br_t (nI_lt (by omega) (by omega)) h
  · rw [decide_eq_false (fun w => e w.1)] at h
    exact br_f (fun w => e ((nI_eq (by omega) (by omega)).mp w)) h
end
theorem i_vc_holds {k : Nat} {u : SX} {v : SY} (I : i_Rel k u v) (hk : k + 5 ≤ 2560) (v1 : Int32) (v2 : Int32) : wpX_holds (fun r u' => wpY_holds (fun r' v' => r' = r ∧ i_Rel (k + 5) u' v') v v1 v2) u v1 v2 := by
  refine wk_el (P := fun u v => wpX_holds (fun r u' => wpY_holds (fun r' v' => r' = r ∧ i_Rel (k + 5) u' v') v v1 v2) u v1 v2) ?_ I
  intro A f_made f_listed f_leaving a_sort a_parentOf a_firstChild a_nextChild a_previousChild a_sizeOf a_letters a_placeNode a_placeOffset a_listing a_opening a_closing a_leavers f_count f_length a_isText a_parents a_sizes a_items c_placeNode c_placeOffset a_marks a_opens a_closes a_coming hI hX hY
  obtain ⟨F, Z, Q, R⟩ := hI
  have hI : fo_I A := ⟨F, Z, Q, R⟩
  have c24 := F.1
  have KX := hX.1
  have PX := hX.2.2
  have KY := hY.1
  have rel : i_Rel (k + 5) (f_made, f_listed, f_leaving, a_sort, a_parentOf, a_firstChild, a_nextChild, a_previousChild, a_sizeOf, a_letters, a_placeNode, a_placeOffset, a_listing, a_opening, a_closing, a_leavers) (f_count, f_length, a_isText, a_parents, a_sizes, a_items, c_placeNode, c_placeOffset, a_marks, a_opens, a_closes, a_coming) := ⟨A, hI, hX, hY⟩
  unfold wpX_holds
  rcases wk_rx v1 with z1 | ⟨q, hq, rfl⟩
  · refine wx_isRange0 z1 (br_t rfl ?_)
    unfold wpY_holds
    refine wy_isRange0 z1 ?_
    exact br_t rfl ⟨rfl, rel⟩
  · refine wx_isRange1 hq (br_f (by decide) ?_)
    rcases wk_ix v2 F with z2 | ⟨n, hn, rfl⟩
    · refine wx_isNode0 KX.1 z2 ?_
      refine br_t rfl ?_
      unfold wpY_holds
      refine wy_isRange1 hq ?_
      refine br_f (by decide) ?_
      refine wy_isNode0 KY.1 z2 ?_
      exact br_t rfl ⟨rfl, rel⟩
    · have k1 : 2 * q < 8 := by omega
      have k2 : 2 * q + 1 < 8 := by omega
      have q1 := (Q _ k1).1
      obtain ⟨r1, r2, r3⟩ := fo_r_in F _ q1
      obtain ⟨r4, r5, r6⟩ := fo_r_in F n hn
      have b1 := fo_lt24 F r1
      have b2 := fo_lt24 F r4
      have n24 := fo_lt24 F hn
      have g1 := fo_gg_b F Z Q k1
      have g2 := fo_gg_b F Z Q k2
      have e2 : (2 : Int32) * nI q = nI (2 * q) := pk_mul 2 q
      have yy : ∀ (u' : SX) (s : Int32), wx_R A u' → s = wk_b (fo_wi A q n) → wpY_holds (fun r' v' => r' = s ∧ i_Rel (k + 5) u' v') (f_count, f_length, a_isText, a_parents, a_sizes, a_items, c_placeNode, c_placeOffset, a_marks, a_opens, a_closes, a_coming) (nI q) (nI n) := by
        intro u' s hu es
        unfold wpY_holds
        refine wy_isRange1 hq ?_
        refine br_f (by decide) ?_
        refine wy_isNode1 KY.1 c24 hn ?_
        refine br_f (by decide) ?_
        rw [e2]
        refine wy_writeOf hY F Z Q k1 ?_
        intro c1 c2 c3 c4 c5 D
        dsimp only
        refine wy_isWithin (a_opens := c3) (a_closes := c4) (A := A) ⟨hY.1, hY.2.1, hY.2.2⟩ F Z Q R hq hn (wy_D_m F r1 D) ?_
        rcases fo_ft (fo_wi A q n) with w | w
        · rw [w] at es ⊢
          exact br_f (by decide) ⟨es.symm, A, hI, hu, hY⟩
        · rw [w] at es ⊢
          exact br_t rfl ⟨es.symm, A, hI, hu, hY⟩
      refine wx_isNode1 KX.1 c24 hn ?_
      refine br_f (by decide) ?_
      rw [e2, nI_1]
      refine ⟨wk_i8 k1, ?_⟩
      rw [wk_c8 k1, (PX _ k1).1]
      refine wx_topOf KX.2.2.1 F q1 ?_
      refine wx_topOf KX.2.2.1 F hn ?_
      by_cases e : fo_r A (fo_n A (2 * q)) = fo_r A n
      · refine br_t (by rw [e]) ?_
        refine wx_numberMarks KX F Z r1 r2 ?_
        intro J l c1 c2 c3 hJ LI hli hm
        dsimp only
        refine wx_gap KX PX F Z Q hm k1 rfl ?_
        refine wx_gap KX PX F Z Q hm k2 (R q hq).1.symm ?_
        refine wx_liesBetween F Z hm (by omega) (by omega) hn e.symm ?_
        have ew : fo_wi A q n = decide (fo_gg A (2 * q) < fo_op A n ∧ fo_cl A n ≤ fo_gg A (2 * q + 1)) := by
          unfold fo_wi
          by_cases y : fo_gg A (2 * q) < fo_op A n ∧ fo_cl A n ≤ fo_gg A (2 * q + 1)
          · rw [decide_eq_true y, decide_eq_true ⟨e.symm, y⟩]
          · rw [decide_eq_false y, decide_eq_false (fun w => y w.2)]
        rw [← ew]
        rcases fo_ft (fo_wi A q n) with w | w
        · rw [w]
          exact br_f (by decide) (yy _ _ ⟨hX.1, hX.2.1, hX.2.2⟩ (by rw [w]; rfl))
        · rw [w]
          exact br_t rfl (yy _ _ ⟨hX.1, hX.2.1, hX.2.2⟩ (by rw [w]; rfl))
      · refine br_f (fun z => e ((nI_eq (by omega) (by omega)).mp z)) ?_
        refine yy _ _ hX ?_
        unfold fo_wi
        rw [decide_eq_false (fun w => e w.1.symm)]
        rfl
section
variable {A : fo_S} {f_made f_listed f_leaving : Int32} {a_sort a_parentOf a_firstChild a_nextChild a_previousChild a_sizeOf a_letters a_placeNode a_placeOffset a_listing a_opening a_closing a_leavers : Nat → Int32} {post : Int32 → Prop}
theorem wx_lettersBetween (K : wx_K A f_made a_sort a_parentOf a_firstChild a_nextChild a_previousChild a_sizeOf) (F : fo_F A) (Z : fo_Z A) {r a b : Nat} (hm : ∀ x, x < fo_c A → fo_r A x = r → a_opening x = nI (fo_op A x) ∧ a_closing x = nI (fo_cl A x)) (ha : a < 2 ^ 30) (hb : b < 2 ^ 30) {n : Nat} (hn : n < fo_c A) (hr : fo_r A n = r) (h : post (nI (fo_hb A n a b))) : wpX_lettersBetween post (f_made, f_listed, f_leaving, a_sort, a_parentOf, a_firstChild, a_nextChild, a_previousChild, a_sizeOf, a_letters, a_placeNode, a_placeOffset, a_listing, a_opening, a_closing, a_leavers) (nI n) (nI a) (nI b) := by
  have n24 := fo_lt24 F hn
  have ob := fo_op_b F Z hn
  have sb := fo_s_a F Z n
  have eo := (hm n hn hr).1
  have es := K.2.2.2.2.2.2 n n24
  have tail : ∀ low, low = max (fo_op A n) a → wX_lettersBetween_20 post (nI n) (nI b) (nI low) f_made f_listed f_leaving a_sort a_parentOf a_firstChild a_nextChild a_previousChild a_sizeOf a_letters a_placeNode a_placeOffset a_listing a_opening a_closing a_leavers := by
    intro low el
    unfold wX_lettersBetween_20
    refine ⟨wk_in n24, wk_in n24, nm_r (e' := nI (fo_op A n + fo_s A n)) (by rw [wk_cl n24, eo, es, nI_add]) ?_⟩
    have last : ∀ high, high = min (fo_op A n + fo_s A n) b → wX_lettersBetween_49 post (nI low) (nI high) f_made f_listed f_leaving a_sort a_parentOf a_firstChild a_nextChild a_previousChild a_sizeOf a_letters a_placeNode a_placeOffset a_listing a_opening a_closing a_leavers := by
      intro high eh
      have e : fo_hb A n a b = high - low := by unfold fo_hb; rw [el, eh]
      rw [e] at h
      unfold wX_lettersBetween_49
      by_cases z : high ≤ low
      · rw [show high - low = 0 by omega] at h
        exact br_t (nI_le z (by omega)) h
      · refine br_f (nI_ge (by omega) (by omega)) ?_
        rw [pk_sub (by omega)]
        exact h
    by_cases z : b ≤ fo_op A n + fo_s A n
    · exact br_t (nI_le z (by omega)) (last b (by omega))
    · exact br_f (nI_ge (by omega) (by omega)) (last _ (by omega))
  unfold wpX_lettersBetween
  refine ⟨wk_in n24, ?_⟩
  rw [wk_cl n24, eo]
  by_cases z : fo_op A n ≤ a
  · exact br_t (nI_le z (by omega)) (tail a (by omega))
  · exact br_f (nI_ge (by omega) (by omega)) ⟨wk_in n24, tail _ (by omega)⟩
end
theorem fo_LI_0 {A : fo_S} (F : fo_F A) {r J : Nat} {l : Nat → Nat} (hr : r < fo_c A) (hpr : fo_p A r = 24) (LI : fo_LI A r J l) : 0 < J ∧ fo_op A (l 0) = 0 := by
  have rr : fo_r A r = r := fo_r_0 (by omega)
  obtain ⟨k, hk, e⟩ := LI.2.2 r hr rr
  have h0 := (fo_M_ex F r hr).1 hpr
  refine ⟨by omega, ?_⟩
  rcases Nat.eq_zero_or_pos k with z | z
  · rw [z] at e; rw [e]; exact h0
  · have := LI.2.1 0 k z hk
    rw [e] at this
    omega
section
variable {A : fo_S} {f_made f_listed f_leaving : Int32} {a_sort a_parentOf a_firstChild a_nextChild a_previousChild a_sizeOf a_letters a_placeNode a_placeOffset a_listing a_opening a_closing a_leavers : Nat → Int32} {post : Int32 → SX → Prop}
theorem wx_letters52 (K : wx_K A f_made a_sort a_parentOf a_firstChild a_nextChild a_previousChild a_sizeOf) (F : fo_F A) (Z : fo_Z A) {r J a b : Nat} {l : Nat → Nat} {L : Nat → Bool} (hr : r < fo_c A) (hpr : fo_p A r = 24) (hJ : J ≤ 24) (LI : fo_LI A r J l) (hL : fo_Lt A r L) (hli : ∀ i, i < J → a_listing i = nI (l i)) (hlj : f_listed = nI J)
    (hm : ∀ x, x < fo_c A → fo_r A x = r → a_opening x = nI (fo_op A x) ∧ a_closing x = nI (fo_cl A x)) (hab : a ≤ b) (hb : b < fo_cl A r) (h : post (nI (wk_lc L (b + 1) - wk_lc L (a + 1))) (f_made, f_listed, f_leaving, a_sort, a_parentOf, a_firstChild, a_nextChild, a_previousChild, a_sizeOf, a_letters, a_placeNode, a_placeOffset, a_listing, a_opening, a_closing, a_leavers)) : ∃ n, wX_letters_52 post (nI a) (nI b) f_made f_listed f_leaving a_sort a_parentOf a_firstChild a_nextChild a_previousChild a_sizeOf a_letters a_placeNode a_placeOffset a_listing a_opening a_closing a_leavers n 0 0 := by
  subst hlj
  have cb := fo_cl_b F Z hr
  obtain ⟨J0, o0⟩ := fo_LI_0 F hr hpr LI
  have loop : ∀ (d n i : Nat), d + i = J → d < n → wX_letters_52 post (nI a) (nI b) f_made (nI J) f_leaving a_sort a_parentOf a_firstChild a_nextChild a_previousChild a_sizeOf a_letters a_placeNode a_placeOffset a_listing a_opening a_closing a_leavers n (nI (wk_C L a b (fo_Bd A r J l i))) (nI i) := by
    intro d
    induction d with
    | zero =>
      intro n i hd hn
      obtain ⟨n, rfl⟩ : ∃ m, n = m + 1 := ⟨n - 1, by omega⟩
      have e : i = J := by omega
      subst e
      have e : wk_C L a b (fo_Bd A r i l i) = wk_lc L (b + 1) - wk_lc L (a + 1) := by
        unfold wk_C fo_Bd
        rw [if_neg (Nat.lt_irrefl _), show min (b + 1) (max (a + 1) (fo_cl A r + 1)) = b + 1 by omega]
      rw [e]
      exact br_t (nI_le (Nat.le_refl _) (by omega)) h
    | succ d ih =>
      intro n i hd hn
      obtain ⟨n, rfl⟩ : ∃ m, n = m + 1 := ⟨n - 1, by omega⟩
      have hi : i < J := by omega
      obtain ⟨hn', hnr⟩ := LI.1 i hi
      have n24 := fo_lt24 F hn'
      have eB : fo_Bd A r J l i = fo_op A (l i) := if_pos hi
      refine br_f (nI_ge hi (by omega)) ⟨wk_in (by omega), ?_⟩
      rw [wk_cl (show i < 24 by omega), hli i hi]
      refine ⟨wk_in n24, ?_⟩
      rw [wk_cl n24, K.2.1 _ hn']
      rcases fo_ft (fo_t A (l i)) with t | t
      · rw [t]
        refine br_t rfl ⟨wk_in (by omega), ?_⟩
        refine wx_lettersBetween K F Z hm (by omega) (by omega) hn' hnr ?_
        refine nm_r (e' := nI (wk_C L a b (fo_Bd A r J l (i + 1)))) ?_ (nm_r (nI_1 i) (ih n (i + 1) (by omega) (by omega)))
        rw [nI_add, wk_C_1 F LI hL hr hab hi t, eB]
      · rw [t]
        refine br_f (by decide) (nm_r (nI_1 i) ?_)
        have e := wk_C_0 F LI hL hr hab hi t
        rw [← eB] at e
        rw [← e]
        exact ih n (i + 1) (by omega) (by omega)
  have e0 : wk_C L a b (fo_Bd A r J l 0) = 0 := by
    unfold wk_C fo_Bd
    rw [if_pos J0, o0, show min (b + 1) (max (a + 1) 0) = a + 1 by omega]
    omega
  have := loop J (J + 1) 0 rfl (by omega)
  rw [e0] at this
  exact ⟨J + 1, this⟩
theorem wx_letters (R : wx_R A (f_made, f_listed, f_leaving, a_sort, a_parentOf, a_firstChild, a_nextChild, a_previousChild, a_sizeOf, a_letters, a_placeNode, a_placeOffset, a_listing, a_opening, a_closing, a_leavers)) (I : fo_I A) {q : Nat} {L : Nat → Bool} (hq : q < 4) (hL : fo_Lt A (fo_r A (fo_n A (2 * q))) L)
    (h : ∀ J l b_listing b_opening b_closing, J ≤ 24 → fo_LI A (fo_r A (fo_n A (2 * q))) J l → (∀ i, i < J → b_listing i = nI (l i)) → (∀ x, x < fo_c A → fo_r A x = fo_r A (fo_n A (2 * q)) → b_opening x = nI (fo_op A x) ∧ b_closing x = nI (fo_cl A x)) → post (nI (wk_lc L (fo_gg A (2 * q + 1) + 1) - wk_lc L (fo_gg A (2 * q) + 1))) (f_made, nI J, f_leaving, a_sort, a_parentOf, a_firstChild, a_nextChild, a_previousChild, a_sizeOf, a_letters, a_placeNode, a_placeOffset, b_listing, b_opening, b_closing, a_leavers)) : wpX_letters post (f_made, f_listed, f_leaving, a_sort, a_parentOf, a_firstChild, a_nextChild, a_previousChild, a_sizeOf, a_letters, a_placeNode, a_placeOffset, a_listing, a_opening, a_closing, a_leavers) (nI q) := by
  obtain ⟨F, Z, Q, RR⟩ := I
  obtain ⟨K, T, P⟩ := R
  have k1 : 2 * q < 8 := by omega
  have k2 : 2 * q + 1 < 8 := by omega
  obtain ⟨q1, q2⟩ := Q _ k1
  obtain ⟨q3, q4⟩ := Q _ k2
  obtain ⟨r1, r2, r3⟩ := fo_r_in F _ q1
  have Lm := fo_ML F (fo_M_ex F)
  have e2 : (2 : Int32) * nI q = nI (2 * q) := pk_mul 2 q
  have hb : fo_gg A (2 * q + 1) < fo_cl A (fo_r A (fo_n A (2 * q))) := by
    rw [(RR q hq).1]
    exact (fo_L_gA F Lm q3 q4 (fo_lt24 F (fo_r_in F _ q3).1) (fo_r_in F _ q3).2.2).2
  unfold wpX_letters
  refine wx_isRange1 hq (br_f (by decide) ?_)
  rw [e2, nI_1]
  refine ⟨wk_i8 k1, ?_⟩
  rw [wk_c8 k1, (P _ k1).1]
  refine wx_topOf K.2.2.1 F q1 ?_
  refine wx_numberMarks K F Z r1 r2 ?_
  intro J l c1 c2 c3 hJ LI hli hm
  dsimp only
  refine wx_gap K P F Z Q hm k1 rfl ?_
  refine wx_gap K P F Z Q hm k2 (RR q hq).1.symm ?_
  exact wx_letters52 (a_listing := c1) (a_opening := c2) (a_closing := c3) K F Z r1 r2 hJ LI hL hli rfl hm (RR q hq).2 hb (h J l c1 c2 c3 hJ LI hli hm)
theorem wx_letterIn50 (K : wx_K A f_made a_sort a_parentOf a_firstChild a_nextChild a_previousChild a_sizeOf) (T : wx_T A a_letters) (F : fo_F A) (Z : fo_Z A) {r J a b k : Nat} {l : Nat → Nat} {L : Nat → Bool} (hr : r < fo_c A) (hpr : fo_p A r = 24) (hJ : J ≤ 24) (LI : fo_LI A r J l) (hL : fo_Lt A r L) (hli : ∀ i, i < J → a_listing i = nI (l i)) (hlj : f_listed = nI J)
    (hm : ∀ x, x < fo_c A → fo_r A x = r → a_opening x = nI (fo_op A x) ∧ a_closing x = nI (fo_cl A x)) (hab : a ≤ b) (hb : b < fo_cl A r) (hk : k < wk_lc L (b + 1) - wk_lc L (a + 1))
    (h : ∀ x j, x < fo_c A → fo_r A x = r → fo_t A x = true → j < fo_s A x → L (fo_op A x + 1 + j) = true → a + 1 ≤ fo_op A x + 1 + j → fo_op A x + 1 + j < b + 1 → wk_lc L (fo_op A x + 1 + j) - wk_lc L (a + 1) = k → post (nI (fo_l A x j)) (f_made, f_listed, f_leaving, a_sort, a_parentOf, a_firstChild, a_nextChild, a_previousChild, a_sizeOf, a_letters, a_placeNode, a_placeOffset, a_listing, a_opening, a_closing, a_leavers)) : ∃ n, wX_letterIn_50 post (nI a) (nI b) f_made f_listed f_leaving a_sort a_parentOf a_firstChild a_nextChild a_previousChild a_sizeOf a_letters a_placeNode a_placeOffset a_listing a_opening a_closing a_leavers n (nI k) 0 := by
  subst hlj
  have cb := fo_cl_b F Z hr
  obtain ⟨J0, o0⟩ := fo_LI_0 F hr hpr LI
  have lb := wk_lc_b (L := L) (b + 1)
  have loop : ∀ (d n i : Nat), d + i = J → d < n → wk_C L a b (fo_Bd A r J l i) ≤ k → wX_letterIn_50 post (nI a) (nI b) f_made (nI J) f_leaving a_sort a_parentOf a_firstChild a_nextChild a_previousChild a_sizeOf a_letters a_placeNode a_placeOffset a_listing a_opening a_closing a_leavers n (nI (k - wk_C L a b (fo_Bd A r J l i))) (nI i) := by
    intro d
    induction d with
    | zero =>
      intro n i hd hn hC
      exfalso
      have e : i = J := by omega
      subst e
      have e : wk_C L a b (fo_Bd A r i l i) = wk_lc L (b + 1) - wk_lc L (a + 1) := by
        unfold wk_C fo_Bd
        rw [if_neg (Nat.lt_irrefl _), show min (b + 1) (max (a + 1) (fo_cl A r + 1)) = b + 1 by omega]
      omega
    | succ d ih =>
      intro n i hd hn hC
      obtain ⟨n, rfl⟩ : ∃ m, n = m + 1 := ⟨n - 1, by omega⟩
      have hi : i < J := by omega
      obtain ⟨hn', hnr⟩ := LI.1 i hi
      have n24 := fo_lt24 F hn'
      have eB : fo_Bd A r J l i = fo_op A (l i) := if_pos hi
      refine br_f (nI_ge hi (by omega)) ⟨wk_in (by omega), nm_r (e' := nI (l i)) (by rw [wk_cl (show i < 24 by omega), hli i hi]) ⟨wk_in n24, ?_⟩⟩
      rw [wk_cl n24, K.2.1 _ hn']
      rcases fo_ft (fo_t A (l i)) with t | t
      · have hC1 := wk_C_1 F LI hL hr hab hi t
        have ob := fo_op_b F Z hn'
        have s12 := fo_s_t Z hn' t
        have hbb : fo_hb A (l i) a b ≤ 12 := by unfold fo_hb; omega
        rw [t]
        refine br_t rfl ?_
        refine wx_lettersBetween K F Z hm (by omega) (by omega) hn' hnr ?_
        rw [eB] at hC ⊢
        by_cases z : fo_hb A (l i) a b ≤ k - wk_C L a b (fo_op A (l i))
        · refine br_t (nI_le z (by omega)) (nm_r (e' := nI (k - wk_C L a b (fo_Bd A r J l (i + 1)))) ?_ (nm_r (nI_1 i) (ih n (i + 1) (by omega) (by omega) (by omega))))
          rw [pk_sub z]
          exact congrArg nI (by omega)
        · refine br_f (nI_ge (by omega) (by omega)) ⟨wk_in n24, ?_⟩
          obtain ⟨j1, j2, j3, j4, j5⟩ := wk_C_p F LI hL hr hab hi t hC (by omega)
          rw [(hm _ hn' hnr).1]
          have tail : ∀ s, s = (if fo_op A (l i) < a then a - fo_op A (l i) else 0) → wX_letterIn_124 post (nI (k - wk_C L a b (fo_op A (l i)))) (nI (l i)) (nI s) f_made (nI J) f_leaving a_sort a_parentOf a_firstChild a_nextChild a_previousChild a_sizeOf a_letters a_placeNode a_placeOffset a_listing a_opening a_closing a_leavers := by
            intro s es
            rw [← es] at j1 j2 j3 j4 j5
            unfold wX_letterIn_124
            rw [wk_12, nI_add]
            refine ⟨vp_in_nI (by omega) (by decide), ?_⟩
            rw [nI_clamp (by omega), Nat.add_assoc, T _ hn' t _ j1]
            exact h _ _ hn' hnr t j1 j2 j3 j4 j5
          by_cases y : a ≤ fo_op A (l i)
          · exact br_t (nI_le y (by omega)) (tail 0 (by rw [if_neg (by omega)]))
          · refine br_f (nI_ge (by omega) (by omega)) ⟨wk_in n24, ?_⟩
            rw [pk_sub (by omega)]
            exact tail _ (by rw [if_pos (by omega)])
      · rw [t]
        refine br_f (by decide) (nm_r (nI_1 i) ?_)
        have e := wk_C_0 F LI hL hr hab hi t
        rw [← eB] at e
        rw [← e] at hC ⊢
        exact ih n (i + 1) (by omega) (by omega) hC
  have e0 : wk_C L a b (fo_Bd A r J l 0) = 0 := by
    unfold wk_C fo_Bd
    rw [if_pos J0, o0, show min (b + 1) (max (a + 1) 0) = a + 1 by omega]
    omega
  have := loop J (J + 1) 0 rfl (by omega) (by omega)
  rw [e0] at this
  exact ⟨J + 1, this⟩
end
section
variable {A : fo_S} {f_count f_length : Int32} {a_isText a_parents a_sizes a_items a_placeNode a_placeOffset a_marks a_opens a_closes a_coming : Nat → Int32} {post : Int32 → SY → Prop}
theorem wy_letters27 (R : wy_R A (f_count, f_length, a_isText, a_parents, a_sizes, a_items, a_placeNode, a_placeOffset, a_marks, a_opens, a_closes, a_coming)) (I : fo_I A) {q : Nat} {L : Nat → Bool} (hq : q < 4) (D : wy_D A (fo_r A (fo_n A (2 * q))) (fo_cl A (fo_r A (fo_n A (2 * q))) + 1) a_marks a_opens a_closes) (hL : fo_Lt A (fo_r A (fo_n A (2 * q))) L)
    (h : post (nI (wk_lc L (fo_gg A (2 * q + 1) + 1) - wk_lc L (fo_gg A (2 * q) + 1))) (f_count, f_length, a_isText, a_parents, a_sizes, a_items, a_placeNode, a_placeOffset, a_marks, a_opens, a_closes, a_coming)) : ∃ n, wY_letters_27 post (nI q) f_count f_length a_isText a_parents a_sizes a_items a_placeNode a_placeOffset a_marks a_opens a_closes a_coming n 0 (nI (fo_gg A (2 * q) + 1)) := by
  obtain ⟨F, Z, Q, RR⟩ := I
  obtain ⟨K, T, P⟩ := R
  have k1 : 2 * q < 8 := by omega
  have k2 : 2 * q + 1 < 8 := by omega
  obtain ⟨q1, q2⟩ := Q _ k1
  obtain ⟨q3, q4⟩ := Q _ k2
  obtain ⟨r1, r2, r3⟩ := fo_r_in F _ q1
  have Lm := fo_ML F (fo_M_ex F)
  have g2 := fo_gg_b F Z Q k2
  have e2 : (2 : Int32) * nI q + 1 = nI (2 * q + 1) := wk_2r q 1
  have hb : fo_gg A (2 * q + 1) < fo_cl A (fo_r A (fo_n A (2 * q))) := by
    rw [(RR q hq).1]
    exact (fo_L_gA F Lm q3 q4 (fo_lt24 F (fo_r_in F _ q3).1) (fo_r_in F _ q3).2.2).2
  have hm := wy_D_m F r1 D
  have hab := (RR q hq).2
  have loop : ∀ (d n m : Nat), d + m = fo_gg A (2 * q + 1) + 1 → d < n → fo_gg A (2 * q) + 1 ≤ m → wY_letters_27 post (nI q) f_count f_length a_isText a_parents a_sizes a_items a_placeNode a_placeOffset a_marks a_opens a_closes a_coming n (nI (wk_lc L m - wk_lc L (fo_gg A (2 * q) + 1))) (nI m) := by
    intro d
    induction d with
    | zero =>
      intro n m hd hn hm'
      obtain ⟨n, rfl⟩ : ∃ j, n = j + 1 := ⟨n - 1, by omega⟩
      have e : m = fo_gg A (2 * q + 1) + 1 := by omega
      subst e
      unfold wY_letters_27
      rw [e2]
      refine wy_gap K T P F Z Q hm k2 (RR q hq).1.symm ?_
      exact br_t (nI_le (Nat.le_refl _) (by omega)) h
    | succ d ih =>
      intro n m hd hn hm'
      obtain ⟨n, rfl⟩ : ∃ j, n = j + 1 := ⟨n - 1, by omega⟩
      have hD := wy_D_L F Z r1 r2 D hL (show m ≤ fo_cl A (fo_r A (fo_n A (2 * q))) by omega)
      have ml := wk_lc_m (L := L) m hm'
      unfold wY_letters_27
      rw [e2]
      refine wy_gap K T P F Z Q hm k2 (RR q hq).1.symm ?_
      refine br_f (nI_ge (by omega) (by omega)) ⟨vp_in_nI (by omega) (by decide), ?_⟩
      rw [nI_clamp (show m < 2 ^ 31 by omega)]
      rcases fo_ft (L m) with y | y
      · refine br_f (hD.1 y) (nm_r (e' := nI (wk_lc L (m + 1) - wk_lc L (fo_gg A (2 * q) + 1))) ?_ (nm_r (nI_1 m) (ih n (m + 1) (by omega) (by omega) (by omega))))
        rw [nI_1, wk_lc_t y]
        exact congrArg nI (by omega)
      · refine br_t (hD.2 y) (nm_r (nI_1 m) ?_)
        have := ih n (m + 1) (by omega) (by omega) (by omega)
        rw [wk_lc_f y] at this
        exact this
  have := loop (fo_gg A (2 * q + 1) - fo_gg A (2 * q)) _ (fo_gg A (2 * q) + 1) (by omega) (Nat.lt_succ_self _) (Nat.le_refl _)
  rw [Nat.sub_self] at this
  exact ⟨_, this⟩
/-- no letter of that number; the one of that number -/
theorem wy_letterIn28 (R : wy_R A (f_count, f_length, a_isText, a_parents, a_sizes, a_items, a_placeNode, a_placeOffset, a_marks, a_opens, a_closes, a_coming)) (I : fo_I A) {q : Nat} {L : Nat → Bool} {v : Int32} (hq : q < 4) (D : wy_D A (fo_r A (fo_n A (2 * q))) (fo_cl A (fo_r A (fo_n A (2 * q))) + 1) a_marks a_opens a_closes) (hL : fo_Lt A (fo_r A (fo_n A (2 * q))) L)
    (h : ((∀ m, L m = true → fo_gg A (2 * q) + 1 ≤ m → m < fo_gg A (2 * q + 1) + 1 → v ≠ nI (wk_lc L m - wk_lc L (fo_gg A (2 * q) + 1))) ∧ post (-2) (f_count, f_length, a_isText, a_parents, a_sizes, a_items, a_placeNode, a_placeOffset, a_marks, a_opens, a_closes, a_coming)) ∨ (∃ p, L p = true ∧ fo_gg A (2 * q) + 1 ≤ p ∧ p < fo_gg A (2 * q + 1) + 1 ∧ v = nI (wk_lc L p - wk_lc L (fo_gg A (2 * q) + 1)) ∧ post (a_marks p) (f_count, f_length, a_isText, a_parents, a_sizes, a_items, a_placeNode, a_placeOffset, a_marks, a_opens, a_closes, a_coming))) : ∃ n, wY_letterIn_28 post (nI q) f_count f_length a_isText a_parents a_sizes a_items a_placeNode a_placeOffset a_marks a_opens a_closes a_coming n v (nI (fo_gg A (2 * q) + 1)) := by
  obtain ⟨F, Z, Q, RR⟩ := I
  obtain ⟨K, T, P⟩ := R
  have k1 : 2 * q < 8 := by omega
  have k2 : 2 * q + 1 < 8 := by omega
  obtain ⟨q1, q2⟩ := Q _ k1
  obtain ⟨q3, q4⟩ := Q _ k2
  obtain ⟨r1, r2, r3⟩ := fo_r_in F _ q1
  have Lm := fo_ML F (fo_M_ex F)
  have g2 := fo_gg_b F Z Q k2
  have e2 : (2 : Int32) * nI q + 1 = nI (2 * q + 1) := wk_2r q 1
  have hb : fo_gg A (2 * q + 1) < fo_cl A (fo_r A (fo_n A (2 * q))) := by
    rw [(RR q hq).1]
    exact (fo_L_gA F Lm q3 q4 (fo_lt24 F (fo_r_in F _ q3).1) (fo_r_in F _ q3).2.2).2
  have hm := wy_D_m F r1 D
  have hab := (RR q hq).2
  have loop : ∀ (d n m : Nat), d + m = fo_gg A (2 * q + 1) + 1 → d < n → fo_gg A (2 * q) + 1 ≤ m →
      (((∀ m, L m = true → fo_gg A (2 * q) + 1 ≤ m → m < fo_gg A (2 * q + 1) + 1 → v ≠ nI (wk_lc L m - wk_lc L (fo_gg A (2 * q) + 1))) ∧ post (-2) (f_count, f_length, a_isText, a_parents, a_sizes, a_items, a_placeNode, a_placeOffset, a_marks, a_opens, a_closes, a_coming)) ∨ (∃ p, L p = true ∧ m ≤ p ∧ p < fo_gg A (2 * q + 1) + 1 ∧ v = nI (wk_lc L p - wk_lc L (fo_gg A (2 * q) + 1)) ∧ post (a_marks p) (f_count, f_length, a_isText, a_parents, a_sizes, a_items, a_placeNode, a_placeOffset, a_marks, a_opens, a_closes, a_coming))) →
      wY_letterIn_28 post (nI q) f_count f_length a_isText a_parents a_sizes a_items a_placeNode a_placeOffset a_marks a_opens a_closes a_coming n (v - nI (wk_lc L m - wk_lc L (fo_gg A (2 * q) + 1))) (nI m) := by
    intro d
    induction d with
    | zero =>
      intro n m hd hn hm' hh
      obtain ⟨n, rfl⟩ : ∃ j, n = j + 1 := ⟨n - 1, by omega⟩
      have e : m = fo_gg A (2 * q + 1) + 1 := by omega
      subst e
      unfold wY_letterIn_28
      rw [e2]
      refine wy_gap K T P F Z Q hm k2 (RR q hq).1.symm ?_
      refine br_t (nI_le (Nat.le_refl _) (by omega)) ?_
      rcases hh with ⟨-, hp⟩ | ⟨p, -, p2, p3, -, -⟩
      · exact hp
      · omega
    | succ d ih =>
      intro n m hd hn hm' hh
      obtain ⟨n, rfl⟩ : ∃ j, n = j + 1 := ⟨n - 1, by omega⟩
      have hD := wy_D_L F Z r1 r2 D hL (show m ≤ fo_cl A (fo_r A (fo_n A (2 * q))) by omega)
      have ml := wk_lc_m (L := L) m hm'
      have mb := wk_lc_b (L := L) m
      unfold wY_letterIn_28
      rw [e2]
      refine wy_gap K T P F Z Q hm k2 (RR q hq).1.symm ?_
      refine br_f (nI_ge (by omega) (by omega)) ⟨vp_in_nI (by omega) (by decide), ?_⟩
      rw [nI_clamp (show m < 2 ^ 31 by omega)]
      rcases fo_ft (L m) with y | y
      · refine br_f (hD.1 y) ?_
        by_cases ev : v = nI (wk_lc L m - wk_lc L (fo_gg A (2 * q) + 1))
        · refine br_t (by rw [ev]; exact Int32.sub_self _) ⟨vp_in_nI (by omega) (by decide), ?_⟩
          rcases hh with ⟨hno, -⟩ | ⟨p, p1, p2, p3, p4, p5⟩
          · exact absurd ev (hno m y hm' (by omega))
          · rcases Nat.eq_or_lt_of_le p2 with w | w
            · rw [w]; exact p5
            · exfalso
              have h1 := wk_lc_s w y
              have pb := wk_lc_b (L := L) p
              rw [ev] at p4
              have := (nI_eq (by omega) (by omega)).mp p4
              omega
        · refine br_f (fun w => ev ?_) (nm_r (e' := v - nI (wk_lc L (m + 1) - wk_lc L (fo_gg A (2 * q) + 1))) ?_ (nm_r (nI_1 m) (ih n (m + 1) (by omega) (by omega) (by omega) ?_)))
          · have : v = v - nI (wk_lc L m - wk_lc L (fo_gg A (2 * q) + 1)) + nI (wk_lc L m - wk_lc L (fo_gg A (2 * q) + 1)) := by grind
            rw [w] at this
            rw [this]
            grind
          · rw [wk_lc_t y, show wk_lc L m + 1 - wk_lc L (fo_gg A (2 * q) + 1) = wk_lc L m - wk_lc L (fo_gg A (2 * q) + 1) + 1 by omega, ← nI_1]
            grind
          · rcases hh with hno | ⟨p, p1, p2, p3, p4, p5⟩
            · exact Or.inl hno
            · refine Or.inr ⟨p, p1, ?_, p3, p4, p5⟩
              rcases Nat.eq_or_lt_of_le p2 with w | w
              · rw [← w] at p4; exact absurd p4 ev
              · exact w
      · refine br_t (hD.2 y) (nm_r (nI_1 m) ?_)
        have := ih n (m + 1) (by omega) (by omega) (by omega) ?_
        · rw [wk_lc_f y] at this
          exact this
        · rcases hh with hno | ⟨p, p1, p2, p3, p4, p5⟩
          · exact Or.inl hno
          · refine Or.inr ⟨p, p1, ?_, p3, p4, p5⟩
            rcases Nat.eq_or_lt_of_le p2 with w | w
            · rw [← w, y] at p1; exact absurd p1 (by decide)
            · exact w
  have := loop (fo_gg A (2 * q + 1) - fo_gg A (2 * q)) _ (fo_gg A (2 * q) + 1) (by omega) (Nat.lt_succ_self _) (Nat.le_refl _) h
  rw [Nat.sub_self, show v - nI 0 = v by rw [nI_0]; grind] at this
  exact ⟨_, this⟩
end
theorem i_vc_letters {k : Nat} {u : SX} {v : SY} (I : i_Rel k u v) (hk : k + 5 ≤ 2560) (v1 : Int32) : wpX_letters (fun r u' => wpY_letters (fun r' v' => r' = r ∧ i_Rel (k + 5) u' v') v v1) u v1 := by
  refine wk_el (P := fun u v => wpX_letters (fun r u' => wpY_letters (fun r' v' => r' = r ∧ i_Rel (k + 5) u' v') v v1) u v1) ?_ I
  intro A f_made f_listed f_leaving a_sort a_parentOf a_firstChild a_nextChild a_previousChild a_sizeOf a_letters a_placeNode a_placeOffset a_listing a_opening a_closing a_leavers f_count f_length a_isText a_parents a_sizes a_items c_placeNode c_placeOffset a_marks a_opens a_closes a_coming hI hX hY
  have F := hI.1
  have Z := hI.2.1
  have Q := hI.2.2.1
  have R := hI.2.2.2
  have rel : i_Rel (k + 5) (f_made, f_listed, f_leaving, a_sort, a_parentOf, a_firstChild, a_nextChild, a_previousChild, a_sizeOf, a_letters, a_placeNode, a_placeOffset, a_listing, a_opening, a_closing, a_leavers) (f_count, f_length, a_isText, a_parents, a_sizes, a_items, c_placeNode, c_placeOffset, a_marks, a_opens, a_closes, a_coming) := ⟨A, hI, hX, hY⟩
  rcases wk_rx v1 with z1 | ⟨q, hq, rfl⟩
  · unfold wpX_letters
    refine wx_isRange0 z1 (br_t rfl ?_)
    unfold wpY_letters
    refine wy_isRange0 z1 ?_
    exact br_t rfl ⟨rfl, rel⟩
  · obtain ⟨L, hL⟩ := fo_cb (fun p => ∃ x, x < fo_c A ∧ fo_r A x = fo_r A (fo_n A (2 * q)) ∧ fo_t A x = true ∧ fo_op A x < p ∧ p < fo_cl A x)
    refine wx_letters hX hI hq hL ?_
    intro J l c1 c2 c3 hJ LI hli hm
    have k1 : 2 * q < 8 := by omega
    have e2 : (2 : Int32) * nI q = nI (2 * q) := pk_mul 2 q
    unfold wpY_letters
    refine wy_isRange1 hq ?_
    refine br_f (by decide) ?_
    rw [e2]
    refine wy_writeOf hY F Z Q k1 ?_
    intro d1 d2 d3 d4 d5 D
    dsimp only
    refine wy_gap hY.1 hY.2.1 hY.2.2 F Z Q (wy_D_m F (fo_r_in F _ (Q _ k1).1).1 D) k1 rfl ?_
    exact wy_letters27 (A := A) (a_marks := d2) (a_opens := d3) (a_closes := d4) ⟨hY.1, hY.2.1, hY.2.2⟩ hI hq D hL ⟨rfl, A, hI, ⟨hX.1, hX.2.1, hX.2.2⟩, ⟨hY.1, hY.2.1, hY.2.2⟩⟩
theorem i_vc_letterIn {k : Nat} {u : SX} {v : SY} (I : i_Rel k u v) (hk : k + 5 ≤ 2560) (v1 : Int32) (v2 : Int32) : wpX_letterIn (fun r u' => wpY_letterIn (fun r' v' => r' = r ∧ i_Rel (k + 5) u' v') v v1 v2) u v1 v2 := by
  refine wk_el (P := fun u v => wpX_letterIn (fun r u' => wpY_letterIn (fun r' v' => r' = r ∧ i_Rel (k + 5) u' v') v v1 v2) u v1 v2) ?_ I
  intro A f_made f_listed f_leaving a_sort a_parentOf a_firstChild a_nextChild a_previousChild a_sizeOf a_letters a_placeNode a_placeOffset a_listing a_opening a_closing a_leavers f_count f_length a_isText a_parents a_sizes a_items c_placeNode c_placeOffset a_marks a_opens a_closes a_coming hI hX hY
  have F := hI.1
  have Z := hI.2.1
  have Q := hI.2.2.1
  have R := hI.2.2.2
  have rel : i_Rel (k + 5) (f_made, f_listed, f_leaving, a_sort, a_parentOf, a_firstChild, a_nextChild, a_previousChild, a_sizeOf, a_letters, a_placeNode, a_placeOffset, a_listing, a_opening, a_closing, a_leavers) (f_count, f_length, a_isText, a_parents, a_sizes, a_items, c_placeNode, c_placeOffset, a_marks, a_opens, a_closes, a_coming) := ⟨A, hI, hX, hY⟩
  unfold wpX_letterIn
  rcases wk_rx v1 with z1 | ⟨q, hq, rfl⟩
  · unfold wpX_letters
    refine wx_isRange0 z1 (br_t rfl ?_)
    refine br_f (by decide) ?_
    unfold wpY_letterIn
    refine wy_isRange0 z1 ?_
    exact br_t rfl ⟨rfl, rel⟩
  · obtain ⟨L, hL⟩ := fo_cb (fun p => ∃ x, x < fo_c A ∧ fo_r A x = fo_r A (fo_n A (2 * q)) ∧ fo_t A x = true ∧ fo_op A x < p ∧ p < fo_cl A x)
    refine wx_letters hX hI hq hL ?_
    intro J l c1 c2 c3 hJ LI hli hm
    have k1 : 2 * q < 8 := by omega
    have k2 : 2 * q + 1 < 8 := by omega
    have e2 : (2 : Int32) * nI q = nI (2 * q) := pk_mul 2 q
    have g1 := fo_gg_b F Z Q k1
    have g2 := fo_gg_b F Z Q k2
    obtain ⟨q1, q2⟩ := Q _ k1
    obtain ⟨q3, q4⟩ := Q _ k2
    obtain ⟨r1, r2, r3⟩ := fo_r_in F _ q1
    have Lm := fo_ML F (fo_M_ex F)
    have hb : fo_gg A (2 * q + 1) < fo_cl A (fo_r A (fo_n A (2 * q))) := by
      rw [(R q hq).1]
      exact (fo_L_gA F Lm q3 q4 (fo_lt24 F (fo_r_in F _ q3).1) (fo_r_in F _ q3).2.2).2
    have hX' : wx_R A (f_made, nI J, f_leaving, a_sort, a_parentOf, a_firstChild, a_nextChild, a_previousChild, a_sizeOf, a_letters, a_placeNode, a_placeOffset, c1, c2, c3, a_leavers) := ⟨hX.1, hX.2.1, hX.2.2⟩
    have yy : ∀ (s : Int32), (∀ (b_marks b_opens b_closes : Nat → Int32), wy_D A (fo_r A (fo_n A (2 * q))) (fo_cl A (fo_r A (fo_n A (2 * q))) + 1) b_marks b_opens b_closes → ((∀ m, L m = true → fo_gg A (2 * q) + 1 ≤ m → m < fo_gg A (2 * q + 1) + 1 → v2 ≠ nI (wk_lc L m - wk_lc L (fo_gg A (2 * q) + 1))) ∧ -2 = s) ∨ (∃ p, L p = true ∧ fo_gg A (2 * q) + 1 ≤ p ∧ p < fo_gg A (2 * q + 1) + 1 ∧ v2 = nI (wk_lc L p - wk_lc L (fo_gg A (2 * q) + 1)) ∧ b_marks p = s)) → wpY_letterIn (fun r' v' => r' = s ∧ i_Rel (k + 5) (f_made, nI J, f_leaving, a_sort, a_parentOf, a_firstChild, a_nextChild, a_previousChild, a_sizeOf, a_letters, a_placeNode, a_placeOffset, c1, c2, c3, a_leavers) v') (f_count, f_length, a_isText, a_parents, a_sizes, a_items, c_placeNode, c_placeOffset, a_marks, a_opens, a_closes, a_coming) (nI q) v2 := by
      intro s hs
      unfold wpY_letterIn
      refine wy_isRange1 hq ?_
      refine br_f (by decide) ?_
      rw [e2]
      refine wy_writeOf hY F Z Q k1 ?_
      intro d1 d2 d3 d4 d5 D
      dsimp only
      refine wy_gap hY.1 hY.2.1 hY.2.2 F Z Q (wy_D_m F r1 D) k1 rfl ?_
      refine wy_letterIn28 (A := A) (a_marks := d2) (a_opens := d3) (a_closes := d4) ⟨hY.1, hY.2.1, hY.2.2⟩ hI hq D hL ?_
      rcases hs d2 d3 d4 D with ⟨w1, w2⟩ | ⟨p, w1, w2, w3, w4, w5⟩
      · exact Or.inl ⟨w1, w2, A, hI, hX', ⟨hY.1, hY.2.1, hY.2.2⟩⟩
      · exact Or.inr ⟨p, w1, w2, w3, w4, w5, A, hI, hX', ⟨hY.1, hY.2.1, hY.2.2⟩⟩
    have lb := wk_lc_b (L := L) (fo_gg A (2 * q + 1) + 1)
    refine br_t (nI_pos' (by omega)) ?_
    by_cases z2 : v2 < 0
    · refine br_t z2 (yy _ fun _ _ _ _ => Or.inl ⟨fun m hm1 hm2 hm3 e => ?_, rfl⟩)
      have mb := wk_lc_b (L := L) m
      rw [e] at z2
      exact absurd z2 (nI_pos (by omega))
    · obtain ⟨n, hn, rfl⟩ := nI_of z2
      refine br_f z2 ?_
      by_cases z3 : n < wk_lc L (fo_gg A (2 * q + 1) + 1) - wk_lc L (fo_gg A (2 * q) + 1)
      · refine br_t (nI_lt z3 (by omega)) ?_
        rw [e2, nI_1]
        refine wx_gap hX.1 hX.2.2 F Z Q hm k1 rfl ?_
        refine wx_gap hX.1 hX.2.2 F Z Q hm k2 (R q hq).1.symm ?_
        refine wx_letterIn50 (A := A) (a_listing := c1) (a_opening := c2) (a_closing := c3) hX.1 hX.2.1 F Z r1 r2 hJ LI hL hli rfl hm (R q hq).2 hb z3 ?_
        intro x j x1 x2 x3 x4 x5 x6 x7 x8
        refine yy _ fun b1 b2 b3 D => Or.inr ⟨_, x5, x6, x7, by rw [x8], ?_⟩
        have cx := (fo_M_ex F x x1).2.2.1 x3
        have tp := (fo_L_A F Lm x1 (fo_lt24 F r1) (by rw [← x2]; exact (fo_r_in F x x1).2.2)).2
        exact (D x x1 x2).2.2 x3 j x4 (by omega)
      · refine br_f (nI_nlt (by omega) (by omega)) (yy _ fun _ _ _ _ => Or.inl ⟨fun m hm1 hm2 hm3 e => ?_, rfl⟩)
        have mb := wk_lc_b (L := L) m
        have ms := wk_lc_s hm3 hm1
        have ml := wk_lc_m (L := L) m hm2
        have := (nI_eq (by omega) (by omega)).mp e
        omega
end
section
/-! erase: the nodes that leave -/
theorem zb_1 : ∀ j, j < 32 → bt 1 j = decide (j = 0) := by decide +kernel
theorem zb_sh {n i : Nat} (hn : n < 32) (hi : i < 32) : bt ((1 : Int32) <<< (nI n &&& 31)) i = decide (i = n) := by
  rw [b_shl n hn 1 hi]
  by_cases e : n ≤ i
  · rw [decide_eq_true e, zb_1 (i - n) (by omega), Bool.true_and]
    by_cases z : i = n
    · rw [decide_eq_true z, decide_eq_true (by omega)]
    · rw [decide_eq_false z, decide_eq_false (by omega)]
  · rw [decide_eq_false e, Bool.false_and, decide_eq_false (by omega)]
theorem zb_and1 (y : Int32) : y &&& 1 = 1 ↔ bt y 0 = true := by
  constructor
  · intro h
    have := b_and y 1 0
    rw [h, zb_1 0 (by omega)] at this
    cases hb : bt y 0
    · rw [hb] at this; exact absurd this (by decide)
    · rfl
  · intro h
    refine b_ext fun i hi => ?_
    rw [b_and, zb_1 i hi]
    by_cases z : i = 0
    · rw [z, h]; rfl
    · rw [decide_eq_false z, Bool.and_false]
theorem zb_tst {x : Int32} {n : Nat} (hn : n < 32) : (x >>> (nI n &&& 31)) &&& 1 = 1 ↔ bt x n = true := by
  rw [zb_and1, b_sshr n hn x (by omega), if_pos (by omega), Nat.add_zero]
theorem zb_or {x : Int32} {n i : Nat} (hn : n < 32) (hi : i < 32) : bt (x ||| ((1 : Int32) <<< (nI n &&& 31))) i = (bt x i || decide (i = n)) := by
  rw [b_or, zb_sh hn hi]
theorem zb_cl {x : Int32} {n i : Nat} (hn : n < 32) (hi : i < 32) : bt (x &&& (((1 : Int32) <<< (nI n &&& 31)) ^^^ (-1))) i = (bt x i && !decide (i = n)) := by
  rw [b_and, b_xor, zb_sh hn hi, b_m1 i hi, Bool.xor_true]
theorem zb_0 {x : Int32} : x = 0 ↔ ∀ i, i < 32 → bt x i = false := by
  constructor
  · intro h i _
    rw [h]; exact b_0 i
  · intro h
    refine b_ext fun i hi => ?_
    rw [h i hi, b_0]
/-- n leaves: its row lies within, its parent's doesn't -/
def fo_lv (A : fo_S) (q n : Nat) : Bool := fo_wi A q n && !(decide (fo_p A n < 24) && fo_wi A q (fo_p A n))
/-- the leavers in their order -/
def fo_V (A : fo_S) (q E : Nat) (v : Nat → Nat) : Prop := (∀ i, i < E → v i < fo_c A ∧ fo_lv A q (v i) = true) ∧ (∀ i j, i < j → j < E → fo_op A (v i) < fo_op A (v j)) ∧ (∀ n, n < fo_c A → fo_lv A q n = true → ∃ i, i < E ∧ v i = n)
theorem fo_lv_w {A : fo_S} {q n : Nat} (h : fo_lv A q n = true) : fo_r A n = fo_r A (fo_n A (2 * q)) ∧ fo_gg A (2 * q) < fo_op A n ∧ fo_cl A n ≤ fo_gg A (2 * q + 1) := by
  unfold fo_lv at h
  have h1 := (Bool.and_eq_true _ _ ▸ h : fo_wi A q n = true ∧ _).1
  unfold fo_wi at h1
  exact of_decide_eq_true h1
theorem fo_lv_p {A : fo_S} (F : fo_F A) {q n : Nat} (hn : n < fo_c A) (h : fo_lv A q n = true) : fo_p A n < 24 := by
  have h1 := (fo_lv_w h).2.1
  rcases Nat.lt_or_ge (fo_p A n) 24 with z | z
  · exact z
  · have := (fo_M_ex F n hn).1 (by have := F.2.1 n; omega)
    omega
theorem fo_V_ne {A : fo_S} {q E : Nat} {v : Nat → Nat} (V : fo_V A q E v) {i j : Nat} (hi : i < E) (hj : j < E) (h : v i = v j) : i = j := by
  rcases Nat.lt_trichotomy i j with z | z | z
  · have := V.2.1 i j z hj
    rw [h] at this
    omega
  · exact z
  · have := V.2.1 j i z hi
    rw [h] at this
    omega
theorem fo_V_24 {A : fo_S} (F : fo_F A) {q E : Nat} {v : Nat → Nat} (V : fo_V A q E v) : E ≤ 24 :=
  fo_pig 24 E v (fun i hi => fo_lt24 F (V.1 i hi).1) fun _ _ hi hj h => fo_V_ne V hi hj h
section
variable {A : fo_S} {f_made f_listed f_leaving : Int32} {a_sort a_parentOf a_firstChild a_nextChild a_previousChild a_sizeOf a_letters a_placeNode a_placeOffset a_listing a_opening a_closing a_leavers : Nat → Int32} {post : SX → Prop}
theorem wx_findLeavers (K : wx_K A f_made a_sort a_parentOf a_firstChild a_nextChild a_previousChild a_sizeOf) (F : fo_F A) (Z : fo_Z A) (Q : fo_Q A) {q J : Nat} {l : Nat → Nat} (hq : q < 4) (hJ : J ≤ 24) (LI : fo_LI A (fo_r A (fo_n A (2 * q))) J l) (hli : ∀ i, i < J → a_listing i = nI (l i)) (hlj : f_listed = nI J)
    (hm : ∀ x, x < fo_c A → fo_r A x = fo_r A (fo_n A (2 * q)) → a_opening x = nI (fo_op A x) ∧ a_closing x = nI (fo_cl A x))
    (h : ∀ E v b_leavers, fo_V A q E v → (∀ i, i < E → b_leavers i = nI (v i)) → post (f_made, f_listed, nI E, a_sort, a_parentOf, a_firstChild, a_nextChild, a_previousChild, a_sizeOf, a_letters, a_placeNode, a_placeOffset, a_listing, a_opening, a_closing, b_leavers)) : wpX_findLeavers post (f_made, f_listed, f_leaving, a_sort, a_parentOf, a_firstChild, a_nextChild, a_previousChild, a_sizeOf, a_letters, a_placeNode, a_placeOffset, a_listing, a_opening, a_closing, a_leavers) (nI (fo_gg A (2 * q))) (nI (fo_gg A (2 * q + 1))) := by
  subst hlj
  have g1 := fo_gg_b F Z Q (show 2 * q < 8 by omega)
  have g2 := fo_gg_b F Z Q (show 2 * q + 1 < 8 by omega)
  have ewi : ∀ n, fo_r A n = fo_r A (fo_n A (2 * q)) → decide (fo_gg A (2 * q) < fo_op A n ∧ fo_cl A n ≤ fo_gg A (2 * q + 1)) = fo_wi A q n := by
    intro n e
    unfold fo_wi
    by_cases y : fo_gg A (2 * q) < fo_op A n ∧ fo_cl A n ≤ fo_gg A (2 * q + 1)
    · rw [decide_eq_true y, decide_eq_true ⟨e, y⟩]
    · rw [decide_eq_false y, decide_eq_false (fun w => y w.2)]
  have loop : ∀ (d m i e : Nat) (v : Nat → Nat) (g : Nat → Int32), d + i = J → d < m → e ≤ i → (∀ j, j < e → g j = nI (v j)) → (∀ j, j < e → fo_lv A q (v j) = true ∧ ∃ i', i' < i ∧ v j = l i') → (∀ j k, j < k → k < e → fo_op A (v j) < fo_op A (v k)) → (∀ i', i' < i → fo_lv A q (l i') = true → ∃ j, j < e ∧ v j = l i') →
      wX_findLeavers_7 post (nI (fo_gg A (2 * q))) (nI (fo_gg A (2 * q + 1))) f_made (nI J) m (nI i) (nI e) a_sort a_parentOf a_firstChild a_nextChild a_previousChild a_sizeOf a_letters a_placeNode a_placeOffset a_listing a_opening a_closing g := by
    intro d
    induction d with
    | zero =>
      intro m i e v g hd hm' he h1 h2 h3 h4
      obtain ⟨m, rfl⟩ : ∃ k, m = k + 1 := ⟨m - 1, by omega⟩
      have ei : i = J := by omega
      subst ei
      refine br_t (nI_le (Nat.le_refl _) (by omega)) (h e v g ⟨fun j hj => ?_, h3, fun n hn hlv => ?_⟩ h1)
      · obtain ⟨a1, i', a2, a3⟩ := h2 j hj
        exact ⟨by rw [a3]; exact (LI.1 i' a2).1, a1⟩
      · obtain ⟨i', a1, a2⟩ := LI.2.2 n hn (fo_lv_w hlv).1
        obtain ⟨j, a3, a4⟩ := h4 i' a1 (by rw [a2]; exact hlv)
        exact ⟨j, a3, a4.trans a2⟩
    | succ d ih =>
      intro m i e v g hd hm' he h1 h2 h3 h4
      obtain ⟨m, rfl⟩ : ∃ k, m = k + 1 := ⟨m - 1, by omega⟩
      have hi : i < J := by omega
      obtain ⟨hn, hnr⟩ := LI.1 i hi
      have n24 := fo_lt24 F hn
      -- not a leaver
      have no : fo_lv A q (l i) = false → wX_findLeavers_7 post (nI (fo_gg A (2 * q))) (nI (fo_gg A (2 * q + 1))) f_made (nI J) m (nI (i + 1)) (nI e) a_sort a_parentOf a_firstChild a_nextChild a_previousChild a_sizeOf a_letters a_placeNode a_placeOffset a_listing a_opening a_closing g := by
        intro hf
        refine ih m (i + 1) e v g (by omega) (by omega) (by omega) h1 (fun j hj => ?_) h3 fun i' hi' hlv => ?_
        · obtain ⟨a1, i', a2, a3⟩ := h2 j hj
          exact ⟨a1, i', by omega, a3⟩
        · refine h4 i' ?_ hlv
          rcases Nat.lt_or_ge i' i with w | w
          · exact w
          · rw [show i' = i by omega, hf] at hlv
            exact absurd hlv (by decide)
      have yes : fo_lv A q (l i) = true → wX_findLeavers_7 post (nI (fo_gg A (2 * q))) (nI (fo_gg A (2 * q + 1))) f_made (nI J) m (nI (i + 1)) (nI (e + 1)) a_sort a_parentOf a_firstChild a_nextChild a_previousChild a_sizeOf a_letters a_placeNode a_placeOffset a_listing a_opening a_closing (upd g e (nI (l i))) := by
        intro ht
        refine ih m (i + 1) (e + 1) (fun j => if j = e then l i else v j) _ (by omega) (by omega) (by omega) (fun j hj => ?_) (fun j hj => ?_) (fun j k hjk hk => ?_) fun i' hi' hlv => ?_
        · by_cases w : j = e
          · rw [w, pk_us, if_pos rfl]
          · rw [pk_un w, if_neg w]; exact h1 j (by omega)
        · by_cases w : j = e
          · rw [if_pos w]; exact ⟨ht, i, by omega, rfl⟩
          · rw [if_neg w]
            obtain ⟨a1, i', a2, a3⟩ := h2 j (by omega)
            exact ⟨a1, i', by omega, a3⟩
        · rw [if_neg (show ¬ j = e by omega)]
          by_cases w : k = e
          · rw [if_pos w]
            obtain ⟨a1, i', a2, a3⟩ := h2 j (by omega)
            rw [a3]
            exact LI.2.1 i' i a2 hi
          · rw [if_neg w]; exact h3 j k hjk (by omega)
        · rcases Nat.lt_or_ge i' i with w | w
          · obtain ⟨j, a1, a2⟩ := h4 i' w hlv
            exact ⟨j, by omega, by rw [if_neg (by omega)]; exact a2⟩
          · exact ⟨e, by omega, by rw [if_pos rfl, show i' = i by omega]⟩
      refine br_f (nI_ge hi (by omega)) ⟨wk_in (by omega), nm_r (e' := nI (l i)) (by rw [wk_cl (show i < 24 by omega), hli i hi]) ?_⟩
      refine wx_liesBetween F Z hm (by omega) (by omega) hn hnr ?_
      refine ⟨wk_in n24, ?_⟩
      rw [wk_cl n24, K.2.2.1 _ hn, ewi _ hnr]
      have j64 : ∀ z0 : Bool, (z0 = true ↔ (fo_p A (l i) < 24 ∧ fo_wi A q (fo_p A (l i)) = true)) → wX_findLeavers_64 post (wX_findLeavers_7 post (nI (fo_gg A (2 * q))) (nI (fo_gg A (2 * q + 1))) f_made (nI J) m) (nI (fo_gg A (2 * q))) (nI (fo_gg A (2 * q + 1))) (nI i) (nI (l i)) (wk_b (fo_wi A q (l i))) (wk_b z0) f_made (nI J) (nI e) a_sort a_parentOf a_firstChild a_nextChild a_previousChild a_sizeOf a_letters a_placeNode a_placeOffset a_listing a_opening a_closing g := by
        intro z0 hz
        have el : fo_lv A q (l i) = (fo_wi A q (l i) && !z0) := by
          unfold fo_lv
          congr 2
          cases z0
          · have : ¬ (fo_p A (l i) < 24 ∧ fo_wi A q (fo_p A (l i)) = true) := fun w => Bool.false_ne_true (hz.mpr w)
            by_cases a : fo_p A (l i) < 24
            · rcases fo_ft (fo_wi A q (fo_p A (l i))) with b | b
              · exact absurd ⟨a, b⟩ this
              · rw [b, Bool.and_false]
            · rw [decide_eq_false a, Bool.false_and]
          · obtain ⟨a, b⟩ := hz.mp rfl
            rw [decide_eq_true a, b]
            rfl
        unfold wX_findLeavers_64
        rcases fo_ft (fo_wi A q (l i)) with w | w
        · rw [w] at el ⊢
          refine br_f (by decide) ?_
          cases z0
          · refine br_t rfl ⟨wk_in (by omega), ?_⟩
            rw [wk_cl (show e < 24 by omega)]
            exact nm_e (nm_r (nI_1 e) (nm_r (nI_1 i) (yes el)))
          · exact br_f (by decide) (nm_r (nI_1 i) (no el))
        · rw [w] at el ⊢
          exact br_t rfl (nm_r (nI_1 i) (no el))
      by_cases hp : fo_p A (l i) < 24
      · have u1 := (fo_up F hn hp).1
        have ur := (fo_r_up F hn hp).symm.trans hnr
        refine br_f (fun w => wk_o_n.mp w hp) ⟨wk_in n24, ?_⟩
        rw [wk_o_lt hp]
        refine wx_liesBetween F Z hm (by omega) (by omega) u1 ur ?_
        rw [ewi _ ur]
        rcases fo_ft (fo_wi A q (fo_p A (l i))) with w | w
        · rw [w]
          exact br_f (by decide) (j64 true ⟨fun _ => ⟨hp, w⟩, fun _ => rfl⟩)
        · rw [w]
          refine br_t rfl ?_
          unfold wX_findLeavers_63
          exact j64 false ⟨fun y => absurd y (by decide), fun y => by rw [w] at y; exact absurd y.2 (by decide)⟩
      · refine br_t (wk_o_n.mpr hp) ?_
        unfold wX_findLeavers_63
        exact j64 false ⟨fun y => absurd y (by decide), fun y => absurd y.1 hp⟩
  exact ⟨J + 1, loop J (J + 1) 0 0 (fun _ => 0) a_leavers rfl (by omega) (Nat.le_refl _) (fun j hj => absurd hj (Nat.not_lt_zero _)) (fun j hj => absurd hj (Nat.not_lt_zero _)) (fun j k _ hk => absurd hk (Nat.not_lt_zero _)) fun i' hi' => absurd hi' (Nat.not_lt_zero _)⟩
end
end
section
/-! taking out one by one -/
def fo_tks (B : fo_S) (v : Nat → Nat) : Nat → fo_S
  | 0 => B
  | t + 1 => fo_tk (fo_tks B v t) (v t)
def fo_TP (A B : fo_S) (v : Nat → Nat) (t x y : Nat) : Prop := fo_I B ∧ fo_c B = fo_c A ∧ fo_t B = fo_t A ∧ (∀ m, (∀ i, i < t → v i ≠ m) → fo_p B m = fo_p A m) ∧ (∀ z, fo_t A z = true → fo_s B z = fo_s A z) ∧ y ≤ fo_s B x ∧ (∀ j, j < y → fo_k B x j = fo_k A x j)
theorem fo_tks_P {A : fo_S} (I : fo_I A) {v : Nat → Nat} {E x y : Nat} (hv : ∀ i, i < E → v i < fo_c A ∧ fo_p A (v i) < 24) (hne : ∀ i j, i < E → j < E → v i = v j → i = j) (hx : x < fo_c A) (tx : fo_t A x = false) (hy : y ≤ fo_s A x) (hno : ∀ i j, i < E → j < y → v i ≠ fo_k A x j) : ∀ t, t ≤ E → fo_TP A (fo_tks A v t) v t x y := by
  intro t
  induction t with
  | zero => intro _; exact ⟨I, rfl, rfl, fun _ _ => rfl, fun _ _ => rfl, hy, fun _ _ => rfl⟩
  | succ t ih =>
    intro ht
    obtain ⟨h1, h2, h3, h4, h5, h6, h7⟩ := ih (by omega)
    obtain ⟨v1, v2⟩ := hv t (by omega)
    show fo_TP A (fo_tk (fo_tks A v t) (v t)) v (t + 1) x y
    generalize fo_tks A v t = B at *
    have e1 : fo_p B (v t) = fo_p A (v t) := h4 _ fun i hi e => by have := hne i t (by omega) (by omega) e; omega
    have n1 : v t < fo_c B := by rw [h2]; exact v1
    have n2 : fo_p B (v t) < 24 := by rw [e1]; exact v2
    obtain ⟨u1, u2, u3, u4⟩ := fo_up h1.1 n1 n2
    have key : fo_p B (v t) = x → y ≤ fo_x B (v t) := by
      intro e
      rcases Nat.lt_or_ge (fo_x B (v t)) y with w | w
      · exfalso
        rw [e, h7 _ w] at u4
        exact hno t _ (by omega) w u4.symm
      · exact w
    refine ⟨fo_I_tk h1 n1 n2, h2, h3, fun m hm => ?_, fun z hz => ?_, ?_, fun j hj => ?_⟩
    · show (if m = v t then 24 else fo_p B m) = _
      rw [if_neg (fun e => hm t (by omega) e.symm)]
      exact h4 m fun i hi => hm i (by omega)
    · show (if z = fo_p B (v t) then fo_s B z - 1 else fo_s B z) = _
      rw [if_neg (fun e => by rw [← e, h3, hz] at u2; exact absurd u2 (by decide))]
      exact h5 z hz
    · show y ≤ (if x = fo_p B (v t) then fo_s B x - 1 else fo_s B x)
      by_cases e : x = fo_p B (v t)
      · rw [if_pos e]
        have := key e.symm
        rw [← e] at u3
        omega
      · rw [if_neg e]; exact h6
    · show (if x = fo_p B (v t) ∧ fo_x B (v t) ≤ j then fo_k B x (j + 1) else fo_k B x j) = _
      rw [if_neg (fun e => by have := key e.1.symm; have := e.2; omega)]
      exact h7 j hj
/-- the forest behind an erasing -/
def fo_fin (A : fo_S) (v : Nat → Nat) (E e b q x y : Nat) : fo_S :=
  fo_st (fo_st (if fo_t A e = true then fo_ex (fo_tks A v E) e 0 b 0 (wk_dg 0 0) else fo_tks A v E) (2 * q) x y) (2 * q + 1) x y
theorem fo_fin_I {A : fo_S} {v : Nat → Nat} {E e b q x y : Nat} (P : fo_TP A (fo_tks A v E) v E x y) (hq : q < 4) (hx : x < fo_c A) (tx : fo_t A x = false) (he : e < fo_c A) (hb : fo_t A e = true → b ≤ fo_s A e) : fo_I (fo_fin A v E e b q x y) := by
  obtain ⟨h1, h2, h3, h4, h5, h6, h7⟩ := P
  unfold fo_fin
  rcases fo_ft (fo_t A e) with t | t
  · rw [if_pos t]
    have s1 : fo_s (fo_tks A v E) e = fo_s A e := h5 e t
    have b1 := hb t
    have te : fo_t (fo_tks A v E) e = true := by rw [h3]; exact t
    have ce : e < fo_c (fo_tks A v E) := by rw [h2]; exact he
    have s12 := fo_s_t h1.2.1 ce te
    have I2 := fo_I_ex (a := 0) (c := b) (k := 0) (dg := wk_dg 0 0) h1 ce te (by omega) (by omega) (fun j hj => absurd hj (Nat.not_lt_zero _))
    refine fo_I_st2 I2 hq (Or.inl ⟨rfl, rfl⟩) (by show x < fo_c (fo_tks A v E); rw [h2]; exact hx) ?_
    show y ≤ (if x = e then fo_s (fo_tks A v E) x + 0 - b else fo_s (fo_tks A v E) x)
    rw [if_neg (fun w => by rw [w, t] at tx; exact absurd tx (by decide))]
    exact h6
  · rw [if_neg (by rw [t]; exact Bool.false_ne_true)]
    exact fo_I_st2 h1 hq (Or.inl ⟨rfl, rfl⟩) (by rw [h2]; exact hx) h6
section
variable {A : fo_S} {f_made f_listed f_leaving : Int32} {a_sort a_parentOf a_firstChild a_nextChild a_previousChild a_sizeOf a_letters a_placeNode a_placeOffset a_listing a_opening a_closing a_leavers : Nat → Int32} {post : Int32 → SX → Prop}
theorem wx_erase256 {B : fo_S} (R : wx_R B (f_made, f_listed, f_leaving, a_sort, a_parentOf, a_firstChild, a_nextChild, a_previousChild, a_sizeOf, a_letters, a_placeNode, a_placeOffset, a_listing, a_opening, a_closing, a_leavers)) {q x y : Nat} (hq : q < 4) (h : ∀ u', wx_R (fo_st (fo_st B (2 * q) x y) (2 * q + 1) x y) u' → post f_leaving u') : wX_erase_256 post (nI (2 * q)) (nI x) (nI y) f_made f_listed f_leaving a_sort a_parentOf a_firstChild a_nextChild a_previousChild a_sizeOf a_letters a_placeNode a_placeOffset a_listing a_opening a_closing a_leavers := by
  obtain ⟨K, T, P⟩ := R
  have k1 : 2 * q < 8 := by omega
  have k2 : 2 * q + 1 < 8 := by omega
  unfold wX_erase_256
  rw [nI_1, wk_c8 k1, wk_c8 k2]
  exact ⟨wk_i8 k1, nm_e ⟨wk_i8 k1, nm_e ⟨wk_i8 k2, nm_e ⟨wk_i8 k2, nm_e (h _ ⟨K, T, wk_P_st (wk_P_st P _ x y) _ x y⟩)⟩⟩⟩⟩
end
theorem wx_erase208 {A : fo_S} {post : Int32 → SX → Prop} {v : Nat → Nat} {E e b q x y : Nat} (hE : E ≤ 24) (P : ∀ t, t ≤ E → fo_TP A (fo_tks A v t) v t x y) (hv : ∀ i, i < E → v i < fo_c A ∧ fo_p A (v i) < 24) (hne : ∀ i j, i < E → j < E → v i = v j → i = j) (hq : q < 4) (he : e < fo_c A) (hb : fo_t A e = true → b ≤ fo_s A e)
    (h : ∀ u', wx_R (fo_fin A v E e b q x y) u' → post (nI E) u') :
    ∀ (d m t : Nat) (f_made f_listed f_leaving : Int32) (a_sort a_parentOf a_firstChild a_nextChild a_previousChild a_sizeOf a_letters a_placeNode a_placeOffset a_listing a_opening a_closing a_leavers : Nat → Int32), d + t = E → d < m → wx_R (fo_tks A v t) (f_made, f_listed, f_leaving, a_sort, a_parentOf, a_firstChild, a_nextChild, a_previousChild, a_sizeOf, a_letters, a_placeNode, a_placeOffset, a_listing, a_opening, a_closing, a_leavers) → f_leaving = nI E → (∀ i, i < E → a_leavers i = nI (v i)) →
      wX_erase_208 post (nI (2 * q)) (nI e) (nI b) (nI x) (nI y) m (nI t) f_made f_listed f_leaving a_sort a_parentOf a_firstChild a_nextChild a_previousChild a_sizeOf a_letters a_placeNode a_placeOffset a_listing a_opening a_closing a_leavers := by
  intro d
  induction d with
  | zero =>
    intro m t f_made f_listed f_leaving a_sort a_parentOf a_firstChild a_nextChild a_previousChild a_sizeOf a_letters a_placeNode a_placeOffset a_listing a_opening a_closing a_leavers hd hm R hl hlv
    obtain ⟨m, rfl⟩ : ∃ k, m = k + 1 := ⟨m - 1, by omega⟩
    have et : t = E := by omega
    subst et
    subst hl
    obtain ⟨h1, h2, h3, h4, h5, h6, h7⟩ := P t (Nat.le_refl _)
    have e24 : e < 24 := by have := h1.1.1; rw [h2] at this; omega
    have ce : e < fo_c (fo_tks A v t) := by rw [h2]; exact he
    refine br_t (nI_le (Nat.le_refl _) (by omega)) ⟨wk_in e24, ?_⟩
    rw [wk_cl e24, R.1.2.1 e ce, h3]
    unfold fo_fin at h
    rcases fo_ft (fo_t A e) with te | te
    · rw [if_pos te] at h
      rw [te]
      have s1 : fo_s (fo_tks A v t) e = fo_s A e := h5 e te
      have b1 := hb te
      have te' : fo_t (fo_tks A v t) e = true := by rw [h3]; exact te
      have s12 := fo_s_t h1.2.1 ce te'
      refine br_t rfl ?_
      refine wx_exchange (a := 0) (c := b) (k := 0) (N := 0) R h1.1 h1.2.1 h1.2.2.1 ce te' (by omega) (by omega) (by omega) ?_
      intro c1 c2 c3 R2
      dsimp only
      exact wx_erase256 R2 hq h
    · rw [if_neg (by rw [te]; exact Bool.false_ne_true)] at h
      rw [te]
      exact br_f (by decide) (wx_erase256 R hq h)
  | succ d ih =>
    intro m t f_made f_listed f_leaving a_sort a_parentOf a_firstChild a_nextChild a_previousChild a_sizeOf a_letters a_placeNode a_placeOffset a_listing a_opening a_closing a_leavers hd hm R hl hlv
    obtain ⟨m, rfl⟩ : ∃ k, m = k + 1 := ⟨m - 1, by omega⟩
    have ht : t < E := by omega
    obtain ⟨h1, h2, h3, h4, h5, h6, h7⟩ := P t (by omega)
    obtain ⟨v1, v2⟩ := hv t ht
    have e1 : fo_p (fo_tks A v t) (v t) = fo_p A (v t) := h4 _ fun i hi w => by have := hne i t (by omega) (by omega) w; omega
    refine br_f (by rw [hl]; exact nI_ge ht (by omega)) ⟨wk_in (by omega), ?_⟩
    rw [wk_cl (show t < 24 by omega), hlv t ht]
    refine wx_takeOut R h1.1 h1.2.1 h1.2.2.1 (by rw [h2]; exact v1) (by rw [e1]; exact v2) ?_
    intro c1 c2 c3 c4 c5 c6 c7 R2
    dsimp only
    exact nm_r (nI_1 t) (ih m (t + 1) _ _ _ _ _ _ _ _ _ _ _ _ _ _ _ _ (by omega) (by omega) R2 hl hlv)
/-! Y: the set of leavers, the first of them, taking all -/
section
variable {A : fo_S} {f_count f_length : Int32} {a_isText a_parents a_sizes a_items a_placeNode a_placeOffset a_marks a_opens a_closes a_coming : Nat → Int32} {post : Int32 → SY → Prop}
theorem wy_inside (R : wy_R A (f_count, f_length, a_isText, a_parents, a_sizes, a_items, a_placeNode, a_placeOffset, a_marks, a_opens, a_closes, a_coming)) (F : fo_F A) (Z : fo_Z A) (Q : fo_Q A) (RR : fo_R A) {q : Nat} (hq : q < 4)
    (h : ∀ x b_length b_marks b_opens b_closes b_coming, (∀ i, i < 32 → (bt x i = true ↔ (i < fo_c A ∧ fo_lv A q i = true))) → wy_D A (fo_r A (fo_n A (2 * q))) (fo_cl A (fo_r A (fo_n A (2 * q))) + 1) b_marks b_opens b_closes → post x (f_count, b_length, a_isText, a_parents, a_sizes, a_items, a_placeNode, a_placeOffset, b_marks, b_opens, b_closes, b_coming)) : wpY_inside post (f_count, f_length, a_isText, a_parents, a_sizes, a_items, a_placeNode, a_placeOffset, a_marks, a_opens, a_closes, a_coming) (nI q) := by
  have k1 : 2 * q < 8 := by omega
  have q1 := (Q _ k1).1
  obtain ⟨r1, r2, r3⟩ := fo_r_in F _ q1
  have c24 := F.1
  have e2 : (2 : Int32) * nI q = nI (2 * q) := pk_mul 2 q
  have ec : f_count = nI (fo_c A) := R.1.1
  unfold wpY_inside
  rw [e2]
  refine wy_writeOf R F Z Q k1 ?_
  intro d1 d2 d3 d4 d5 D
  dsimp only
  have hm := wy_D_m F r1 D
  have R' : wy_R A (f_count, d1, a_isText, a_parents, a_sizes, a_items, a_placeNode, a_placeOffset, d2, d3, d4, d5) := ⟨R.1, R.2.1, R.2.2⟩
  have loop : ∀ (d m n : Nat) (x : Int32), d + n = fo_c A → d < m → (∀ i, i < 32 → (bt x i = true ↔ (i < n ∧ fo_lv A q i = true))) → wY_inside_11 post (nI q) f_count d1 a_isText a_parents a_sizes a_items a_placeNode a_placeOffset d2 d3 d4 d5 m x (nI n) := by
    intro d
    induction d with
    | zero =>
      intro m n x hd hm' hx
      obtain ⟨m, rfl⟩ : ∃ k, m = k + 1 := ⟨m - 1, by omega⟩
      have e : n = fo_c A := by omega
      refine br_t (by rw [ec]; exact nI_le (by omega) (by omega)) (h x d1 d2 d3 d4 d5 (fun i hi => ?_) D)
      rw [hx i hi, e]
    | succ d ih =>
      intro m n x hd hm' hx
      obtain ⟨m, rfl⟩ : ∃ k, m = k + 1 := ⟨m - 1, by omega⟩
      have hn : n < fo_c A := by omega
      have n24 := fo_lt24 F hn
      have no : fo_lv A q n = false → wY_inside_55 post (wY_inside_11 post (nI q) f_count d1 a_isText a_parents a_sizes a_items a_placeNode a_placeOffset d2 d3 d4 d5 m) (nI q) x (nI n) f_count d1 a_isText a_parents a_sizes a_items a_placeNode a_placeOffset d2 d3 d4 d5 := by
        intro hf
        unfold wY_inside_55 wY_inside_56
        refine br_t rfl (nm_r (nI_1 n) (ih m (n + 1) x (by omega) (by omega) fun i hi => ?_))
        rw [hx i hi]
        constructor
        · exact fun w => ⟨by omega, w.2⟩
        · intro w
          refine ⟨?_, w.2⟩
          rcases Nat.lt_or_ge i n with y | y
          · exact y
          · have := w.1
            rw [show i = n by omega, hf] at w
            exact absurd w.2 (by decide)
      have yes : fo_lv A q n = true → wY_inside_51 post (wY_inside_11 post (nI q) f_count d1 a_isText a_parents a_sizes a_items a_placeNode a_placeOffset d2 d3 d4 d5 m) (nI q) x (nI n) f_count d1 a_isText a_parents a_sizes a_items a_placeNode a_placeOffset d2 d3 d4 d5 := by
        intro hf
        unfold wY_inside_51 wY_inside_56
        refine br_f (by decide) (nm_e (nm_r (nI_1 n) (ih m (n + 1) _ (by omega) (by omega) fun i hi => ?_)))
        rw [zb_or (by omega) hi, Bool.or_eq_true, hx i hi, decide_eq_true_iff]
        constructor
        · rintro (w | w)
          · exact ⟨by omega, w.2⟩
          · rw [w]; exact ⟨by omega, hf⟩
        · intro w
          rcases Nat.lt_or_ge i n with y | y
          · exact Or.inl ⟨y, w.2⟩
          · exact Or.inr (by omega)
      refine br_f (by rw [ec]; exact nI_ge hn (by omega)) ?_
      refine wy_isWithin R' F Z Q RR hq hn hm ?_
      have el : fo_lv A q n = (fo_wi A q n && !(decide (fo_p A n < 24) && fo_wi A q (fo_p A n))) := rfl
      rcases fo_ft (fo_wi A q n) with w | w
      · rw [w] at el ⊢
        refine br_f (by decide) ⟨wk_in n24, ?_⟩
        rw [wk_cl n24, R.1.2.2.1 n hn]
        by_cases hp : fo_p A n < 24
        · have u1 := (fo_up F hn hp).1
          rw [decide_eq_true hp] at el
          refine br_f (fun y => wk_o_n.mp y hp) ⟨wk_in n24, ?_⟩
          rw [wk_o_lt hp]
          refine wy_isWithin R' F Z Q RR hq u1 hm ?_
          rcases fo_ft (fo_wi A q (fo_p A n)) with y | y
          · rw [y] at el ⊢
            exact br_f (by decide) (no el)
          · rw [y] at el ⊢
            exact br_t rfl (yes el)
        · rw [decide_eq_false hp] at el
          exact br_t (wk_o_n.mpr hp) (yes el)
      · rw [w] at el ⊢
        exact br_t rfl (no el)
  exact ⟨fo_c A + 1, loop (fo_c A) _ 0 0 rfl (by omega) fun i hi => ⟨fun w => by rw [b_0] at w; exact absurd w (by decide), fun w => absurd w.1 (Nat.not_lt_zero _)⟩⟩
end
section
variable {A : fo_S} {f_count f_length : Int32} {a_isText a_parents a_sizes a_items a_placeNode a_placeOffset a_marks a_opens a_closes a_coming : Nat → Int32} {post : Int32 → Prop}
theorem wy_firstOf (ec : f_count = nI (fo_c A)) (F : fo_F A) (Z : fo_Z A) {r : Nat} {x : Int32} (hS : ∀ n, n < fo_c A → bt x n = true → fo_r A n = r) (hm : ∀ n, n < fo_c A → fo_r A n = r → a_opens n = nI (fo_op A n)) (hne : ∃ n, n < fo_c A ∧ bt x n = true)
    (h : ∀ w, w < fo_c A → bt x w = true → (∀ n, n < fo_c A → bt x n = true → fo_op A w ≤ fo_op A n) → post (nI w)) : wpY_firstOf post (f_count, f_length, a_isText, a_parents, a_sizes, a_items, a_placeNode, a_placeOffset, a_marks, a_opens, a_closes, a_coming) x := by
  have c24 := F.1
  have loop : ∀ (d m n w : Nat), d + n = fo_c A → d < m → ((w < fo_c A ∧ w < n ∧ bt x w = true ∧ ∀ n', n' < n → bt x n' = true → fo_op A w ≤ fo_op A n') ∨ (w = 24 ∧ ∀ n', n' < n → bt x n' = false)) → wY_firstOf_4 post x f_count f_length a_isText a_parents a_sizes a_items a_placeNode a_placeOffset a_marks a_opens a_closes a_coming m (wk_o w) (nI n) := by
    intro d
    induction d with
    | zero =>
      intro m n w hd hm' hw
      obtain ⟨m, rfl⟩ : ∃ k, m = k + 1 := ⟨m - 1, by omega⟩
      have e : n = fo_c A := by omega
      subst e
      refine br_t (by rw [ec]; exact nI_le (Nat.le_refl _) (by omega)) ?_
      rcases hw with ⟨w1, w2, w3, w4⟩ | ⟨w1, w2⟩
      · rw [wk_o_lt (fo_lt24 F w1)]
        exact h w w1 w3 w4
      · obtain ⟨n, hn, hb⟩ := hne
        rw [w2 n hn] at hb
        exact absurd hb (by decide)
    | succ d ih =>
      intro m n w hd hm' hw
      obtain ⟨m, rfl⟩ : ∃ k, m = k + 1 := ⟨m - 1, by omega⟩
      have hn : n < fo_c A := by omega
      have n24 := fo_lt24 F hn
      have on := fo_op_b F Z hn
      refine br_f (by rw [ec]; exact nI_ge hn (by omega)) ?_
      rcases fo_ft (bt x n) with hb | hb
      · refine br_t ((zb_tst (by omega)).mpr hb) ?_
        rcases hw with ⟨w1, w2, w3, w4⟩ | ⟨w1, w2⟩
        · have w24 := fo_lt24 F w1
          have ow := fo_op_b F Z w1
          have ih1 := ih m (n + 1) n (by omega) (by omega)
          have ih2 := ih m (n + 1) w (by omega) (by omega)
          rw [wk_o_lt n24] at ih1
          rw [wk_o_lt w24] at ih2
          rw [wk_o_lt w24]
          refine br_f (nI_pos (by omega)) ⟨wk_in n24, wk_in w24, ?_⟩
          rw [wk_cl n24, wk_cl w24, hm n hn (hS n hn hb), hm w w1 (hS w w1 w3)]
          by_cases z : fo_op A w ≤ fo_op A n
          · refine br_t (nI_le z (by omega)) (nm_r (nI_1 n) (ih2 (Or.inl ⟨w1, by omega, w3, fun n' h1 h2 => ?_⟩)))
            rcases Nat.lt_or_ge n' n with y | y
            · exact w4 n' y h2
            · rw [show n' = n by omega]; exact z
          · refine br_f (nI_ge (by omega) (by omega)) (nm_r (nI_1 n) (ih1 (Or.inl ⟨hn, by omega, hb, fun n' h1 h2 => ?_⟩)))
            rcases Nat.lt_or_ge n' n with y | y
            · have := w4 n' y h2
              omega
            · rw [show n' = n by omega]; exact Nat.le_refl _
        · rw [w1, wk_o_24]
          have ih1 := ih m (n + 1) n (by omega) (by omega)
          rw [wk_o_lt n24] at ih1
          refine br_t (by decide) (nm_r (nI_1 n) (ih1 (Or.inl ⟨hn, by omega, hb, fun n' h1 h2 => ?_⟩)))
          rcases Nat.lt_or_ge n' n with y | y
          · rw [w2 n' y] at h2
            exact absurd h2 (by decide)
          · rw [show n' = n by omega]; exact Nat.le_refl _
      · refine br_f (fun y => by rw [(zb_tst (by omega)).mp y] at hb; exact absurd hb (by decide)) (nm_r (nI_1 n) (ih m (n + 1) w (by omega) (by omega) ?_))
        rcases hw with ⟨w1, w2, w3, w4⟩ | ⟨w1, w2⟩
        · refine Or.inl ⟨w1, by omega, w3, fun n' h1 h2 => ?_⟩
          rcases Nat.lt_or_ge n' n with y | y
          · exact w4 n' y h2
          · rw [show n' = n by omega, hb] at h2
            exact absurd h2 (by decide)
        · refine Or.inr ⟨w1, fun n' h1 => ?_⟩
          rcases Nat.lt_or_ge n' n with y | y
          · exact w2 n' y
          · rw [show n' = n by omega]; exact hb
  have := loop (fo_c A) (fo_c A + 1) 0 24 rfl (by omega) (Or.inr ⟨rfl, fun n' h1 => absurd h1 (Nat.not_lt_zero _)⟩)
  rw [wk_o_24] at this
  exact ⟨_, this⟩
end
/-- A: the forest whose marks are known; A1: the one from which the leavers are taken -/
theorem wy_takeAll7 {A A1 : fo_S} {post : Int32 → SY → Prop} {v : Nat → Nat} {E q x y : Nat} (F : fo_F A) (Z : fo_Z A) (V : fo_V A q E v) (ecA : fo_c A1 = fo_c A) (P : ∀ t, t ≤ E → fo_TP A1 (fo_tks A1 v t) v t x y) (hv : ∀ i, i < E → v i < fo_c A1 ∧ fo_p A1 (v i) < 24)
    (h : ∀ u', wy_R (fo_tks A1 v E) u' → post (nI E) u') :
    ∀ (d m t : Nat) (left : Int32) (f_count f_length : Int32) (a_isText a_parents a_sizes a_items a_placeNode a_placeOffset a_marks a_opens a_closes a_coming : Nat → Int32), d + t = E → d < m → wy_R (fo_tks A1 v t) (f_count, f_length, a_isText, a_parents, a_sizes, a_items, a_placeNode, a_placeOffset, a_marks, a_opens, a_closes, a_coming) → (∀ n, n < fo_c A → fo_r A n = fo_r A (fo_n A (2 * q)) → a_opens n = nI (fo_op A n)) → (∀ i, i < 32 → (bt left i = true ↔ ∃ j, t ≤ j ∧ j < E ∧ v j = i)) →
      wY_takeAll_7 post m left (nI t) (nI t) f_count f_length a_isText a_parents a_sizes a_items a_placeNode a_placeOffset a_marks a_opens a_closes a_coming := by
  have E24 := fo_V_24 F V
  have hne : ∀ i j, i < E → j < E → v i = v j → i = j := fun i j hi hj e => fo_V_ne V hi hj e
  intro d
  induction d with
  | zero =>
    intro m t left f_count f_length a_isText a_parents a_sizes a_items a_placeNode a_placeOffset a_marks a_opens a_closes a_coming hd hm R ho hl
    obtain ⟨m, rfl⟩ : ∃ k, m = k + 1 := ⟨m - 1, by omega⟩
    have e : t = E := by omega
    subst e
    by_cases z : t < 24
    · refine br_f (nI_ge (b := 24) z (by decide)) (br_t ?_ (h _ R))
      refine zb_0.mpr fun i hi => ?_
      rcases fo_ft (bt left i) with w | w
      · obtain ⟨j, j1, j2, -⟩ := (hl i hi).mp w
        omega
      · exact w
    · exact br_t (nI_le (a := 24) (by omega) (by omega)) (h _ R)
  | succ d ih =>
    intro m t left f_count f_length a_isText a_parents a_sizes a_items a_placeNode a_placeOffset a_marks a_opens a_closes a_coming hd hm R ho hl
    obtain ⟨m, rfl⟩ : ∃ k, m = k + 1 := ⟨m - 1, by omega⟩
    have ht : t < E := by omega
    obtain ⟨h1, h2, h3, h4, h5, h6, h7⟩ := P t (by omega)
    obtain ⟨v1, v2⟩ := hv t ht
    have v24 : v t < 24 := fo_lt24 F (V.1 t ht).1
    have e1 : fo_p (fo_tks A1 v t) (v t) = fo_p A1 (v t) := h4 _ fun i hi w => by have := hne i t (by omega) (by omega) w; omega
    have bv : bt left (v t) = true := (hl _ (by omega)).mpr ⟨t, Nat.le_refl _, ht, rfl⟩
    have ec : f_count = nI (fo_c A) := by
      have : f_count = nI (fo_c (fo_tks A1 v t)) := R.1.1
      rw [this, h2, ecA]
    refine br_f (nI_ge (b := 24) (by omega) (by decide)) (br_f (fun w => by rw [zb_0.mp w (v t) (by omega)] at bv; exact absurd bv (by decide)) ?_)
    refine wy_firstOf (A := A) ec F Z (r := fo_r A (fo_n A (2 * q))) (fun n hn hb => ?_) ho ⟨v t, by rw [← ecA]; exact v1, bv⟩ fun w hw hbw hmin => ?_
    · obtain ⟨j, j1, j2, rfl⟩ := (hl n (by have := fo_lt24 F hn; omega)).mp hb
      exact (fo_lv_w (V.1 j j2).2).1
    · have ew : w = v t := by
        obtain ⟨j, j1, j2, rfl⟩ := (hl w (by have := fo_lt24 F hw; omega)).mp hbw
        have := hmin (v t) (by rw [← ecA]; exact v1) bv
        rcases Nat.eq_or_lt_of_le j1 with z | z
        · rw [z]
        · have := V.2.1 t j z j2
          omega
      rw [ew]
      refine wy_takeOut R h1.1 h1.2.1 h1.2.2.1 (by rw [h2]; exact v1) (by rw [e1]; exact v2) ?_
      intro c1 c2 c3 c4 c5 R2
      dsimp only
      refine nm_e (nm_r (nI_1 t) (nm_r (nI_1 t) (ih m (t + 1) _ _ _ _ _ _ _ _ _ _ _ _ _ (by omega) (by omega) R2 ho fun i hi => ?_)))
      rw [zb_cl (by omega) hi, Bool.and_eq_true, hl i hi, Bool.not_eq_true', decide_eq_false_iff_not]
      constructor
      · rintro ⟨⟨j, j1, j2, j3⟩, w⟩
        refine ⟨j, ?_, j2, j3⟩
        rcases Nat.eq_or_lt_of_le j1 with z | z
        · exact absurd (by rw [z]; exact j3.symm) w
        · exact z
      · rintro ⟨j, j1, j2, j3⟩
        refine ⟨⟨j, by omega, j2, j3⟩, fun w => ?_⟩
        rw [w] at j3
        have := hne j t j2 ht j3
        omega
end
section
/-! erase -/
/-- the branch of w that is to be kept: one for both -/
theorem wk_branch {A : fo_S} (F : fo_F A) {e : Nat} (he : e < fo_c A) : ∀ w, w < fo_c A → fo_r A w = fo_r A e → ¬ fo_A A w e → ∃ t, t < fo_c A ∧ fo_A A t w ∧ fo_p A t < 24 ∧
    (∀ (post : Int32 → Prop) (i m : Nat) (f_made f_listed f_leaving : Int32) (a_sort a_parentOf a_firstChild a_nextChild a_previousChild a_sizeOf a_letters a_placeNode a_placeOffset a_listing a_opening a_closing a_leavers : Nat → Int32), (∀ n, n < fo_c A → a_parentOf n = wk_o (fo_p A n)) → i + fo_d A w < 24 → fo_d A w < m → post (nI t) → wX_branch_5 post (nI e) f_made f_listed f_leaving a_sort a_parentOf a_firstChild a_nextChild a_previousChild a_sizeOf a_letters a_placeNode a_placeOffset a_listing a_opening a_closing a_leavers m (nI w) (nI i)) ∧
    (∀ (post : Int32 → SY → Prop) (x1 x2 x3 x5 x6 : Int32) (m : Nat) (f_count f_length : Int32) (a_isText a_parents a_sizes a_items a_placeNode a_placeOffset a_marks a_opens a_closes a_coming : Nat → Int32), (∀ n, n < fo_c A → a_parents n = wk_o (fo_p A n)) → fo_d A w < m → wY_erase_176 post x1 x2 x3 (nI e) x5 x6 (nI t) f_count f_length a_isText a_parents a_sizes a_items a_placeNode a_placeOffset a_marks a_opens a_closes a_coming → wY_erase_126 post x1 x2 x3 (nI e) x5 x6 f_count f_length a_isText a_parents a_sizes a_items a_placeNode a_placeOffset a_marks a_opens a_closes a_coming m (nI w)) := by
  have e24 := fo_lt24 F he
  refine fo_ind F fun w hw ih hr hna => ?_
  have w24 := fo_lt24 F hw
  have hp : fo_p A w < 24 := by
    rcases Nat.lt_or_ge (fo_p A w) 24 with z | z
    · exact z
    · exfalso
      apply hna
      have h1 := (fo_r_in F e he).2.2
      rw [← hr, fo_r_0 (by omega)] at h1
      exact h1
  have u1 := (fo_up F hw hp).1
  have hd := fo_d_up F hw hp
  rcases fo_ft (fo_b A (fo_p A w) e) with hb | hb
  · refine ⟨w, hw, fo_A_r A w, hp, fun post i m f_made f_listed f_leaving a_sort a_parentOf a_firstChild a_nextChild a_previousChild a_sizeOf a_letters a_placeNode a_placeOffset a_listing a_opening a_closing a_leavers hK hi hm h => ?_, fun post x1 x2 x3 x5 x6 m f_count f_length a_isText a_parents a_sizes a_items a_placeNode a_placeOffset a_marks a_opens a_closes a_coming hK hm h => ?_⟩
    · obtain ⟨m, rfl⟩ : ∃ k, m = k + 1 := ⟨m - 1, by omega⟩
      refine br_f (nI_ge (b := 24) (by omega) (by decide)) ⟨wk_in w24, ?_⟩
      rw [wk_cl w24, hK w hw]
      refine br_f (fun z => wk_o_n.mp z hp) ⟨wk_in w24, ?_⟩
      rw [wk_o_lt hp]
      refine wx_isWithin hK F hp he ?_
      rw [hb]
      exact br_f (by decide) h
    · obtain ⟨m, rfl⟩ : ∃ k, m = k + 1 := ⟨m - 1, by omega⟩
      refine ⟨wk_in w24, ?_⟩
      rw [wk_cl w24, hK w hw]
      refine br_f (fun z => wk_o_n.mp z hp) ⟨wk_in w24, ?_⟩
      rw [wk_o_lt hp]
      by_cases ee : fo_p A w = e
      · exact br_t (by rw [ee]) h
      · refine br_f (fun z => ee ((nI_eq (by omega) (by omega)).mp z)) ⟨wk_in w24, ?_⟩
        refine wy_isBelow hK F hp he (fun z => ee z.symm) ?_
        rw [hb]
        exact br_f (by decide) h
  · have hna2 : ¬ fo_A A (fo_p A w) e := fun z => by rw [(fo_b_i F hp he).mpr z] at hb; exact absurd hb (by decide)
    obtain ⟨t, t1, t2, t3, tx, ty⟩ := ih hp ((fo_r_up F hw hp).symm.trans hr) hna2
    have ee : fo_p A w ≠ e := fun z => hna2 (by rw [z]; exact fo_A_r A e)
    refine ⟨t, t1, fo_A_s t2, t3, fun post i m f_made f_listed f_leaving a_sort a_parentOf a_firstChild a_nextChild a_previousChild a_sizeOf a_letters a_placeNode a_placeOffset a_listing a_opening a_closing a_leavers hK hi hm h => ?_, fun post x1 x2 x3 x5 x6 m f_count f_length a_isText a_parents a_sizes a_items a_placeNode a_placeOffset a_marks a_opens a_closes a_coming hK hm h => ?_⟩
    · obtain ⟨m, rfl⟩ : ∃ k, m = k + 1 := ⟨m - 1, by omega⟩
      refine br_f (nI_ge (b := 24) (by omega) (by decide)) ⟨wk_in w24, ?_⟩
      rw [wk_cl w24, hK w hw]
      refine br_f (fun z => wk_o_n.mp z hp) ⟨wk_in w24, ?_⟩
      rw [wk_o_lt hp]
      refine wx_isWithin hK F hp he ?_
      rw [hb]
      exact br_t rfl ⟨wk_in w24, nm_e (nm_r (nI_1 i) (tx post (i + 1) m _ _ _ _ _ _ _ _ _ _ _ _ _ _ _ _ hK (by omega) (by omega) h))⟩
    · obtain ⟨m, rfl⟩ : ∃ k, m = k + 1 := ⟨m - 1, by omega⟩
      refine ⟨wk_in w24, ?_⟩
      rw [wk_cl w24, hK w hw]
      refine br_f (fun z => wk_o_n.mp z hp) ⟨wk_in w24, ?_⟩
      rw [wk_o_lt hp]
      refine br_f (fun z => ee ((nI_eq (by omega) (by omega)).mp z)) ⟨wk_in w24, ?_⟩
      refine wy_isBelow hK F hp he (fun z => ee z.symm) ?_
      rw [hb]
      exact br_t rfl ⟨wk_in w24, nm_e (ty post x1 x2 x3 x5 x6 m _ _ _ _ _ _ _ _ _ _ _ _ hK (by omega) h)⟩
section
variable {B : fo_S} {f_count f_length : Int32} {a_isText a_parents a_sizes a_items a_placeNode a_placeOffset a_marks a_opens a_closes a_coming : Nat → Int32} {post : Int32 → SY → Prop}
theorem wy_erase247 (R : wy_R B (f_count, f_length, a_isText, a_parents, a_sizes, a_items, a_placeNode, a_placeOffset, a_marks, a_opens, a_closes, a_coming)) {q x y : Nat} {s : Int32} (hq : q < 4) (h : ∀ u', wy_R (fo_st (fo_st B (2 * q) x y) (2 * q + 1) x y) u' → post s u') : wY_erase_247 post (nI q) (nI x) (nI y) s f_count f_length a_isText a_parents a_sizes a_items a_placeNode a_placeOffset a_marks a_opens a_closes a_coming := by
  obtain ⟨K, T, P⟩ := R
  have k1 : 2 * q < 8 := by omega
  have k2 : 2 * q + 1 < 8 := by omega
  have e2 : (2 : Int32) * nI q = nI (2 * q) := pk_mul 2 q
  unfold wY_erase_247
  rw [e2, nI_1]
  refine ⟨wk_i8 k1, ?_⟩
  rw [wk_c8 k1]
  refine nm_e ⟨wk_i8 k1, nm_e ?_⟩
  unfold wpY_copyPlace
  dsimp only
  rw [wk_c8 k1, wk_c8 k2, pk_us, pk_us]
  exact ⟨wk_i8 k1, wk_i8 k2, nm_e ⟨wk_i8 k1, wk_i8 k2, nm_e (h _ ⟨K, T, wk_P_st (wk_P_st P _ x y) _ x y⟩)⟩⟩
end
theorem wy_exR0 {A : fo_S} {f_count f_length : Int32} {a_isText a_parents a_sizes a_items a_placeNode a_placeOffset a_marks a_opens a_closes a_coming : Nat → Int32} (R : wy_R A (f_count, f_length, a_isText, a_parents, a_sizes, a_items, a_placeNode, a_placeOffset, a_marks, a_opens, a_closes, a_coming)) (F : fo_F A) (Z : fo_Z A) {t a c : Nat} {g bo : Nat → Int32} (ht : t < fo_c A) (tt : fo_t A t = true) (hc : a + c ≤ fo_s A t) (hg : wk_sh (24 * t) (a + c) (fo_s A t) 0 c a_items g) (hP : wk_P (fo_ex A t a c 0 (wk_dg 0 0)) a_placeNode bo) :
    wy_R (fo_ex A t a c 0 (wk_dg 0 0)) (f_count, f_length, a_isText, a_parents, upd a_sizes t (nI (fo_s A t + 0 - c)), g, a_placeNode, bo, a_marks, a_opens, a_closes, a_coming) := by
  have s12 := fo_s_t Z ht tt
  exact wy_exR R F Z ht tt hc (by omega) hg (fun _ _ => rfl) (fun j hj => absurd hj (Nat.not_lt_zero _)) hP
/-- the text at the start is cut -/
def fo_e1 (A : fo_S) (s a : Nat) : fo_S := if fo_t A s = true then fo_ex A s a (fo_s A s - a) 0 (wk_dg 0 0) else A
theorem fo_e1_f {A : fo_S} (I : fo_I A) {s a : Nat} (hs : s < fo_c A) (ha : a ≤ fo_s A s) : fo_I (fo_e1 A s a) ∧ fo_c (fo_e1 A s a) = fo_c A ∧ fo_t (fo_e1 A s a) = fo_t A ∧ fo_p (fo_e1 A s a) = fo_p A ∧ fo_k (fo_e1 A s a) = fo_k A ∧ (∀ z, z ≠ s ∨ fo_t A s = false → fo_s (fo_e1 A s a) z = fo_s A z) := by
  unfold fo_e1
  rcases fo_ft (fo_t A s) with t | t
  · rw [if_pos t]
    have s12 := fo_s_t I.2.1 hs t
    refine ⟨fo_I_ex I hs t (by omega) (by omega) (fun j hj => absurd hj (Nat.not_lt_zero _)), rfl, rfl, rfl, rfl, fun z hz => ?_⟩
    show (if z = s then fo_s A z + 0 - (fo_s A s - a) else fo_s A z) = _
    rcases hz with w | w
    · rw [if_neg w]
    · rw [t] at w; exact absurd w (by decide)
  · rw [if_neg (by rw [t]; exact Bool.false_ne_true)]
    exact ⟨I, rfl, rfl, rfl, rfl, fun _ _ => rfl⟩
theorem i_vc_erase {k : Nat} {u : SX} {v : SY} (I : i_Rel k u v) (hk : k + 5 ≤ 2560) (v1 : Int32) : wpX_erase (fun r u' => wpY_erase (fun r' v' => r' = r ∧ i_Rel (k + 5) u' v') v v1) u v1 := by
  refine wk_el (P := fun u v => wpX_erase (fun r u' => wpY_erase (fun r' v' => r' = r ∧ i_Rel (k + 5) u' v') v v1) u v1) ?_ I
  intro A f_made f_listed f_leaving a_sort a_parentOf a_firstChild a_nextChild a_previousChild a_sizeOf a_letters a_placeNode a_placeOffset a_listing a_opening a_closing a_leavers f_count f_length a_isText a_parents a_sizes a_items c_placeNode c_placeOffset a_marks a_opens a_closes a_coming hI hX hY
  obtain ⟨F, Z, Q, R⟩ := hI
  have hI : fo_I A := ⟨F, Z, Q, R⟩
  have KX := hX.1
  have PX := hX.2.2
  have KY := hY.1
  have PY := hY.2.2
  have Lm := fo_ML F (fo_M_ex F)
  have rel : i_Rel (k + 5) (f_made, f_listed, f_leaving, a_sort, a_parentOf, a_firstChild, a_nextChild, a_previousChild, a_sizeOf, a_letters, a_placeNode, a_placeOffset, a_listing, a_opening, a_closing, a_leavers) (f_count, f_length, a_isText, a_parents, a_sizes, a_items, c_placeNode, c_placeOffset, a_marks, a_opens, a_closes, a_coming) := ⟨A, hI, hX, hY⟩
  unfold wpX_erase
  rcases wk_rx v1 with z1 | ⟨q, hq, rfl⟩
  · refine wx_isRange0 z1 (br_t rfl ?_)
    unfold wpY_erase
    refine wy_isRange0 z1 ?_
    exact br_t rfl ⟨rfl, rel⟩
  · have k1 : 2 * q < 8 := by omega
    have k2 : 2 * q + 1 < 8 := by omega
    have e2 : (2 : Int32) * nI q = nI (2 * q) := pk_mul 2 q
    obtain ⟨sc, sa⟩ := Q _ k1
    obtain ⟨ec, eb⟩ := Q _ k2
    obtain ⟨rr, rg⟩ := R q hq
    have s24 := fo_lt24 F sc
    have e24 := fo_lt24 F ec
    have ss := fo_s_a F Z (fo_n A (2 * q))
    have se := fo_s_a F Z (fo_n A (2 * q + 1))
    have g1 := fo_gg_b F Z Q k1
    have g2 := fo_gg_b F Z Q k2
    refine wx_isRange1 hq (br_f (by decide) (nm_r e2 ?_))
    rw [nI_1, wk_c8 k1, wk_c8 k2, (PX _ k1).1, (PX _ k1).2, (PX _ k2).1, (PX _ k2).2]
    refine ⟨wk_i8 k1, nm_e ⟨wk_i8 k1, nm_e ⟨wk_i8 k2, nm_e ⟨wk_i8 k2, nm_e ?_⟩⟩⟩⟩
    -- what Y asks first
    have ytop : ∀ (post : Int32 → SY → Prop), ((nI (fo_n A (2 * q)) = nI (fo_n A (2 * q + 1)) → ((nI (fo_o A (2 * q)) = nI (fo_o A (2 * q + 1)) → post 0 (f_count, f_length, a_isText, a_parents, a_sizes, a_items, c_placeNode, c_placeOffset, a_marks, a_opens, a_closes, a_coming)) ∧ (¬ nI (fo_o A (2 * q)) = nI (fo_o A (2 * q + 1)) → wY_erase_66 post (nI q) (nI (fo_n A (2 * q))) (nI (fo_o A (2 * q))) (nI (fo_n A (2 * q + 1))) (nI (fo_o A (2 * q + 1))) f_count f_length a_isText a_parents a_sizes a_items c_placeNode c_placeOffset a_marks a_opens a_closes a_coming))) ∧ (¬ nI (fo_n A (2 * q)) = nI (fo_n A (2 * q + 1)) → wY_erase_66 post (nI q) (nI (fo_n A (2 * q))) (nI (fo_o A (2 * q))) (nI (fo_n A (2 * q + 1))) (nI (fo_o A (2 * q + 1))) f_count f_length a_isText a_parents a_sizes a_items c_placeNode c_placeOffset a_marks a_opens a_closes a_coming)) → wpY_erase post (f_count, f_length, a_isText, a_parents, a_sizes, a_items, c_placeNode, c_placeOffset, a_marks, a_opens, a_closes, a_coming) (nI q) := by
      intro post h
      unfold wpY_erase
      refine wy_isRange1 hq ?_
      refine br_f (by decide) ?_
      rw [e2, nI_1, wk_c8 k1, wk_c8 k2, (PY _ k1).1, (PY _ k1).2, (PY _ k2).1, (PY _ k2).2]
      exact ⟨wk_i8 k1, nm_e ⟨wk_i8 k1, nm_e ⟨wk_i8 k2, nm_e ⟨wk_i8 k2, nm_e h⟩⟩⟩⟩
    have hgs : fo_gg A (2 * q) = fo_g A (fo_op A) (fo_cl A) (fo_n A (2 * q)) (fo_o A (2 * q)) := rfl
    have hge : fo_gg A (2 * q + 1) = fo_g A (fo_op A) (fo_cl A) (fo_n A (2 * q + 1)) (fo_o A (2 * q + 1)) := rfl
    -- the general case
    have main : ((fo_n A (2 * q)) ≠ (fo_n A (2 * q + 1)) ∨ fo_t A (fo_n A (2 * q)) = false) → (∀ (post : Int32 → SY → Prop), wY_erase_94 post (nI q) (nI (fo_n A (2 * q))) (nI (fo_o A (2 * q))) (nI (fo_n A (2 * q + 1))) (nI (fo_o A (2 * q + 1))) f_count f_length a_isText a_parents a_sizes a_items c_placeNode c_placeOffset a_marks a_opens a_closes a_coming → wpY_erase post (f_count, f_length, a_isText, a_parents, a_sizes, a_items, c_placeNode, c_placeOffset, a_marks, a_opens, a_closes, a_coming) (nI q)) →
        wX_erase_95 (fun r u' => wpY_erase (fun r' v' => r' = r ∧ i_Rel (k + 5) u' v') (f_count, f_length, a_isText, a_parents, a_sizes, a_items, c_placeNode, c_placeOffset, a_marks, a_opens, a_closes, a_coming) (nI q)) (nI (2 * q)) (nI (fo_n A (2 * q))) (nI (fo_o A (2 * q))) (nI (fo_n A (2 * q + 1))) (nI (fo_o A (2 * q + 1))) f_made f_listed f_leaving a_sort a_parentOf a_firstChild a_nextChild a_previousChild a_sizeOf a_letters a_placeNode a_placeOffset a_listing a_opening a_closing a_leavers := by
      intro hc ypre
      obtain ⟨r1, r2, r3⟩ := fo_r_in F _ sc
      unfold wX_erase_95
      refine wx_topOf KX.2.2.1 F sc ?_
      refine wx_numberMarks KX F Z r1 r2 ?_
      intro J l c1 c2 c3 hJ LI hli hm
      dsimp only
      refine wx_gap KX PX F Z Q hm k1 rfl ?_
      rw [nI_1]
      refine wx_gap KX PX F Z Q hm k2 rr.symm ?_
      refine wx_findLeavers KX F Z Q hq hJ LI hli rfl hm ?_
      intro E v g V hg
      dsimp only
      have E24 := fo_V_24 F V
      have hne : ∀ i j, i < E → j < E → v i = v j → i = j := fun i j hi hj w => fo_V_ne V hi hj w
      obtain ⟨I1, i2, i3, i4, i5, i6⟩ := fo_e1_f hI sc sa
      have tl : ∀ x y, x < fo_c A → fo_t A x = false → y ≤ fo_s A x → (∀ i j, i < E → j < y → v i ≠ fo_k A x j) →
          (∀ (post : Int32 → SY → Prop), (∀ (set f_length : Int32) (a_marks a_opens a_closes a_coming : Nat → Int32), (∀ i, i < 32 → (bt set i = true ↔ (i < fo_c A ∧ fo_lv A q i = true))) → (∀ n, n < fo_c A → fo_r A n = fo_r A (fo_n A (2 * q)) → a_opens n = nI (fo_op A n)) → wY_erase_195 post (nI q) (nI (fo_n A (2 * q))) (nI (fo_o A (2 * q))) (nI (fo_n A (2 * q + 1))) (nI (fo_o A (2 * q + 1))) set (nI x) (nI y) f_count f_length a_isText a_parents a_sizes a_items c_placeNode c_placeOffset a_marks a_opens a_closes a_coming) → wpY_erase post (f_count, f_length, a_isText, a_parents, a_sizes, a_items, c_placeNode, c_placeOffset, a_marks, a_opens, a_closes, a_coming) (nI q)) →
          wX_erase_177 (fun r u' => wpY_erase (fun r' v' => r' = r ∧ i_Rel (k + 5) u' v') (f_count, f_length, a_isText, a_parents, a_sizes, a_items, c_placeNode, c_placeOffset, a_marks, a_opens, a_closes, a_coming) (nI q)) (nI (2 * q)) (nI (fo_n A (2 * q))) (nI (fo_o A (2 * q))) (nI (fo_n A (2 * q + 1))) (nI (fo_o A (2 * q + 1))) (nI x) (nI y) f_made (nI J) (nI E) a_sort a_parentOf a_firstChild a_nextChild a_previousChild a_sizeOf a_letters a_placeNode a_placeOffset c1 c2 c3 g := by
        intro x y hx tx hy hno ylem
        have hv1 : ∀ i, i < E → v i < fo_c (fo_e1 A (fo_n A (2 * q)) (fo_o A (2 * q))) ∧ fo_p (fo_e1 A (fo_n A (2 * q)) (fo_o A (2 * q))) (v i) < 24 := fun i hi => by
          rw [i2, i4]; exact ⟨(V.1 i hi).1, fo_lv_p F (V.1 i hi).1 (V.1 i hi).2⟩
        have hx1 : x < fo_c (fo_e1 A (fo_n A (2 * q)) (fo_o A (2 * q))) := by rw [i2]; exact hx
        have tx1 : fo_t (fo_e1 A (fo_n A (2 * q)) (fo_o A (2 * q))) x = false := by rw [i3]; exact tx
        have xs : x ≠ (fo_n A (2 * q)) ∨ fo_t A (fo_n A (2 * q)) = false := by
          rcases fo_ft (fo_t A (fo_n A (2 * q))) with w | w
          · exact Or.inl fun z => by rw [z, w] at tx; exact absurd tx (by decide)
          · exact Or.inr w
        have P := fo_tks_P (x := x) (y := y) I1 hv1 hne hx1 tx1 (by rw [i6 x xs]; exact hy) (by rw [i5]; exact hno)
        have he1 : (fo_n A (2 * q + 1)) < fo_c (fo_e1 A (fo_n A (2 * q)) (fo_o A (2 * q))) := by rw [i2]; exact ec
        have hb1 : fo_t (fo_e1 A (fo_n A (2 * q)) (fo_o A (2 * q))) (fo_n A (2 * q + 1)) = true → (fo_o A (2 * q + 1)) ≤ fo_s (fo_e1 A (fo_n A (2 * q)) (fo_o A (2 * q))) (fo_n A (2 * q + 1)) := fun w => by
          rw [i6 (fo_n A (2 * q + 1)) (hc.elim (fun z => Or.inl fun y => z y.symm) Or.inr)]
          exact eb
        -- X's end, and then Y whole
        have xend : ∀ u', wx_R (fo_fin (fo_e1 A (fo_n A (2 * q)) (fo_o A (2 * q))) v E (fo_n A (2 * q + 1)) (fo_o A (2 * q + 1)) q x y) u' → wpY_erase (fun r' v' => r' = nI E ∧ i_Rel (k + 5) u' v') (f_count, f_length, a_isText, a_parents, a_sizes, a_items, c_placeNode, c_placeOffset, a_marks, a_opens, a_closes, a_coming) (nI q) := by
          intro u' hX2
          refine ylem _ fun set f_length a_marks a_opens a_closes a_coming hset ho => ?_
          have yend : ∀ v', wy_R (fo_fin (fo_e1 A (fo_n A (2 * q)) (fo_o A (2 * q))) v E (fo_n A (2 * q + 1)) (fo_o A (2 * q + 1)) q x y) v' → nI E = nI E ∧ i_Rel (k + 5) u' v' := fun v' hY2 => ⟨rfl, _, fo_fin_I (P E (Nat.le_refl _)) hq hx1 tx1 he1 hb1, hX2, hY2⟩
          have y219 : ∀ (f_count f_length : Int32) (a_isText a_parents a_sizes a_items a_placeNode a_placeOffset a_marks a_closes a_coming : Nat → Int32), wy_R (fo_e1 A (fo_n A (2 * q)) (fo_o A (2 * q))) (f_count, f_length, a_isText, a_parents, a_sizes, a_items, a_placeNode, a_placeOffset, a_marks, a_opens, a_closes, a_coming) → wY_erase_219 (fun r' v' => r' = nI E ∧ i_Rel (k + 5) u' v') (nI q) (nI (fo_n A (2 * q + 1))) (nI (fo_o A (2 * q + 1))) set (nI x) (nI y) f_count f_length a_isText a_parents a_sizes a_items a_placeNode a_placeOffset a_marks a_opens a_closes a_coming := by
            intro f_count f_length a_isText a_parents a_sizes a_items a_placeNode a_placeOffset a_marks a_closes a_coming R1
            unfold wY_erase_219
            refine ⟨E + 1, wy_takeAll7 F Z V i2 P hv1 ?_ E (E + 1) 0 set f_count f_length a_isText a_parents a_sizes a_items a_placeNode a_placeOffset a_marks a_opens a_closes a_coming rfl (by omega) R1 ho ?_⟩
            · intro u2 R2
              obtain ⟨d_count, d_length, d_isText, d_parents, d_sizes, d_items, d_placeNode, d_placeOffset, d_marks, d_opens, d_closes, d_coming⟩ := u2
              obtain ⟨h1, h2, h3, h4, h5, h6, h7⟩ := P E (Nat.le_refl _)
              have ce : (fo_n A (2 * q + 1)) < fo_c (fo_tks (fo_e1 A (fo_n A (2 * q)) (fo_o A (2 * q))) v E) := by rw [h2]; exact he1
              dsimp only
              refine ⟨wk_in e24, ?_⟩
              rw [wk_cl e24, R2.1.2.1 _ ce, h3]
              unfold fo_fin at yend
              rcases fo_ft (fo_t (fo_e1 A (fo_n A (2 * q)) (fo_o A (2 * q))) (fo_n A (2 * q + 1))) with te | te
              · rw [if_pos te] at yend
                rw [te]
                have s1 : fo_s (fo_tks (fo_e1 A (fo_n A (2 * q)) (fo_o A (2 * q))) v E) (fo_n A (2 * q + 1)) = fo_s (fo_e1 A (fo_n A (2 * q)) (fo_o A (2 * q))) (fo_n A (2 * q + 1)) := h5 _ te
                have b1 := hb1 te
                have te' : fo_t (fo_tks (fo_e1 A (fo_n A (2 * q)) (fo_o A (2 * q))) v E) (fo_n A (2 * q + 1)) = true := by rw [h3]; exact te
                have s12 := fo_s_t h1.2.1 ce te'
                refine br_f (by decide) ?_
                refine wy_exchange (a := 0) (c := (fo_o A (2 * q + 1))) (k := 0) (dg := wk_dg 0 0) R2.1 R2.2.2 h1.1 h1.2.1 h1.2.2.1 ce te' (by omega) (by omega) ?_
                intro g1 bo hg1 hP1
                dsimp only
                exact wy_erase247 (wy_exR0 R2 h1.1 h1.2.1 ce te' (by omega) hg1 hP1) hq yend
              · rw [if_neg (by rw [te]; exact Bool.false_ne_true)] at yend
                rw [te]
                exact br_t rfl (wy_erase247 R2 hq yend)
            · intro i hi
              rw [hset i hi]
              constructor
              · intro w
                obtain ⟨j, j1, j2⟩ := V.2.2 i w.1 w.2
                exact ⟨j, Nat.zero_le _, j1, j2⟩
              · rintro ⟨j, -, j1, rfl⟩
                exact V.1 j j1
          unfold wY_erase_195
          refine ⟨wk_in s24, ?_⟩
          rw [wk_cl s24, KY.2.1 _ sc, KY.2.2.2 _ sc]
          rcases fo_ft (fo_t A (fo_n A (2 * q))) with ts | ts
          · have s12 := fo_s_t Z sc ts
            have ee : fo_e1 A (fo_n A (2 * q)) (fo_o A (2 * q)) = fo_ex A (fo_n A (2 * q)) (fo_o A (2 * q)) (fo_s A (fo_n A (2 * q)) - (fo_o A (2 * q))) 0 (wk_dg 0 0) := if_pos ts
            rw [ts, pk_sub sa]
            refine br_f (by decide) ⟨wk_in s24, ?_⟩
            refine wy_exchange (a := (fo_o A (2 * q))) (c := fo_s A (fo_n A (2 * q)) - (fo_o A (2 * q))) (k := 0) (dg := wk_dg 0 0) KY PY F Z Q sc ts (by omega) (by omega) ?_
            intro g1 bo hg1 hP1
            dsimp only
            refine y219 _ _ _ _ _ _ _ _ _ _ _ ?_
            rw [ee]
            exact wy_exR0 (A := A) (a_marks := a_marks) (a_opens := a_opens) (a_closes := a_closes) (a_coming := a_coming) (f_length := f_length) (a_placeOffset := c_placeOffset) ⟨hY.1, hY.2.1, hY.2.2⟩ F Z sc ts (by omega) hg1 hP1
          · have ee : fo_e1 A (fo_n A (2 * q)) (fo_o A (2 * q)) = A := if_neg (by rw [ts]; exact Bool.false_ne_true)
            rw [ts]
            refine br_t rfl (y219 _ _ _ _ _ _ _ _ _ _ _ ?_)
            rw [ee]
            exact ⟨hY.1, hY.2.1, hY.2.2⟩
        unfold wX_erase_177
        refine ⟨wk_in s24, ?_⟩
        rw [wk_cl s24, KX.2.1 _ sc, KX.2.2.2.2.2.2 _ s24]
        rcases fo_ft (fo_t A (fo_n A (2 * q))) with ts | ts
        · have s12 := fo_s_t Z sc ts
          have ee : fo_e1 A (fo_n A (2 * q)) (fo_o A (2 * q)) = fo_ex A (fo_n A (2 * q)) (fo_o A (2 * q)) (fo_s A (fo_n A (2 * q)) - (fo_o A (2 * q))) 0 (wk_dg 0 0) := if_pos ts
          rw [ts, pk_sub sa]
          refine br_t rfl ⟨wk_in s24, ?_⟩
          refine wx_exchange (A := A) (a := (fo_o A (2 * q))) (c := fo_s A (fo_n A (2 * q)) - (fo_o A (2 * q))) (k := 0) (N := 0) ⟨hX.1, hX.2.1, hX.2.2⟩ F Z Q sc ts (by omega) (by omega) (by omega) ?_
          intro d1 d2 d3 R2
          dsimp only
          rw [← ee] at R2
          exact ⟨E + 1, wx_erase208 E24 P hv1 hne hq he1 hb1 xend E (E + 1) 0 _ _ _ _ _ _ _ _ _ _ _ _ _ _ _ _ rfl (by omega) R2 rfl hg⟩
        · have ee : fo_e1 A (fo_n A (2 * q)) (fo_o A (2 * q)) = A := if_neg (by rw [ts]; exact Bool.false_ne_true)
          have R2 : wx_R (fo_e1 A (fo_n A (2 * q)) (fo_o A (2 * q))) (f_made, nI J, nI E, a_sort, a_parentOf, a_firstChild, a_nextChild, a_previousChild, a_sizeOf, a_letters, a_placeNode, a_placeOffset, c1, c2, c3, g) := by rw [ee]; exact ⟨hX.1, hX.2.1, hX.2.2⟩
          rw [ts]
          exact br_f (by decide) ⟨E + 1, wx_erase208 E24 P hv1 hne hq he1 hb1 xend E (E + 1) 0 _ _ _ _ _ _ _ _ _ _ _ _ _ _ _ _ rfl (by omega) R2 rfl hg⟩
      refine wx_isWithin KX.2.2.1 F s24 ec ?_
      rcases fo_ft (fo_b A (fo_n A (2 * q)) (fo_n A (2 * q + 1))) with hb | hb
      · have ha : fo_A A (fo_n A (2 * q)) (fo_n A (2 * q + 1)) := (fo_b_i F s24 ec).mp hb
        have ts : fo_t A (fo_n A (2 * q)) = false := by
          rcases fo_A_k F ec s24 ha with w | w
          · rcases hc with z | z
            · exact absurd w z
            · exact z
          · exact w.1
        rw [hb]
        refine br_f (by decide) ?_
        refine tl _ _ sc ts sa (fun i j hi hj w => ?_) fun post hy => ypre post ?_
        · have h1 := (fo_lv_w (V.1 i hi).2).2.1
          have h2 := fo_L_gm' F Lm sc (show j + 1 ≤ (fo_o A (2 * q)) from hj) sa
          have h3 := fo_L_lt Lm (fo_dn F sc ts (show j < fo_s A (fo_n A (2 * q)) by omega)).1
          rw [fo_gs ts] at h2
          rw [w] at h1
          omega
        · unfold wY_erase_94
          refine wy_inside hY F Z Q R hq ?_
          intro set d1 d2 d3 d4 d5 hset D
          have hh := hy set d1 d2 d3 d4 d5 hset (fun n hn hnr => (wy_D_m F r1 D n hn hnr).1)
          dsimp only
          by_cases es : (fo_n A (2 * q + 1)) = (fo_n A (2 * q))
          · exact br_t (by rw [es]) hh
          · refine br_f (fun z => es ((nI_eq (by omega) (by omega)).mp z)) ?_
            refine wy_isBelow KY.2.2.1 F s24 ec es ?_
            rw [hb]
            exact br_f (by decide) hh
      · have hna : ¬ fo_A A (fo_n A (2 * q)) (fo_n A (2 * q + 1)) := fun w => by rw [(fo_b_i F s24 ec).mpr w] at hb; exact absurd hb (by decide)
        have es : (fo_n A (2 * q + 1)) ≠ (fo_n A (2 * q)) := fun z => hna (by rw [z]; exact fo_A_r A _)
        obtain ⟨t, t1, t2, t3, tX, tY⟩ := wk_branch F ec _ sc rr hna
        have t24 := fo_lt24 F t1
        obtain ⟨u1, u2, u3, u4⟩ := fo_up F t1 t3
        have dl := fo_d_lt F sc
        rw [hb]
        refine br_t rfl ?_
        refine ⟨fo_d A (fo_n A (2 * q)) + 1, tX _ 0 _ _ _ _ _ _ _ _ _ _ _ _ _ _ _ _ _ KX.2.2.1 (by omega) (by omega) ⟨wk_in t24, nm_r (e' := nI (fo_p A t)) (by rw [wk_cl t24, KX.2.2.1 t t1, wk_o_lt t3]) ?_⟩⟩
        refine wx_indexOf KX.2.2.2.2.2.1 F t1 t3 ?_
        refine nm_r (nI_1 _) (tl (fo_p A t) (fo_x A t + 1) u1 u2 u3 (fun i j hi hj w => ?_) fun post hy => ypre post ?_)
        · have h1 := (fo_lv_w (V.1 i hi).2).2.1
          have h2 := fo_L_A F Lm sc t24 t2
          have h3 := fo_L_g F Lm sc sa
          have h4 : fo_op A (fo_k A (fo_p A t) j) ≤ fo_op A t := by
            rcases Nat.lt_or_ge j (fo_x A t) with y | y
            · have h5 := fo_L_kk F Lm u1 u2 _ y u3
              have h6 := fo_L_lt Lm (fo_dn F u1 u2 (show j < fo_s A (fo_p A t) by omega)).1
              rw [u4] at h5
              omega
            · rw [show j = fo_x A t by omega, u4]; exact Nat.le_refl _
          rw [w] at h1
          omega
        · unfold wY_erase_94
          refine wy_inside hY F Z Q R hq ?_
          intro set d1 d2 d3 d4 d5 hset D
          have hh := hy set d1 d2 d3 d4 d5 hset (fun n hn hnr => (wy_D_m F r1 D n hn hnr).1)
          dsimp only
          refine br_f (fun z => es ((nI_eq (by omega) (by omega)).mp z)) ?_
          refine wy_isBelow KY.2.2.1 F s24 ec es ?_
          rw [hb]
          refine br_t rfl ⟨fo_d A (fo_n A (2 * q)) + 1, tY _ _ _ _ _ _ _ _ _ _ _ _ _ _ _ _ _ _ _ KY.2.2.1 (by omega) ?_⟩
          unfold wY_erase_176
          refine ⟨wk_in t24, nm_r (e' := nI (fo_p A t)) (by rw [wk_cl t24, KY.2.2.1 t t1, wk_o_lt t3]) ?_⟩
          refine wy_indexOf KY hY.2.1 F t1 t3 ?_
          exact nm_r (nI_1 _) hh
    by_cases hse : (fo_n A (2 * q)) = (fo_n A (2 * q + 1))
    · have hse' : nI (fo_n A (2 * q)) = nI (fo_n A (2 * q + 1)) := by rw [hse]
      refine br_t hse' ?_
      by_cases hab : (fo_o A (2 * q)) = (fo_o A (2 * q + 1))
      · exact br_t (by rw [hab]) (ytop _ (br_t hse' (br_t (by rw [hab]) ⟨rfl, rel⟩)))
      · have hab' : ¬ nI (fo_o A (2 * q)) = nI (fo_o A (2 * q + 1)) := fun z => hab ((nI_eq (by omega) (by omega)).mp z)
        refine br_f hab' ?_
        unfold wX_erase_63
        refine br_t hse' ⟨wk_in s24, ?_⟩
        rw [wk_cl s24, KX.2.1 _ sc]
        rcases fo_ft (fo_t A (fo_n A (2 * q))) with ts | ts
        · have s12 := fo_s_t Z sc ts
          have le : (fo_o A (2 * q)) ≤ (fo_o A (2 * q + 1)) := by
            have := rg
            rw [hgs, hge, ← hse, fo_gt ts, fo_gt ts] at this
            omega
          have eb' : (fo_o A (2 * q + 1)) ≤ fo_s A (fo_n A (2 * q)) := by rw [hse]; exact eb
          rw [ts, pk_sub le]
          refine br_t rfl ?_
          refine wx_exchange (a := (fo_o A (2 * q))) (c := (fo_o A (2 * q + 1)) - (fo_o A (2 * q))) (k := 0) (N := 0) hX F Z Q sc ts (by omega) (by omega) (by omega) ?_
          intro d1 d2 d3 R2
          dsimp only
          refine ytop _ (br_t hse' (br_f hab' ?_))
          unfold wY_erase_66
          refine br_t hse' ⟨wk_in s24, ?_⟩
          rw [wk_cl s24, KY.2.1 _ sc, ts, pk_sub le]
          refine br_f (by decide) ?_
          refine wy_exchange (a := (fo_o A (2 * q))) (c := (fo_o A (2 * q + 1)) - (fo_o A (2 * q))) (k := 0) (dg := wk_dg 0 0) KY PY F Z Q sc ts (by omega) (by omega) ?_
          intro g1 bo hg1 hP1
          dsimp only
          exact ⟨rfl, _, fo_I_ex hI sc ts (by omega) (by omega) (fun j hj => absurd hj (Nat.not_lt_zero _)), R2, wy_exR0 hY F Z sc ts (by omega) hg1 hP1⟩
        · rw [ts]
          refine br_f (by decide) (main (Or.inr ts) fun post h => ytop post (br_t hse' (br_f hab' ?_)))
          unfold wY_erase_66
          refine br_t hse' ⟨wk_in s24, ?_⟩
          rw [wk_cl s24, KY.2.1 _ sc, ts]
          exact br_t rfl h
    · have hse' : ¬ nI (fo_n A (2 * q)) = nI (fo_n A (2 * q + 1)) := fun z => hse ((nI_eq (by omega) (by omega)).mp z)
      refine br_f hse' ?_
      unfold wX_erase_63
      refine br_f hse' (main (Or.inl hse) fun post h => ytop post (br_f hse' ?_))
      unfold wY_erase_66
      exact br_f hse' h
end
